/-! AN ACT'S FURTHER QUESTIONS in the model (printed by wip/D-80403w/tools/m46.py) -/
set_option maxRecDepth 100000
theorem bq1 {v j : Int32} (h : (v >>> (j &&& 31)) &&& 1 = 1) : bq v j = true := decide_eq_true h
theorem bq0 {v j : Int32} (h : ¬ (v >>> (j &&& 31)) &&& 1 = 1) : bq v j = false := decide_eq_false h
theorem qII1 {a d : Nat} {q : QS} (h : ¬ q.1 a = 0) (h' : ¬ q.1 d = 0) : some (Value.int 1) = some (Value.int (bI (qIs a q && qIs d q))) := by
  rw [show qIs a q = true from decide_eq_true h, show qIs d q = true from decide_eq_true h']
  rfl
theorem qII0 {a d : Nat} {q : QS} (h : q.1 a = 0 ∨ q.1 d = 0) : some (Value.int 0) = some (Value.int (bI (qIs a q && qIs d q))) := by
  rcases h with h | h
  · rw [show qIs a q = false from decide_eq_false (fun z => z h)]; rfl
  · rw [show qIs d q = false from decide_eq_false (fun z => z h), Bool.and_false]; rfl
theorem qStV1 {v c w m u : Int32} (h : v = c) : qStV v c w m u = w &&& m := if_pos h
theorem qStV0 {v c w m u : Int32} (h : ¬ v = c) : qStV v c w m u = u := if_neg h
set_option maxHeartbeats 4000000 in
theorem c_X3_mayLay {G : GX} {h : Nat} {ad : Nat → Nat} {F : Nat → Int32} {A A0 : Nat → Nat → Int32} {B : Nat → Nat → Int64} {M : Mem} {q : QS} {e : Nat} (hM : MRep G h ad F A B M) (hQ : QR e A q) (hK : KQ e A0 A) (he : e < 81) (a : Nat) (k : Int32) (d : Nat) (ha : a < 12) (hd : d < 12) : Con G yX3_mayLay wX3_mayLay (rmm 3 73) [.ref h, .int (nI e), .int (nI a), .int k, .int (nI d)] M (pQ G h ad F A0 B e (some (.int (bI (qLay a k d q).1))) (qLay a k d q).2) nX := by
  refine Con.mk (by decide) rfl [(0, some (.ref h)), (1, some (.int (nI e))), (2, some (.int (nI a))), (3, some (.int k)), (4, some (.int (nI d)))] rfl fun x X hno => ?_
  refine m_aload_n X dX3_mayLay_0 rfl rfl (by first | rfl | exact isR_rf) ?_
  refine m_iload_n X dX3_mayLay_1 rfl rfl ?_
  refine m_iload_n X dX3_mayLay_2 rfl rfl ?_
  refine m_iload_n X dX3_mayLay_3 rfl rfl ?_
  refine m_callV X cs_X3_283  (c_X3_mayAs hM hQ hK he a k (by omega)) hM.1 rfl rfl rfl (Nat.le_of_ble_eq_true rfl) dX3_mayLay_4 ⟨by decide, by decide, by decide, by decide⟩ (fun v M hp => ?_) (fun _ _ _ _ h => h.elim)
  obtain ⟨rfl, A, hM, hQ, hK⟩ := hp
  refine m_sti ?_
  refine m_ifeq X dX3_mayLay_7 (t := 51) (by decide) (fun c_7 => ?_) (fun c_7 => ?_)
  · skip
    try simp only [bI_0, Bool.not_eq_false] at c_7
    refine m_iconst X dX3_mayLay_51 (v := 0) (by decide) ?_
    exact m_zret X dX3_mayLay_52 (by first | rfl | exact bI_nar) (by decide) (by decide) (by refine ⟨?_, A, hM, ?_, hK⟩ <;> simp only [qLay, qLay3, c_7, if_true, Bool.false_eq_true, if_false] <;> first | exact hQ | rfl)
  · skip
    try simp only [bI_0, Bool.not_eq_false] at c_7
    refine m_aload_n X dX3_mayLay_10 rfl rfl (by first | rfl | exact isR_rf) ?_
    refine m_iload_n X dX3_mayLay_11 rfl rfl ?_
    refine m_iload X dX3_mayLay_12 rfl ?_
    refine m_iload_n X dX3_mayLay_14 rfl rfl ?_
    refine m_iconst X dX3_mayLay_15 (v := 5) (by decide) ?_
    refine m_icmpne X dX3_mayLay_16 (t := 23) (by decide) (fun c_16 => ?_) (fun c_16 => ?_)
    · skip
      refine m_iload_n X dX3_mayLay_23 rfl rfl ?_
      refine m_bipush X dX3_mayLay_24 (v := 6) (by decide) ?_
      refine m_icmpne X dX3_mayLay_26 (t := 34) (by decide) (fun c_26 => ?_) (fun c_26 => ?_)
      · skip
        refine m_bipush X dX3_mayLay_34 (v := 9) (by decide) ?_
        have ee : elI k = 9 := (if_neg c_16).trans (if_neg c_26)
        refine m_callV X cs_X3_283  (c_X3_mayAs hM hQ hK he d 9 (by omega)) hM.1 rfl rfl rfl (Nat.le_of_ble_eq_true rfl) dX3_mayLay_36 ⟨by decide, by decide, by decide, by decide⟩ (fun v M hp => ?_) (fun _ _ _ _ h => h.elim)
        obtain ⟨rfl, A, hM, hQ, hK⟩ := hp
        rw [← ee] at hQ
        refine m_sti ?_
        refine m_topi X (by rw [← ee]) ?_
        refine m_ifeq X dX3_mayLay_39 (t := 51) (by decide) (fun c_39 => ?_) (fun c_39 => ?_)
        · skip
          try simp only [bI_0, Bool.not_eq_false] at c_39
          refine m_iconst X dX3_mayLay_51 (v := 0) (by decide) ?_
          exact m_zret X dX3_mayLay_52 (by first | rfl | exact bI_nar) (by decide) (by decide) (by refine ⟨?_, A, hM, ?_, hK⟩ <;> simp only [qLay, qLay3, c_7, c_39, if_true, Bool.false_eq_true, if_false] <;> first | exact hQ | rfl)
        · skip
          try simp only [bI_0, Bool.not_eq_false] at c_39
          refine m_aload_n X dX3_mayLay_42 rfl rfl (by first | rfl | exact isR_rf) ?_
          refine m_iload_n X dX3_mayLay_43 rfl rfl ?_
          refine m_iload_n X dX3_mayLay_44 rfl rfl ?_
          refine m_callV X cs_X3_286  (c_X3_mayRow hM hQ hK he a (by omega)) hM.1 rfl rfl rfl (Nat.le_of_ble_eq_true rfl) dX3_mayLay_45 ⟨by decide, by decide, by decide, by decide⟩ (fun v M hp => ?_) (fun _ _ _ _ h => h.elim)
          obtain ⟨rfl, A, hM, hQ, hK⟩ := hp
          refine m_sti ?_
          refine m_ifne X dX3_mayLay_48 (t := 53) (by decide) (fun c_48 => ?_) (fun c_48 => ?_)
          · skip
            try simp only [bI_0, Bool.not_eq_false] at c_48
            refine m_aload_n X dX3_mayLay_53 rfl rfl (by first | rfl | exact isR_rf) ?_
            refine m_iload_n X dX3_mayLay_54 rfl rfl ?_
            refine m_iconst X dX3_mayLay_55 (v := 3) (by decide) ?_
            refine m_iconst X dX3_mayLay_56 (v := (-1)) (by decide) ?_
            refine m_iconst X dX3_mayLay_57 (v := 0) (by decide) ?_
            refine m_callV X cs_X3_279  (c_X3_mayFail0 hM hQ hK he 3 (by decide)) hM.1 rfl rfl rfl (Nat.le_of_ble_eq_true rfl) dX3_mayLay_58 ⟨by decide, by decide, by decide, by decide⟩ (fun v M hp => ?_) (fun _ _ _ _ h => h.elim)
            obtain ⟨rfl, A, hM, hQ, hK⟩ := hp
            refine m_stn ?_
            have e3 : qLay3 a k d q = (true, qRow a (qAs d (elI k) (qAs a k q))) := by simp only [qLay3, c_7, c_39, c_48, if_true]
            obtain ⟨q2, e2⟩ : ∃ z, z = qOr (qLay3 a k d q).2 3 (qLay3 a k d q).2.1 := ⟨_, rfl⟩
            have hQ : QR e A q2 := by rw [e2, e3]; exact hQ
            refine m_aload_n X dX3_mayLay_61 rfl rfl (by first | rfl | exact isR_rf) ?_
            refine m_getf X fg_X3_100_X3 hM.1 rfl dX3_mayLay_62 ?_
            refine m_iload_n X dX3_mayLay_65 rfl rfl ?_
            refine s_iald X hM rfl rfl (by exact tin (by simp only [alen]; omega) rfl) dX3_mayLay_66 ?_
            refine m_topi X (hQ.now (by omega)) ?_
            refine m_istore X dX3_mayLay_67 rfl rfl ?_
            refine m_aload_n X dX3_mayLay_69 rfl rfl (by first | rfl | exact isR_rf) ?_
            refine m_getf X fg_X3_100_X3 hM.1 rfl dX3_mayLay_70 ?_
            refine m_iload X dX3_mayLay_73 rfl ?_
            refine s_iald X hM rfl rfl (by exact tin (by simp only [alen]; omega) rfl) dX3_mayLay_75 ?_
            refine m_topi X (hQ.now (by omega)) ?_
            refine m_istore X dX3_mayLay_76 rfl rfl ?_
            refine m_iload X dX3_mayLay_78 rfl ?_
            refine m_bipush X dX3_mayLay_80 (v := 7) (by decide) ?_
            refine m_ishr X dX3_mayLay_82 ?_
            refine m_iconst X dX3_mayLay_83 (v := 1) (by decide) ?_
            refine m_iand X dX3_mayLay_84 ?_
            refine m_iconst X dX3_mayLay_85 (v := 1) (by decide) ?_
            refine m_icmpne X dX3_mayLay_86 (t := 168) (by decide) (fun c_86 => ?_) (fun c_86 => ?_)
            · skip
              refine m_aload_n X dX3_mayLay_168 rfl rfl (by first | rfl | exact isR_rf) ?_
              refine m_getf X fg_X3_100_X3 hM.1 rfl dX3_mayLay_169 ?_
              refine m_iload_n X dX3_mayLay_172 rfl rfl ?_
              refine s_iald X hM rfl rfl (by exact tin (by simp only [alen]; omega) rfl) dX3_mayLay_173 ?_
              refine m_topi X (hQ.now (by omega)) ?_
              refine m_ifeq X dX3_mayLay_174 (t := 191) (by decide) (fun c_174 => ?_) (fun c_174 => ?_)
              · skip
                try simp only [bI_0, Bool.not_eq_false] at c_174
                refine m_iconst X dX3_mayLay_191 (v := 0) (by decide) ?_
                exact m_zret X dX3_mayLay_192 (by first | rfl | exact bI_nar) (by decide) (by decide) (by refine ⟨?_, A, hM, ?_, hK⟩ <;> simp only [qLay, e3, if_true] <;> rw [show qOr (qRow a (qAs d (elI k) (qAs a k q))) 3 (qRow a (qAs d (elI k) (qAs a k q))).1 = q2 by rw [e2, e3]] <;> unfold qSto <;> rw [if_neg (fun z => by rw [bq0 c_86] at z; exact absurd z.1 (by decide))] <;> first | exact hQ | exact qII0 (Or.inl c_174))
              · skip
                try simp only [bI_0, Bool.not_eq_false] at c_174
                refine m_aload_n X dX3_mayLay_177 rfl rfl (by first | rfl | exact isR_rf) ?_
                refine m_getf X fg_X3_100_X3 hM.1 rfl dX3_mayLay_178 ?_
                refine m_iload X dX3_mayLay_181 rfl ?_
                refine s_iald X hM rfl rfl (by exact tin (by simp only [alen]; omega) rfl) dX3_mayLay_183 ?_
                refine m_topi X (hQ.now (by omega)) ?_
                refine m_ifeq X dX3_mayLay_184 (t := 191) (by decide) (fun c_184 => ?_) (fun c_184 => ?_)
                · skip
                  try simp only [bI_0, Bool.not_eq_false] at c_184
                  refine m_iconst X dX3_mayLay_191 (v := 0) (by decide) ?_
                  exact m_zret X dX3_mayLay_192 (by first | rfl | exact bI_nar) (by decide) (by decide) (by refine ⟨?_, A, hM, ?_, hK⟩ <;> simp only [qLay, e3, if_true] <;> rw [show qOr (qRow a (qAs d (elI k) (qAs a k q))) 3 (qRow a (qAs d (elI k) (qAs a k q))).1 = q2 by rw [e2, e3]] <;> unfold qSto <;> rw [if_neg (fun z => by rw [bq0 c_86] at z; exact absurd z.1 (by decide))] <;> first | exact hQ | exact qII0 (Or.inr c_184))
                · skip
                  try simp only [bI_0, Bool.not_eq_false] at c_184
                  refine m_iconst X dX3_mayLay_187 (v := 1) (by decide) ?_
                  refine m_goto X dX3_mayLay_188 (t := 192) (by decide) ?_
                  exact m_zret X dX3_mayLay_192 (by first | rfl | exact bI_nar) (by decide) (by decide) (by refine ⟨?_, A, hM, ?_, hK⟩ <;> simp only [qLay, e3, if_true] <;> rw [show qOr (qRow a (qAs d (elI k) (qAs a k q))) 3 (qRow a (qAs d (elI k) (qAs a k q))).1 = q2 by rw [e2, e3]] <;> unfold qSto <;> rw [if_neg (fun z => by rw [bq0 c_86] at z; exact absurd z.1 (by decide))] <;> first | exact hQ | exact qII1 c_174 c_184)
            · skip
              refine m_iload X dX3_mayLay_89 rfl ?_
              refine m_bipush X dX3_mayLay_91 (v := 8) (by decide) ?_
              refine m_ishr X dX3_mayLay_93 ?_
              refine m_iconst X dX3_mayLay_94 (v := 1) (by decide) ?_
              refine m_iand X dX3_mayLay_95 ?_
              refine m_iconst X dX3_mayLay_96 (v := 1) (by decide) ?_
              refine m_icmpne X dX3_mayLay_97 (t := 168) (by decide) (fun c_97 => ?_) (fun c_97 => ?_)
              · skip
                refine m_aload_n X dX3_mayLay_168 rfl rfl (by first | rfl | exact isR_rf) ?_
                refine m_getf X fg_X3_100_X3 hM.1 rfl dX3_mayLay_169 ?_
                refine m_iload_n X dX3_mayLay_172 rfl rfl ?_
                refine s_iald X hM rfl rfl (by exact tin (by simp only [alen]; omega) rfl) dX3_mayLay_173 ?_
                refine m_topi X (hQ.now (by omega)) ?_
                refine m_ifeq X dX3_mayLay_174 (t := 191) (by decide) (fun c_174 => ?_) (fun c_174 => ?_)
                · skip
                  try simp only [bI_0, Bool.not_eq_false] at c_174
                  refine m_iconst X dX3_mayLay_191 (v := 0) (by decide) ?_
                  exact m_zret X dX3_mayLay_192 (by first | rfl | exact bI_nar) (by decide) (by decide) (by refine ⟨?_, A, hM, ?_, hK⟩ <;> simp only [qLay, e3, if_true] <;> rw [show qOr (qRow a (qAs d (elI k) (qAs a k q))) 3 (qRow a (qAs d (elI k) (qAs a k q))).1 = q2 by rw [e2, e3]] <;> unfold qSto <;> rw [if_neg (fun z => by rw [bq0 c_97] at z; exact absurd z.2 (by decide))] <;> first | exact hQ | exact qII0 (Or.inl c_174))
                · skip
                  try simp only [bI_0, Bool.not_eq_false] at c_174
                  refine m_aload_n X dX3_mayLay_177 rfl rfl (by first | rfl | exact isR_rf) ?_
                  refine m_getf X fg_X3_100_X3 hM.1 rfl dX3_mayLay_178 ?_
                  refine m_iload X dX3_mayLay_181 rfl ?_
                  refine s_iald X hM rfl rfl (by exact tin (by simp only [alen]; omega) rfl) dX3_mayLay_183 ?_
                  refine m_topi X (hQ.now (by omega)) ?_
                  refine m_ifeq X dX3_mayLay_184 (t := 191) (by decide) (fun c_184 => ?_) (fun c_184 => ?_)
                  · skip
                    try simp only [bI_0, Bool.not_eq_false] at c_184
                    refine m_iconst X dX3_mayLay_191 (v := 0) (by decide) ?_
                    exact m_zret X dX3_mayLay_192 (by first | rfl | exact bI_nar) (by decide) (by decide) (by refine ⟨?_, A, hM, ?_, hK⟩ <;> simp only [qLay, e3, if_true] <;> rw [show qOr (qRow a (qAs d (elI k) (qAs a k q))) 3 (qRow a (qAs d (elI k) (qAs a k q))).1 = q2 by rw [e2, e3]] <;> unfold qSto <;> rw [if_neg (fun z => by rw [bq0 c_97] at z; exact absurd z.2 (by decide))] <;> first | exact hQ | exact qII0 (Or.inr c_184))
                  · skip
                    try simp only [bI_0, Bool.not_eq_false] at c_184
                    refine m_iconst X dX3_mayLay_187 (v := 1) (by decide) ?_
                    refine m_goto X dX3_mayLay_188 (t := 192) (by decide) ?_
                    exact m_zret X dX3_mayLay_192 (by first | rfl | exact bI_nar) (by decide) (by decide) (by refine ⟨?_, A, hM, ?_, hK⟩ <;> simp only [qLay, e3, if_true] <;> rw [show qOr (qRow a (qAs d (elI k) (qAs a k q))) 3 (qRow a (qAs d (elI k) (qAs a k q))).1 = q2 by rw [e2, e3]] <;> unfold qSto <;> rw [if_neg (fun z => by rw [bq0 c_97] at z; exact absurd z.2 (by decide))] <;> first | exact hQ | exact qII1 c_174 c_184)
              · skip
                refine m_aload_n X dX3_mayLay_100 rfl rfl (by first | rfl | exact isR_rf) ?_
                refine m_iload_n X dX3_mayLay_101 rfl rfl ?_
                refine m_iconst X dX3_mayLay_102 (v := 5) (by decide) ?_
                refine m_iconst X dX3_mayLay_103 (v := (-1)) (by decide) ?_
                refine m_iconst X dX3_mayLay_104 (v := 0) (by decide) ?_
                refine m_callV X cs_X3_279  (c_X3_mayFail0 hM hQ hK he 5 (by decide)) hM.1 rfl rfl rfl (Nat.le_of_ble_eq_true rfl) dX3_mayLay_105 ⟨by decide, by decide, by decide, by decide⟩ (fun v M hp => ?_) (fun _ _ _ _ h => h.elim)
                obtain ⟨rfl, A, hM, hQ, hK⟩ := hp
                refine m_stn ?_
                refine m_aload_n X dX3_mayLay_108 rfl rfl (by first | rfl | exact isR_rf) ?_
                refine m_getf X fg_X3_100_X3 hM.1 rfl dX3_mayLay_109 ?_
                refine m_iload_n X dX3_mayLay_112 rfl rfl ?_
                refine m_iload X dX3_mayLay_113 rfl ?_
                refine m_sipush X dX3_mayLay_115 (v := 256) (by decide) ?_
                refine m_icmpne X dX3_mayLay_118 (t := 130) (by decide) (fun c_118 => ?_) (fun c_118 => ?_)
                · skip
                  refine m_aload_n X dX3_mayLay_130 rfl rfl (by first | rfl | exact isR_rf) ?_
                  refine m_getf X fg_X3_100_X3 hM.1 rfl dX3_mayLay_131 ?_
                  refine m_iload_n X dX3_mayLay_134 rfl rfl ?_
                  refine s_iald X hM rfl rfl (by exact tin (by simp only [alen]; omega) rfl) dX3_mayLay_135 ?_
                  refine m_topi X (hQ.now (by omega)) ?_
                  refine s_now X hM hQ hK (by omega) dX3_mayLay_136 (fun A M hM hQ hK => ?_)
                  refine m_aload_n X dX3_mayLay_137 rfl rfl (by first | rfl | exact isR_rf) ?_
                  refine m_getf X fg_X3_100_X3 hM.1 rfl dX3_mayLay_138 ?_
                  refine m_iload X dX3_mayLay_141 rfl ?_
                  refine m_iload X dX3_mayLay_143 rfl ?_
                  refine m_sipush X dX3_mayLay_145 (v := 128) (by decide) ?_
                  refine m_icmpne X dX3_mayLay_148 (t := 160) (by decide) (fun c_148 => ?_) (fun c_148 => ?_)
                  · skip
                    refine m_aload_n X dX3_mayLay_160 rfl rfl (by first | rfl | exact isR_rf) ?_
                    refine m_getf X fg_X3_100_X3 hM.1 rfl dX3_mayLay_161 ?_
                    refine m_iload X dX3_mayLay_164 rfl ?_
                    refine s_iald X hM rfl rfl (by exact tin (by simp only [alen]; omega) rfl) dX3_mayLay_166 ?_
                    refine m_topi X (hQ.now (by omega)) ?_
                    refine s_now X hM hQ hK (by omega) dX3_mayLay_167 (fun A M hM hQ hK => ?_)
                    refine m_aload_n X dX3_mayLay_168 rfl rfl (by first | rfl | exact isR_rf) ?_
                    refine m_getf X fg_X3_100_X3 hM.1 rfl dX3_mayLay_169 ?_
                    refine m_iload_n X dX3_mayLay_172 rfl rfl ?_
                    refine s_iald X hM rfl rfl (by exact tin (by simp only [alen]; omega) rfl) dX3_mayLay_173 ?_
                    refine m_topi X (hQ.now (by omega)) ?_
                    refine m_ifeq X dX3_mayLay_174 (t := 191) (by decide) (fun c_174 => ?_) (fun c_174 => ?_)
                    · skip
                      try simp only [bI_0, Bool.not_eq_false] at c_174
                      refine m_iconst X dX3_mayLay_191 (v := 0) (by decide) ?_
                      exact m_zret X dX3_mayLay_192 (by first | rfl | exact bI_nar) (by decide) (by decide) (by refine ⟨?_, A, hM, ?_, hK⟩ <;> simp only [qLay, e3, if_true] <;> rw [show qOr (qRow a (qAs d (elI k) (qAs a k q))) 3 (qRow a (qAs d (elI k) (qAs a k q))).1 = q2 by rw [e2, e3]] <;> unfold qSto <;> rw [if_pos ⟨bq1 c_86, bq1 c_97⟩] <;> unfold qSt1 <;> rw [qStV0 c_118, qStV0 c_148] <;> first | exact hQ | exact qII0 (Or.inl c_174))
                    · skip
                      try simp only [bI_0, Bool.not_eq_false] at c_174
                      refine m_aload_n X dX3_mayLay_177 rfl rfl (by first | rfl | exact isR_rf) ?_
                      refine m_getf X fg_X3_100_X3 hM.1 rfl dX3_mayLay_178 ?_
                      refine m_iload X dX3_mayLay_181 rfl ?_
                      refine s_iald X hM rfl rfl (by exact tin (by simp only [alen]; omega) rfl) dX3_mayLay_183 ?_
                      refine m_topi X (hQ.now (by omega)) ?_
                      refine m_ifeq X dX3_mayLay_184 (t := 191) (by decide) (fun c_184 => ?_) (fun c_184 => ?_)
                      · skip
                        try simp only [bI_0, Bool.not_eq_false] at c_184
                        refine m_iconst X dX3_mayLay_191 (v := 0) (by decide) ?_
                        exact m_zret X dX3_mayLay_192 (by first | rfl | exact bI_nar) (by decide) (by decide) (by refine ⟨?_, A, hM, ?_, hK⟩ <;> simp only [qLay, e3, if_true] <;> rw [show qOr (qRow a (qAs d (elI k) (qAs a k q))) 3 (qRow a (qAs d (elI k) (qAs a k q))).1 = q2 by rw [e2, e3]] <;> unfold qSto <;> rw [if_pos ⟨bq1 c_86, bq1 c_97⟩] <;> unfold qSt1 <;> rw [qStV0 c_118, qStV0 c_148] <;> first | exact hQ | exact qII0 (Or.inr c_184))
                      · skip
                        try simp only [bI_0, Bool.not_eq_false] at c_184
                        refine m_iconst X dX3_mayLay_187 (v := 1) (by decide) ?_
                        refine m_goto X dX3_mayLay_188 (t := 192) (by decide) ?_
                        exact m_zret X dX3_mayLay_192 (by first | rfl | exact bI_nar) (by decide) (by decide) (by refine ⟨?_, A, hM, ?_, hK⟩ <;> simp only [qLay, e3, if_true] <;> rw [show qOr (qRow a (qAs d (elI k) (qAs a k q))) 3 (qRow a (qAs d (elI k) (qAs a k q))).1 = q2 by rw [e2, e3]] <;> unfold qSto <;> rw [if_pos ⟨bq1 c_86, bq1 c_97⟩] <;> unfold qSt1 <;> rw [qStV0 c_118, qStV0 c_148] <;> first | exact hQ | exact qII1 c_174 c_184)
                  · skip
                    refine m_iload X dX3_mayLay_151 rfl ?_
                    refine m_sipush X dX3_mayLay_153 (v := (-257)) (by decide) ?_
                    refine m_iand X dX3_mayLay_156 ?_
                    refine m_goto X dX3_mayLay_157 (t := 167) (by decide) ?_
                    refine s_now X hM hQ hK (by omega) dX3_mayLay_167 (fun A M hM hQ hK => ?_)
                    refine m_aload_n X dX3_mayLay_168 rfl rfl (by first | rfl | exact isR_rf) ?_
                    refine m_getf X fg_X3_100_X3 hM.1 rfl dX3_mayLay_169 ?_
                    refine m_iload_n X dX3_mayLay_172 rfl rfl ?_
                    refine s_iald X hM rfl rfl (by exact tin (by simp only [alen]; omega) rfl) dX3_mayLay_173 ?_
                    refine m_topi X (hQ.now (by omega)) ?_
                    refine m_ifeq X dX3_mayLay_174 (t := 191) (by decide) (fun c_174 => ?_) (fun c_174 => ?_)
                    · skip
                      try simp only [bI_0, Bool.not_eq_false] at c_174
                      refine m_iconst X dX3_mayLay_191 (v := 0) (by decide) ?_
                      exact m_zret X dX3_mayLay_192 (by first | rfl | exact bI_nar) (by decide) (by decide) (by refine ⟨?_, A, hM, ?_, hK⟩ <;> simp only [qLay, e3, if_true] <;> rw [show qOr (qRow a (qAs d (elI k) (qAs a k q))) 3 (qRow a (qAs d (elI k) (qAs a k q))).1 = q2 by rw [e2, e3]] <;> unfold qSto <;> rw [if_pos ⟨bq1 c_86, bq1 c_97⟩] <;> unfold qSt1 <;> rw [qStV0 c_118, qStV1 c_148] <;> first | exact hQ | exact qII0 (Or.inl c_174))
                    · skip
                      try simp only [bI_0, Bool.not_eq_false] at c_174
                      refine m_aload_n X dX3_mayLay_177 rfl rfl (by first | rfl | exact isR_rf) ?_
                      refine m_getf X fg_X3_100_X3 hM.1 rfl dX3_mayLay_178 ?_
                      refine m_iload X dX3_mayLay_181 rfl ?_
                      refine s_iald X hM rfl rfl (by exact tin (by simp only [alen]; omega) rfl) dX3_mayLay_183 ?_
                      refine m_topi X (hQ.now (by omega)) ?_
                      refine m_ifeq X dX3_mayLay_184 (t := 191) (by decide) (fun c_184 => ?_) (fun c_184 => ?_)
                      · skip
                        try simp only [bI_0, Bool.not_eq_false] at c_184
                        refine m_iconst X dX3_mayLay_191 (v := 0) (by decide) ?_
                        exact m_zret X dX3_mayLay_192 (by first | rfl | exact bI_nar) (by decide) (by decide) (by refine ⟨?_, A, hM, ?_, hK⟩ <;> simp only [qLay, e3, if_true] <;> rw [show qOr (qRow a (qAs d (elI k) (qAs a k q))) 3 (qRow a (qAs d (elI k) (qAs a k q))).1 = q2 by rw [e2, e3]] <;> unfold qSto <;> rw [if_pos ⟨bq1 c_86, bq1 c_97⟩] <;> unfold qSt1 <;> rw [qStV0 c_118, qStV1 c_148] <;> first | exact hQ | exact qII0 (Or.inr c_184))
                      · skip
                        try simp only [bI_0, Bool.not_eq_false] at c_184
                        refine m_iconst X dX3_mayLay_187 (v := 1) (by decide) ?_
                        refine m_goto X dX3_mayLay_188 (t := 192) (by decide) ?_
                        exact m_zret X dX3_mayLay_192 (by first | rfl | exact bI_nar) (by decide) (by decide) (by refine ⟨?_, A, hM, ?_, hK⟩ <;> simp only [qLay, e3, if_true] <;> rw [show qOr (qRow a (qAs d (elI k) (qAs a k q))) 3 (qRow a (qAs d (elI k) (qAs a k q))).1 = q2 by rw [e2, e3]] <;> unfold qSto <;> rw [if_pos ⟨bq1 c_86, bq1 c_97⟩] <;> unfold qSt1 <;> rw [qStV0 c_118, qStV1 c_148] <;> first | exact hQ | exact qII1 c_174 c_184)
                · skip
                  refine m_iload X dX3_mayLay_121 rfl ?_
                  refine m_sipush X dX3_mayLay_123 (v := (-129)) (by decide) ?_
                  refine m_iand X dX3_mayLay_126 ?_
                  refine m_goto X dX3_mayLay_127 (t := 136) (by decide) ?_
                  refine s_now X hM hQ hK (by omega) dX3_mayLay_136 (fun A M hM hQ hK => ?_)
                  refine m_aload_n X dX3_mayLay_137 rfl rfl (by first | rfl | exact isR_rf) ?_
                  refine m_getf X fg_X3_100_X3 hM.1 rfl dX3_mayLay_138 ?_
                  refine m_iload X dX3_mayLay_141 rfl ?_
                  refine m_iload X dX3_mayLay_143 rfl ?_
                  refine m_sipush X dX3_mayLay_145 (v := 128) (by decide) ?_
                  refine m_icmpne X dX3_mayLay_148 (t := 160) (by decide) (fun c_148 => ?_) (fun c_148 => ?_)
                  · skip
                    refine m_aload_n X dX3_mayLay_160 rfl rfl (by first | rfl | exact isR_rf) ?_
                    refine m_getf X fg_X3_100_X3 hM.1 rfl dX3_mayLay_161 ?_
                    refine m_iload X dX3_mayLay_164 rfl ?_
                    refine s_iald X hM rfl rfl (by exact tin (by simp only [alen]; omega) rfl) dX3_mayLay_166 ?_
                    refine m_topi X (hQ.now (by omega)) ?_
                    refine s_now X hM hQ hK (by omega) dX3_mayLay_167 (fun A M hM hQ hK => ?_)
                    refine m_aload_n X dX3_mayLay_168 rfl rfl (by first | rfl | exact isR_rf) ?_
                    refine m_getf X fg_X3_100_X3 hM.1 rfl dX3_mayLay_169 ?_
                    refine m_iload_n X dX3_mayLay_172 rfl rfl ?_
                    refine s_iald X hM rfl rfl (by exact tin (by simp only [alen]; omega) rfl) dX3_mayLay_173 ?_
                    refine m_topi X (hQ.now (by omega)) ?_
                    refine m_ifeq X dX3_mayLay_174 (t := 191) (by decide) (fun c_174 => ?_) (fun c_174 => ?_)
                    · skip
                      try simp only [bI_0, Bool.not_eq_false] at c_174
                      refine m_iconst X dX3_mayLay_191 (v := 0) (by decide) ?_
                      exact m_zret X dX3_mayLay_192 (by first | rfl | exact bI_nar) (by decide) (by decide) (by refine ⟨?_, A, hM, ?_, hK⟩ <;> simp only [qLay, e3, if_true] <;> rw [show qOr (qRow a (qAs d (elI k) (qAs a k q))) 3 (qRow a (qAs d (elI k) (qAs a k q))).1 = q2 by rw [e2, e3]] <;> unfold qSto <;> rw [if_pos ⟨bq1 c_86, bq1 c_97⟩] <;> unfold qSt1 <;> rw [qStV1 c_118, qStV0 c_148] <;> first | exact hQ | exact qII0 (Or.inl c_174))
                    · skip
                      try simp only [bI_0, Bool.not_eq_false] at c_174
                      refine m_aload_n X dX3_mayLay_177 rfl rfl (by first | rfl | exact isR_rf) ?_
                      refine m_getf X fg_X3_100_X3 hM.1 rfl dX3_mayLay_178 ?_
                      refine m_iload X dX3_mayLay_181 rfl ?_
                      refine s_iald X hM rfl rfl (by exact tin (by simp only [alen]; omega) rfl) dX3_mayLay_183 ?_
                      refine m_topi X (hQ.now (by omega)) ?_
                      refine m_ifeq X dX3_mayLay_184 (t := 191) (by decide) (fun c_184 => ?_) (fun c_184 => ?_)
                      · skip
                        try simp only [bI_0, Bool.not_eq_false] at c_184
                        refine m_iconst X dX3_mayLay_191 (v := 0) (by decide) ?_
                        exact m_zret X dX3_mayLay_192 (by first | rfl | exact bI_nar) (by decide) (by decide) (by refine ⟨?_, A, hM, ?_, hK⟩ <;> simp only [qLay, e3, if_true] <;> rw [show qOr (qRow a (qAs d (elI k) (qAs a k q))) 3 (qRow a (qAs d (elI k) (qAs a k q))).1 = q2 by rw [e2, e3]] <;> unfold qSto <;> rw [if_pos ⟨bq1 c_86, bq1 c_97⟩] <;> unfold qSt1 <;> rw [qStV1 c_118, qStV0 c_148] <;> first | exact hQ | exact qII0 (Or.inr c_184))
                      · skip
                        try simp only [bI_0, Bool.not_eq_false] at c_184
                        refine m_iconst X dX3_mayLay_187 (v := 1) (by decide) ?_
                        refine m_goto X dX3_mayLay_188 (t := 192) (by decide) ?_
                        exact m_zret X dX3_mayLay_192 (by first | rfl | exact bI_nar) (by decide) (by decide) (by refine ⟨?_, A, hM, ?_, hK⟩ <;> simp only [qLay, e3, if_true] <;> rw [show qOr (qRow a (qAs d (elI k) (qAs a k q))) 3 (qRow a (qAs d (elI k) (qAs a k q))).1 = q2 by rw [e2, e3]] <;> unfold qSto <;> rw [if_pos ⟨bq1 c_86, bq1 c_97⟩] <;> unfold qSt1 <;> rw [qStV1 c_118, qStV0 c_148] <;> first | exact hQ | exact qII1 c_174 c_184)
                  · skip
                    refine m_iload X dX3_mayLay_151 rfl ?_
                    refine m_sipush X dX3_mayLay_153 (v := (-257)) (by decide) ?_
                    refine m_iand X dX3_mayLay_156 ?_
                    refine m_goto X dX3_mayLay_157 (t := 167) (by decide) ?_
                    refine s_now X hM hQ hK (by omega) dX3_mayLay_167 (fun A M hM hQ hK => ?_)
                    refine m_aload_n X dX3_mayLay_168 rfl rfl (by first | rfl | exact isR_rf) ?_
                    refine m_getf X fg_X3_100_X3 hM.1 rfl dX3_mayLay_169 ?_
                    refine m_iload_n X dX3_mayLay_172 rfl rfl ?_
                    refine s_iald X hM rfl rfl (by exact tin (by simp only [alen]; omega) rfl) dX3_mayLay_173 ?_
                    refine m_topi X (hQ.now (by omega)) ?_
                    refine m_ifeq X dX3_mayLay_174 (t := 191) (by decide) (fun c_174 => ?_) (fun c_174 => ?_)
                    · skip
                      try simp only [bI_0, Bool.not_eq_false] at c_174
                      refine m_iconst X dX3_mayLay_191 (v := 0) (by decide) ?_
                      exact m_zret X dX3_mayLay_192 (by first | rfl | exact bI_nar) (by decide) (by decide) (by refine ⟨?_, A, hM, ?_, hK⟩ <;> simp only [qLay, e3, if_true] <;> rw [show qOr (qRow a (qAs d (elI k) (qAs a k q))) 3 (qRow a (qAs d (elI k) (qAs a k q))).1 = q2 by rw [e2, e3]] <;> unfold qSto <;> rw [if_pos ⟨bq1 c_86, bq1 c_97⟩] <;> unfold qSt1 <;> rw [qStV1 c_118, qStV1 c_148] <;> first | exact hQ | exact qII0 (Or.inl c_174))
                    · skip
                      try simp only [bI_0, Bool.not_eq_false] at c_174
                      refine m_aload_n X dX3_mayLay_177 rfl rfl (by first | rfl | exact isR_rf) ?_
                      refine m_getf X fg_X3_100_X3 hM.1 rfl dX3_mayLay_178 ?_
                      refine m_iload X dX3_mayLay_181 rfl ?_
                      refine s_iald X hM rfl rfl (by exact tin (by simp only [alen]; omega) rfl) dX3_mayLay_183 ?_
                      refine m_topi X (hQ.now (by omega)) ?_
                      refine m_ifeq X dX3_mayLay_184 (t := 191) (by decide) (fun c_184 => ?_) (fun c_184 => ?_)
                      · skip
                        try simp only [bI_0, Bool.not_eq_false] at c_184
                        refine m_iconst X dX3_mayLay_191 (v := 0) (by decide) ?_
                        exact m_zret X dX3_mayLay_192 (by first | rfl | exact bI_nar) (by decide) (by decide) (by refine ⟨?_, A, hM, ?_, hK⟩ <;> simp only [qLay, e3, if_true] <;> rw [show qOr (qRow a (qAs d (elI k) (qAs a k q))) 3 (qRow a (qAs d (elI k) (qAs a k q))).1 = q2 by rw [e2, e3]] <;> unfold qSto <;> rw [if_pos ⟨bq1 c_86, bq1 c_97⟩] <;> unfold qSt1 <;> rw [qStV1 c_118, qStV1 c_148] <;> first | exact hQ | exact qII0 (Or.inr c_184))
                      · skip
                        try simp only [bI_0, Bool.not_eq_false] at c_184
                        refine m_iconst X dX3_mayLay_187 (v := 1) (by decide) ?_
                        refine m_goto X dX3_mayLay_188 (t := 192) (by decide) ?_
                        exact m_zret X dX3_mayLay_192 (by first | rfl | exact bI_nar) (by decide) (by decide) (by refine ⟨?_, A, hM, ?_, hK⟩ <;> simp only [qLay, e3, if_true] <;> rw [show qOr (qRow a (qAs d (elI k) (qAs a k q))) 3 (qRow a (qAs d (elI k) (qAs a k q))).1 = q2 by rw [e2, e3]] <;> unfold qSto <;> rw [if_pos ⟨bq1 c_86, bq1 c_97⟩] <;> unfold qSt1 <;> rw [qStV1 c_118, qStV1 c_148] <;> first | exact hQ | exact qII1 c_174 c_184)
          · skip
            try simp only [bI_0, Bool.not_eq_false] at c_48
            refine m_iconst X dX3_mayLay_51 (v := 0) (by decide) ?_
            exact m_zret X dX3_mayLay_52 (by first | rfl | exact bI_nar) (by decide) (by decide) (by refine ⟨?_, A, hM, ?_, hK⟩ <;> simp only [qLay, qLay3, c_7, c_39, c_48, if_true, Bool.false_eq_true, if_false] <;> first | exact hQ | rfl)
      · skip
        refine m_bipush X dX3_mayLay_29 (v := 8) (by decide) ?_
        refine m_goto X dX3_mayLay_31 (t := 36) (by decide) ?_
        have ee : elI k = 8 := (if_neg c_16).trans (if_pos c_26)
        refine m_callV X cs_X3_283  (c_X3_mayAs hM hQ hK he d 8 (by omega)) hM.1 rfl rfl rfl (Nat.le_of_ble_eq_true rfl) dX3_mayLay_36 ⟨by decide, by decide, by decide, by decide⟩ (fun v M hp => ?_) (fun _ _ _ _ h => h.elim)
        obtain ⟨rfl, A, hM, hQ, hK⟩ := hp
        rw [← ee] at hQ
        refine m_sti ?_
        refine m_topi X (by rw [← ee]) ?_
        refine m_ifeq X dX3_mayLay_39 (t := 51) (by decide) (fun c_39 => ?_) (fun c_39 => ?_)
        · skip
          try simp only [bI_0, Bool.not_eq_false] at c_39
          refine m_iconst X dX3_mayLay_51 (v := 0) (by decide) ?_
          exact m_zret X dX3_mayLay_52 (by first | rfl | exact bI_nar) (by decide) (by decide) (by refine ⟨?_, A, hM, ?_, hK⟩ <;> simp only [qLay, qLay3, c_7, c_39, if_true, Bool.false_eq_true, if_false] <;> first | exact hQ | rfl)
        · skip
          try simp only [bI_0, Bool.not_eq_false] at c_39
          refine m_aload_n X dX3_mayLay_42 rfl rfl (by first | rfl | exact isR_rf) ?_
          refine m_iload_n X dX3_mayLay_43 rfl rfl ?_
          refine m_iload_n X dX3_mayLay_44 rfl rfl ?_
          refine m_callV X cs_X3_286  (c_X3_mayRow hM hQ hK he a (by omega)) hM.1 rfl rfl rfl (Nat.le_of_ble_eq_true rfl) dX3_mayLay_45 ⟨by decide, by decide, by decide, by decide⟩ (fun v M hp => ?_) (fun _ _ _ _ h => h.elim)
          obtain ⟨rfl, A, hM, hQ, hK⟩ := hp
          refine m_sti ?_
          refine m_ifne X dX3_mayLay_48 (t := 53) (by decide) (fun c_48 => ?_) (fun c_48 => ?_)
          · skip
            try simp only [bI_0, Bool.not_eq_false] at c_48
            refine m_aload_n X dX3_mayLay_53 rfl rfl (by first | rfl | exact isR_rf) ?_
            refine m_iload_n X dX3_mayLay_54 rfl rfl ?_
            refine m_iconst X dX3_mayLay_55 (v := 3) (by decide) ?_
            refine m_iconst X dX3_mayLay_56 (v := (-1)) (by decide) ?_
            refine m_iconst X dX3_mayLay_57 (v := 0) (by decide) ?_
            refine m_callV X cs_X3_279  (c_X3_mayFail0 hM hQ hK he 3 (by decide)) hM.1 rfl rfl rfl (Nat.le_of_ble_eq_true rfl) dX3_mayLay_58 ⟨by decide, by decide, by decide, by decide⟩ (fun v M hp => ?_) (fun _ _ _ _ h => h.elim)
            obtain ⟨rfl, A, hM, hQ, hK⟩ := hp
            refine m_stn ?_
            have e3 : qLay3 a k d q = (true, qRow a (qAs d (elI k) (qAs a k q))) := by simp only [qLay3, c_7, c_39, c_48, if_true]
            obtain ⟨q2, e2⟩ : ∃ z, z = qOr (qLay3 a k d q).2 3 (qLay3 a k d q).2.1 := ⟨_, rfl⟩
            have hQ : QR e A q2 := by rw [e2, e3]; exact hQ
            refine m_aload_n X dX3_mayLay_61 rfl rfl (by first | rfl | exact isR_rf) ?_
            refine m_getf X fg_X3_100_X3 hM.1 rfl dX3_mayLay_62 ?_
            refine m_iload_n X dX3_mayLay_65 rfl rfl ?_
            refine s_iald X hM rfl rfl (by exact tin (by simp only [alen]; omega) rfl) dX3_mayLay_66 ?_
            refine m_topi X (hQ.now (by omega)) ?_
            refine m_istore X dX3_mayLay_67 rfl rfl ?_
            refine m_aload_n X dX3_mayLay_69 rfl rfl (by first | rfl | exact isR_rf) ?_
            refine m_getf X fg_X3_100_X3 hM.1 rfl dX3_mayLay_70 ?_
            refine m_iload X dX3_mayLay_73 rfl ?_
            refine s_iald X hM rfl rfl (by exact tin (by simp only [alen]; omega) rfl) dX3_mayLay_75 ?_
            refine m_topi X (hQ.now (by omega)) ?_
            refine m_istore X dX3_mayLay_76 rfl rfl ?_
            refine m_iload X dX3_mayLay_78 rfl ?_
            refine m_bipush X dX3_mayLay_80 (v := 7) (by decide) ?_
            refine m_ishr X dX3_mayLay_82 ?_
            refine m_iconst X dX3_mayLay_83 (v := 1) (by decide) ?_
            refine m_iand X dX3_mayLay_84 ?_
            refine m_iconst X dX3_mayLay_85 (v := 1) (by decide) ?_
            refine m_icmpne X dX3_mayLay_86 (t := 168) (by decide) (fun c_86 => ?_) (fun c_86 => ?_)
            · skip
              refine m_aload_n X dX3_mayLay_168 rfl rfl (by first | rfl | exact isR_rf) ?_
              refine m_getf X fg_X3_100_X3 hM.1 rfl dX3_mayLay_169 ?_
              refine m_iload_n X dX3_mayLay_172 rfl rfl ?_
              refine s_iald X hM rfl rfl (by exact tin (by simp only [alen]; omega) rfl) dX3_mayLay_173 ?_
              refine m_topi X (hQ.now (by omega)) ?_
              refine m_ifeq X dX3_mayLay_174 (t := 191) (by decide) (fun c_174 => ?_) (fun c_174 => ?_)
              · skip
                try simp only [bI_0, Bool.not_eq_false] at c_174
                refine m_iconst X dX3_mayLay_191 (v := 0) (by decide) ?_
                exact m_zret X dX3_mayLay_192 (by first | rfl | exact bI_nar) (by decide) (by decide) (by refine ⟨?_, A, hM, ?_, hK⟩ <;> simp only [qLay, e3, if_true] <;> rw [show qOr (qRow a (qAs d (elI k) (qAs a k q))) 3 (qRow a (qAs d (elI k) (qAs a k q))).1 = q2 by rw [e2, e3]] <;> unfold qSto <;> rw [if_neg (fun z => by rw [bq0 c_86] at z; exact absurd z.1 (by decide))] <;> first | exact hQ | exact qII0 (Or.inl c_174))
              · skip
                try simp only [bI_0, Bool.not_eq_false] at c_174
                refine m_aload_n X dX3_mayLay_177 rfl rfl (by first | rfl | exact isR_rf) ?_
                refine m_getf X fg_X3_100_X3 hM.1 rfl dX3_mayLay_178 ?_
                refine m_iload X dX3_mayLay_181 rfl ?_
                refine s_iald X hM rfl rfl (by exact tin (by simp only [alen]; omega) rfl) dX3_mayLay_183 ?_
                refine m_topi X (hQ.now (by omega)) ?_
                refine m_ifeq X dX3_mayLay_184 (t := 191) (by decide) (fun c_184 => ?_) (fun c_184 => ?_)
                · skip
                  try simp only [bI_0, Bool.not_eq_false] at c_184
                  refine m_iconst X dX3_mayLay_191 (v := 0) (by decide) ?_
                  exact m_zret X dX3_mayLay_192 (by first | rfl | exact bI_nar) (by decide) (by decide) (by refine ⟨?_, A, hM, ?_, hK⟩ <;> simp only [qLay, e3, if_true] <;> rw [show qOr (qRow a (qAs d (elI k) (qAs a k q))) 3 (qRow a (qAs d (elI k) (qAs a k q))).1 = q2 by rw [e2, e3]] <;> unfold qSto <;> rw [if_neg (fun z => by rw [bq0 c_86] at z; exact absurd z.1 (by decide))] <;> first | exact hQ | exact qII0 (Or.inr c_184))
                · skip
                  try simp only [bI_0, Bool.not_eq_false] at c_184
                  refine m_iconst X dX3_mayLay_187 (v := 1) (by decide) ?_
                  refine m_goto X dX3_mayLay_188 (t := 192) (by decide) ?_
                  exact m_zret X dX3_mayLay_192 (by first | rfl | exact bI_nar) (by decide) (by decide) (by refine ⟨?_, A, hM, ?_, hK⟩ <;> simp only [qLay, e3, if_true] <;> rw [show qOr (qRow a (qAs d (elI k) (qAs a k q))) 3 (qRow a (qAs d (elI k) (qAs a k q))).1 = q2 by rw [e2, e3]] <;> unfold qSto <;> rw [if_neg (fun z => by rw [bq0 c_86] at z; exact absurd z.1 (by decide))] <;> first | exact hQ | exact qII1 c_174 c_184)
            · skip
              refine m_iload X dX3_mayLay_89 rfl ?_
              refine m_bipush X dX3_mayLay_91 (v := 8) (by decide) ?_
              refine m_ishr X dX3_mayLay_93 ?_
              refine m_iconst X dX3_mayLay_94 (v := 1) (by decide) ?_
              refine m_iand X dX3_mayLay_95 ?_
              refine m_iconst X dX3_mayLay_96 (v := 1) (by decide) ?_
              refine m_icmpne X dX3_mayLay_97 (t := 168) (by decide) (fun c_97 => ?_) (fun c_97 => ?_)
              · skip
                refine m_aload_n X dX3_mayLay_168 rfl rfl (by first | rfl | exact isR_rf) ?_
                refine m_getf X fg_X3_100_X3 hM.1 rfl dX3_mayLay_169 ?_
                refine m_iload_n X dX3_mayLay_172 rfl rfl ?_
                refine s_iald X hM rfl rfl (by exact tin (by simp only [alen]; omega) rfl) dX3_mayLay_173 ?_
                refine m_topi X (hQ.now (by omega)) ?_
                refine m_ifeq X dX3_mayLay_174 (t := 191) (by decide) (fun c_174 => ?_) (fun c_174 => ?_)
                · skip
                  try simp only [bI_0, Bool.not_eq_false] at c_174
                  refine m_iconst X dX3_mayLay_191 (v := 0) (by decide) ?_
                  exact m_zret X dX3_mayLay_192 (by first | rfl | exact bI_nar) (by decide) (by decide) (by refine ⟨?_, A, hM, ?_, hK⟩ <;> simp only [qLay, e3, if_true] <;> rw [show qOr (qRow a (qAs d (elI k) (qAs a k q))) 3 (qRow a (qAs d (elI k) (qAs a k q))).1 = q2 by rw [e2, e3]] <;> unfold qSto <;> rw [if_neg (fun z => by rw [bq0 c_97] at z; exact absurd z.2 (by decide))] <;> first | exact hQ | exact qII0 (Or.inl c_174))
                · skip
                  try simp only [bI_0, Bool.not_eq_false] at c_174
                  refine m_aload_n X dX3_mayLay_177 rfl rfl (by first | rfl | exact isR_rf) ?_
                  refine m_getf X fg_X3_100_X3 hM.1 rfl dX3_mayLay_178 ?_
                  refine m_iload X dX3_mayLay_181 rfl ?_
                  refine s_iald X hM rfl rfl (by exact tin (by simp only [alen]; omega) rfl) dX3_mayLay_183 ?_
                  refine m_topi X (hQ.now (by omega)) ?_
                  refine m_ifeq X dX3_mayLay_184 (t := 191) (by decide) (fun c_184 => ?_) (fun c_184 => ?_)
                  · skip
                    try simp only [bI_0, Bool.not_eq_false] at c_184
                    refine m_iconst X dX3_mayLay_191 (v := 0) (by decide) ?_
                    exact m_zret X dX3_mayLay_192 (by first | rfl | exact bI_nar) (by decide) (by decide) (by refine ⟨?_, A, hM, ?_, hK⟩ <;> simp only [qLay, e3, if_true] <;> rw [show qOr (qRow a (qAs d (elI k) (qAs a k q))) 3 (qRow a (qAs d (elI k) (qAs a k q))).1 = q2 by rw [e2, e3]] <;> unfold qSto <;> rw [if_neg (fun z => by rw [bq0 c_97] at z; exact absurd z.2 (by decide))] <;> first | exact hQ | exact qII0 (Or.inr c_184))
                  · skip
                    try simp only [bI_0, Bool.not_eq_false] at c_184
                    refine m_iconst X dX3_mayLay_187 (v := 1) (by decide) ?_
                    refine m_goto X dX3_mayLay_188 (t := 192) (by decide) ?_
                    exact m_zret X dX3_mayLay_192 (by first | rfl | exact bI_nar) (by decide) (by decide) (by refine ⟨?_, A, hM, ?_, hK⟩ <;> simp only [qLay, e3, if_true] <;> rw [show qOr (qRow a (qAs d (elI k) (qAs a k q))) 3 (qRow a (qAs d (elI k) (qAs a k q))).1 = q2 by rw [e2, e3]] <;> unfold qSto <;> rw [if_neg (fun z => by rw [bq0 c_97] at z; exact absurd z.2 (by decide))] <;> first | exact hQ | exact qII1 c_174 c_184)
              · skip
                refine m_aload_n X dX3_mayLay_100 rfl rfl (by first | rfl | exact isR_rf) ?_
                refine m_iload_n X dX3_mayLay_101 rfl rfl ?_
                refine m_iconst X dX3_mayLay_102 (v := 5) (by decide) ?_
                refine m_iconst X dX3_mayLay_103 (v := (-1)) (by decide) ?_
                refine m_iconst X dX3_mayLay_104 (v := 0) (by decide) ?_
                refine m_callV X cs_X3_279  (c_X3_mayFail0 hM hQ hK he 5 (by decide)) hM.1 rfl rfl rfl (Nat.le_of_ble_eq_true rfl) dX3_mayLay_105 ⟨by decide, by decide, by decide, by decide⟩ (fun v M hp => ?_) (fun _ _ _ _ h => h.elim)
                obtain ⟨rfl, A, hM, hQ, hK⟩ := hp
                refine m_stn ?_
                refine m_aload_n X dX3_mayLay_108 rfl rfl (by first | rfl | exact isR_rf) ?_
                refine m_getf X fg_X3_100_X3 hM.1 rfl dX3_mayLay_109 ?_
                refine m_iload_n X dX3_mayLay_112 rfl rfl ?_
                refine m_iload X dX3_mayLay_113 rfl ?_
                refine m_sipush X dX3_mayLay_115 (v := 256) (by decide) ?_
                refine m_icmpne X dX3_mayLay_118 (t := 130) (by decide) (fun c_118 => ?_) (fun c_118 => ?_)
                · skip
                  refine m_aload_n X dX3_mayLay_130 rfl rfl (by first | rfl | exact isR_rf) ?_
                  refine m_getf X fg_X3_100_X3 hM.1 rfl dX3_mayLay_131 ?_
                  refine m_iload_n X dX3_mayLay_134 rfl rfl ?_
                  refine s_iald X hM rfl rfl (by exact tin (by simp only [alen]; omega) rfl) dX3_mayLay_135 ?_
                  refine m_topi X (hQ.now (by omega)) ?_
                  refine s_now X hM hQ hK (by omega) dX3_mayLay_136 (fun A M hM hQ hK => ?_)
                  refine m_aload_n X dX3_mayLay_137 rfl rfl (by first | rfl | exact isR_rf) ?_
                  refine m_getf X fg_X3_100_X3 hM.1 rfl dX3_mayLay_138 ?_
                  refine m_iload X dX3_mayLay_141 rfl ?_
                  refine m_iload X dX3_mayLay_143 rfl ?_
                  refine m_sipush X dX3_mayLay_145 (v := 128) (by decide) ?_
                  refine m_icmpne X dX3_mayLay_148 (t := 160) (by decide) (fun c_148 => ?_) (fun c_148 => ?_)
                  · skip
                    refine m_aload_n X dX3_mayLay_160 rfl rfl (by first | rfl | exact isR_rf) ?_
                    refine m_getf X fg_X3_100_X3 hM.1 rfl dX3_mayLay_161 ?_
                    refine m_iload X dX3_mayLay_164 rfl ?_
                    refine s_iald X hM rfl rfl (by exact tin (by simp only [alen]; omega) rfl) dX3_mayLay_166 ?_
                    refine m_topi X (hQ.now (by omega)) ?_
                    refine s_now X hM hQ hK (by omega) dX3_mayLay_167 (fun A M hM hQ hK => ?_)
                    refine m_aload_n X dX3_mayLay_168 rfl rfl (by first | rfl | exact isR_rf) ?_
                    refine m_getf X fg_X3_100_X3 hM.1 rfl dX3_mayLay_169 ?_
                    refine m_iload_n X dX3_mayLay_172 rfl rfl ?_
                    refine s_iald X hM rfl rfl (by exact tin (by simp only [alen]; omega) rfl) dX3_mayLay_173 ?_
                    refine m_topi X (hQ.now (by omega)) ?_
                    refine m_ifeq X dX3_mayLay_174 (t := 191) (by decide) (fun c_174 => ?_) (fun c_174 => ?_)
                    · skip
                      try simp only [bI_0, Bool.not_eq_false] at c_174
                      refine m_iconst X dX3_mayLay_191 (v := 0) (by decide) ?_
                      exact m_zret X dX3_mayLay_192 (by first | rfl | exact bI_nar) (by decide) (by decide) (by refine ⟨?_, A, hM, ?_, hK⟩ <;> simp only [qLay, e3, if_true] <;> rw [show qOr (qRow a (qAs d (elI k) (qAs a k q))) 3 (qRow a (qAs d (elI k) (qAs a k q))).1 = q2 by rw [e2, e3]] <;> unfold qSto <;> rw [if_pos ⟨bq1 c_86, bq1 c_97⟩] <;> unfold qSt1 <;> rw [qStV0 c_118, qStV0 c_148] <;> first | exact hQ | exact qII0 (Or.inl c_174))
                    · skip
                      try simp only [bI_0, Bool.not_eq_false] at c_174
                      refine m_aload_n X dX3_mayLay_177 rfl rfl (by first | rfl | exact isR_rf) ?_
                      refine m_getf X fg_X3_100_X3 hM.1 rfl dX3_mayLay_178 ?_
                      refine m_iload X dX3_mayLay_181 rfl ?_
                      refine s_iald X hM rfl rfl (by exact tin (by simp only [alen]; omega) rfl) dX3_mayLay_183 ?_
                      refine m_topi X (hQ.now (by omega)) ?_
                      refine m_ifeq X dX3_mayLay_184 (t := 191) (by decide) (fun c_184 => ?_) (fun c_184 => ?_)
                      · skip
                        try simp only [bI_0, Bool.not_eq_false] at c_184
                        refine m_iconst X dX3_mayLay_191 (v := 0) (by decide) ?_
                        exact m_zret X dX3_mayLay_192 (by first | rfl | exact bI_nar) (by decide) (by decide) (by refine ⟨?_, A, hM, ?_, hK⟩ <;> simp only [qLay, e3, if_true] <;> rw [show qOr (qRow a (qAs d (elI k) (qAs a k q))) 3 (qRow a (qAs d (elI k) (qAs a k q))).1 = q2 by rw [e2, e3]] <;> unfold qSto <;> rw [if_pos ⟨bq1 c_86, bq1 c_97⟩] <;> unfold qSt1 <;> rw [qStV0 c_118, qStV0 c_148] <;> first | exact hQ | exact qII0 (Or.inr c_184))
                      · skip
                        try simp only [bI_0, Bool.not_eq_false] at c_184
                        refine m_iconst X dX3_mayLay_187 (v := 1) (by decide) ?_
                        refine m_goto X dX3_mayLay_188 (t := 192) (by decide) ?_
                        exact m_zret X dX3_mayLay_192 (by first | rfl | exact bI_nar) (by decide) (by decide) (by refine ⟨?_, A, hM, ?_, hK⟩ <;> simp only [qLay, e3, if_true] <;> rw [show qOr (qRow a (qAs d (elI k) (qAs a k q))) 3 (qRow a (qAs d (elI k) (qAs a k q))).1 = q2 by rw [e2, e3]] <;> unfold qSto <;> rw [if_pos ⟨bq1 c_86, bq1 c_97⟩] <;> unfold qSt1 <;> rw [qStV0 c_118, qStV0 c_148] <;> first | exact hQ | exact qII1 c_174 c_184)
                  · skip
                    refine m_iload X dX3_mayLay_151 rfl ?_
                    refine m_sipush X dX3_mayLay_153 (v := (-257)) (by decide) ?_
                    refine m_iand X dX3_mayLay_156 ?_
                    refine m_goto X dX3_mayLay_157 (t := 167) (by decide) ?_
                    refine s_now X hM hQ hK (by omega) dX3_mayLay_167 (fun A M hM hQ hK => ?_)
                    refine m_aload_n X dX3_mayLay_168 rfl rfl (by first | rfl | exact isR_rf) ?_
                    refine m_getf X fg_X3_100_X3 hM.1 rfl dX3_mayLay_169 ?_
                    refine m_iload_n X dX3_mayLay_172 rfl rfl ?_
                    refine s_iald X hM rfl rfl (by exact tin (by simp only [alen]; omega) rfl) dX3_mayLay_173 ?_
                    refine m_topi X (hQ.now (by omega)) ?_
                    refine m_ifeq X dX3_mayLay_174 (t := 191) (by decide) (fun c_174 => ?_) (fun c_174 => ?_)
                    · skip
                      try simp only [bI_0, Bool.not_eq_false] at c_174
                      refine m_iconst X dX3_mayLay_191 (v := 0) (by decide) ?_
                      exact m_zret X dX3_mayLay_192 (by first | rfl | exact bI_nar) (by decide) (by decide) (by refine ⟨?_, A, hM, ?_, hK⟩ <;> simp only [qLay, e3, if_true] <;> rw [show qOr (qRow a (qAs d (elI k) (qAs a k q))) 3 (qRow a (qAs d (elI k) (qAs a k q))).1 = q2 by rw [e2, e3]] <;> unfold qSto <;> rw [if_pos ⟨bq1 c_86, bq1 c_97⟩] <;> unfold qSt1 <;> rw [qStV0 c_118, qStV1 c_148] <;> first | exact hQ | exact qII0 (Or.inl c_174))
                    · skip
                      try simp only [bI_0, Bool.not_eq_false] at c_174
                      refine m_aload_n X dX3_mayLay_177 rfl rfl (by first | rfl | exact isR_rf) ?_
                      refine m_getf X fg_X3_100_X3 hM.1 rfl dX3_mayLay_178 ?_
                      refine m_iload X dX3_mayLay_181 rfl ?_
                      refine s_iald X hM rfl rfl (by exact tin (by simp only [alen]; omega) rfl) dX3_mayLay_183 ?_
                      refine m_topi X (hQ.now (by omega)) ?_
                      refine m_ifeq X dX3_mayLay_184 (t := 191) (by decide) (fun c_184 => ?_) (fun c_184 => ?_)
                      · skip
                        try simp only [bI_0, Bool.not_eq_false] at c_184
                        refine m_iconst X dX3_mayLay_191 (v := 0) (by decide) ?_
                        exact m_zret X dX3_mayLay_192 (by first | rfl | exact bI_nar) (by decide) (by decide) (by refine ⟨?_, A, hM, ?_, hK⟩ <;> simp only [qLay, e3, if_true] <;> rw [show qOr (qRow a (qAs d (elI k) (qAs a k q))) 3 (qRow a (qAs d (elI k) (qAs a k q))).1 = q2 by rw [e2, e3]] <;> unfold qSto <;> rw [if_pos ⟨bq1 c_86, bq1 c_97⟩] <;> unfold qSt1 <;> rw [qStV0 c_118, qStV1 c_148] <;> first | exact hQ | exact qII0 (Or.inr c_184))
                      · skip
                        try simp only [bI_0, Bool.not_eq_false] at c_184
                        refine m_iconst X dX3_mayLay_187 (v := 1) (by decide) ?_
                        refine m_goto X dX3_mayLay_188 (t := 192) (by decide) ?_
                        exact m_zret X dX3_mayLay_192 (by first | rfl | exact bI_nar) (by decide) (by decide) (by refine ⟨?_, A, hM, ?_, hK⟩ <;> simp only [qLay, e3, if_true] <;> rw [show qOr (qRow a (qAs d (elI k) (qAs a k q))) 3 (qRow a (qAs d (elI k) (qAs a k q))).1 = q2 by rw [e2, e3]] <;> unfold qSto <;> rw [if_pos ⟨bq1 c_86, bq1 c_97⟩] <;> unfold qSt1 <;> rw [qStV0 c_118, qStV1 c_148] <;> first | exact hQ | exact qII1 c_174 c_184)
                · skip
                  refine m_iload X dX3_mayLay_121 rfl ?_
                  refine m_sipush X dX3_mayLay_123 (v := (-129)) (by decide) ?_
                  refine m_iand X dX3_mayLay_126 ?_
                  refine m_goto X dX3_mayLay_127 (t := 136) (by decide) ?_
                  refine s_now X hM hQ hK (by omega) dX3_mayLay_136 (fun A M hM hQ hK => ?_)
                  refine m_aload_n X dX3_mayLay_137 rfl rfl (by first | rfl | exact isR_rf) ?_
                  refine m_getf X fg_X3_100_X3 hM.1 rfl dX3_mayLay_138 ?_
                  refine m_iload X dX3_mayLay_141 rfl ?_
                  refine m_iload X dX3_mayLay_143 rfl ?_
                  refine m_sipush X dX3_mayLay_145 (v := 128) (by decide) ?_
                  refine m_icmpne X dX3_mayLay_148 (t := 160) (by decide) (fun c_148 => ?_) (fun c_148 => ?_)
                  · skip
                    refine m_aload_n X dX3_mayLay_160 rfl rfl (by first | rfl | exact isR_rf) ?_
                    refine m_getf X fg_X3_100_X3 hM.1 rfl dX3_mayLay_161 ?_
                    refine m_iload X dX3_mayLay_164 rfl ?_
                    refine s_iald X hM rfl rfl (by exact tin (by simp only [alen]; omega) rfl) dX3_mayLay_166 ?_
                    refine m_topi X (hQ.now (by omega)) ?_
                    refine s_now X hM hQ hK (by omega) dX3_mayLay_167 (fun A M hM hQ hK => ?_)
                    refine m_aload_n X dX3_mayLay_168 rfl rfl (by first | rfl | exact isR_rf) ?_
                    refine m_getf X fg_X3_100_X3 hM.1 rfl dX3_mayLay_169 ?_
                    refine m_iload_n X dX3_mayLay_172 rfl rfl ?_
                    refine s_iald X hM rfl rfl (by exact tin (by simp only [alen]; omega) rfl) dX3_mayLay_173 ?_
                    refine m_topi X (hQ.now (by omega)) ?_
                    refine m_ifeq X dX3_mayLay_174 (t := 191) (by decide) (fun c_174 => ?_) (fun c_174 => ?_)
                    · skip
                      try simp only [bI_0, Bool.not_eq_false] at c_174
                      refine m_iconst X dX3_mayLay_191 (v := 0) (by decide) ?_
                      exact m_zret X dX3_mayLay_192 (by first | rfl | exact bI_nar) (by decide) (by decide) (by refine ⟨?_, A, hM, ?_, hK⟩ <;> simp only [qLay, e3, if_true] <;> rw [show qOr (qRow a (qAs d (elI k) (qAs a k q))) 3 (qRow a (qAs d (elI k) (qAs a k q))).1 = q2 by rw [e2, e3]] <;> unfold qSto <;> rw [if_pos ⟨bq1 c_86, bq1 c_97⟩] <;> unfold qSt1 <;> rw [qStV1 c_118, qStV0 c_148] <;> first | exact hQ | exact qII0 (Or.inl c_174))
                    · skip
                      try simp only [bI_0, Bool.not_eq_false] at c_174
                      refine m_aload_n X dX3_mayLay_177 rfl rfl (by first | rfl | exact isR_rf) ?_
                      refine m_getf X fg_X3_100_X3 hM.1 rfl dX3_mayLay_178 ?_
                      refine m_iload X dX3_mayLay_181 rfl ?_
                      refine s_iald X hM rfl rfl (by exact tin (by simp only [alen]; omega) rfl) dX3_mayLay_183 ?_
                      refine m_topi X (hQ.now (by omega)) ?_
                      refine m_ifeq X dX3_mayLay_184 (t := 191) (by decide) (fun c_184 => ?_) (fun c_184 => ?_)
                      · skip
                        try simp only [bI_0, Bool.not_eq_false] at c_184
                        refine m_iconst X dX3_mayLay_191 (v := 0) (by decide) ?_
                        exact m_zret X dX3_mayLay_192 (by first | rfl | exact bI_nar) (by decide) (by decide) (by refine ⟨?_, A, hM, ?_, hK⟩ <;> simp only [qLay, e3, if_true] <;> rw [show qOr (qRow a (qAs d (elI k) (qAs a k q))) 3 (qRow a (qAs d (elI k) (qAs a k q))).1 = q2 by rw [e2, e3]] <;> unfold qSto <;> rw [if_pos ⟨bq1 c_86, bq1 c_97⟩] <;> unfold qSt1 <;> rw [qStV1 c_118, qStV0 c_148] <;> first | exact hQ | exact qII0 (Or.inr c_184))
                      · skip
                        try simp only [bI_0, Bool.not_eq_false] at c_184
                        refine m_iconst X dX3_mayLay_187 (v := 1) (by decide) ?_
                        refine m_goto X dX3_mayLay_188 (t := 192) (by decide) ?_
                        exact m_zret X dX3_mayLay_192 (by first | rfl | exact bI_nar) (by decide) (by decide) (by refine ⟨?_, A, hM, ?_, hK⟩ <;> simp only [qLay, e3, if_true] <;> rw [show qOr (qRow a (qAs d (elI k) (qAs a k q))) 3 (qRow a (qAs d (elI k) (qAs a k q))).1 = q2 by rw [e2, e3]] <;> unfold qSto <;> rw [if_pos ⟨bq1 c_86, bq1 c_97⟩] <;> unfold qSt1 <;> rw [qStV1 c_118, qStV0 c_148] <;> first | exact hQ | exact qII1 c_174 c_184)
                  · skip
                    refine m_iload X dX3_mayLay_151 rfl ?_
                    refine m_sipush X dX3_mayLay_153 (v := (-257)) (by decide) ?_
                    refine m_iand X dX3_mayLay_156 ?_
                    refine m_goto X dX3_mayLay_157 (t := 167) (by decide) ?_
                    refine s_now X hM hQ hK (by omega) dX3_mayLay_167 (fun A M hM hQ hK => ?_)
                    refine m_aload_n X dX3_mayLay_168 rfl rfl (by first | rfl | exact isR_rf) ?_
                    refine m_getf X fg_X3_100_X3 hM.1 rfl dX3_mayLay_169 ?_
                    refine m_iload_n X dX3_mayLay_172 rfl rfl ?_
                    refine s_iald X hM rfl rfl (by exact tin (by simp only [alen]; omega) rfl) dX3_mayLay_173 ?_
                    refine m_topi X (hQ.now (by omega)) ?_
                    refine m_ifeq X dX3_mayLay_174 (t := 191) (by decide) (fun c_174 => ?_) (fun c_174 => ?_)
                    · skip
                      try simp only [bI_0, Bool.not_eq_false] at c_174
                      refine m_iconst X dX3_mayLay_191 (v := 0) (by decide) ?_
                      exact m_zret X dX3_mayLay_192 (by first | rfl | exact bI_nar) (by decide) (by decide) (by refine ⟨?_, A, hM, ?_, hK⟩ <;> simp only [qLay, e3, if_true] <;> rw [show qOr (qRow a (qAs d (elI k) (qAs a k q))) 3 (qRow a (qAs d (elI k) (qAs a k q))).1 = q2 by rw [e2, e3]] <;> unfold qSto <;> rw [if_pos ⟨bq1 c_86, bq1 c_97⟩] <;> unfold qSt1 <;> rw [qStV1 c_118, qStV1 c_148] <;> first | exact hQ | exact qII0 (Or.inl c_174))
                    · skip
                      try simp only [bI_0, Bool.not_eq_false] at c_174
                      refine m_aload_n X dX3_mayLay_177 rfl rfl (by first | rfl | exact isR_rf) ?_
                      refine m_getf X fg_X3_100_X3 hM.1 rfl dX3_mayLay_178 ?_
                      refine m_iload X dX3_mayLay_181 rfl ?_
                      refine s_iald X hM rfl rfl (by exact tin (by simp only [alen]; omega) rfl) dX3_mayLay_183 ?_
                      refine m_topi X (hQ.now (by omega)) ?_
                      refine m_ifeq X dX3_mayLay_184 (t := 191) (by decide) (fun c_184 => ?_) (fun c_184 => ?_)
                      · skip
                        try simp only [bI_0, Bool.not_eq_false] at c_184
                        refine m_iconst X dX3_mayLay_191 (v := 0) (by decide) ?_
                        exact m_zret X dX3_mayLay_192 (by first | rfl | exact bI_nar) (by decide) (by decide) (by refine ⟨?_, A, hM, ?_, hK⟩ <;> simp only [qLay, e3, if_true] <;> rw [show qOr (qRow a (qAs d (elI k) (qAs a k q))) 3 (qRow a (qAs d (elI k) (qAs a k q))).1 = q2 by rw [e2, e3]] <;> unfold qSto <;> rw [if_pos ⟨bq1 c_86, bq1 c_97⟩] <;> unfold qSt1 <;> rw [qStV1 c_118, qStV1 c_148] <;> first | exact hQ | exact qII0 (Or.inr c_184))
                      · skip
                        try simp only [bI_0, Bool.not_eq_false] at c_184
                        refine m_iconst X dX3_mayLay_187 (v := 1) (by decide) ?_
                        refine m_goto X dX3_mayLay_188 (t := 192) (by decide) ?_
                        exact m_zret X dX3_mayLay_192 (by first | rfl | exact bI_nar) (by decide) (by decide) (by refine ⟨?_, A, hM, ?_, hK⟩ <;> simp only [qLay, e3, if_true] <;> rw [show qOr (qRow a (qAs d (elI k) (qAs a k q))) 3 (qRow a (qAs d (elI k) (qAs a k q))).1 = q2 by rw [e2, e3]] <;> unfold qSto <;> rw [if_pos ⟨bq1 c_86, bq1 c_97⟩] <;> unfold qSt1 <;> rw [qStV1 c_118, qStV1 c_148] <;> first | exact hQ | exact qII1 c_174 c_184)
          · skip
            try simp only [bI_0, Bool.not_eq_false] at c_48
            refine m_iconst X dX3_mayLay_51 (v := 0) (by decide) ?_
            exact m_zret X dX3_mayLay_52 (by first | rfl | exact bI_nar) (by decide) (by decide) (by refine ⟨?_, A, hM, ?_, hK⟩ <;> simp only [qLay, qLay3, c_7, c_39, c_48, if_true, Bool.false_eq_true, if_false] <;> first | exact hQ | rfl)
    · skip
      refine m_iconst X dX3_mayLay_19 (v := 1) (by decide) ?_
      refine m_goto X dX3_mayLay_20 (t := 36) (by decide) ?_
      have ee : elI k = 1 := if_pos c_16
      refine m_callV X cs_X3_283  (c_X3_mayAs hM hQ hK he d 1 (by omega)) hM.1 rfl rfl rfl (Nat.le_of_ble_eq_true rfl) dX3_mayLay_36 ⟨by decide, by decide, by decide, by decide⟩ (fun v M hp => ?_) (fun _ _ _ _ h => h.elim)
      obtain ⟨rfl, A, hM, hQ, hK⟩ := hp
      rw [← ee] at hQ
      refine m_sti ?_
      refine m_topi X (by rw [← ee]) ?_
      refine m_ifeq X dX3_mayLay_39 (t := 51) (by decide) (fun c_39 => ?_) (fun c_39 => ?_)
      · skip
        try simp only [bI_0, Bool.not_eq_false] at c_39
        refine m_iconst X dX3_mayLay_51 (v := 0) (by decide) ?_
        exact m_zret X dX3_mayLay_52 (by first | rfl | exact bI_nar) (by decide) (by decide) (by refine ⟨?_, A, hM, ?_, hK⟩ <;> simp only [qLay, qLay3, c_7, c_39, if_true, Bool.false_eq_true, if_false] <;> first | exact hQ | rfl)
      · skip
        try simp only [bI_0, Bool.not_eq_false] at c_39
        refine m_aload_n X dX3_mayLay_42 rfl rfl (by first | rfl | exact isR_rf) ?_
        refine m_iload_n X dX3_mayLay_43 rfl rfl ?_
        refine m_iload_n X dX3_mayLay_44 rfl rfl ?_
        refine m_callV X cs_X3_286  (c_X3_mayRow hM hQ hK he a (by omega)) hM.1 rfl rfl rfl (Nat.le_of_ble_eq_true rfl) dX3_mayLay_45 ⟨by decide, by decide, by decide, by decide⟩ (fun v M hp => ?_) (fun _ _ _ _ h => h.elim)
        obtain ⟨rfl, A, hM, hQ, hK⟩ := hp
        refine m_sti ?_
        refine m_ifne X dX3_mayLay_48 (t := 53) (by decide) (fun c_48 => ?_) (fun c_48 => ?_)
        · skip
          try simp only [bI_0, Bool.not_eq_false] at c_48
          refine m_aload_n X dX3_mayLay_53 rfl rfl (by first | rfl | exact isR_rf) ?_
          refine m_iload_n X dX3_mayLay_54 rfl rfl ?_
          refine m_iconst X dX3_mayLay_55 (v := 3) (by decide) ?_
          refine m_iconst X dX3_mayLay_56 (v := (-1)) (by decide) ?_
          refine m_iconst X dX3_mayLay_57 (v := 0) (by decide) ?_
          refine m_callV X cs_X3_279  (c_X3_mayFail0 hM hQ hK he 3 (by decide)) hM.1 rfl rfl rfl (Nat.le_of_ble_eq_true rfl) dX3_mayLay_58 ⟨by decide, by decide, by decide, by decide⟩ (fun v M hp => ?_) (fun _ _ _ _ h => h.elim)
          obtain ⟨rfl, A, hM, hQ, hK⟩ := hp
          refine m_stn ?_
          have e3 : qLay3 a k d q = (true, qRow a (qAs d (elI k) (qAs a k q))) := by simp only [qLay3, c_7, c_39, c_48, if_true]
          obtain ⟨q2, e2⟩ : ∃ z, z = qOr (qLay3 a k d q).2 3 (qLay3 a k d q).2.1 := ⟨_, rfl⟩
          have hQ : QR e A q2 := by rw [e2, e3]; exact hQ
          refine m_aload_n X dX3_mayLay_61 rfl rfl (by first | rfl | exact isR_rf) ?_
          refine m_getf X fg_X3_100_X3 hM.1 rfl dX3_mayLay_62 ?_
          refine m_iload_n X dX3_mayLay_65 rfl rfl ?_
          refine s_iald X hM rfl rfl (by exact tin (by simp only [alen]; omega) rfl) dX3_mayLay_66 ?_
          refine m_topi X (hQ.now (by omega)) ?_
          refine m_istore X dX3_mayLay_67 rfl rfl ?_
          refine m_aload_n X dX3_mayLay_69 rfl rfl (by first | rfl | exact isR_rf) ?_
          refine m_getf X fg_X3_100_X3 hM.1 rfl dX3_mayLay_70 ?_
          refine m_iload X dX3_mayLay_73 rfl ?_
          refine s_iald X hM rfl rfl (by exact tin (by simp only [alen]; omega) rfl) dX3_mayLay_75 ?_
          refine m_topi X (hQ.now (by omega)) ?_
          refine m_istore X dX3_mayLay_76 rfl rfl ?_
          refine m_iload X dX3_mayLay_78 rfl ?_
          refine m_bipush X dX3_mayLay_80 (v := 7) (by decide) ?_
          refine m_ishr X dX3_mayLay_82 ?_
          refine m_iconst X dX3_mayLay_83 (v := 1) (by decide) ?_
          refine m_iand X dX3_mayLay_84 ?_
          refine m_iconst X dX3_mayLay_85 (v := 1) (by decide) ?_
          refine m_icmpne X dX3_mayLay_86 (t := 168) (by decide) (fun c_86 => ?_) (fun c_86 => ?_)
          · skip
            refine m_aload_n X dX3_mayLay_168 rfl rfl (by first | rfl | exact isR_rf) ?_
            refine m_getf X fg_X3_100_X3 hM.1 rfl dX3_mayLay_169 ?_
            refine m_iload_n X dX3_mayLay_172 rfl rfl ?_
            refine s_iald X hM rfl rfl (by exact tin (by simp only [alen]; omega) rfl) dX3_mayLay_173 ?_
            refine m_topi X (hQ.now (by omega)) ?_
            refine m_ifeq X dX3_mayLay_174 (t := 191) (by decide) (fun c_174 => ?_) (fun c_174 => ?_)
            · skip
              try simp only [bI_0, Bool.not_eq_false] at c_174
              refine m_iconst X dX3_mayLay_191 (v := 0) (by decide) ?_
              exact m_zret X dX3_mayLay_192 (by first | rfl | exact bI_nar) (by decide) (by decide) (by refine ⟨?_, A, hM, ?_, hK⟩ <;> simp only [qLay, e3, if_true] <;> rw [show qOr (qRow a (qAs d (elI k) (qAs a k q))) 3 (qRow a (qAs d (elI k) (qAs a k q))).1 = q2 by rw [e2, e3]] <;> unfold qSto <;> rw [if_neg (fun z => by rw [bq0 c_86] at z; exact absurd z.1 (by decide))] <;> first | exact hQ | exact qII0 (Or.inl c_174))
            · skip
              try simp only [bI_0, Bool.not_eq_false] at c_174
              refine m_aload_n X dX3_mayLay_177 rfl rfl (by first | rfl | exact isR_rf) ?_
              refine m_getf X fg_X3_100_X3 hM.1 rfl dX3_mayLay_178 ?_
              refine m_iload X dX3_mayLay_181 rfl ?_
              refine s_iald X hM rfl rfl (by exact tin (by simp only [alen]; omega) rfl) dX3_mayLay_183 ?_
              refine m_topi X (hQ.now (by omega)) ?_
              refine m_ifeq X dX3_mayLay_184 (t := 191) (by decide) (fun c_184 => ?_) (fun c_184 => ?_)
              · skip
                try simp only [bI_0, Bool.not_eq_false] at c_184
                refine m_iconst X dX3_mayLay_191 (v := 0) (by decide) ?_
                exact m_zret X dX3_mayLay_192 (by first | rfl | exact bI_nar) (by decide) (by decide) (by refine ⟨?_, A, hM, ?_, hK⟩ <;> simp only [qLay, e3, if_true] <;> rw [show qOr (qRow a (qAs d (elI k) (qAs a k q))) 3 (qRow a (qAs d (elI k) (qAs a k q))).1 = q2 by rw [e2, e3]] <;> unfold qSto <;> rw [if_neg (fun z => by rw [bq0 c_86] at z; exact absurd z.1 (by decide))] <;> first | exact hQ | exact qII0 (Or.inr c_184))
              · skip
                try simp only [bI_0, Bool.not_eq_false] at c_184
                refine m_iconst X dX3_mayLay_187 (v := 1) (by decide) ?_
                refine m_goto X dX3_mayLay_188 (t := 192) (by decide) ?_
                exact m_zret X dX3_mayLay_192 (by first | rfl | exact bI_nar) (by decide) (by decide) (by refine ⟨?_, A, hM, ?_, hK⟩ <;> simp only [qLay, e3, if_true] <;> rw [show qOr (qRow a (qAs d (elI k) (qAs a k q))) 3 (qRow a (qAs d (elI k) (qAs a k q))).1 = q2 by rw [e2, e3]] <;> unfold qSto <;> rw [if_neg (fun z => by rw [bq0 c_86] at z; exact absurd z.1 (by decide))] <;> first | exact hQ | exact qII1 c_174 c_184)
          · skip
            refine m_iload X dX3_mayLay_89 rfl ?_
            refine m_bipush X dX3_mayLay_91 (v := 8) (by decide) ?_
            refine m_ishr X dX3_mayLay_93 ?_
            refine m_iconst X dX3_mayLay_94 (v := 1) (by decide) ?_
            refine m_iand X dX3_mayLay_95 ?_
            refine m_iconst X dX3_mayLay_96 (v := 1) (by decide) ?_
            refine m_icmpne X dX3_mayLay_97 (t := 168) (by decide) (fun c_97 => ?_) (fun c_97 => ?_)
            · skip
              refine m_aload_n X dX3_mayLay_168 rfl rfl (by first | rfl | exact isR_rf) ?_
              refine m_getf X fg_X3_100_X3 hM.1 rfl dX3_mayLay_169 ?_
              refine m_iload_n X dX3_mayLay_172 rfl rfl ?_
              refine s_iald X hM rfl rfl (by exact tin (by simp only [alen]; omega) rfl) dX3_mayLay_173 ?_
              refine m_topi X (hQ.now (by omega)) ?_
              refine m_ifeq X dX3_mayLay_174 (t := 191) (by decide) (fun c_174 => ?_) (fun c_174 => ?_)
              · skip
                try simp only [bI_0, Bool.not_eq_false] at c_174
                refine m_iconst X dX3_mayLay_191 (v := 0) (by decide) ?_
                exact m_zret X dX3_mayLay_192 (by first | rfl | exact bI_nar) (by decide) (by decide) (by refine ⟨?_, A, hM, ?_, hK⟩ <;> simp only [qLay, e3, if_true] <;> rw [show qOr (qRow a (qAs d (elI k) (qAs a k q))) 3 (qRow a (qAs d (elI k) (qAs a k q))).1 = q2 by rw [e2, e3]] <;> unfold qSto <;> rw [if_neg (fun z => by rw [bq0 c_97] at z; exact absurd z.2 (by decide))] <;> first | exact hQ | exact qII0 (Or.inl c_174))
              · skip
                try simp only [bI_0, Bool.not_eq_false] at c_174
                refine m_aload_n X dX3_mayLay_177 rfl rfl (by first | rfl | exact isR_rf) ?_
                refine m_getf X fg_X3_100_X3 hM.1 rfl dX3_mayLay_178 ?_
                refine m_iload X dX3_mayLay_181 rfl ?_
                refine s_iald X hM rfl rfl (by exact tin (by simp only [alen]; omega) rfl) dX3_mayLay_183 ?_
                refine m_topi X (hQ.now (by omega)) ?_
                refine m_ifeq X dX3_mayLay_184 (t := 191) (by decide) (fun c_184 => ?_) (fun c_184 => ?_)
                · skip
                  try simp only [bI_0, Bool.not_eq_false] at c_184
                  refine m_iconst X dX3_mayLay_191 (v := 0) (by decide) ?_
                  exact m_zret X dX3_mayLay_192 (by first | rfl | exact bI_nar) (by decide) (by decide) (by refine ⟨?_, A, hM, ?_, hK⟩ <;> simp only [qLay, e3, if_true] <;> rw [show qOr (qRow a (qAs d (elI k) (qAs a k q))) 3 (qRow a (qAs d (elI k) (qAs a k q))).1 = q2 by rw [e2, e3]] <;> unfold qSto <;> rw [if_neg (fun z => by rw [bq0 c_97] at z; exact absurd z.2 (by decide))] <;> first | exact hQ | exact qII0 (Or.inr c_184))
                · skip
                  try simp only [bI_0, Bool.not_eq_false] at c_184
                  refine m_iconst X dX3_mayLay_187 (v := 1) (by decide) ?_
                  refine m_goto X dX3_mayLay_188 (t := 192) (by decide) ?_
                  exact m_zret X dX3_mayLay_192 (by first | rfl | exact bI_nar) (by decide) (by decide) (by refine ⟨?_, A, hM, ?_, hK⟩ <;> simp only [qLay, e3, if_true] <;> rw [show qOr (qRow a (qAs d (elI k) (qAs a k q))) 3 (qRow a (qAs d (elI k) (qAs a k q))).1 = q2 by rw [e2, e3]] <;> unfold qSto <;> rw [if_neg (fun z => by rw [bq0 c_97] at z; exact absurd z.2 (by decide))] <;> first | exact hQ | exact qII1 c_174 c_184)
            · skip
              refine m_aload_n X dX3_mayLay_100 rfl rfl (by first | rfl | exact isR_rf) ?_
              refine m_iload_n X dX3_mayLay_101 rfl rfl ?_
              refine m_iconst X dX3_mayLay_102 (v := 5) (by decide) ?_
              refine m_iconst X dX3_mayLay_103 (v := (-1)) (by decide) ?_
              refine m_iconst X dX3_mayLay_104 (v := 0) (by decide) ?_
              refine m_callV X cs_X3_279  (c_X3_mayFail0 hM hQ hK he 5 (by decide)) hM.1 rfl rfl rfl (Nat.le_of_ble_eq_true rfl) dX3_mayLay_105 ⟨by decide, by decide, by decide, by decide⟩ (fun v M hp => ?_) (fun _ _ _ _ h => h.elim)
              obtain ⟨rfl, A, hM, hQ, hK⟩ := hp
              refine m_stn ?_
              refine m_aload_n X dX3_mayLay_108 rfl rfl (by first | rfl | exact isR_rf) ?_
              refine m_getf X fg_X3_100_X3 hM.1 rfl dX3_mayLay_109 ?_
              refine m_iload_n X dX3_mayLay_112 rfl rfl ?_
              refine m_iload X dX3_mayLay_113 rfl ?_
              refine m_sipush X dX3_mayLay_115 (v := 256) (by decide) ?_
              refine m_icmpne X dX3_mayLay_118 (t := 130) (by decide) (fun c_118 => ?_) (fun c_118 => ?_)
              · skip
                refine m_aload_n X dX3_mayLay_130 rfl rfl (by first | rfl | exact isR_rf) ?_
                refine m_getf X fg_X3_100_X3 hM.1 rfl dX3_mayLay_131 ?_
                refine m_iload_n X dX3_mayLay_134 rfl rfl ?_
                refine s_iald X hM rfl rfl (by exact tin (by simp only [alen]; omega) rfl) dX3_mayLay_135 ?_
                refine m_topi X (hQ.now (by omega)) ?_
                refine s_now X hM hQ hK (by omega) dX3_mayLay_136 (fun A M hM hQ hK => ?_)
                refine m_aload_n X dX3_mayLay_137 rfl rfl (by first | rfl | exact isR_rf) ?_
                refine m_getf X fg_X3_100_X3 hM.1 rfl dX3_mayLay_138 ?_
                refine m_iload X dX3_mayLay_141 rfl ?_
                refine m_iload X dX3_mayLay_143 rfl ?_
                refine m_sipush X dX3_mayLay_145 (v := 128) (by decide) ?_
                refine m_icmpne X dX3_mayLay_148 (t := 160) (by decide) (fun c_148 => ?_) (fun c_148 => ?_)
                · skip
                  refine m_aload_n X dX3_mayLay_160 rfl rfl (by first | rfl | exact isR_rf) ?_
                  refine m_getf X fg_X3_100_X3 hM.1 rfl dX3_mayLay_161 ?_
                  refine m_iload X dX3_mayLay_164 rfl ?_
                  refine s_iald X hM rfl rfl (by exact tin (by simp only [alen]; omega) rfl) dX3_mayLay_166 ?_
                  refine m_topi X (hQ.now (by omega)) ?_
                  refine s_now X hM hQ hK (by omega) dX3_mayLay_167 (fun A M hM hQ hK => ?_)
                  refine m_aload_n X dX3_mayLay_168 rfl rfl (by first | rfl | exact isR_rf) ?_
                  refine m_getf X fg_X3_100_X3 hM.1 rfl dX3_mayLay_169 ?_
                  refine m_iload_n X dX3_mayLay_172 rfl rfl ?_
                  refine s_iald X hM rfl rfl (by exact tin (by simp only [alen]; omega) rfl) dX3_mayLay_173 ?_
                  refine m_topi X (hQ.now (by omega)) ?_
                  refine m_ifeq X dX3_mayLay_174 (t := 191) (by decide) (fun c_174 => ?_) (fun c_174 => ?_)
                  · skip
                    try simp only [bI_0, Bool.not_eq_false] at c_174
                    refine m_iconst X dX3_mayLay_191 (v := 0) (by decide) ?_
                    exact m_zret X dX3_mayLay_192 (by first | rfl | exact bI_nar) (by decide) (by decide) (by refine ⟨?_, A, hM, ?_, hK⟩ <;> simp only [qLay, e3, if_true] <;> rw [show qOr (qRow a (qAs d (elI k) (qAs a k q))) 3 (qRow a (qAs d (elI k) (qAs a k q))).1 = q2 by rw [e2, e3]] <;> unfold qSto <;> rw [if_pos ⟨bq1 c_86, bq1 c_97⟩] <;> unfold qSt1 <;> rw [qStV0 c_118, qStV0 c_148] <;> first | exact hQ | exact qII0 (Or.inl c_174))
                  · skip
                    try simp only [bI_0, Bool.not_eq_false] at c_174
                    refine m_aload_n X dX3_mayLay_177 rfl rfl (by first | rfl | exact isR_rf) ?_
                    refine m_getf X fg_X3_100_X3 hM.1 rfl dX3_mayLay_178 ?_
                    refine m_iload X dX3_mayLay_181 rfl ?_
                    refine s_iald X hM rfl rfl (by exact tin (by simp only [alen]; omega) rfl) dX3_mayLay_183 ?_
                    refine m_topi X (hQ.now (by omega)) ?_
                    refine m_ifeq X dX3_mayLay_184 (t := 191) (by decide) (fun c_184 => ?_) (fun c_184 => ?_)
                    · skip
                      try simp only [bI_0, Bool.not_eq_false] at c_184
                      refine m_iconst X dX3_mayLay_191 (v := 0) (by decide) ?_
                      exact m_zret X dX3_mayLay_192 (by first | rfl | exact bI_nar) (by decide) (by decide) (by refine ⟨?_, A, hM, ?_, hK⟩ <;> simp only [qLay, e3, if_true] <;> rw [show qOr (qRow a (qAs d (elI k) (qAs a k q))) 3 (qRow a (qAs d (elI k) (qAs a k q))).1 = q2 by rw [e2, e3]] <;> unfold qSto <;> rw [if_pos ⟨bq1 c_86, bq1 c_97⟩] <;> unfold qSt1 <;> rw [qStV0 c_118, qStV0 c_148] <;> first | exact hQ | exact qII0 (Or.inr c_184))
                    · skip
                      try simp only [bI_0, Bool.not_eq_false] at c_184
                      refine m_iconst X dX3_mayLay_187 (v := 1) (by decide) ?_
                      refine m_goto X dX3_mayLay_188 (t := 192) (by decide) ?_
                      exact m_zret X dX3_mayLay_192 (by first | rfl | exact bI_nar) (by decide) (by decide) (by refine ⟨?_, A, hM, ?_, hK⟩ <;> simp only [qLay, e3, if_true] <;> rw [show qOr (qRow a (qAs d (elI k) (qAs a k q))) 3 (qRow a (qAs d (elI k) (qAs a k q))).1 = q2 by rw [e2, e3]] <;> unfold qSto <;> rw [if_pos ⟨bq1 c_86, bq1 c_97⟩] <;> unfold qSt1 <;> rw [qStV0 c_118, qStV0 c_148] <;> first | exact hQ | exact qII1 c_174 c_184)
                · skip
                  refine m_iload X dX3_mayLay_151 rfl ?_
                  refine m_sipush X dX3_mayLay_153 (v := (-257)) (by decide) ?_
                  refine m_iand X dX3_mayLay_156 ?_
                  refine m_goto X dX3_mayLay_157 (t := 167) (by decide) ?_
                  refine s_now X hM hQ hK (by omega) dX3_mayLay_167 (fun A M hM hQ hK => ?_)
                  refine m_aload_n X dX3_mayLay_168 rfl rfl (by first | rfl | exact isR_rf) ?_
                  refine m_getf X fg_X3_100_X3 hM.1 rfl dX3_mayLay_169 ?_
                  refine m_iload_n X dX3_mayLay_172 rfl rfl ?_
                  refine s_iald X hM rfl rfl (by exact tin (by simp only [alen]; omega) rfl) dX3_mayLay_173 ?_
                  refine m_topi X (hQ.now (by omega)) ?_
                  refine m_ifeq X dX3_mayLay_174 (t := 191) (by decide) (fun c_174 => ?_) (fun c_174 => ?_)
                  · skip
                    try simp only [bI_0, Bool.not_eq_false] at c_174
                    refine m_iconst X dX3_mayLay_191 (v := 0) (by decide) ?_
                    exact m_zret X dX3_mayLay_192 (by first | rfl | exact bI_nar) (by decide) (by decide) (by refine ⟨?_, A, hM, ?_, hK⟩ <;> simp only [qLay, e3, if_true] <;> rw [show qOr (qRow a (qAs d (elI k) (qAs a k q))) 3 (qRow a (qAs d (elI k) (qAs a k q))).1 = q2 by rw [e2, e3]] <;> unfold qSto <;> rw [if_pos ⟨bq1 c_86, bq1 c_97⟩] <;> unfold qSt1 <;> rw [qStV0 c_118, qStV1 c_148] <;> first | exact hQ | exact qII0 (Or.inl c_174))
                  · skip
                    try simp only [bI_0, Bool.not_eq_false] at c_174
                    refine m_aload_n X dX3_mayLay_177 rfl rfl (by first | rfl | exact isR_rf) ?_
                    refine m_getf X fg_X3_100_X3 hM.1 rfl dX3_mayLay_178 ?_
                    refine m_iload X dX3_mayLay_181 rfl ?_
                    refine s_iald X hM rfl rfl (by exact tin (by simp only [alen]; omega) rfl) dX3_mayLay_183 ?_
                    refine m_topi X (hQ.now (by omega)) ?_
                    refine m_ifeq X dX3_mayLay_184 (t := 191) (by decide) (fun c_184 => ?_) (fun c_184 => ?_)
                    · skip
                      try simp only [bI_0, Bool.not_eq_false] at c_184
                      refine m_iconst X dX3_mayLay_191 (v := 0) (by decide) ?_
                      exact m_zret X dX3_mayLay_192 (by first | rfl | exact bI_nar) (by decide) (by decide) (by refine ⟨?_, A, hM, ?_, hK⟩ <;> simp only [qLay, e3, if_true] <;> rw [show qOr (qRow a (qAs d (elI k) (qAs a k q))) 3 (qRow a (qAs d (elI k) (qAs a k q))).1 = q2 by rw [e2, e3]] <;> unfold qSto <;> rw [if_pos ⟨bq1 c_86, bq1 c_97⟩] <;> unfold qSt1 <;> rw [qStV0 c_118, qStV1 c_148] <;> first | exact hQ | exact qII0 (Or.inr c_184))
                    · skip
                      try simp only [bI_0, Bool.not_eq_false] at c_184
                      refine m_iconst X dX3_mayLay_187 (v := 1) (by decide) ?_
                      refine m_goto X dX3_mayLay_188 (t := 192) (by decide) ?_
                      exact m_zret X dX3_mayLay_192 (by first | rfl | exact bI_nar) (by decide) (by decide) (by refine ⟨?_, A, hM, ?_, hK⟩ <;> simp only [qLay, e3, if_true] <;> rw [show qOr (qRow a (qAs d (elI k) (qAs a k q))) 3 (qRow a (qAs d (elI k) (qAs a k q))).1 = q2 by rw [e2, e3]] <;> unfold qSto <;> rw [if_pos ⟨bq1 c_86, bq1 c_97⟩] <;> unfold qSt1 <;> rw [qStV0 c_118, qStV1 c_148] <;> first | exact hQ | exact qII1 c_174 c_184)
              · skip
                refine m_iload X dX3_mayLay_121 rfl ?_
                refine m_sipush X dX3_mayLay_123 (v := (-129)) (by decide) ?_
                refine m_iand X dX3_mayLay_126 ?_
                refine m_goto X dX3_mayLay_127 (t := 136) (by decide) ?_
                refine s_now X hM hQ hK (by omega) dX3_mayLay_136 (fun A M hM hQ hK => ?_)
                refine m_aload_n X dX3_mayLay_137 rfl rfl (by first | rfl | exact isR_rf) ?_
                refine m_getf X fg_X3_100_X3 hM.1 rfl dX3_mayLay_138 ?_
                refine m_iload X dX3_mayLay_141 rfl ?_
                refine m_iload X dX3_mayLay_143 rfl ?_
                refine m_sipush X dX3_mayLay_145 (v := 128) (by decide) ?_
                refine m_icmpne X dX3_mayLay_148 (t := 160) (by decide) (fun c_148 => ?_) (fun c_148 => ?_)
                · skip
                  refine m_aload_n X dX3_mayLay_160 rfl rfl (by first | rfl | exact isR_rf) ?_
                  refine m_getf X fg_X3_100_X3 hM.1 rfl dX3_mayLay_161 ?_
                  refine m_iload X dX3_mayLay_164 rfl ?_
                  refine s_iald X hM rfl rfl (by exact tin (by simp only [alen]; omega) rfl) dX3_mayLay_166 ?_
                  refine m_topi X (hQ.now (by omega)) ?_
                  refine s_now X hM hQ hK (by omega) dX3_mayLay_167 (fun A M hM hQ hK => ?_)
                  refine m_aload_n X dX3_mayLay_168 rfl rfl (by first | rfl | exact isR_rf) ?_
                  refine m_getf X fg_X3_100_X3 hM.1 rfl dX3_mayLay_169 ?_
                  refine m_iload_n X dX3_mayLay_172 rfl rfl ?_
                  refine s_iald X hM rfl rfl (by exact tin (by simp only [alen]; omega) rfl) dX3_mayLay_173 ?_
                  refine m_topi X (hQ.now (by omega)) ?_
                  refine m_ifeq X dX3_mayLay_174 (t := 191) (by decide) (fun c_174 => ?_) (fun c_174 => ?_)
                  · skip
                    try simp only [bI_0, Bool.not_eq_false] at c_174
                    refine m_iconst X dX3_mayLay_191 (v := 0) (by decide) ?_
                    exact m_zret X dX3_mayLay_192 (by first | rfl | exact bI_nar) (by decide) (by decide) (by refine ⟨?_, A, hM, ?_, hK⟩ <;> simp only [qLay, e3, if_true] <;> rw [show qOr (qRow a (qAs d (elI k) (qAs a k q))) 3 (qRow a (qAs d (elI k) (qAs a k q))).1 = q2 by rw [e2, e3]] <;> unfold qSto <;> rw [if_pos ⟨bq1 c_86, bq1 c_97⟩] <;> unfold qSt1 <;> rw [qStV1 c_118, qStV0 c_148] <;> first | exact hQ | exact qII0 (Or.inl c_174))
                  · skip
                    try simp only [bI_0, Bool.not_eq_false] at c_174
                    refine m_aload_n X dX3_mayLay_177 rfl rfl (by first | rfl | exact isR_rf) ?_
                    refine m_getf X fg_X3_100_X3 hM.1 rfl dX3_mayLay_178 ?_
                    refine m_iload X dX3_mayLay_181 rfl ?_
                    refine s_iald X hM rfl rfl (by exact tin (by simp only [alen]; omega) rfl) dX3_mayLay_183 ?_
                    refine m_topi X (hQ.now (by omega)) ?_
                    refine m_ifeq X dX3_mayLay_184 (t := 191) (by decide) (fun c_184 => ?_) (fun c_184 => ?_)
                    · skip
                      try simp only [bI_0, Bool.not_eq_false] at c_184
                      refine m_iconst X dX3_mayLay_191 (v := 0) (by decide) ?_
                      exact m_zret X dX3_mayLay_192 (by first | rfl | exact bI_nar) (by decide) (by decide) (by refine ⟨?_, A, hM, ?_, hK⟩ <;> simp only [qLay, e3, if_true] <;> rw [show qOr (qRow a (qAs d (elI k) (qAs a k q))) 3 (qRow a (qAs d (elI k) (qAs a k q))).1 = q2 by rw [e2, e3]] <;> unfold qSto <;> rw [if_pos ⟨bq1 c_86, bq1 c_97⟩] <;> unfold qSt1 <;> rw [qStV1 c_118, qStV0 c_148] <;> first | exact hQ | exact qII0 (Or.inr c_184))
                    · skip
                      try simp only [bI_0, Bool.not_eq_false] at c_184
                      refine m_iconst X dX3_mayLay_187 (v := 1) (by decide) ?_
                      refine m_goto X dX3_mayLay_188 (t := 192) (by decide) ?_
                      exact m_zret X dX3_mayLay_192 (by first | rfl | exact bI_nar) (by decide) (by decide) (by refine ⟨?_, A, hM, ?_, hK⟩ <;> simp only [qLay, e3, if_true] <;> rw [show qOr (qRow a (qAs d (elI k) (qAs a k q))) 3 (qRow a (qAs d (elI k) (qAs a k q))).1 = q2 by rw [e2, e3]] <;> unfold qSto <;> rw [if_pos ⟨bq1 c_86, bq1 c_97⟩] <;> unfold qSt1 <;> rw [qStV1 c_118, qStV0 c_148] <;> first | exact hQ | exact qII1 c_174 c_184)
                · skip
                  refine m_iload X dX3_mayLay_151 rfl ?_
                  refine m_sipush X dX3_mayLay_153 (v := (-257)) (by decide) ?_
                  refine m_iand X dX3_mayLay_156 ?_
                  refine m_goto X dX3_mayLay_157 (t := 167) (by decide) ?_
                  refine s_now X hM hQ hK (by omega) dX3_mayLay_167 (fun A M hM hQ hK => ?_)
                  refine m_aload_n X dX3_mayLay_168 rfl rfl (by first | rfl | exact isR_rf) ?_
                  refine m_getf X fg_X3_100_X3 hM.1 rfl dX3_mayLay_169 ?_
                  refine m_iload_n X dX3_mayLay_172 rfl rfl ?_
                  refine s_iald X hM rfl rfl (by exact tin (by simp only [alen]; omega) rfl) dX3_mayLay_173 ?_
                  refine m_topi X (hQ.now (by omega)) ?_
                  refine m_ifeq X dX3_mayLay_174 (t := 191) (by decide) (fun c_174 => ?_) (fun c_174 => ?_)
                  · skip
                    try simp only [bI_0, Bool.not_eq_false] at c_174
                    refine m_iconst X dX3_mayLay_191 (v := 0) (by decide) ?_
                    exact m_zret X dX3_mayLay_192 (by first | rfl | exact bI_nar) (by decide) (by decide) (by refine ⟨?_, A, hM, ?_, hK⟩ <;> simp only [qLay, e3, if_true] <;> rw [show qOr (qRow a (qAs d (elI k) (qAs a k q))) 3 (qRow a (qAs d (elI k) (qAs a k q))).1 = q2 by rw [e2, e3]] <;> unfold qSto <;> rw [if_pos ⟨bq1 c_86, bq1 c_97⟩] <;> unfold qSt1 <;> rw [qStV1 c_118, qStV1 c_148] <;> first | exact hQ | exact qII0 (Or.inl c_174))
                  · skip
                    try simp only [bI_0, Bool.not_eq_false] at c_174
                    refine m_aload_n X dX3_mayLay_177 rfl rfl (by first | rfl | exact isR_rf) ?_
                    refine m_getf X fg_X3_100_X3 hM.1 rfl dX3_mayLay_178 ?_
                    refine m_iload X dX3_mayLay_181 rfl ?_
                    refine s_iald X hM rfl rfl (by exact tin (by simp only [alen]; omega) rfl) dX3_mayLay_183 ?_
                    refine m_topi X (hQ.now (by omega)) ?_
                    refine m_ifeq X dX3_mayLay_184 (t := 191) (by decide) (fun c_184 => ?_) (fun c_184 => ?_)
                    · skip
                      try simp only [bI_0, Bool.not_eq_false] at c_184
                      refine m_iconst X dX3_mayLay_191 (v := 0) (by decide) ?_
                      exact m_zret X dX3_mayLay_192 (by first | rfl | exact bI_nar) (by decide) (by decide) (by refine ⟨?_, A, hM, ?_, hK⟩ <;> simp only [qLay, e3, if_true] <;> rw [show qOr (qRow a (qAs d (elI k) (qAs a k q))) 3 (qRow a (qAs d (elI k) (qAs a k q))).1 = q2 by rw [e2, e3]] <;> unfold qSto <;> rw [if_pos ⟨bq1 c_86, bq1 c_97⟩] <;> unfold qSt1 <;> rw [qStV1 c_118, qStV1 c_148] <;> first | exact hQ | exact qII0 (Or.inr c_184))
                    · skip
                      try simp only [bI_0, Bool.not_eq_false] at c_184
                      refine m_iconst X dX3_mayLay_187 (v := 1) (by decide) ?_
                      refine m_goto X dX3_mayLay_188 (t := 192) (by decide) ?_
                      exact m_zret X dX3_mayLay_192 (by first | rfl | exact bI_nar) (by decide) (by decide) (by refine ⟨?_, A, hM, ?_, hK⟩ <;> simp only [qLay, e3, if_true] <;> rw [show qOr (qRow a (qAs d (elI k) (qAs a k q))) 3 (qRow a (qAs d (elI k) (qAs a k q))).1 = q2 by rw [e2, e3]] <;> unfold qSto <;> rw [if_pos ⟨bq1 c_86, bq1 c_97⟩] <;> unfold qSt1 <;> rw [qStV1 c_118, qStV1 c_148] <;> first | exact hQ | exact qII1 c_174 c_184)
        · skip
          try simp only [bI_0, Bool.not_eq_false] at c_48
          refine m_iconst X dX3_mayLay_51 (v := 0) (by decide) ?_
          exact m_zret X dX3_mayLay_52 (by first | rfl | exact bI_nar) (by decide) (by decide) (by refine ⟨?_, A, hM, ?_, hK⟩ <;> simp only [qLay, qLay3, c_7, c_39, c_48, if_true, Bool.false_eq_true, if_false] <;> first | exact hQ | rfl)
theorem partK_t : ∀ j, j < 10 → ∀ k, k < 10 → (partK j k = true ↔ (j = 5 ∧ (k = 6 ∨ k = 7)) ∨ ((j = 6 ∨ j = 7) ∧ k = 5) ∨ (j = 6 ∧ k = 7)) := by decide
set_option maxHeartbeats 4000000 in
theorem c_X3_partly (G : GX) (M : Mem) (j k : Nat) (hj : j < 10) (hk : k < 10) : Con G yX3_partly wX3_partly (rmm 0 0) [.int (nI j), .int (nI k)] M (pR M (some (.int (bI (partK j k))))) nX := by
  refine Con.mk (by decide) rfl [(0, some (.int (nI j))), (1, some (.int (nI k)))] rfl fun x X hno => ?_
  refine m_iload_n X dX3_partly_0 rfl rfl ?_
  refine m_iconst X dX3_partly_1 (v := 5) (by decide) ?_
  refine m_icmpne X dX3_partly_2 (t := 17) (by decide) (fun c_2 => ?_) (fun c_2 => ?_)
  · skip
    have c_2 : ¬ j = 5 := fun z => c_2 (by rw [z]; rfl)
    refine m_iload_n X dX3_partly_17 rfl rfl ?_
    refine m_bipush X dX3_partly_18 (v := 6) (by decide) ?_
    refine m_icmpeq X dX3_partly_20 (t := 29) (by decide) (fun c_20 => ?_) (fun c_20 => ?_)
    · skip
      have c_20 : j = 6 := (nI_eq (b := 6) (by omega) (by decide)).mp c_20
      refine m_iload_n X dX3_partly_29 rfl rfl ?_
      refine m_iconst X dX3_partly_30 (v := 5) (by decide) ?_
      refine m_icmpeq X dX3_partly_31 (t := 46) (by decide) (fun c_31 => ?_) (fun c_31 => ?_)
      · skip
        have c_31 : k = 5 := (nI_eq (b := 5) (by omega) (by decide)).mp c_31
        refine m_iconst X dX3_partly_46 (v := 1) (by decide) ?_
        refine m_goto X dX3_partly_47 (t := 51) (by decide) ?_
        exact m_zret X dX3_partly_51 (by first | rfl | exact bI_nar) (by decide) (by decide) (by refine ⟨?_, rfl⟩; rw [(partK_t j hj k hk).mpr (by omega)]; rfl)
      · skip
        have c_31 : ¬ k = 5 := fun z => c_31 (by rw [z]; rfl)
        refine m_iload_n X dX3_partly_34 rfl rfl ?_
        refine m_bipush X dX3_partly_35 (v := 6) (by decide) ?_
        refine m_icmpne X dX3_partly_37 (t := 50) (by decide) (fun c_37 => ?_) (fun c_37 => ?_)
        · skip
          have c_37 : ¬ j = 6 := fun z => c_37 (by rw [z]; rfl)
          refine m_iconst X dX3_partly_50 (v := 0) (by decide) ?_
          exact m_zret X dX3_partly_51 (by first | rfl | exact bI_nar) (by decide) (by decide) (by refine ⟨?_, rfl⟩; rw [show partK j k = false from Bool.eq_false_iff.mpr fun z => by have z := (partK_t j hj k hk).mp z; omega]; rfl)
        · skip
          have c_37 : j = 6 := (nI_eq (b := 6) (by omega) (by decide)).mp c_37
          refine m_iload_n X dX3_partly_40 rfl rfl ?_
          refine m_bipush X dX3_partly_41 (v := 7) (by decide) ?_
          refine m_icmpne X dX3_partly_43 (t := 50) (by decide) (fun c_43 => ?_) (fun c_43 => ?_)
          · skip
            have c_43 : ¬ k = 7 := fun z => c_43 (by rw [z]; rfl)
            refine m_iconst X dX3_partly_50 (v := 0) (by decide) ?_
            exact m_zret X dX3_partly_51 (by first | rfl | exact bI_nar) (by decide) (by decide) (by refine ⟨?_, rfl⟩; rw [show partK j k = false from Bool.eq_false_iff.mpr fun z => by have z := (partK_t j hj k hk).mp z; omega]; rfl)
          · skip
            have c_43 : k = 7 := (nI_eq (b := 7) (by omega) (by decide)).mp c_43
            refine m_iconst X dX3_partly_46 (v := 1) (by decide) ?_
            refine m_goto X dX3_partly_47 (t := 51) (by decide) ?_
            exact m_zret X dX3_partly_51 (by first | rfl | exact bI_nar) (by decide) (by decide) (by refine ⟨?_, rfl⟩; rw [(partK_t j hj k hk).mpr (by omega)]; rfl)
    · skip
      have c_20 : ¬ j = 6 := fun z => c_20 (by rw [z]; rfl)
      refine m_iload_n X dX3_partly_23 rfl rfl ?_
      refine m_bipush X dX3_partly_24 (v := 7) (by decide) ?_
      refine m_icmpne X dX3_partly_26 (t := 34) (by decide) (fun c_26 => ?_) (fun c_26 => ?_)
      · skip
        have c_26 : ¬ j = 7 := fun z => c_26 (by rw [z]; rfl)
        refine m_iload_n X dX3_partly_34 rfl rfl ?_
        refine m_bipush X dX3_partly_35 (v := 6) (by decide) ?_
        refine m_icmpne X dX3_partly_37 (t := 50) (by decide) (fun c_37 => ?_) (fun c_37 => ?_)
        · skip
          have c_37 : ¬ j = 6 := fun z => c_37 (by rw [z]; rfl)
          refine m_iconst X dX3_partly_50 (v := 0) (by decide) ?_
          exact m_zret X dX3_partly_51 (by first | rfl | exact bI_nar) (by decide) (by decide) (by refine ⟨?_, rfl⟩; rw [show partK j k = false from Bool.eq_false_iff.mpr fun z => by have z := (partK_t j hj k hk).mp z; omega]; rfl)
        · skip
          have c_37 : j = 6 := (nI_eq (b := 6) (by omega) (by decide)).mp c_37
          refine m_iload_n X dX3_partly_40 rfl rfl ?_
          refine m_bipush X dX3_partly_41 (v := 7) (by decide) ?_
          refine m_icmpne X dX3_partly_43 (t := 50) (by decide) (fun c_43 => ?_) (fun c_43 => ?_)
          · skip
            have c_43 : ¬ k = 7 := fun z => c_43 (by rw [z]; rfl)
            refine m_iconst X dX3_partly_50 (v := 0) (by decide) ?_
            exact m_zret X dX3_partly_51 (by first | rfl | exact bI_nar) (by decide) (by decide) (by refine ⟨?_, rfl⟩; rw [show partK j k = false from Bool.eq_false_iff.mpr fun z => by have z := (partK_t j hj k hk).mp z; omega]; rfl)
          · skip
            have c_43 : k = 7 := (nI_eq (b := 7) (by omega) (by decide)).mp c_43
            refine m_iconst X dX3_partly_46 (v := 1) (by decide) ?_
            refine m_goto X dX3_partly_47 (t := 51) (by decide) ?_
            exact m_zret X dX3_partly_51 (by first | rfl | exact bI_nar) (by decide) (by decide) (by refine ⟨?_, rfl⟩; rw [(partK_t j hj k hk).mpr (by omega)]; rfl)
      · skip
        have c_26 : j = 7 := (nI_eq (b := 7) (by omega) (by decide)).mp c_26
        refine m_iload_n X dX3_partly_29 rfl rfl ?_
        refine m_iconst X dX3_partly_30 (v := 5) (by decide) ?_
        refine m_icmpeq X dX3_partly_31 (t := 46) (by decide) (fun c_31 => ?_) (fun c_31 => ?_)
        · skip
          have c_31 : k = 5 := (nI_eq (b := 5) (by omega) (by decide)).mp c_31
          refine m_iconst X dX3_partly_46 (v := 1) (by decide) ?_
          refine m_goto X dX3_partly_47 (t := 51) (by decide) ?_
          exact m_zret X dX3_partly_51 (by first | rfl | exact bI_nar) (by decide) (by decide) (by refine ⟨?_, rfl⟩; rw [(partK_t j hj k hk).mpr (by omega)]; rfl)
        · skip
          have c_31 : ¬ k = 5 := fun z => c_31 (by rw [z]; rfl)
          refine m_iload_n X dX3_partly_34 rfl rfl ?_
          refine m_bipush X dX3_partly_35 (v := 6) (by decide) ?_
          refine m_icmpne X dX3_partly_37 (t := 50) (by decide) (fun c_37 => ?_) (fun c_37 => ?_)
          · skip
            have c_37 : ¬ j = 6 := fun z => c_37 (by rw [z]; rfl)
            refine m_iconst X dX3_partly_50 (v := 0) (by decide) ?_
            exact m_zret X dX3_partly_51 (by first | rfl | exact bI_nar) (by decide) (by decide) (by refine ⟨?_, rfl⟩; rw [show partK j k = false from Bool.eq_false_iff.mpr fun z => by have z := (partK_t j hj k hk).mp z; omega]; rfl)
          · skip
            have c_37 : j = 6 := (nI_eq (b := 6) (by omega) (by decide)).mp c_37
            refine m_iload_n X dX3_partly_40 rfl rfl ?_
            refine m_bipush X dX3_partly_41 (v := 7) (by decide) ?_
            refine m_icmpne X dX3_partly_43 (t := 50) (by decide) (fun c_43 => ?_) (fun c_43 => ?_)
            · skip
              have c_43 : ¬ k = 7 := fun z => c_43 (by rw [z]; rfl)
              refine m_iconst X dX3_partly_50 (v := 0) (by decide) ?_
              exact m_zret X dX3_partly_51 (by first | rfl | exact bI_nar) (by decide) (by decide) (by refine ⟨?_, rfl⟩; rw [show partK j k = false from Bool.eq_false_iff.mpr fun z => by have z := (partK_t j hj k hk).mp z; omega]; rfl)
            · skip
              have c_43 : k = 7 := (nI_eq (b := 7) (by omega) (by decide)).mp c_43
              refine m_iconst X dX3_partly_46 (v := 1) (by decide) ?_
              refine m_goto X dX3_partly_47 (t := 51) (by decide) ?_
              exact m_zret X dX3_partly_51 (by first | rfl | exact bI_nar) (by decide) (by decide) (by refine ⟨?_, rfl⟩; rw [(partK_t j hj k hk).mpr (by omega)]; rfl)
  · skip
    have c_2 : j = 5 := (nI_eq (b := 5) (by omega) (by decide)).mp c_2
    refine m_iload_n X dX3_partly_5 rfl rfl ?_
    refine m_bipush X dX3_partly_6 (v := 6) (by decide) ?_
    refine m_icmpeq X dX3_partly_8 (t := 46) (by decide) (fun c_8 => ?_) (fun c_8 => ?_)
    · skip
      have c_8 : k = 6 := (nI_eq (b := 6) (by omega) (by decide)).mp c_8
      refine m_iconst X dX3_partly_46 (v := 1) (by decide) ?_
      refine m_goto X dX3_partly_47 (t := 51) (by decide) ?_
      exact m_zret X dX3_partly_51 (by first | rfl | exact bI_nar) (by decide) (by decide) (by refine ⟨?_, rfl⟩; rw [(partK_t j hj k hk).mpr (by omega)]; rfl)
    · skip
      have c_8 : ¬ k = 6 := fun z => c_8 (by rw [z]; rfl)
      refine m_iload_n X dX3_partly_11 rfl rfl ?_
      refine m_bipush X dX3_partly_12 (v := 7) (by decide) ?_
      refine m_icmpeq X dX3_partly_14 (t := 46) (by decide) (fun c_14 => ?_) (fun c_14 => ?_)
      · skip
        have c_14 : k = 7 := (nI_eq (b := 7) (by omega) (by decide)).mp c_14
        refine m_iconst X dX3_partly_46 (v := 1) (by decide) ?_
        refine m_goto X dX3_partly_47 (t := 51) (by decide) ?_
        exact m_zret X dX3_partly_51 (by first | rfl | exact bI_nar) (by decide) (by decide) (by refine ⟨?_, rfl⟩; rw [(partK_t j hj k hk).mpr (by omega)]; rfl)
      · skip
        have c_14 : ¬ k = 7 := fun z => c_14 (by rw [z]; rfl)
        refine m_iload_n X dX3_partly_17 rfl rfl ?_
        refine m_bipush X dX3_partly_18 (v := 6) (by decide) ?_
        refine m_icmpeq X dX3_partly_20 (t := 29) (by decide) (fun c_20 => ?_) (fun c_20 => ?_)
        · skip
          have c_20 : j = 6 := (nI_eq (b := 6) (by omega) (by decide)).mp c_20
          refine m_iload_n X dX3_partly_29 rfl rfl ?_
          refine m_iconst X dX3_partly_30 (v := 5) (by decide) ?_
          refine m_icmpeq X dX3_partly_31 (t := 46) (by decide) (fun c_31 => ?_) (fun c_31 => ?_)
          · skip
            have c_31 : k = 5 := (nI_eq (b := 5) (by omega) (by decide)).mp c_31
            refine m_iconst X dX3_partly_46 (v := 1) (by decide) ?_
            refine m_goto X dX3_partly_47 (t := 51) (by decide) ?_
            exact m_zret X dX3_partly_51 (by first | rfl | exact bI_nar) (by decide) (by decide) (by refine ⟨?_, rfl⟩; rw [(partK_t j hj k hk).mpr (by omega)]; rfl)
          · skip
            have c_31 : ¬ k = 5 := fun z => c_31 (by rw [z]; rfl)
            refine m_iload_n X dX3_partly_34 rfl rfl ?_
            refine m_bipush X dX3_partly_35 (v := 6) (by decide) ?_
            refine m_icmpne X dX3_partly_37 (t := 50) (by decide) (fun c_37 => ?_) (fun c_37 => ?_)
            · skip
              have c_37 : ¬ j = 6 := fun z => c_37 (by rw [z]; rfl)
              refine m_iconst X dX3_partly_50 (v := 0) (by decide) ?_
              exact m_zret X dX3_partly_51 (by first | rfl | exact bI_nar) (by decide) (by decide) (by refine ⟨?_, rfl⟩; rw [show partK j k = false from Bool.eq_false_iff.mpr fun z => by have z := (partK_t j hj k hk).mp z; omega]; rfl)
            · skip
              have c_37 : j = 6 := (nI_eq (b := 6) (by omega) (by decide)).mp c_37
              refine m_iload_n X dX3_partly_40 rfl rfl ?_
              refine m_bipush X dX3_partly_41 (v := 7) (by decide) ?_
              refine m_icmpne X dX3_partly_43 (t := 50) (by decide) (fun c_43 => ?_) (fun c_43 => ?_)
              · skip
                have c_43 : ¬ k = 7 := fun z => c_43 (by rw [z]; rfl)
                refine m_iconst X dX3_partly_50 (v := 0) (by decide) ?_
                exact m_zret X dX3_partly_51 (by first | rfl | exact bI_nar) (by decide) (by decide) (by refine ⟨?_, rfl⟩; rw [show partK j k = false from Bool.eq_false_iff.mpr fun z => by have z := (partK_t j hj k hk).mp z; omega]; rfl)
              · skip
                have c_43 : k = 7 := (nI_eq (b := 7) (by omega) (by decide)).mp c_43
                refine m_iconst X dX3_partly_46 (v := 1) (by decide) ?_
                refine m_goto X dX3_partly_47 (t := 51) (by decide) ?_
                exact m_zret X dX3_partly_51 (by first | rfl | exact bI_nar) (by decide) (by decide) (by refine ⟨?_, rfl⟩; rw [(partK_t j hj k hk).mpr (by omega)]; rfl)
        · skip
          have c_20 : ¬ j = 6 := fun z => c_20 (by rw [z]; rfl)
          refine m_iload_n X dX3_partly_23 rfl rfl ?_
          refine m_bipush X dX3_partly_24 (v := 7) (by decide) ?_
          refine m_icmpne X dX3_partly_26 (t := 34) (by decide) (fun c_26 => ?_) (fun c_26 => ?_)
          · skip
            have c_26 : ¬ j = 7 := fun z => c_26 (by rw [z]; rfl)
            refine m_iload_n X dX3_partly_34 rfl rfl ?_
            refine m_bipush X dX3_partly_35 (v := 6) (by decide) ?_
            refine m_icmpne X dX3_partly_37 (t := 50) (by decide) (fun c_37 => ?_) (fun c_37 => ?_)
            · skip
              have c_37 : ¬ j = 6 := fun z => c_37 (by rw [z]; rfl)
              refine m_iconst X dX3_partly_50 (v := 0) (by decide) ?_
              exact m_zret X dX3_partly_51 (by first | rfl | exact bI_nar) (by decide) (by decide) (by refine ⟨?_, rfl⟩; rw [show partK j k = false from Bool.eq_false_iff.mpr fun z => by have z := (partK_t j hj k hk).mp z; omega]; rfl)
            · skip
              have c_37 : j = 6 := (nI_eq (b := 6) (by omega) (by decide)).mp c_37
              refine m_iload_n X dX3_partly_40 rfl rfl ?_
              refine m_bipush X dX3_partly_41 (v := 7) (by decide) ?_
              refine m_icmpne X dX3_partly_43 (t := 50) (by decide) (fun c_43 => ?_) (fun c_43 => ?_)
              · skip
                have c_43 : ¬ k = 7 := fun z => c_43 (by rw [z]; rfl)
                refine m_iconst X dX3_partly_50 (v := 0) (by decide) ?_
                exact m_zret X dX3_partly_51 (by first | rfl | exact bI_nar) (by decide) (by decide) (by refine ⟨?_, rfl⟩; rw [show partK j k = false from Bool.eq_false_iff.mpr fun z => by have z := (partK_t j hj k hk).mp z; omega]; rfl)
              · skip
                have c_43 : k = 7 := (nI_eq (b := 7) (by omega) (by decide)).mp c_43
                refine m_iconst X dX3_partly_46 (v := 1) (by decide) ?_
                refine m_goto X dX3_partly_47 (t := 51) (by decide) ?_
                exact m_zret X dX3_partly_51 (by first | rfl | exact bI_nar) (by decide) (by decide) (by refine ⟨?_, rfl⟩; rw [(partK_t j hj k hk).mpr (by omega)]; rfl)
          · skip
            have c_26 : j = 7 := (nI_eq (b := 7) (by omega) (by decide)).mp c_26
            refine m_iload_n X dX3_partly_29 rfl rfl ?_
            refine m_iconst X dX3_partly_30 (v := 5) (by decide) ?_
            refine m_icmpeq X dX3_partly_31 (t := 46) (by decide) (fun c_31 => ?_) (fun c_31 => ?_)
            · skip
              have c_31 : k = 5 := (nI_eq (b := 5) (by omega) (by decide)).mp c_31
              refine m_iconst X dX3_partly_46 (v := 1) (by decide) ?_
              refine m_goto X dX3_partly_47 (t := 51) (by decide) ?_
              exact m_zret X dX3_partly_51 (by first | rfl | exact bI_nar) (by decide) (by decide) (by refine ⟨?_, rfl⟩; rw [(partK_t j hj k hk).mpr (by omega)]; rfl)
            · skip
              have c_31 : ¬ k = 5 := fun z => c_31 (by rw [z]; rfl)
              refine m_iload_n X dX3_partly_34 rfl rfl ?_
              refine m_bipush X dX3_partly_35 (v := 6) (by decide) ?_
              refine m_icmpne X dX3_partly_37 (t := 50) (by decide) (fun c_37 => ?_) (fun c_37 => ?_)
              · skip
                have c_37 : ¬ j = 6 := fun z => c_37 (by rw [z]; rfl)
                refine m_iconst X dX3_partly_50 (v := 0) (by decide) ?_
                exact m_zret X dX3_partly_51 (by first | rfl | exact bI_nar) (by decide) (by decide) (by refine ⟨?_, rfl⟩; rw [show partK j k = false from Bool.eq_false_iff.mpr fun z => by have z := (partK_t j hj k hk).mp z; omega]; rfl)
              · skip
                have c_37 : j = 6 := (nI_eq (b := 6) (by omega) (by decide)).mp c_37
                refine m_iload_n X dX3_partly_40 rfl rfl ?_
                refine m_bipush X dX3_partly_41 (v := 7) (by decide) ?_
                refine m_icmpne X dX3_partly_43 (t := 50) (by decide) (fun c_43 => ?_) (fun c_43 => ?_)
                · skip
                  have c_43 : ¬ k = 7 := fun z => c_43 (by rw [z]; rfl)
                  refine m_iconst X dX3_partly_50 (v := 0) (by decide) ?_
                  exact m_zret X dX3_partly_51 (by first | rfl | exact bI_nar) (by decide) (by decide) (by refine ⟨?_, rfl⟩; rw [show partK j k = false from Bool.eq_false_iff.mpr fun z => by have z := (partK_t j hj k hk).mp z; omega]; rfl)
                · skip
                  have c_43 : k = 7 := (nI_eq (b := 7) (by omega) (by decide)).mp c_43
                  refine m_iconst X dX3_partly_46 (v := 1) (by decide) ?_
                  refine m_goto X dX3_partly_47 (t := 51) (by decide) ?_
                  exact m_zret X dX3_partly_51 (by first | rfl | exact bI_nar) (by decide) (by decide) (by refine ⟨?_, rfl⟩; rw [(partK_t j hj k hk).mpr (by omega)]; rfl)
