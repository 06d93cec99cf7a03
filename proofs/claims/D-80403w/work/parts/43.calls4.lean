/-! THE MODEL TELLS WHAT IS ALIKE (printed by wip/D-80403w/tools/m43.py) -/
set_option maxRecDepth 100000
theorem twinI_lN {σ : AS} {u w : Nat} (hu : u < 2 ^ 31) (hw : w < 2 ^ 31) : twinI σ (lN u) (lN w) = (decide (u = w) || (decide (u ≠ 0) && decide (w ≠ 0) && plainT σ u w)) := by
  unfold twinI
  have e0 : ∀ {a : Nat}, a < 2 ^ 31 → (lN a ≠ 0 ↔ a ≠ 0) := fun ha => not_congr (lN_eq (b := 0) ha (by decide))
  rw [decide_eq_decide.mpr (lN_eq hu hw), decide_eq_decide.mpr (e0 hu), decide_eq_decide.mpr (e0 hw), lN_toInt hu, lN_toInt hw]
  rfl
set_option maxHeartbeats 4000000 in
theorem c_X3_twins {G : GX} {h : Nat} {ad : Nat → Nat} {F : Nat → Int32} {A : Nat → Nat → Int32} {B : Nat → Nat → Int64} {M : Mem} {σ : AS} (hM : MRep G h ad F A B M) (hT : MT σ F A B) (hW : WF σ) (x y : Nat) (hx1 : 1 ≤ x) (hx2 : x ≤ σ.T) (hy1 : 1 ≤ y) (hy2 : y ≤ σ.T) : Con G yX3_twins wX3_twins (rmm 1 24) [.ref h, .int (nI x), .int (nI y)] M (pR M (some (.int (bI (twinsT σ x y))))) nX := by
  refine Con.mk (by decide) rfl [(0, some (.ref h)), (1, some (.int (nI x))), (2, some (.int (nI y)))] rfl fun x' X hno => ?_
  have hb1 := hW.1
  have hb2 := hW.2.1
  have hxl := hW.len hx1 hx2
  have hyl := hW.len hy1 hy2
  have hxk := (hW.2.2.1 x hx1 hx2).2.1
  have hyk := (hW.2.2.1 y hy1 hy2).2.1
  have loop : σ.kd x = 5 → σ.kd y = 5 → ∀ (d i : Nat), i + d = σ.ln x → WM G x' 7 (QM G x' (pR M (some (.int (bI (twinsT σ x y))))) nX (rmm 1 24)) 0 0 M 51 [(4, some (.int (nI i))), (3, some (.int (bI (decide (σ.ln x = σ.ln y) && (List.range i).all (fun i => twinI σ (σ.it (σ.bg x + i)) (σ.it (σ.bg y + i))))))), (0, some (.ref h)), (1, some (.int (nI x))), (2, some (.int (nI y)))] [] := by
    intro k1 k2 d
    induction d with
    | zero =>
      intro i hi
      refine m_iload_n X dX3_twins_51 rfl rfl ?_
      refine m_ifeq X dX3_twins_52 (t := 140) (by decide) (fun c_52 => ?_) (fun c_52 => ?_)
      · skip
        try simp only [bI_0, Bool.not_eq_false] at c_52
        refine m_iload_n X dX3_twins_140 rfl rfl ?_
        exact m_zret X dX3_twins_141 (by first | rfl | exact bI_nar) (by decide) (by decide) (by refine ⟨?_, rfl⟩; have e : twinsT σ x y = (decide (σ.ln x = σ.ln y) && (List.range (σ.ln x)).all (fun i => twinI σ (σ.it (σ.bg x + i)) (σ.it (σ.bg y + i)))) := if_neg (fun z => z.elim (fun z => z k1) fun z => z k2); rw [e]; first | (rw [c_52, allR_mono _ i (by omega) c_52]; done) | (rw [show i = σ.ln x by omega]))
      · skip
        try simp only [bI_0, Bool.not_eq_false] at c_52
        refine m_iload X dX3_twins_55 rfl ?_
        refine m_aload_n X dX3_twins_57 rfl rfl (by first | rfl | exact isR_rf) ?_
        refine m_getf X fg_X3_16_X3 hM.1 rfl dX3_twins_58 ?_
        refine m_iload_n X dX3_twins_61 rfl rfl ?_
        refine s_iald X hM rfl rfl (by exact tin (by simp only [alen]; omega) rfl) dX3_twins_62 ?_
        refine m_topi X (hT.length hW hx1 hx2) ?_
        refine m_icmpge X dX3_twins_63 (t := 140) (by decide) (fun c_63 => ?_) (fun c_63 => absurd ((nI_leI (by omega) (by omega)).mpr (by omega)) c_63)
        refine m_iload_n X dX3_twins_140 rfl rfl ?_
        exact m_zret X dX3_twins_141 (by first | rfl | exact bI_nar) (by decide) (by decide) (by refine ⟨?_, rfl⟩; have e : twinsT σ x y = (decide (σ.ln x = σ.ln y) && (List.range (σ.ln x)).all (fun i => twinI σ (σ.it (σ.bg x + i)) (σ.it (σ.bg y + i)))) := if_neg (fun z => z.elim (fun z => z k1) fun z => z k2); rw [e]; first | (rw [c_52, allR_mono _ i (by omega) c_52]; done) | (rw [show i = σ.ln x by omega]))
    | succ d ih =>
      intro i hi
      refine m_iload_n X dX3_twins_51 rfl rfl ?_
      refine m_ifeq X dX3_twins_52 (t := 140) (by decide) (fun c_52 => ?_) (fun c_52 => ?_)
      · skip
        try simp only [bI_0, Bool.not_eq_false] at c_52
        refine m_iload_n X dX3_twins_140 rfl rfl ?_
        exact m_zret X dX3_twins_141 (by first | rfl | exact bI_nar) (by decide) (by decide) (by refine ⟨?_, rfl⟩; have e : twinsT σ x y = (decide (σ.ln x = σ.ln y) && (List.range (σ.ln x)).all (fun i => twinI σ (σ.it (σ.bg x + i)) (σ.it (σ.bg y + i)))) := if_neg (fun z => z.elim (fun z => z k1) fun z => z k2); rw [e]; rw [c_52, allR_mono _ i (by omega) c_52])
      · skip
        try simp only [bI_0, Bool.not_eq_false] at c_52
        have hbs : σ.ln x = σ.ln y := of_decide_eq_true ((Bool.and_eq_true _ _).mp c_52).1
        have hnx := allR_succ c_52
        obtain ⟨u, hu, eu, -⟩ := hW.2.2.2.2 x hx1 hx2 (by omega) i (by omega)
        obtain ⟨w, hw, ew, -⟩ := hW.2.2.2.2 y hy1 hy2 (by omega) i (by omega)
        rw [eu, ew, twinI_lN (by omega) (by omega)] at hnx
        refine m_iload X dX3_twins_55 rfl ?_
        refine m_aload_n X dX3_twins_57 rfl rfl (by first | rfl | exact isR_rf) ?_
        refine m_getf X fg_X3_16_X3 hM.1 rfl dX3_twins_58 ?_
        refine m_iload_n X dX3_twins_61 rfl rfl ?_
        refine s_iald X hM rfl rfl (by exact tin (by simp only [alen]; omega) rfl) dX3_twins_62 ?_
        refine m_topi X (hT.length hW hx1 hx2) ?_
        refine m_icmpge X dX3_twins_63 (t := 140) (by decide) (fun c_63 => absurd ((nI_leI (by omega) (by omega)).mp c_63) (by omega)) (fun c_63 => ?_)
        refine m_aload_n X dX3_twins_66 rfl rfl (by first | rfl | exact isR_rf) ?_
        refine m_getf X fg_X3_22_X3 hM.1 rfl dX3_twins_67 ?_
        refine m_aload_n X dX3_twins_70 rfl rfl (by first | rfl | exact isR_rf) ?_
        refine m_getf X fg_X3_13_X3 hM.1 rfl dX3_twins_71 ?_
        refine m_iload_n X dX3_twins_74 rfl rfl ?_
        refine s_iald X hM rfl rfl (by exact tin (by simp only [alen]; omega) rfl) dX3_twins_75 ?_
        refine m_topi X (hT.begin hW hx1 hx2) ?_
        refine m_iload X dX3_twins_76 rfl ?_
        refine m_iadd X dX3_twins_78 ?_
        refine m_topi X (nI_add _ _) ?_
        refine s_lald X hM rfl rfl (by exact tin (by simp only [alen]; omega) rfl) dX3_twins_79 ?_
        refine m_topl X ((hT.item hW (by omega)).trans eu) ?_
        refine m_l2i X dX3_twins_80 ?_
        refine m_topi X (lN_i u) ?_
        refine m_istore X dX3_twins_81 rfl rfl ?_
        refine m_aload_n X dX3_twins_83 rfl rfl (by first | rfl | exact isR_rf) ?_
        refine m_getf X fg_X3_22_X3 hM.1 rfl dX3_twins_84 ?_
        refine m_aload_n X dX3_twins_87 rfl rfl (by first | rfl | exact isR_rf) ?_
        refine m_getf X fg_X3_13_X3 hM.1 rfl dX3_twins_88 ?_
        refine m_iload_n X dX3_twins_91 rfl rfl ?_
        refine s_iald X hM rfl rfl (by exact tin (by simp only [alen]; omega) rfl) dX3_twins_92 ?_
        refine m_topi X (hT.begin hW hy1 hy2) ?_
        refine m_iload X dX3_twins_93 rfl ?_
        refine m_iadd X dX3_twins_95 ?_
        refine m_topi X (nI_add _ _) ?_
        refine s_lald X hM rfl rfl (by exact tin (by simp only [alen]; omega) rfl) dX3_twins_96 ?_
        refine m_topl X ((hT.item hW (by omega)).trans ew) ?_
        refine m_l2i X dX3_twins_97 ?_
        refine m_topi X (lN_i w) ?_
        refine m_istore X dX3_twins_98 rfl rfl ?_
        refine m_iload X dX3_twins_100 rfl ?_
        refine m_iload X dX3_twins_102 rfl ?_
        refine m_icmpeq X dX3_twins_104 (t := 128) (by decide) (fun c_104 => ?_) (fun c_104 => ?_)
        · skip
          have q_104 := (nI_eq (by omega) (by omega)).mp c_104
          refine m_iconst X dX3_twins_128 (v := 1) (by decide) ?_
          refine m_goto X dX3_twins_129 (t := 133) (by decide) ?_
          refine m_istore_n X dX3_twins_133 rfl rfl rfl ?_
          refine m_iinc X dX3_twins_134 rfl (w := 1) (by decide) rfl ?_
          refine m_goto X dX3_twins_137 (t := 51) (by decide) ?_
          refine m_loc [(4, some (.int (nI (i + 1)))), (3, some (.int (bI (decide (σ.ln x = σ.ln y) && (List.range (i + 1)).all (fun i => twinI σ (σ.it (σ.bg x + i)) (σ.it (σ.bg y + i))))))), (0, some (.ref h)), (1, some (.int (nI x))), (2, some (.int (nI y)))] ⟨by rw [nI_succ i]; rfl, by rw [hnx]; first | (rw [decide_eq_true q_104]; rfl) | (rw [decide_eq_false q_104, decide_eq_false (fun z : u ≠ 0 => z q_109)]; rfl) | (rw [decide_eq_false q_104, decide_eq_true q_109, decide_eq_false (fun z : w ≠ 0 => z q_114)]; rfl) | (rw [decide_eq_false q_104, decide_eq_true q_109, decide_eq_true q_114, c_125]; rfl), rfl, rfl, rfl, trivial⟩ (ih (i + 1) (by omega))
        · skip
          have q_104 : ¬ u = w := fun z => c_104 ((nI_eq (a := u) (b := w) (by omega) (by omega)).mpr z)
          refine m_iload X dX3_twins_107 rfl ?_
          refine m_ifeq X dX3_twins_109 (t := 132) (by decide) (fun c_109 => ?_) (fun c_109 => ?_)
          · skip
            try simp only [bI_0, Bool.not_eq_false] at c_109
            have q_109 := (z_nI (by omega)).mp c_109
            refine m_iconst X dX3_twins_132 (v := 0) (by decide) ?_
            refine m_istore_n X dX3_twins_133 rfl rfl rfl ?_
            refine m_iinc X dX3_twins_134 rfl (w := 1) (by decide) rfl ?_
            refine m_goto X dX3_twins_137 (t := 51) (by decide) ?_
            refine m_loc [(4, some (.int (nI (i + 1)))), (3, some (.int (bI (decide (σ.ln x = σ.ln y) && (List.range (i + 1)).all (fun i => twinI σ (σ.it (σ.bg x + i)) (σ.it (σ.bg y + i))))))), (0, some (.ref h)), (1, some (.int (nI x))), (2, some (.int (nI y)))] ⟨by rw [nI_succ i]; rfl, by rw [hnx]; first | (rw [decide_eq_true q_104]; rfl) | (rw [decide_eq_false q_104, decide_eq_false (fun z : u ≠ 0 => z q_109)]; rfl) | (rw [decide_eq_false q_104, decide_eq_true q_109, decide_eq_false (fun z : w ≠ 0 => z q_114)]; rfl) | (rw [decide_eq_false q_104, decide_eq_true q_109, decide_eq_true q_114, c_125]; rfl), rfl, rfl, rfl, trivial⟩ (ih (i + 1) (by omega))
          · skip
            try simp only [bI_0, Bool.not_eq_false] at c_109
            have q_109 : u ≠ 0 := fun z => c_109 ((z_nI (a := u) (by omega)).mpr z)
            refine m_iload X dX3_twins_112 rfl ?_
            refine m_ifeq X dX3_twins_114 (t := 132) (by decide) (fun c_114 => ?_) (fun c_114 => ?_)
            · skip
              try simp only [bI_0, Bool.not_eq_false] at c_114
              have q_114 := (z_nI (by omega)).mp c_114
              refine m_iconst X dX3_twins_132 (v := 0) (by decide) ?_
              refine m_istore_n X dX3_twins_133 rfl rfl rfl ?_
              refine m_iinc X dX3_twins_134 rfl (w := 1) (by decide) rfl ?_
              refine m_goto X dX3_twins_137 (t := 51) (by decide) ?_
              refine m_loc [(4, some (.int (nI (i + 1)))), (3, some (.int (bI (decide (σ.ln x = σ.ln y) && (List.range (i + 1)).all (fun i => twinI σ (σ.it (σ.bg x + i)) (σ.it (σ.bg y + i))))))), (0, some (.ref h)), (1, some (.int (nI x))), (2, some (.int (nI y)))] ⟨by rw [nI_succ i]; rfl, by rw [hnx]; first | (rw [decide_eq_true q_104]; rfl) | (rw [decide_eq_false q_104, decide_eq_false (fun z : u ≠ 0 => z q_109)]; rfl) | (rw [decide_eq_false q_104, decide_eq_true q_109, decide_eq_false (fun z : w ≠ 0 => z q_114)]; rfl) | (rw [decide_eq_false q_104, decide_eq_true q_109, decide_eq_true q_114, c_125]; rfl), rfl, rfl, rfl, trivial⟩ (ih (i + 1) (by omega))
            · skip
              try simp only [bI_0, Bool.not_eq_false] at c_114
              have q_114 : w ≠ 0 := fun z => c_114 ((z_nI (a := w) (by omega)).mpr z)
              refine m_aload_n X dX3_twins_117 rfl rfl (by first | rfl | exact isR_rf) ?_
              refine m_iload X dX3_twins_118 rfl ?_
              refine m_iload X dX3_twins_120 rfl ?_
              refine m_callV X cs_X3_266  (c_X3_plainTwins hM hT hW u w (Nat.pos_of_ne_zero q_109) hu (Nat.pos_of_ne_zero q_114) hw) hM.1 rfl rfl rfl (Nat.le_of_ble_eq_true rfl) dX3_twins_122 ⟨by decide, by decide, by decide, by decide⟩ (fun v M hp => ?_) (fun _ _ _ _ h => h.elim)
              obtain ⟨rfl, rfl⟩ := hp
              refine m_sti ?_
              refine m_ifeq X dX3_twins_125 (t := 132) (by decide) (fun c_125 => ?_) (fun c_125 => ?_)
              · skip
                try simp only [bI_0, Bool.not_eq_false] at c_125
                refine m_iconst X dX3_twins_132 (v := 0) (by decide) ?_
                refine m_istore_n X dX3_twins_133 rfl rfl rfl ?_
                refine m_iinc X dX3_twins_134 rfl (w := 1) (by decide) rfl ?_
                refine m_goto X dX3_twins_137 (t := 51) (by decide) ?_
                refine m_loc [(4, some (.int (nI (i + 1)))), (3, some (.int (bI (decide (σ.ln x = σ.ln y) && (List.range (i + 1)).all (fun i => twinI σ (σ.it (σ.bg x + i)) (σ.it (σ.bg y + i))))))), (0, some (.ref h)), (1, some (.int (nI x))), (2, some (.int (nI y)))] ⟨by rw [nI_succ i]; rfl, by rw [hnx]; first | (rw [decide_eq_true q_104]; rfl) | (rw [decide_eq_false q_104, decide_eq_false (fun z : u ≠ 0 => z q_109)]; rfl) | (rw [decide_eq_false q_104, decide_eq_true q_109, decide_eq_false (fun z : w ≠ 0 => z q_114)]; rfl) | (rw [decide_eq_false q_104, decide_eq_true q_109, decide_eq_true q_114, c_125]; rfl), rfl, rfl, rfl, trivial⟩ (ih (i + 1) (by omega))
              · skip
                try simp only [bI_0, Bool.not_eq_false] at c_125
                refine m_iconst X dX3_twins_128 (v := 1) (by decide) ?_
                refine m_goto X dX3_twins_129 (t := 133) (by decide) ?_
                refine m_istore_n X dX3_twins_133 rfl rfl rfl ?_
                refine m_iinc X dX3_twins_134 rfl (w := 1) (by decide) rfl ?_
                refine m_goto X dX3_twins_137 (t := 51) (by decide) ?_
                refine m_loc [(4, some (.int (nI (i + 1)))), (3, some (.int (bI (decide (σ.ln x = σ.ln y) && (List.range (i + 1)).all (fun i => twinI σ (σ.it (σ.bg x + i)) (σ.it (σ.bg y + i))))))), (0, some (.ref h)), (1, some (.int (nI x))), (2, some (.int (nI y)))] ⟨by rw [nI_succ i]; rfl, by rw [hnx]; first | (rw [decide_eq_true q_104]; rfl) | (rw [decide_eq_false q_104, decide_eq_false (fun z : u ≠ 0 => z q_109)]; rfl) | (rw [decide_eq_false q_104, decide_eq_true q_109, decide_eq_false (fun z : w ≠ 0 => z q_114)]; rfl) | (rw [decide_eq_false q_104, decide_eq_true q_109, decide_eq_true q_114, c_125]; rfl), rfl, rfl, rfl, trivial⟩ (ih (i + 1) (by omega))
  refine m_aload_n X dX3_twins_0 rfl rfl (by first | rfl | exact isR_rf) ?_
  refine m_getf X fg_X3_7_X3 hM.1 rfl dX3_twins_1 ?_
  refine m_iload_n X dX3_twins_4 rfl rfl ?_
  refine s_iald X hM rfl rfl (by exact tin (by simp only [alen]; omega) rfl) dX3_twins_5 ?_
  refine m_topi X (hT.kind hW hx1 hx2) ?_
  refine m_iconst X dX3_twins_6 (v := 5) (by decide) ?_
  refine m_icmpne X dX3_twins_7 (t := 20) (by decide) (fun c_7 => ?_) (fun c_7 => ?_)
  · skip
    have k1 : ¬ σ.kd x = 5 := fun z => c_7 (by rw [z]; rfl)
    refine m_aload_n X dX3_twins_20 rfl rfl (by first | rfl | exact isR_rf) ?_
    refine m_iload_n X dX3_twins_21 rfl rfl ?_
    refine m_iload_n X dX3_twins_22 rfl rfl ?_
    refine m_callV X cs_X3_266  (c_X3_plainTwins hM hT hW x y hx1 hx2 hy1 hy2) hM.1 rfl rfl rfl (Nat.le_of_ble_eq_true rfl) dX3_twins_23 ⟨by decide, by decide, by decide, by decide⟩ (fun v M hp => ?_) (fun _ _ _ _ h => h.elim)
    obtain ⟨rfl, rfl⟩ := hp
    refine m_sti ?_
    exact m_zret X dX3_twins_26 (by first | rfl | exact bI_nar) (by decide) (by decide) (by refine ⟨?_, rfl⟩; unfold twinsT; first | rw [if_pos (Or.inl k1)] | rw [if_pos (Or.inr k2)])
  · skip
    have k1 : σ.kd x = 5 := (nI_eq (b := 5) (by omega) (by decide)).mp c_7
    refine m_aload_n X dX3_twins_10 rfl rfl (by first | rfl | exact isR_rf) ?_
    refine m_getf X fg_X3_7_X3 hM.1 rfl dX3_twins_11 ?_
    refine m_iload_n X dX3_twins_14 rfl rfl ?_
    refine s_iald X hM rfl rfl (by exact tin (by simp only [alen]; omega) rfl) dX3_twins_15 ?_
    refine m_topi X (hT.kind hW hy1 hy2) ?_
    refine m_iconst X dX3_twins_16 (v := 5) (by decide) ?_
    refine m_icmpeq X dX3_twins_17 (t := 27) (by decide) (fun c_17 => ?_) (fun c_17 => ?_)
    · skip
      have k2 : σ.kd y = 5 := (nI_eq (b := 5) (by omega) (by decide)).mp c_17
      refine m_aload_n X dX3_twins_27 rfl rfl (by first | rfl | exact isR_rf) ?_
      refine m_getf X fg_X3_16_X3 hM.1 rfl dX3_twins_28 ?_
      refine m_iload_n X dX3_twins_31 rfl rfl ?_
      refine s_iald X hM rfl rfl (by exact tin (by simp only [alen]; omega) rfl) dX3_twins_32 ?_
      refine m_topi X (hT.length hW hx1 hx2) ?_
      refine m_aload_n X dX3_twins_33 rfl rfl (by first | rfl | exact isR_rf) ?_
      refine m_getf X fg_X3_16_X3 hM.1 rfl dX3_twins_34 ?_
      refine m_iload_n X dX3_twins_37 rfl rfl ?_
      refine s_iald X hM rfl rfl (by exact tin (by simp only [alen]; omega) rfl) dX3_twins_38 ?_
      refine m_topi X (hT.length hW hy1 hy2) ?_
      refine m_icmpne X dX3_twins_39 (t := 46) (by decide) (fun c_39 => ?_) (fun c_39 => ?_)
      · skip
        refine m_iconst X dX3_twins_46 (v := 0) (by decide) ?_
        refine m_istore_n X dX3_twins_47 rfl rfl rfl ?_
        refine m_iconst X dX3_twins_48 (v := 0) (by decide) ?_
        refine m_istore X dX3_twins_49 rfl rfl ?_
        refine m_loc [(4, some (.int (nI 0))), (3, some (.int (bI (decide (σ.ln x = σ.ln y) && (List.range 0).all (fun i => twinI σ (σ.it (σ.bg x + i)) (σ.it (σ.bg y + i))))))), (0, some (.ref h)), (1, some (.int (nI x))), (2, some (.int (nI y)))] ⟨rfl, by rw [List.range_zero, List.all_nil, Bool.and_true]; first | (rw [decide_eq_true ((nI_eq (by omega) (by omega)).mp c_39)]; rfl) | (rw [decide_eq_false (fun z => c_39 (congrArg nI z))]; rfl), rfl, rfl, rfl, trivial⟩ (loop k1 k2 (σ.ln x) 0 (Nat.zero_add _))
      · skip
        refine m_iconst X dX3_twins_42 (v := 1) (by decide) ?_
        refine m_goto X dX3_twins_43 (t := 47) (by decide) ?_
        refine m_istore_n X dX3_twins_47 rfl rfl rfl ?_
        refine m_iconst X dX3_twins_48 (v := 0) (by decide) ?_
        refine m_istore X dX3_twins_49 rfl rfl ?_
        refine m_loc [(4, some (.int (nI 0))), (3, some (.int (bI (decide (σ.ln x = σ.ln y) && (List.range 0).all (fun i => twinI σ (σ.it (σ.bg x + i)) (σ.it (σ.bg y + i))))))), (0, some (.ref h)), (1, some (.int (nI x))), (2, some (.int (nI y)))] ⟨rfl, by rw [List.range_zero, List.all_nil, Bool.and_true]; first | (rw [decide_eq_true ((nI_eq (by omega) (by omega)).mp c_39)]; rfl) | (rw [decide_eq_false (fun z => c_39 (congrArg nI z))]; rfl), rfl, rfl, rfl, trivial⟩ (loop k1 k2 (σ.ln x) 0 (Nat.zero_add _))
    · skip
      have k2 : ¬ σ.kd y = 5 := fun z => c_17 (by rw [z]; rfl)
      refine m_aload_n X dX3_twins_20 rfl rfl (by first | rfl | exact isR_rf) ?_
      refine m_iload_n X dX3_twins_21 rfl rfl ?_
      refine m_iload_n X dX3_twins_22 rfl rfl ?_
      refine m_callV X cs_X3_266  (c_X3_plainTwins hM hT hW x y hx1 hx2 hy1 hy2) hM.1 rfl rfl rfl (Nat.le_of_ble_eq_true rfl) dX3_twins_23 ⟨by decide, by decide, by decide, by decide⟩ (fun v M hp => ?_) (fun _ _ _ _ h => h.elim)
      obtain ⟨rfl, rfl⟩ := hp
      refine m_sti ?_
      exact m_zret X dX3_twins_26 (by first | rfl | exact bI_nar) (by decide) (by decide) (by refine ⟨?_, rfl⟩; unfold twinsT; first | rw [if_pos (Or.inl k1)] | rw [if_pos (Or.inr k2)])
set_option maxHeartbeats 4000000 in
theorem c_X3_alike {G : GX} {h : Nat} {ad : Nat → Nat} {F : Nat → Int32} {A : Nat → Nat → Int32} {B : Nat → Nat → Int64} {M : Mem} {Φ : FS} (hM : MRep G h ad F A B M) (hI : MF Φ F A B) (hW : FW Φ) (s o : Int32) : Con G yX3_alike wX3_alike (rmm 2 50) [.ref h, .int s, .int o] M (pR M (some (.int (apAlike s o Φ)))) nX := by
  refine Con.mk (by decide) rfl [(0, some (.ref h)), (1, some (.int s)), (2, some (.int o))] rfl fun x X hno => ?_
  have hN := hW.1.1
  have hWF := hW.2.1
  have hb1 := hWF.1
  have hb2 := hWF.2.1
  have hR := hI.1
  have hT := hR.1
  have hMN := hR.2.2.2.2.2.2.2
  refine m_iload_n X dX3_alike_0 rfl rfl ?_
  refine m_callS X cs_X3_124  (c_X3_isSlot _ _ _) rfl rfl (Nat.le_of_ble_eq_true rfl) dX3_alike_1 ⟨by decide, by decide, by decide, by decide⟩ (fun v M hp => ?_) (fun _ _ _ _ h => h.elim)
  obtain ⟨rfl, rfl⟩ := hp
  refine m_sti ?_
  refine m_ifeq X dX3_alike_4 (t := 14) (by decide) (fun c_4 => ?_) (fun c_4 => ?_)
  · skip
    try simp only [bI_0, Bool.not_eq_false] at c_4
    refine m_iconst X dX3_alike_14 (v := (-1)) (by decide) ?_
    exact m_iret X dX3_alike_15 (by decide) (by decide) (by refine ⟨?_, rfl⟩; unfold apAlike; rw [if_neg (by rintro ⟨z1, z2⟩; first | exact absurd z1 (by rw [c_4]; decide) | exact absurd z2 (by rw [c_11]; decide))])
  · skip
    try simp only [bI_0, Bool.not_eq_false] at c_4
    refine m_iload_n X dX3_alike_7 rfl rfl ?_
    refine m_callS X cs_X3_124  (c_X3_isSlot _ _ _) rfl rfl (Nat.le_of_ble_eq_true rfl) dX3_alike_8 ⟨by decide, by decide, by decide, by decide⟩ (fun v M hp => ?_) (fun _ _ _ _ h => h.elim)
    obtain ⟨rfl, rfl⟩ := hp
    refine m_sti ?_
    refine m_ifne X dX3_alike_11 (t := 16) (by decide) (fun c_11 => ?_) (fun c_11 => ?_)
    · skip
      try simp only [bI_0, Bool.not_eq_false] at c_11
      obtain ⟨s, -, hs, rfl⟩ := inB_r 0 11 (by decide) (by decide) c_4
      obtain ⟨t, -, ht, rfl⟩ := inB_r 0 11 (by decide) (by decide) c_11
      have hs1 := hWF.sl (s := s) (by omega)
      have ht1 := hWF.sl (s := t) (by omega)
      have e : apAlike (nI s) (nI t) Φ = if Φ.2.1.1.sl s = Φ.2.1.1.sl t then 1 else if Φ.2.1.1.sl s ≠ 0 ∧ Φ.2.1.1.sl t ≠ 0 ∧ twinsT Φ.2.1.1 (Φ.2.1.1.sl s) (Φ.2.1.1.sl t) = true then 2 else 0 := by unfold apAlike; rw [if_pos ⟨c_4, c_11⟩, tn_nI (by omega), tn_nI (by omega)]
      refine m_aload_n X dX3_alike_16 rfl rfl (by first | rfl | exact isR_rf) ?_
      refine m_getf X fg_X3_26_X3 hM.1 rfl dX3_alike_17 ?_
      refine m_iload_n X dX3_alike_20 rfl rfl ?_
      refine s_iald X hM rfl rfl (by exact tin (by simp only [alen]; omega) rfl) dX3_alike_21 ?_
      refine m_topi X (hT.slot (by omega)) ?_
      refine m_istore_n X dX3_alike_22 rfl rfl rfl ?_
      refine m_aload_n X dX3_alike_23 rfl rfl (by first | rfl | exact isR_rf) ?_
      refine m_getf X fg_X3_26_X3 hM.1 rfl dX3_alike_24 ?_
      refine m_iload_n X dX3_alike_27 rfl rfl ?_
      refine s_iald X hM rfl rfl (by exact tin (by simp only [alen]; omega) rfl) dX3_alike_28 ?_
      refine m_topi X (hT.slot (by omega)) ?_
      refine m_istore X dX3_alike_29 rfl rfl ?_
      refine m_iload_n X dX3_alike_31 rfl rfl ?_
      refine m_iload X dX3_alike_32 rfl ?_
      refine m_icmpne X dX3_alike_34 (t := 41) (by decide) (fun c_34 => ?_) (fun c_34 => ?_)
      · skip
        have q_34 := fun z => c_34 (congrArg nI z)
        refine m_iload_n X dX3_alike_41 rfl rfl ?_
        refine m_ifeq X dX3_alike_42 (t := 64) (by decide) (fun c_42 => ?_) (fun c_42 => ?_)
        · skip
          try simp only [bI_0, Bool.not_eq_false] at c_42
          have q_42 := (z_nI (by omega)).mp c_42
          refine m_iconst X dX3_alike_64 (v := 0) (by decide) ?_
          exact m_iret X dX3_alike_65 (by decide) (by decide) (by refine ⟨?_, rfl⟩; rw [e]; first | (rw [if_pos q_34]; done) | (rw [if_neg q_34, if_pos ⟨q_42, q_47, c_57⟩]; done) | (rw [if_neg q_34, if_neg (fun z => by first | exact z.1 q_42 | exact z.2.1 q_47 | exact absurd z.2.2 (by rw [c_57]; decide))]; done))
        · skip
          try simp only [bI_0, Bool.not_eq_false] at c_42
          have q_42 := fun z => c_42 ((z_nI (by omega)).mpr z)
          refine m_iload X dX3_alike_45 rfl ?_
          refine m_ifeq X dX3_alike_47 (t := 64) (by decide) (fun c_47 => ?_) (fun c_47 => ?_)
          · skip
            try simp only [bI_0, Bool.not_eq_false] at c_47
            have q_47 := (z_nI (by omega)).mp c_47
            refine m_iconst X dX3_alike_64 (v := 0) (by decide) ?_
            exact m_iret X dX3_alike_65 (by decide) (by decide) (by refine ⟨?_, rfl⟩; rw [e]; first | (rw [if_pos q_34]; done) | (rw [if_neg q_34, if_pos ⟨q_42, q_47, c_57⟩]; done) | (rw [if_neg q_34, if_neg (fun z => by first | exact z.1 q_42 | exact z.2.1 q_47 | exact absurd z.2.2 (by rw [c_57]; decide))]; done))
          · skip
            try simp only [bI_0, Bool.not_eq_false] at c_47
            have q_47 := fun z => c_47 ((z_nI (by omega)).mpr z)
            refine m_aload_n X dX3_alike_50 rfl rfl (by first | rfl | exact isR_rf) ?_
            refine m_iload_n X dX3_alike_51 rfl rfl ?_
            refine m_iload X dX3_alike_52 rfl ?_
            refine m_callV X cs_X3_269  (c_X3_twins hM hT hWF (Φ.2.1.1.sl s) (Φ.2.1.1.sl t) (Nat.pos_of_ne_zero q_42) hs1 (Nat.pos_of_ne_zero q_47) ht1) hM.1 rfl rfl rfl (Nat.le_of_ble_eq_true rfl) dX3_alike_54 ⟨by decide, by decide, by decide, by decide⟩ (fun v M hp => ?_) (fun _ _ _ _ h => h.elim)
            obtain ⟨rfl, rfl⟩ := hp
            refine m_sti ?_
            refine m_ifeq X dX3_alike_57 (t := 64) (by decide) (fun c_57 => ?_) (fun c_57 => ?_)
            · skip
              try simp only [bI_0, Bool.not_eq_false] at c_57
              refine m_iconst X dX3_alike_64 (v := 0) (by decide) ?_
              exact m_iret X dX3_alike_65 (by decide) (by decide) (by refine ⟨?_, rfl⟩; rw [e]; first | (rw [if_pos q_34]; done) | (rw [if_neg q_34, if_pos ⟨q_42, q_47, c_57⟩]; done) | (rw [if_neg q_34, if_neg (fun z => by first | exact z.1 q_42 | exact z.2.1 q_47 | exact absurd z.2.2 (by rw [c_57]; decide))]; done))
            · skip
              try simp only [bI_0, Bool.not_eq_false] at c_57
              refine m_iconst X dX3_alike_60 (v := 2) (by decide) ?_
              refine m_goto X dX3_alike_61 (t := 65) (by decide) ?_
              exact m_iret X dX3_alike_65 (by decide) (by decide) (by refine ⟨?_, rfl⟩; rw [e]; first | (rw [if_pos q_34]; done) | (rw [if_neg q_34, if_pos ⟨q_42, q_47, c_57⟩]; done) | (rw [if_neg q_34, if_neg (fun z => by first | exact z.1 q_42 | exact z.2.1 q_47 | exact absurd z.2.2 (by rw [c_57]; decide))]; done))
      · skip
        have q_34 := (nI_eq (by omega) (by omega)).mp c_34
        refine m_iconst X dX3_alike_37 (v := 1) (by decide) ?_
        refine m_goto X dX3_alike_38 (t := 65) (by decide) ?_
        exact m_iret X dX3_alike_65 (by decide) (by decide) (by refine ⟨?_, rfl⟩; rw [e]; first | (rw [if_pos q_34]; done) | (rw [if_neg q_34, if_pos ⟨q_42, q_47, c_57⟩]; done) | (rw [if_neg q_34, if_neg (fun z => by first | exact z.1 q_42 | exact z.2.1 q_47 | exact absurd z.2.2 (by rw [c_57]; decide))]; done))
    · skip
      try simp only [bI_0, Bool.not_eq_false] at c_11
      refine m_iconst X dX3_alike_14 (v := (-1)) (by decide) ?_
      exact m_iret X dX3_alike_15 (by decide) (by decide) (by refine ⟨?_, rfl⟩; unfold apAlike; rw [if_neg (by rintro ⟨z1, z2⟩; first | exact absurd z1 (by rw [c_4]; decide) | exact absurd z2 (by rw [c_11]; decide))])
