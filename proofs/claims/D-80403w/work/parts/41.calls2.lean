/-! THE MODEL'S FURTHER CALLS (printed by wip/D-80403w/tools/m41.py) -/
set_option maxRecDepth 100000
theorem apSlot_in {s : Nat} {w : Int32} {Φ : FS} (hs : s < 12) (h1 : inB (nI s) 0 11 = true) (h2 : inB w 0 2 = true) : apSlot (nI s) w Φ = if w = 0 then nI (Φ.2.1.1.sl s) else if Φ.2.1.1.sl s = 0 then 0 else if w = 1 then nI (Φ.2.1.1.kd (Φ.2.1.1.sl s)) else sizeA Φ.2.1.1 (Φ.2.1.1.sl s) := by unfold apSlot; rw [if_pos ⟨h1, h2⟩, tn_nI (by omega)]
set_option maxHeartbeats 4000000 in
theorem c_X3_slot {G : GX} {h : Nat} {ad : Nat → Nat} {F : Nat → Int32} {A : Nat → Nat → Int32} {B : Nat → Nat → Int64} {M : Mem} {Φ : FS} (hM : MRep G h ad F A B M) (hI : MF Φ F A B) (hW : FW Φ) (s w : Int32) : Con G yX3_slot wX3_slot (rmm 2 42) [.ref h, .int s, .int w] M (pR M (some (.int (apSlot s w Φ)))) nX := by
  refine Con.mk (by decide) rfl [(0, some (.ref h)), (1, some (.int s)), (2, some (.int w))] rfl fun x X hno => ?_
  have hN := hW.1.1
  have hWF := hW.2.1
  have hb1 := hWF.1
  have hb2 := hWF.2.1
  have hR := hI.1
  have hT := hR.1
  have hMN := hR.2.2.2.2.2.2.2
  refine m_iload_n X dX3_slot_0 rfl rfl ?_
  refine m_callS X cs_X3_124  (c_X3_isSlot _ _ _) rfl rfl (Nat.le_of_ble_eq_true rfl) dX3_slot_1 ⟨by decide, by decide, by decide, by decide⟩ (fun v M hp => ?_) (fun _ _ _ _ h => h.elim)
  obtain ⟨rfl, rfl⟩ := hp
  refine m_sti ?_
  refine m_ifeq X dX3_slot_4 (t := 16) (by decide) (fun c_4 => ?_) (fun c_4 => ?_)
  · skip
    try simp only [bI_0, Bool.not_eq_false] at c_4
    refine m_iconst X dX3_slot_16 (v := (-1)) (by decide) ?_
    exact m_iret X dX3_slot_17 (by decide) (by decide) (by refine ⟨?_, rfl⟩; unfold apSlot; rw [if_neg (by rintro ⟨z1, z2⟩; first | exact absurd z1 (by rw [c_4]; decide) | exact absurd z2 (by rw [c_13]; decide))])
  · skip
    try simp only [bI_0, Bool.not_eq_false] at c_4
    refine m_iload_n X dX3_slot_7 rfl rfl ?_
    refine m_iconst X dX3_slot_8 (v := 0) (by decide) ?_
    refine m_iconst X dX3_slot_9 (v := 2) (by decide) ?_
    refine m_callS X cs_X3_103  (c_X3_in _ _ _ _ _) rfl rfl (Nat.le_of_ble_eq_true rfl) dX3_slot_10 ⟨by decide, by decide, by decide, by decide⟩ (fun v M hp => ?_) (fun _ _ _ _ h => h.elim)
    obtain ⟨rfl, rfl⟩ := hp
    refine m_sti ?_
    refine m_ifne X dX3_slot_13 (t := 18) (by decide) (fun c_13 => ?_) (fun c_13 => ?_)
    · skip
      try simp only [bI_0, Bool.not_eq_false] at c_13
      obtain ⟨s, -, hs, rfl⟩ := inB_r 0 11 (by decide) (by decide) c_4
      have e := apSlot_in (Φ := Φ) (by omega) c_4 c_13
      have hsl := hWF.sl (s := s) (by omega)
      refine m_aload_n X dX3_slot_18 rfl rfl (by first | rfl | exact isR_rf) ?_
      refine m_getf X fg_X3_26_X3 hM.1 rfl dX3_slot_19 ?_
      refine m_iload_n X dX3_slot_22 rfl rfl ?_
      refine s_iald X hM rfl rfl (by exact tin (by simp only [alen]; omega) rfl) dX3_slot_23 ?_
      refine m_topi X (hT.slot (by omega)) ?_
      refine m_istore_n X dX3_slot_24 rfl rfl rfl ?_
      refine m_iload_n X dX3_slot_25 rfl rfl ?_
      refine m_ifne X dX3_slot_26 (t := 33) (by decide) (fun c_26 => ?_) (fun c_26 => ?_)
      · skip
        try simp only [bI_0, Bool.not_eq_false] at c_26
        refine m_iload_n X dX3_slot_33 rfl rfl ?_
        refine m_ifne X dX3_slot_34 (t := 41) (by decide) (fun c_34 => ?_) (fun c_34 => ?_)
        · skip
          try simp only [bI_0, Bool.not_eq_false] at c_34
          rw [z_nI (by omega)] at c_34
          have hp0 := hWF.pos (s := s) (by omega) c_34
          refine m_iload_n X dX3_slot_41 rfl rfl ?_
          refine m_iconst X dX3_slot_42 (v := 1) (by decide) ?_
          refine m_icmpne X dX3_slot_43 (t := 55) (by decide) (fun c_43 => ?_) (fun c_43 => ?_)
          · skip
            refine m_aload_n X dX3_slot_55 rfl rfl (by first | rfl | exact isR_rf) ?_
            refine m_getf X fg_X3_7_X3 hM.1 rfl dX3_slot_56 ?_
            refine m_iload_n X dX3_slot_59 rfl rfl ?_
            refine s_iald X hM rfl rfl (by exact tin (by simp only [alen]; omega) rfl) dX3_slot_60 ?_
            refine m_topi X (hT.kind hWF hp0.1 hp0.2.1) ?_
            refine m_bipush X dX3_slot_61 (v := 8) (by decide) ?_
            refine m_icmpge X dX3_slot_63 (t := 75) (by decide) (fun c_63 => ?_) (fun c_63 => ?_)
            · skip
              have c_63 := (nI_leI (a := 8) (by decide) (by omega)).mp c_63
              refine m_aload_n X dX3_slot_75 rfl rfl (by first | rfl | exact isR_rf) ?_
              refine m_getf X fg_X3_19_X3 hM.1 rfl dX3_slot_76 ?_
              refine m_iload_n X dX3_slot_79 rfl rfl ?_
              refine s_iald X hM rfl rfl (by exact tin (by simp only [alen]; omega) rfl) dX3_slot_80 ?_
              refine m_topi X (hT.number hWF hp0.1 hp0.2.1) ?_
              exact m_iret X dX3_slot_81 (by decide) (by decide) (by refine ⟨?_, rfl⟩; rw [e]; first | (rw [if_pos c_26]; done) | (rw [if_neg c_26, if_pos c_34]; done) | (rw [if_neg c_26, if_neg c_34, if_pos c_43]; done) | (rw [if_neg c_26, if_neg c_34, if_neg c_43]; unfold sizeA; first | rw [if_neg (by omega)] | rw [if_pos (by omega)]))
            · skip
              have c_63 := (Nat.not_le.mp fun z => c_63 ((nI_leI (a := 8) (by decide) (by omega)).mpr z))
              refine m_aload_n X dX3_slot_66 rfl rfl (by first | rfl | exact isR_rf) ?_
              refine m_getf X fg_X3_16_X3 hM.1 rfl dX3_slot_67 ?_
              refine m_iload_n X dX3_slot_70 rfl rfl ?_
              refine s_iald X hM rfl rfl (by exact tin (by simp only [alen]; omega) rfl) dX3_slot_71 ?_
              refine m_topi X (hT.length hWF hp0.1 hp0.2.1) ?_
              refine m_goto X dX3_slot_72 (t := 81) (by decide) ?_
              exact m_iret X dX3_slot_81 (by decide) (by decide) (by refine ⟨?_, rfl⟩; rw [e]; first | (rw [if_pos c_26]; done) | (rw [if_neg c_26, if_pos c_34]; done) | (rw [if_neg c_26, if_neg c_34, if_pos c_43]; done) | (rw [if_neg c_26, if_neg c_34, if_neg c_43]; unfold sizeA; first | rw [if_neg (by omega)] | rw [if_pos (by omega)]))
          · skip
            refine m_aload_n X dX3_slot_46 rfl rfl (by first | rfl | exact isR_rf) ?_
            refine m_getf X fg_X3_7_X3 hM.1 rfl dX3_slot_47 ?_
            refine m_iload_n X dX3_slot_50 rfl rfl ?_
            refine s_iald X hM rfl rfl (by exact tin (by simp only [alen]; omega) rfl) dX3_slot_51 ?_
            refine m_topi X (hT.kind hWF hp0.1 hp0.2.1) ?_
            refine m_goto X dX3_slot_52 (t := 81) (by decide) ?_
            exact m_iret X dX3_slot_81 (by decide) (by decide) (by refine ⟨?_, rfl⟩; rw [e]; first | (rw [if_pos c_26]; done) | (rw [if_neg c_26, if_pos c_34]; done) | (rw [if_neg c_26, if_neg c_34, if_pos c_43]; done) | (rw [if_neg c_26, if_neg c_34, if_neg c_43]; unfold sizeA; first | rw [if_neg (by omega)] | rw [if_pos (by omega)]))
        · skip
          try simp only [bI_0, Bool.not_eq_false] at c_34
          rw [z_nI (by omega)] at c_34
          refine m_iconst X dX3_slot_37 (v := 0) (by decide) ?_
          refine m_goto X dX3_slot_38 (t := 81) (by decide) ?_
          exact m_iret X dX3_slot_81 (by decide) (by decide) (by refine ⟨?_, rfl⟩; rw [e]; first | (rw [if_pos c_26]; done) | (rw [if_neg c_26, if_pos c_34]; done) | (rw [if_neg c_26, if_neg c_34, if_pos c_43]; done) | (rw [if_neg c_26, if_neg c_34, if_neg c_43]; unfold sizeA; first | rw [if_neg (by omega)] | rw [if_pos (by omega)]))
      · skip
        try simp only [bI_0, Bool.not_eq_false] at c_26
        refine m_iload_n X dX3_slot_29 rfl rfl ?_
        refine m_goto X dX3_slot_30 (t := 81) (by decide) ?_
        exact m_iret X dX3_slot_81 (by decide) (by decide) (by refine ⟨?_, rfl⟩; rw [e]; first | (rw [if_pos c_26]; done) | (rw [if_neg c_26, if_pos c_34]; done) | (rw [if_neg c_26, if_neg c_34, if_pos c_43]; done) | (rw [if_neg c_26, if_neg c_34, if_neg c_43]; unfold sizeA; first | rw [if_neg (by omega)] | rw [if_pos (by omega)]))
    · skip
      try simp only [bI_0, Bool.not_eq_false] at c_13
      refine m_iconst X dX3_slot_16 (v := (-1)) (by decide) ?_
      exact m_iret X dX3_slot_17 (by decide) (by decide) (by refine ⟨?_, rfl⟩; unfold apSlot; rw [if_neg (by rintro ⟨z1, z2⟩; first | exact absurd z1 (by rw [c_4]; decide) | exact absurd z2 (by rw [c_13]; decide))])
theorem apItem_in {s : Nat} {i : Int32} {Φ : FS} (hs : s < 12) (h1 : inB (nI s) 0 11 = true) : apItem (nI s) i Φ = if Φ.2.1.1.sl s ≠ 0 ∧ inN i (Φ.2.1.1.ln (Φ.2.1.1.sl s)) = true then Φ.2.1.1.it (Φ.2.1.1.bg (Φ.2.1.1.sl s) + tn i) else 0 := by
  unfold apItem
  rw [tn_nI (by omega)]
  by_cases h : Φ.2.1.1.sl s ≠ 0 ∧ inN i (Φ.2.1.1.ln (Φ.2.1.1.sl s)) = true
  · rw [if_pos ⟨h1, h⟩, if_pos h]
  · rw [if_neg (fun z => h z.2), if_neg h]
theorem inN_of {i : Int32} {n : Nat} (hn : n < 2 ^ 31) (h : inN i n = true) : ∃ j : Nat, j < n ∧ i = nI j := by
  unfold inN at h
  simp only [Bool.and_eq_true, decide_eq_true_eq] at h
  exact ⟨i.toInt.toNat, by omega, toInt_nI (by omega) (by omega)⟩
set_option maxHeartbeats 4000000 in
theorem c_X3_item {G : GX} {h : Nat} {ad : Nat → Nat} {F : Nat → Int32} {A : Nat → Nat → Int32} {B : Nat → Nat → Int64} {M : Mem} {Φ : FS} (hM : MRep G h ad F A B M) (hI : MF Φ F A B) (hW : FW Φ) (s i : Int32) : Con G yX3_item wX3_item (rmm 2 42) [.ref h, .int s, .int i] M (pR M (some (.long (apItem s i Φ)))) nX := by
  refine Con.mk (by decide) rfl [(0, some (.ref h)), (1, some (.int s)), (2, some (.int i))] rfl fun x X hno => ?_
  have hN := hW.1.1
  have hWF := hW.2.1
  have hb1 := hWF.1
  have hb2 := hWF.2.1
  have hR := hI.1
  have hT := hR.1
  have hMN := hR.2.2.2.2.2.2.2
  refine m_iload_n X dX3_item_0 rfl rfl ?_
  refine m_callS X cs_X3_124  (c_X3_isSlot _ _ _) rfl rfl (Nat.le_of_ble_eq_true rfl) dX3_item_1 ⟨by decide, by decide, by decide, by decide⟩ (fun v M hp => ?_) (fun _ _ _ _ h => h.elim)
  obtain ⟨rfl, rfl⟩ := hp
  refine m_sti ?_
  refine m_ifeq X dX3_item_4 (t := 41) (by decide) (fun c_4 => ?_) (fun c_4 => ?_)
  · skip
    try simp only [bI_0, Bool.not_eq_false] at c_4
    refine m_iconst X dX3_item_41 (v := 0) (by decide) ?_
    refine m_istore_n X dX3_item_42 rfl rfl rfl ?_
    refine m_iload_n X dX3_item_43 rfl rfl ?_
    refine m_ifeq X dX3_item_44 (t := 68) (by decide) (fun c_44 => ?_) (fun c_44 => absurd rfl c_44)
    refine m_lconst X dX3_item_68 (v := 0) (by decide) ?_
    exact m_lret X dX3_item_69 (by decide) (by decide) (by refine ⟨?_, rfl⟩; first | rw [e] | (unfold apItem; rw [if_neg (fun z => absurd z.1 (by rw [c_4]; decide))]))
  · skip
    try simp only [bI_0, Bool.not_eq_false] at c_4
    obtain ⟨s, -, hs, rfl⟩ := inB_r 0 11 (by decide) (by decide) c_4
    have e := apItem_in (i := i) (Φ := Φ) (by omega) c_4
    have hsl := hWF.sl (s := s) (by omega)
    refine m_aload_n X dX3_item_7 rfl rfl (by first | rfl | exact isR_rf) ?_
    refine m_getf X fg_X3_26_X3 hM.1 rfl dX3_item_8 ?_
    refine m_iload_n X dX3_item_11 rfl rfl ?_
    refine s_iald X hM rfl rfl (by exact tin (by simp only [alen]; omega) rfl) dX3_item_12 ?_
    refine m_topi X (hT.slot (by omega)) ?_
    refine m_ifeq X dX3_item_13 (t := 41) (by decide) (fun c_13 => ?_) (fun c_13 => ?_)
    · skip
      try simp only [bI_0, Bool.not_eq_false] at c_13
      rw [z_nI (by omega)] at c_13
      rw [if_neg (fun z => z.1 c_13)] at e
      refine m_iconst X dX3_item_41 (v := 0) (by decide) ?_
      refine m_istore_n X dX3_item_42 rfl rfl rfl ?_
      refine m_iload_n X dX3_item_43 rfl rfl ?_
      refine m_ifeq X dX3_item_44 (t := 68) (by decide) (fun c_44 => ?_) (fun c_44 => absurd rfl c_44)
      refine m_lconst X dX3_item_68 (v := 0) (by decide) ?_
      exact m_lret X dX3_item_69 (by decide) (by decide) (by refine ⟨?_, rfl⟩; first | rw [e] | (unfold apItem; rw [if_neg (fun z => absurd z.1 (by rw [c_4]; decide))]))
    · skip
      try simp only [bI_0, Bool.not_eq_false] at c_13
      rw [z_nI (by omega)] at c_13
      have hp0 := hWF.pos (s := s) (by omega) c_13
      refine m_iload_n X dX3_item_16 rfl rfl ?_
      refine m_iconst X dX3_item_17 (v := 0) (by decide) ?_
      refine m_aload_n X dX3_item_18 rfl rfl (by first | rfl | exact isR_rf) ?_
      refine m_getf X fg_X3_16_X3 hM.1 rfl dX3_item_19 ?_
      refine m_aload_n X dX3_item_22 rfl rfl (by first | rfl | exact isR_rf) ?_
      refine m_getf X fg_X3_26_X3 hM.1 rfl dX3_item_23 ?_
      refine m_iload_n X dX3_item_26 rfl rfl ?_
      refine s_iald X hM rfl rfl (by exact tin (by simp only [alen]; omega) rfl) dX3_item_27 ?_
      refine m_topi X (hT.slot (by omega)) ?_
      refine s_iald X hM rfl rfl (by exact tin (by simp only [alen]; omega) rfl) dX3_item_28 ?_
      refine m_topi X (hT.length hWF hp0.1 hp0.2.1) ?_
      refine m_iconst X dX3_item_29 (v := 1) (by decide) ?_
      refine m_isub X dX3_item_30 ?_
      refine m_callS X cs_X3_103  (c_X3_in _ _ _ _ _) rfl rfl (Nat.le_of_ble_eq_true rfl) dX3_item_31 ⟨by decide, by decide, by decide, by decide⟩ (fun v M hp => ?_) (fun _ _ _ _ h => h.elim)
      obtain ⟨rfl, rfl⟩ := hp
      refine m_sti ?_
      refine m_topi X (congrArg bI (inB_len (by omega))) ?_
      refine m_ifeq X dX3_item_34 (t := 41) (by decide) (fun c_34 => ?_) (fun c_34 => ?_)
      · skip
        try simp only [bI_0, Bool.not_eq_false] at c_34
        rw [if_neg (fun z => by rw [c_34] at z; cases z.2)] at e
        refine m_iconst X dX3_item_41 (v := 0) (by decide) ?_
        refine m_istore_n X dX3_item_42 rfl rfl rfl ?_
        refine m_iload_n X dX3_item_43 rfl rfl ?_
        refine m_ifeq X dX3_item_44 (t := 68) (by decide) (fun c_44 => ?_) (fun c_44 => absurd rfl c_44)
        refine m_lconst X dX3_item_68 (v := 0) (by decide) ?_
        exact m_lret X dX3_item_69 (by decide) (by decide) (by refine ⟨?_, rfl⟩; first | rw [e] | (unfold apItem; rw [if_neg (fun z => absurd z.1 (by rw [c_4]; decide))]))
      · skip
        try simp only [bI_0, Bool.not_eq_false] at c_34
        refine m_iconst X dX3_item_37 (v := 1) (by decide) ?_
        refine m_goto X dX3_item_38 (t := 42) (by decide) ?_
        refine m_istore_n X dX3_item_42 rfl rfl rfl ?_
        refine m_iload_n X dX3_item_43 rfl rfl ?_
        refine m_ifeq X dX3_item_44 (t := 68) (by decide) (fun c_44 => absurd c_44 (by decide)) (fun c_44 => ?_)
        obtain ⟨j, hj, rfl⟩ := inN_of (by omega) c_34
        rw [if_pos ⟨c_13, c_34⟩, tn_nI (by omega)] at e
        refine m_aload_n X dX3_item_47 rfl rfl (by first | rfl | exact isR_rf) ?_
        refine m_getf X fg_X3_22_X3 hM.1 rfl dX3_item_48 ?_
        refine m_aload_n X dX3_item_51 rfl rfl (by first | rfl | exact isR_rf) ?_
        refine m_getf X fg_X3_13_X3 hM.1 rfl dX3_item_52 ?_
        refine m_aload_n X dX3_item_55 rfl rfl (by first | rfl | exact isR_rf) ?_
        refine m_getf X fg_X3_26_X3 hM.1 rfl dX3_item_56 ?_
        refine m_iload_n X dX3_item_59 rfl rfl ?_
        refine s_iald X hM rfl rfl (by exact tin (by simp only [alen]; omega) rfl) dX3_item_60 ?_
        refine m_topi X (hT.slot (by omega)) ?_
        refine s_iald X hM rfl rfl (by exact tin (by simp only [alen]; omega) rfl) dX3_item_61 ?_
        refine m_topi X (hT.begin hWF hp0.1 hp0.2.1) ?_
        refine m_iload_n X dX3_item_62 rfl rfl ?_
        refine m_iadd X dX3_item_63 ?_
        refine m_topi X (nI_add _ _) ?_
        refine s_lald X hM rfl rfl (by exact tin (by simp only [alen]; omega) rfl) dX3_item_64 ?_
        refine m_topl X (hT.item hWF (by omega)) ?_
        refine m_goto X dX3_item_65 (t := 69) (by decide) ?_
        exact m_lret X dX3_item_69 (by decide) (by decide) (by refine ⟨?_, rfl⟩; first | rw [e] | (unfold apItem; rw [if_neg (fun z => absurd z.1 (by rw [c_4]; decide))]))
set_option maxHeartbeats 4000000 in
theorem c_X3_has {G : GX} {h : Nat} {ad : Nat → Nat} {F : Nat → Int32} {A : Nat → Nat → Int32} {B : Nat → Nat → Int64} {M : Mem} {ρ : RP} {N : Nat} (hM : MRep G h ad F A B M) (hQ : MQp ρ N F A) (hN : N ≤ 80) (n : Nat) (hn : n < N) : Con G yX3_has wX3_has (rmm 0 0) [.ref h, .int (nI n)] M (pR M (some (.int (bI (ρ.rch n))))) nX := by
  refine Con.mk (by decide) rfl [(0, some (.ref h)), (1, some (.int (nI n)))] rfl fun x X hno => ?_
  have q := (hQ.2 n hn).1
  refine m_aload_n X dX3_has_0 rfl rfl (by first | rfl | exact isR_rf) ?_
  refine m_getf X fg_X3_142_X3 hM.1 rfl dX3_has_1 ?_
  refine m_ifeq X dX3_has_4 (t := 20) (by decide) (fun c_4 => ?_) (fun c_4 => ?_)
  · skip
    try simp only [bI_0, Bool.not_eq_false] at c_4
    refine m_iconst X dX3_has_20 (v := 0) (by decide) ?_
    exact m_zret X dX3_has_21 (by first | rfl | exact bI_nar) (by decide) (by decide) (by refine ⟨?_, rfl⟩; first | (rw [q.mpr ⟨c_4, c_13⟩]; rfl) | (rw [show ρ.rch n = false from Bool.eq_false_iff.mpr fun z => by first | exact (q.mp z).1 c_4 | exact (q.mp z).2 c_13]; rfl))
  · skip
    try simp only [bI_0, Bool.not_eq_false] at c_4
    refine m_aload_n X dX3_has_7 rfl rfl (by first | rfl | exact isR_rf) ?_
    refine m_getf X fg_X3_76_X3 hM.1 rfl dX3_has_8 ?_
    refine m_iload_n X dX3_has_11 rfl rfl ?_
    refine s_zald X hM rfl rfl (by exact tin (by simp only [alen]; omega) rfl) dX3_has_12 ?_
    refine m_topi X (congrArg (A 31) (nI_clamp (by omega))) ?_
    refine m_ifeq X dX3_has_13 (t := 20) (by decide) (fun c_13 => ?_) (fun c_13 => ?_)
    · skip
      try simp only [bI_0, Bool.not_eq_false] at c_13
      refine m_iconst X dX3_has_20 (v := 0) (by decide) ?_
      exact m_zret X dX3_has_21 (by first | rfl | exact bI_nar) (by decide) (by decide) (by refine ⟨?_, rfl⟩; first | (rw [q.mpr ⟨c_4, c_13⟩]; rfl) | (rw [show ρ.rch n = false from Bool.eq_false_iff.mpr fun z => by first | exact (q.mp z).1 c_4 | exact (q.mp z).2 c_13]; rfl))
    · skip
      try simp only [bI_0, Bool.not_eq_false] at c_13
      refine m_iconst X dX3_has_16 (v := 1) (by decide) ?_
      refine m_goto X dX3_has_17 (t := 21) (by decide) ?_
      exact m_zret X dX3_has_21 (by first | rfl | exact bI_nar) (by decide) (by decide) (by refine ⟨?_, rfl⟩; first | (rw [q.mpr ⟨c_4, c_13⟩]; rfl) | (rw [show ρ.rch n = false from Bool.eq_false_iff.mpr fun z => by first | exact (q.mp z).1 c_4 | exact (q.mp z).2 c_13]; rfl))
set_option maxHeartbeats 4000000 in
theorem c_X3_reached {G : GX} {h : Nat} {ad : Nat → Nat} {F : Nat → Int32} {A : Nat → Nat → Int32} {B : Nat → Nat → Int64} {M : Mem} {Φ : FS} (hM : MRep G h ad F A B M) (hI : MF Φ F A B) (hW : FW Φ) (n : Int32) : Con G yX3_reached wX3_reached (rmm 2 43) [.ref h, .int n] M (pR M (some (.int (apReached n Φ)))) nX := by
  refine Con.mk (by decide) rfl [(0, some (.ref h)), (1, some (.int n))] rfl fun x X hno => ?_
  have hN := hW.1.1
  have hWF := hW.2.1
  have hb1 := hWF.1
  have hb2 := hWF.2.1
  have hR := hI.1
  have hT := hR.1
  have hMN := hR.2.2.2.2.2.2.2
  refine m_aload_n X dX3_reached_0 rfl rfl (by first | rfl | exact isR_rf) ?_
  refine m_iload_n X dX3_reached_1 rfl rfl ?_
  refine m_callV X cs_X3_139  (c_X3_isNode hM hMN.1 hN n) hM.1 rfl rfl rfl (Nat.le_of_ble_eq_true rfl) dX3_reached_2 ⟨by decide, by decide, by decide, by decide⟩ (fun v M hp => ?_) (fun _ _ _ _ h => h.elim)
  obtain ⟨rfl, rfl⟩ := hp
  refine m_sti ?_
  refine m_ifne X dX3_reached_5 (t := 12) (by decide) (fun c_5 => ?_) (fun c_5 => ?_)
  · skip
    try simp only [bI_0, Bool.not_eq_false] at c_5
    obtain ⟨n, hn, rfl⟩ := isN_nI hN c_5
    have hq := hI.2.2 n hn
    refine m_aload_n X dX3_reached_12 rfl rfl (by first | rfl | exact isR_rf) ?_
    refine m_iload_n X dX3_reached_13 rfl rfl ?_
    refine m_callV X cs_X3_349  (c_X3_has hM hI.2 hN n hn) hM.1 rfl rfl rfl (Nat.le_of_ble_eq_true rfl) dX3_reached_14 ⟨by decide, by decide, by decide, by decide⟩ (fun v M hp => ?_) (fun _ _ _ _ h => h.elim)
    obtain ⟨rfl, rfl⟩ := hp
    refine m_sti ?_
    refine m_ifeq X dX3_reached_17 (t := 24) (by decide) (fun c_17 => ?_) (fun c_17 => ?_)
    · skip
      try simp only [bI_0, Bool.not_eq_false] at c_17
      refine m_iconst X dX3_reached_24 (v := 0) (by decide) ?_
      exact m_iret X dX3_reached_25 (by decide) (by decide) (by refine ⟨?_, rfl⟩; first | (unfold apReached; rw [if_neg (by rw [c_5]; decide)]; done) | (unfold apReached; rw [if_pos c_5, tn_nI (by omega), c_17]; rfl))
    · skip
      try simp only [bI_0, Bool.not_eq_false] at c_17
      refine m_iconst X dX3_reached_20 (v := 1) (by decide) ?_
      refine m_goto X dX3_reached_21 (t := 25) (by decide) ?_
      exact m_iret X dX3_reached_25 (by decide) (by decide) (by refine ⟨?_, rfl⟩; first | (unfold apReached; rw [if_neg (by rw [c_5]; decide)]; done) | (unfold apReached; rw [if_pos c_5, tn_nI (by omega), c_17]; rfl))
  · skip
    try simp only [bI_0, Bool.not_eq_false] at c_5
    refine m_iconst X dX3_reached_8 (v := (-1)) (by decide) ?_
    refine m_goto X dX3_reached_9 (t := 25) (by decide) ?_
    exact m_iret X dX3_reached_25 (by decide) (by decide) (by refine ⟨?_, rfl⟩; first | (unfold apReached; rw [if_neg (by rw [c_5]; decide)]; done) | (unfold apReached; rw [if_pos c_5, tn_nI (by omega), c_17]; rfl))
set_option maxHeartbeats 4000000 in
theorem c_X3_may {G : GX} {h : Nat} {ad : Nat → Nat} {F : Nat → Int32} {A : Nat → Nat → Int32} {B : Nat → Nat → Int64} {M : Mem} {Φ : FS} (hM : MRep G h ad F A B M) (hI : MF Φ F A B) (hW : FW Φ) (n : Int32) : Con G yX3_may wX3_may (rmm 2 43) [.ref h, .int n] M (pR M (some (.int (apMay n Φ)))) nX := by
  refine Con.mk (by decide) rfl [(0, some (.ref h)), (1, some (.int n))] rfl fun x X hno => ?_
  have hN := hW.1.1
  have hWF := hW.2.1
  have hb1 := hWF.1
  have hb2 := hWF.2.1
  have hR := hI.1
  have hT := hR.1
  have hMN := hR.2.2.2.2.2.2.2
  refine m_aload_n X dX3_may_0 rfl rfl (by first | rfl | exact isR_rf) ?_
  refine m_iload_n X dX3_may_1 rfl rfl ?_
  refine m_callV X cs_X3_139  (c_X3_isNode hM hMN.1 hN n) hM.1 rfl rfl rfl (Nat.le_of_ble_eq_true rfl) dX3_may_2 ⟨by decide, by decide, by decide, by decide⟩ (fun v M hp => ?_) (fun _ _ _ _ h => h.elim)
  obtain ⟨rfl, rfl⟩ := hp
  refine m_sti ?_
  refine m_ifne X dX3_may_5 (t := 12) (by decide) (fun c_5 => ?_) (fun c_5 => ?_)
  · skip
    try simp only [bI_0, Bool.not_eq_false] at c_5
    obtain ⟨n, hn, rfl⟩ := isN_nI hN c_5
    have hq := hI.2.2 n hn
    refine m_aload_n X dX3_may_12 rfl rfl (by first | rfl | exact isR_rf) ?_
    refine m_iload_n X dX3_may_13 rfl rfl ?_
    refine m_callV X cs_X3_349  (c_X3_has hM hI.2 hN n hn) hM.1 rfl rfl rfl (Nat.le_of_ble_eq_true rfl) dX3_may_14 ⟨by decide, by decide, by decide, by decide⟩ (fun v M hp => ?_) (fun _ _ _ _ h => h.elim)
    obtain ⟨rfl, rfl⟩ := hp
    refine m_sti ?_
    refine m_ifeq X dX3_may_17 (t := 29) (by decide) (fun c_17 => ?_) (fun c_17 => ?_)
    · skip
      try simp only [bI_0, Bool.not_eq_false] at c_17
      refine m_iconst X dX3_may_29 (v := 0) (by decide) ?_
      exact m_iret X dX3_may_30 (by decide) (by decide) (by refine ⟨?_, rfl⟩; first | (unfold apMay; rw [if_neg (by rw [c_5]; decide)]; done) | (unfold apMay; rw [if_pos c_5, tn_nI (by omega), c_17]; rfl))
    · skip
      try simp only [bI_0, Bool.not_eq_false] at c_17
      refine m_aload_n X dX3_may_20 rfl rfl (by first | rfl | exact isR_rf) ?_
      refine m_getf X fg_X3_79_X3 hM.1 rfl dX3_may_21 ?_
      refine m_iload_n X dX3_may_24 rfl rfl ?_
      refine s_iald X hM rfl rfl (by exact tin (by simp only [alen]; omega) rfl) dX3_may_25 ?_
      refine m_topi X ((congrArg (A 32) (nI_clamp (by omega))).trans (hq.2 c_17).1) ?_
      refine m_goto X dX3_may_26 (t := 30) (by decide) ?_
      exact m_iret X dX3_may_30 (by decide) (by decide) (by refine ⟨?_, rfl⟩; first | (unfold apMay; rw [if_neg (by rw [c_5]; decide)]; done) | (unfold apMay; rw [if_pos c_5, tn_nI (by omega), c_17]; rfl))
  · skip
    try simp only [bI_0, Bool.not_eq_false] at c_5
    refine m_iconst X dX3_may_8 (v := (-1)) (by decide) ?_
    refine m_goto X dX3_may_9 (t := 30) (by decide) ?_
    exact m_iret X dX3_may_30 (by decide) (by decide) (by refine ⟨?_, rfl⟩; first | (unfold apMay; rw [if_neg (by rw [c_5]; decide)]; done) | (unfold apMay; rw [if_pos c_5, tn_nI (by omega), c_17]; rfl))
set_option maxHeartbeats 4000000 in
theorem c_X3_ahead {G : GX} {h : Nat} {ad : Nat → Nat} {F : Nat → Int32} {A : Nat → Nat → Int32} {B : Nat → Nat → Int64} {M : Mem} {Φ : FS} (hM : MRep G h ad F A B M) (hI : MF Φ F A B) (hW : FW Φ) (n s : Int32) : Con G yX3_ahead wX3_ahead (rmm 2 43) [.ref h, .int n, .int s] M (pR M (some (.int (apAhead n s Φ)))) nX := by
  refine Con.mk (by decide) rfl [(0, some (.ref h)), (1, some (.int n)), (2, some (.int s))] rfl fun x X hno => ?_
  have hN := hW.1.1
  have hWF := hW.2.1
  have hb1 := hWF.1
  have hb2 := hWF.2.1
  have hR := hI.1
  have hT := hR.1
  have hMN := hR.2.2.2.2.2.2.2
  refine m_aload_n X dX3_ahead_0 rfl rfl (by first | rfl | exact isR_rf) ?_
  refine m_iload_n X dX3_ahead_1 rfl rfl ?_
  refine m_callV X cs_X3_139  (c_X3_isNode hM hMN.1 hN n) hM.1 rfl rfl rfl (Nat.le_of_ble_eq_true rfl) dX3_ahead_2 ⟨by decide, by decide, by decide, by decide⟩ (fun v M hp => ?_) (fun _ _ _ _ h => h.elim)
  obtain ⟨rfl, rfl⟩ := hp
  refine m_sti ?_
  refine m_ifeq X dX3_ahead_5 (t := 15) (by decide) (fun c_5 => ?_) (fun c_5 => ?_)
  · skip
    try simp only [bI_0, Bool.not_eq_false] at c_5
    refine m_iconst X dX3_ahead_15 (v := (-1)) (by decide) ?_
    refine m_goto X dX3_ahead_16 (t := 42) (by decide) ?_
    exact m_iret X dX3_ahead_42 (by decide) (by decide) (by refine ⟨?_, rfl⟩; first | (rw [e, c_24]; rfl) | (unfold apAhead; rw [if_neg (by rintro ⟨z1, z2⟩; first | exact absurd z1 (by rw [c_5]; decide) | exact absurd z2 (by rw [c_12]; decide))]))
  · skip
    try simp only [bI_0, Bool.not_eq_false] at c_5
    refine m_iload_n X dX3_ahead_8 rfl rfl ?_
    refine m_callS X cs_X3_124  (c_X3_isSlot _ _ _) rfl rfl (Nat.le_of_ble_eq_true rfl) dX3_ahead_9 ⟨by decide, by decide, by decide, by decide⟩ (fun v M hp => ?_) (fun _ _ _ _ h => h.elim)
    obtain ⟨rfl, rfl⟩ := hp
    refine m_sti ?_
    refine m_ifne X dX3_ahead_12 (t := 19) (by decide) (fun c_12 => ?_) (fun c_12 => ?_)
    · skip
      try simp only [bI_0, Bool.not_eq_false] at c_12
      obtain ⟨n, hn, rfl⟩ := isN_nI hN c_5
      obtain ⟨s, -, hs, rfl⟩ := inB_r 0 11 (by decide) (by decide) c_12
      have hq := hI.2.2 n hn
      have e : apAhead (nI n) (nI s) Φ = if Φ.2.2.rch n = true then Φ.2.2.ah n s else 0 := by unfold apAhead; rw [if_pos ⟨c_5, c_12⟩, tn_nI (by omega), tn_nI (by omega)]
      refine m_aload_n X dX3_ahead_19 rfl rfl (by first | rfl | exact isR_rf) ?_
      refine m_iload_n X dX3_ahead_20 rfl rfl ?_
      refine m_callV X cs_X3_349  (c_X3_has hM hI.2 hN n hn) hM.1 rfl rfl rfl (Nat.le_of_ble_eq_true rfl) dX3_ahead_21 ⟨by decide, by decide, by decide, by decide⟩ (fun v M hp => ?_) (fun _ _ _ _ h => h.elim)
      obtain ⟨rfl, rfl⟩ := hp
      refine m_sti ?_
      refine m_ifeq X dX3_ahead_24 (t := 41) (by decide) (fun c_24 => ?_) (fun c_24 => ?_)
      · skip
        try simp only [bI_0, Bool.not_eq_false] at c_24
        refine m_iconst X dX3_ahead_41 (v := 0) (by decide) ?_
        exact m_iret X dX3_ahead_42 (by decide) (by decide) (by refine ⟨?_, rfl⟩; first | (rw [e, c_24]; rfl) | (unfold apAhead; rw [if_neg (by rintro ⟨z1, z2⟩; first | exact absurd z1 (by rw [c_5]; decide) | exact absurd z2 (by rw [c_12]; decide))]))
      · skip
        try simp only [bI_0, Bool.not_eq_false] at c_24
        refine m_aload_n X dX3_ahead_27 rfl rfl (by first | rfl | exact isR_rf) ?_
        refine m_getf X fg_X3_82_X3 hM.1 rfl dX3_ahead_28 ?_
        refine m_bipush X dX3_ahead_31 (v := 12) (by decide) ?_
        refine m_iload_n X dX3_ahead_33 rfl rfl ?_
        refine m_imul X dX3_ahead_34 ?_
        refine m_topi X (pk_mul 12 n) ?_
        refine m_iload_n X dX3_ahead_35 rfl rfl ?_
        refine m_iadd X dX3_ahead_36 ?_
        refine m_topi X (nI_add _ _) ?_
        refine s_iald X hM rfl rfl (by exact tin (by simp only [alen]; omega) rfl) dX3_ahead_37 ?_
        refine m_topi X ((congrArg (A 33) (nI_clamp (by omega))).trans ((hq.2 c_24).2.1 s (by omega))) ?_
        refine m_goto X dX3_ahead_38 (t := 42) (by decide) ?_
        exact m_iret X dX3_ahead_42 (by decide) (by decide) (by refine ⟨?_, rfl⟩; first | (rw [e, c_24]; rfl) | (unfold apAhead; rw [if_neg (by rintro ⟨z1, z2⟩; first | exact absurd z1 (by rw [c_5]; decide) | exact absurd z2 (by rw [c_12]; decide))]))
    · skip
      try simp only [bI_0, Bool.not_eq_false] at c_12
      refine m_iconst X dX3_ahead_15 (v := (-1)) (by decide) ?_
      refine m_goto X dX3_ahead_16 (t := 42) (by decide) ?_
      exact m_iret X dX3_ahead_42 (by decide) (by decide) (by refine ⟨?_, rfl⟩; first | (rw [e, c_24]; rfl) | (unfold apAhead; rw [if_neg (by rintro ⟨z1, z2⟩; first | exact absurd z1 (by rw [c_5]; decide) | exact absurd z2 (by rw [c_12]; decide))]))
set_option maxHeartbeats 4000000 in
theorem c_X3_guarded {G : GX} {h : Nat} {ad : Nat → Nat} {F : Nat → Int32} {A : Nat → Nat → Int32} {B : Nat → Nat → Int64} {M : Mem} {Φ : FS} (hM : MRep G h ad F A B M) (hI : MF Φ F A B) (hW : FW Φ) (n w : Int32) : Con G yX3_guarded wX3_guarded (rmm 2 43) [.ref h, .int n, .int w] M (pR M (some (.int (apGuarded n w Φ)))) nX := by
  refine Con.mk (by decide) rfl [(0, some (.ref h)), (1, some (.int n)), (2, some (.int w))] rfl fun x X hno => ?_
  have hN := hW.1.1
  have hWF := hW.2.1
  have hb1 := hWF.1
  have hb2 := hWF.2.1
  have hR := hI.1
  have hT := hR.1
  have hMN := hR.2.2.2.2.2.2.2
  refine m_aload_n X dX3_guarded_0 rfl rfl (by first | rfl | exact isR_rf) ?_
  refine m_iload_n X dX3_guarded_1 rfl rfl ?_
  refine m_callV X cs_X3_139  (c_X3_isNode hM hMN.1 hN n) hM.1 rfl rfl rfl (Nat.le_of_ble_eq_true rfl) dX3_guarded_2 ⟨by decide, by decide, by decide, by decide⟩ (fun v M hp => ?_) (fun _ _ _ _ h => h.elim)
  obtain ⟨rfl, rfl⟩ := hp
  refine m_sti ?_
  refine m_ifeq X dX3_guarded_5 (t := 27) (by decide) (fun c_5 => ?_) (fun c_5 => ?_)
  · skip
    try simp only [bI_0, Bool.not_eq_false] at c_5
    refine m_iconst X dX3_guarded_27 (v := (-1)) (by decide) ?_
    exact m_iret X dX3_guarded_28 (by decide) (by decide) (by refine ⟨?_, rfl⟩; unfold apGuarded; rw [if_neg (by rintro ⟨z1, z2, z3⟩; first | exact absurd z1 (by rw [c_5]; decide) | (rw [tn_nI (by omega)] at z2; exact c_15 z2) | exact absurd z3 (by rw [c_24]; decide))])
  · skip
    try simp only [bI_0, Bool.not_eq_false] at c_5
    obtain ⟨n, hn, rfl⟩ := isN_nI hN c_5
    have hq := hI.2.2 n hn
    have hmn := hMN.2 n hn
    have hso : Φ.1.so n < 2 ^ 31 := by rcases (hW.1.2 n hn).1 with z | z | z | z <;> (rw [z.1]; decide)
    refine m_aload_n X dX3_guarded_8 rfl rfl (by first | rfl | exact isR_rf) ?_
    refine m_getf X fg_X3_32_X3 hM.1 rfl dX3_guarded_9 ?_
    refine m_iload_n X dX3_guarded_12 rfl rfl ?_
    refine s_iald X hM rfl rfl (by exact tin (by simp only [alen]; omega) rfl) dX3_guarded_13 ?_
    refine m_topi X ((congrArg (A 10) (nI_clamp (by omega))).trans hmn.1) ?_
    refine m_iconst X dX3_guarded_14 (v := 3) (by decide) ?_
    refine m_icmpne X dX3_guarded_15 (t := 27) (by decide) (fun c_15 => ?_) (fun c_15 => ?_)
    · skip
      have c_15 : ¬ Φ.1.so n = 3 := fun z => c_15 (by rw [z]; rfl)
      refine m_iconst X dX3_guarded_27 (v := (-1)) (by decide) ?_
      exact m_iret X dX3_guarded_28 (by decide) (by decide) (by refine ⟨?_, rfl⟩; unfold apGuarded; rw [if_neg (by rintro ⟨z1, z2, z3⟩; first | exact absurd z1 (by rw [c_5]; decide) | (rw [tn_nI (by omega)] at z2; exact c_15 z2) | exact absurd z3 (by rw [c_24]; decide))])
    · skip
      have c_15 : Φ.1.so n = 3 := (nI_eq (b := 3) hso (by decide)).mp c_15
      refine m_iload_n X dX3_guarded_18 rfl rfl ?_
      refine m_iconst X dX3_guarded_19 (v := 0) (by decide) ?_
      refine m_iconst X dX3_guarded_20 (v := 1) (by decide) ?_
      refine m_callS X cs_X3_103  (c_X3_in _ _ _ _ _) rfl rfl (Nat.le_of_ble_eq_true rfl) dX3_guarded_21 ⟨by decide, by decide, by decide, by decide⟩ (fun v M hp => ?_) (fun _ _ _ _ h => h.elim)
      obtain ⟨rfl, rfl⟩ := hp
      refine m_sti ?_
      refine m_ifne X dX3_guarded_24 (t := 29) (by decide) (fun c_24 => ?_) (fun c_24 => ?_)
      · skip
        try simp only [bI_0, Bool.not_eq_false] at c_24
        have e : apGuarded (nI n) w Φ = if Φ.2.2.rch n = true then (if w = 0 then Φ.1.nb n &&& (Φ.2.2.bo n ^^^ (-1)) else Φ.2.2.lo n) else 0 := by unfold apGuarded; rw [if_pos ⟨c_5, by rw [tn_nI (by omega)]; exact c_15, c_24⟩, tn_nI (by omega)]
        refine m_aload_n X dX3_guarded_29 rfl rfl (by first | rfl | exact isR_rf) ?_
        refine m_iload_n X dX3_guarded_30 rfl rfl ?_
        refine m_callV X cs_X3_349  (c_X3_has hM hI.2 hN n hn) hM.1 rfl rfl rfl (Nat.le_of_ble_eq_true rfl) dX3_guarded_31 ⟨by decide, by decide, by decide, by decide⟩ (fun v M hp => ?_) (fun _ _ _ _ h => h.elim)
        obtain ⟨rfl, rfl⟩ := hp
        refine m_sti ?_
        refine m_ifne X dX3_guarded_34 (t := 41) (by decide) (fun c_34 => ?_) (fun c_34 => ?_)
        · skip
          try simp only [bI_0, Bool.not_eq_false] at c_34
          refine m_iload_n X dX3_guarded_41 rfl rfl ?_
          refine m_ifne X dX3_guarded_42 (t := 63) (by decide) (fun c_42 => ?_) (fun c_42 => ?_)
          · skip
            try simp only [bI_0, Bool.not_eq_false] at c_42
            refine m_aload_n X dX3_guarded_63 rfl rfl (by first | rfl | exact isR_rf) ?_
            refine m_getf X fg_X3_88_X3 hM.1 rfl dX3_guarded_64 ?_
            refine m_iload_n X dX3_guarded_67 rfl rfl ?_
            refine s_iald X hM rfl rfl (by exact tin (by simp only [alen]; omega) rfl) dX3_guarded_68 ?_
            refine m_topi X ((congrArg (A 35) (nI_clamp (by omega))).trans (hq.2 c_34).2.2.2) ?_
            exact m_iret X dX3_guarded_69 (by decide) (by decide) (by refine ⟨?_, rfl⟩; rw [e, c_34]; first | rfl | (rw [if_pos rfl, if_pos c_42]) | (rw [if_pos rfl, if_neg c_42]))
          · skip
            try simp only [bI_0, Bool.not_eq_false] at c_42
            refine m_aload_n X dX3_guarded_45 rfl rfl (by first | rfl | exact isR_rf) ?_
            refine m_getf X fg_X3_41_X3 hM.1 rfl dX3_guarded_46 ?_
            refine m_iload_n X dX3_guarded_49 rfl rfl ?_
            refine s_iald X hM rfl rfl (by exact tin (by simp only [alen]; omega) rfl) dX3_guarded_50 ?_
            refine m_topi X ((congrArg (A 13) (nI_clamp (by omega))).trans hmn.2.2.2.1) ?_
            refine m_aload_n X dX3_guarded_51 rfl rfl (by first | rfl | exact isR_rf) ?_
            refine m_getf X fg_X3_85_X3 hM.1 rfl dX3_guarded_52 ?_
            refine m_iload_n X dX3_guarded_55 rfl rfl ?_
            refine s_iald X hM rfl rfl (by exact tin (by simp only [alen]; omega) rfl) dX3_guarded_56 ?_
            refine m_topi X ((congrArg (A 34) (nI_clamp (by omega))).trans (hq.2 c_34).2.2.1) ?_
            refine m_iconst X dX3_guarded_57 (v := (-1)) (by decide) ?_
            refine m_ixor X dX3_guarded_58 ?_
            refine m_iand X dX3_guarded_59 ?_
            refine m_goto X dX3_guarded_60 (t := 69) (by decide) ?_
            exact m_iret X dX3_guarded_69 (by decide) (by decide) (by refine ⟨?_, rfl⟩; rw [e, c_34]; first | rfl | (rw [if_pos rfl, if_pos c_42]) | (rw [if_pos rfl, if_neg c_42]))
        · skip
          try simp only [bI_0, Bool.not_eq_false] at c_34
          refine m_iconst X dX3_guarded_37 (v := 0) (by decide) ?_
          refine m_goto X dX3_guarded_38 (t := 69) (by decide) ?_
          exact m_iret X dX3_guarded_69 (by decide) (by decide) (by refine ⟨?_, rfl⟩; rw [e, c_34]; first | rfl | (rw [if_pos rfl, if_pos c_42]) | (rw [if_pos rfl, if_neg c_42]))
      · skip
        try simp only [bI_0, Bool.not_eq_false] at c_24
        refine m_iconst X dX3_guarded_27 (v := (-1)) (by decide) ?_
        exact m_iret X dX3_guarded_28 (by decide) (by decide) (by refine ⟨?_, rfl⟩; unfold apGuarded; rw [if_neg (by rintro ⟨z1, z2, z3⟩; first | exact absurd z1 (by rw [c_5]; decide) | (rw [tn_nI (by omega)] at z2; exact c_15 z2) | exact absurd z3 (by rw [c_24]; decide))])
