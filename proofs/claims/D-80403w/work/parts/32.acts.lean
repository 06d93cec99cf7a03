/-! THE MODEL'S ACTS (printed by wip/D-80403w/tools/m32.py) -/
set_option maxRecDepth 100000
section MTO
variable {σ : AS} {F : Nat → Int32} {A : Nat → Nat → Int32} {B : Nat → Nat → Int64}
theorem MT.setSl (hT : MT σ F A B) {s t : Nat} (hs : s < 12) : MT (σ.setSl s t) F (aset A 7 (nI s).toNatClampNeg (nI t)) B := by
  rw [nI_clamp (by omega)]
  obtain ⟨h1, h2, h3, h4, h5, h6, h7⟩ := hT
  refine ⟨h1, h2, h3, fun t t1 t2 => ?_, h5, fun r hr => ?_, h7⟩
  · rw [aset_n (by decide), aset_n (by decide), aset_n (by decide), aset_n (by decide)]; exact h4 t t1 t2
  · rw [aset_k, setSl_sl]
    simp only [upd, updN]
    split
    · rfl
    · exact h6 r hr
theorem MT.setRg (hT : MT σ F A B) {r : Nat} {v : Int64} (hr : r < 8) : MT (σ.setRg r v) F A (bset B 8 (nI r).toNatClampNeg v) := by
  rw [nI_clamp (by omega)]
  obtain ⟨h1, h2, h3, h4, h5, h6, h7⟩ := hT
  refine ⟨h1, h2, h3, h4, fun j hj => ?_, h6, fun q hq => ?_⟩
  · rw [bset_n (by decide)]; exact h5 j hj
  · rw [bset_k, setRg_rg]
    simp only [vp_updL]
    split
    · rfl
    · exact h7 q hq
theorem MT.setIt (hT : MT σ F A B) {j : Nat} {v : Int64} (hj : j < 2 ^ 31) : MT (σ.setIt j v) F A (bset B 6 (nI j).toNatClampNeg v) := by
  rw [nI_clamp hj]
  obtain ⟨h1, h2, h3, h4, h5, h6, h7⟩ := hT
  refine ⟨h1, h2, h3, h4, fun q hq => ?_, h6, fun q hq => ?_⟩
  · rw [bset_k, setIt_it]
    simp only [vp_updL]
    split
    · rfl
    · exact h5 q hq
  · rw [bset_n (by decide)]; exact h7 q hq
theorem MT.setNm (hT : MT σ F A B) {t : Nat} {v : Int32} (ht : t < 2 ^ 31) : MT (σ.setNm t v) F (aset A 5 (nI t).toNatClampNeg v) B := by
  rw [nI_clamp ht]
  obtain ⟨h1, h2, h3, h4, h5, h6, h7⟩ := hT
  refine ⟨h1, h2, h3, fun q t1 t2 => ?_, h5, fun r hr => ?_, h7⟩
  · rw [aset_n (by decide), aset_n (by decide), aset_n (by decide), aset_k, setNm_nm]
    refine ⟨(h4 q t1 t2).1, (h4 q t1 t2).2.1, (h4 q t1 t2).2.2.1, ?_⟩
    simp only [upd]
    split
    · rfl
    · exact (h4 q t1 t2).2.2.2
  · rw [aset_n (by decide)]; exact h6 r hr
theorem FrT.aset {F' : Nat → Int32} {A0 : Nat → Nat → Int32} {k i : Nat} {v : Int32} (h : FrT F A0 F' A) (hk : k < 8) : FrT F A0 F' (aset A k i v) := ⟨h.1, fun j hj => by rw [aset_n (by omega)]; exact h.2 j hj⟩
theorem asF_n {s k : Nat} (h : asF σ s k ≠ 0) : asF σ s k = 2 := by
  unfold asF at h ⊢
  by_cases e : σ.sl s ≠ 0 ∧ isK (σ.kd (σ.sl s)) k = false
  · rw [if_pos e]
  · rw [if_neg e] at h; exact absurd rfl h
theorem asF_lt (σ : AS) (s k : Nat) : asF σ s k < 10 := by
  unfold asF
  split <;> decide
theorem z_nI {a : Nat} (ha : a < 2 ^ 31) : nI a = 0 ↔ a = 0 := nI_eq (b := 0) ha (by decide)
theorem itemF_0 {s k : Nat} {i : Int32} (h : itemF σ s k i = 0) (hl : σ.ln (σ.sl s) < 2 ^ 31) : σ.sl s ≠ 0 ∧ isK (σ.kd (σ.sl s)) k = true ∧ ∃ j : Nat, j < σ.ln (σ.sl s) ∧ i = nI j := by
  have h1 : rowF σ s k = 0 := by
    unfold itemF at h
    by_cases e : rowF σ s k = 0
    · exact e
    · rw [if_pos e] at h; exact h
  refine ⟨(rowF_0 h1).1, (rowF_0 h1).2, ?_⟩
  unfold itemF at h
  rw [if_neg (fun z => z h1)] at h
  have h2 : inN i (σ.ln (σ.sl s)) = true := by
    cases e : inN i (σ.ln (σ.sl s)) with
    | true => rfl
    | false => rw [e] at h; simp at h
  unfold inN at h2
  simp only [Bool.and_eq_true, decide_eq_true_eq] at h2
  exact ⟨i.toInt.toNat, by omega, toInt_nI (by omega) (by omega)⟩
theorem inN_nI {j n : Nat} (hj : j < n) (hn : n < 2 ^ 31) : inN (nI j) n = true := by
  unfold inN
  rw [nI_toInt (by omega)]
  simp only [Bool.and_eq_true, decide_eq_true_eq]
  omega
theorem WF.pos (hW : WF σ) {s : Nat} (hs : s < 12) (h0 : σ.sl s ≠ 0) : 1 ≤ σ.sl s ∧ σ.sl s ≤ σ.T ∧ σ.bg (σ.sl s) + σ.ln (σ.sl s) ≤ σ.I ∧ 1 ≤ σ.kd (σ.sl s) ∧ σ.kd (σ.sl s) ≤ 9 := ⟨by omega, hW.sl hs, hW.len (by omega) (hW.sl hs), (hW.2.2.1 _ (by omega) (hW.sl hs)).1, (hW.2.2.1 _ (by omega) (hW.sl hs)).2.1⟩
end MTO
theorem pT_mk {G : GX} {h : Nat} {ad : Nat → Nat} {F0 F : Nat → Int32} {A0 A : Nat → Nat → Int32} {B : Nat → Nat → Int64} {M : Mem} {σ' : AS} {r : Value} (hM : MRep G h ad F A B M) (hT : MT σ' F A B) (hF : FrT F0 A0 F A) : pT G h ad F0 A0 (some r) σ' (some r) M := ⟨rfl, F, A, B, hM, hT, hF⟩
set_option maxHeartbeats 4000000 in
theorem c_X3_make {G : GX} {h : Nat} {ad : Nat → Nat} {F : Nat → Int32} {A : Nat → Nat → Int32} {B : Nat → Nat → Int64} {M : Mem} {σ : AS} (hM : MRep G h ad F A B M) (hT : MT σ F A B) (hW : WF σ) (s k : Nat) (n : Int32) (hs : s < 12) (hk : k < 10) : Con G yX3_make wX3_make (rmm 1 24) [.ref h, .int (nI s), .int (nI k), .int n] M (pT G h ad F A (some (.int (nI (makeA σ s k n).1))) (makeA σ s k n).2) nX := by
  refine Con.mk (by decide) rfl [(0, some (.ref h)), (1, some (.int (nI s))), (2, some (.int (nI k))), (3, some (.int n))] rfl fun x X hno => ?_
  have hb1 := hW.1
  have hb2 := hW.2.1
  refine m_iload_n X dX3_make_0 rfl rfl ?_
  refine m_ifge X dX3_make_1 (t := 6) (by decide) (fun c_1 => ?_) (fun c_1 => ?_)
  · skip
    try simp only [bI_0, Bool.not_eq_false] at c_1
    obtain ⟨m, hm, rfl⟩ := nI_of (Int32.not_lt.mpr c_1)
    refine m_aload_n X dX3_make_6 rfl rfl (by first | rfl | exact isR_rf) ?_
    refine m_lconst X dX3_make_7 (v := 1) (by decide) ?_
    refine m_iload_n X dX3_make_8 rfl rfl ?_
    refine m_i2l X dX3_make_9 ?_
    refine m_topl X (nI_l hm) ?_
    refine m_callV X cs_X3_157  (c_X3_fits hM hT hW 1 m (by decide) (by omega)) hM.1 rfl rfl rfl (Nat.le_of_ble_eq_true rfl) dX3_make_10 ⟨by decide, by decide, by decide, by decide⟩ (fun v M hp => ?_) (fun _ _ _ _ h => h.elim)
    obtain ⟨rfl, rfl⟩ := hp
    refine m_sti ?_
    refine m_ifne X dX3_make_13 (t := 19) (by decide) (fun c_13 => ?_) (fun c_13 => ?_)
    · skip
      try simp only [bI_0, Bool.not_eq_false] at c_13
      have c_13 := fits_t.mp c_13
      refine m_aload_n X dX3_make_19 rfl rfl (by first | rfl | exact isR_rf) ?_
      refine m_getf X fg_X3_26_X3 hM.1 rfl dX3_make_20 ?_
      refine m_iload_n X dX3_make_23 rfl rfl ?_
      refine m_aload_n X dX3_make_24 rfl rfl (by first | rfl | exact isR_rf) ?_
      refine m_iload_n X dX3_make_25 rfl rfl ?_
      refine m_iload_n X dX3_make_26 rfl rfl ?_
      refine m_callV X cs_X3_161  (c_X3_fresh hM hT hW k m hk (by omega) (by omega)) hM.1 rfl rfl rfl (Nat.le_of_ble_eq_true rfl) dX3_make_27 ⟨by decide, by decide, by decide, by decide⟩ (fun v M hp => ?_) (fun _ _ _ _ h => h.elim)
      obtain ⟨rfl, F, A, B, hM, hT, hFr⟩ := hp
      refine m_sti ?_
      refine s_iast X hM rfl rfl (by exact tin (by simp only [alen]; omega) rfl) dX3_make_30 (fun M hM => ?_)
      refine m_iconst X dX3_make_31 (v := 0) (by decide) ?_
      exact m_iret X dX3_make_32 (by decide) (by decide) (by have e : makeA σ s k (nI m) = (0, (σ.fresh k m).setSl s (σ.T + 1)) := by { unfold makeA; rw [nI_toInt hm, if_neg (by omega), if_neg (by rw [Bool.not_eq_false]; exact fits_t.mpr (by simpa using c_13))]; rfl }; rw [e]; exact pT_mk hM (hT.setSl hs) (hFr.aset (by decide)))
    · skip
      try simp only [bI_0, Bool.not_eq_false] at c_13
      have c_13 := fits_f.mp c_13
      refine m_bipush X dX3_make_16 (v := 8) (by decide) ?_
      exact m_iret X dX3_make_18 (by decide) (by decide) (by have e : makeA σ s k (nI m) = (8, σ) := by { unfold makeA; rw [nI_toInt hm, if_neg (by omega), if_pos (fits_f.mpr (by simpa using c_13))] }; rw [e]; exact pT_mk hM hT FrT.rf)
  · skip
    try simp only [bI_0, Bool.not_eq_false] at c_1
    refine m_iconst X dX3_make_4 (v := 4) (by decide) ?_
    exact m_iret X dX3_make_5 (by decide) (by decide) (by have e : makeA σ s k n = (4, σ) := if_pos (by rw [Int32.not_le, Int32.lt_iff_toInt_lt] at c_1; exact c_1); rw [e]; exact pT_mk hM hT FrT.rf)
set_option maxHeartbeats 4000000 in
theorem c_X3_figure {G : GX} {h : Nat} {ad : Nat → Nat} {F : Nat → Int32} {A : Nat → Nat → Int32} {B : Nat → Nat → Int64} {M : Mem} {σ : AS} (hM : MRep G h ad F A B M) (hT : MT σ F A B) (hW : WF σ) (s k : Nat) (v : Int32) (hs : s < 12) (hk : k < 10) : Con G yX3_figure wX3_figure (rmm 1 24) [.ref h, .int (nI s), .int (nI k), .int v] M (pT G h ad F A (some (.int (nI (figureA σ s k v).1))) (figureA σ s k v).2) nX := by
  refine Con.mk (by decide) rfl [(0, some (.ref h)), (1, some (.int (nI s))), (2, some (.int (nI k))), (3, some (.int v))] rfl fun x X hno => ?_
  have hb1 := hW.1
  have hb2 := hW.2.1
  refine m_aload_n X dX3_figure_0 rfl rfl (by first | rfl | exact isR_rf) ?_
  refine m_lconst X dX3_figure_1 (v := 1) (by decide) ?_
  refine m_lconst X dX3_figure_2 (v := 0) (by decide) ?_
  refine m_callV X cs_X3_157  (c_X3_fits hM hT hW 1 0 (by decide) (by decide)) hM.1 rfl rfl rfl (Nat.le_of_ble_eq_true rfl) dX3_figure_3 ⟨by decide, by decide, by decide, by decide⟩ (fun v M hp => ?_) (fun _ _ _ _ h => h.elim)
  obtain ⟨rfl, rfl⟩ := hp
  refine m_sti ?_
  refine m_ifne X dX3_figure_6 (t := 12) (by decide) (fun c_6 => ?_) (fun c_6 => ?_)
  · skip
    try simp only [bI_0, Bool.not_eq_false] at c_6
    have c_6 := fits_t.mp c_6
    refine m_aload_n X dX3_figure_12 rfl rfl (by first | rfl | exact isR_rf) ?_
    refine m_getf X fg_X3_26_X3 hM.1 rfl dX3_figure_13 ?_
    refine m_iload_n X dX3_figure_16 rfl rfl ?_
    refine m_aload_n X dX3_figure_17 rfl rfl (by first | rfl | exact isR_rf) ?_
    refine m_iload_n X dX3_figure_18 rfl rfl ?_
    refine m_iconst X dX3_figure_19 (v := 0) (by decide) ?_
    refine m_callV X cs_X3_161  (c_X3_fresh hM hT hW k 0 hk (by omega) (by omega)) hM.1 rfl rfl rfl (Nat.le_of_ble_eq_true rfl) dX3_figure_20 ⟨by decide, by decide, by decide, by decide⟩ (fun v M hp => ?_) (fun _ _ _ _ h => h.elim)
    obtain ⟨rfl, F, A, B, hM, hT, hFr⟩ := hp
    refine m_sti ?_
    refine s_iast X hM rfl rfl (by exact tin (by simp only [alen]; omega) rfl) dX3_figure_23 (fun M hM => ?_)
    refine m_aload_n X dX3_figure_24 rfl rfl (by first | rfl | exact isR_rf) ?_
    refine m_getf X fg_X3_19_X3 hM.1 rfl dX3_figure_25 ?_
    refine m_aload_n X dX3_figure_28 rfl rfl (by first | rfl | exact isR_rf) ?_
    refine m_getf X fg_X3_26_X3 hM.1 rfl dX3_figure_29 ?_
    refine m_iload_n X dX3_figure_32 rfl rfl ?_
    refine s_iald X hM rfl rfl (by exact tin (by simp only [alen]; omega) rfl) dX3_figure_33 ?_
    refine m_topi X ((congrFun aset_k _).trans pk_us) ?_
    refine m_iload_n X dX3_figure_34 rfl rfl ?_
    refine s_iast X hM rfl rfl (by exact tin (by simp only [alen]; omega) rfl) dX3_figure_35 (fun M hM => ?_)
    refine m_iconst X dX3_figure_36 (v := 0) (by decide) ?_
    exact m_iret X dX3_figure_37 (by decide) (by decide) (by have e : figureA σ s k v = (0, ((σ.fresh k 0).setSl s (σ.T + 1)).setNm (σ.T + 1) v) := if_neg (by rw [Bool.not_eq_false]; exact fits_t.mpr c_6); rw [e]; exact pT_mk hM ((hT.setSl hs).setNm (by omega)) ((hFr.aset (by decide)).aset (by decide)))
  · skip
    try simp only [bI_0, Bool.not_eq_false] at c_6
    have c_6 := fits_f.mp c_6
    refine m_bipush X dX3_figure_9 (v := 8) (by decide) ?_
    exact m_iret X dX3_figure_11 (by decide) (by decide) (by have e : figureA σ s k v = (8, σ) := if_pos (fits_f.mpr c_6); rw [e]; exact pT_mk hM hT FrT.rf)
set_option maxHeartbeats 4000000 in
theorem c_X3_measure {G : GX} {h : Nat} {ad : Nat → Nat} {F : Nat → Int32} {A : Nat → Nat → Int32} {B : Nat → Nat → Int64} {M : Mem} {σ : AS} (hM : MRep G h ad F A B M) (hT : MT σ F A B) (hW : WF σ) (a b k : Nat) (ha : a < 8) (hs : b < 12) (hk : k < 10) : Con G yX3_measure wX3_measure (rmm 4 86) [.ref h, .int (nI a), .int (nI b), .int (nI k)] M (pT G h ad F A (some (.int (nI (measureA σ a b k).1))) (measureA σ a b k).2) nX := by
  refine Con.mk (by decide) rfl [(0, some (.ref h)), (1, some (.int (nI a))), (2, some (.int (nI b))), (3, some (.int (nI k)))] rfl fun x X hno => ?_
  have hb1 := hW.1
  have hb2 := hW.2.1
  refine m_aload_n X dX3_measure_0 rfl rfl (by first | rfl | exact isR_rf) ?_
  refine m_iload_n X dX3_measure_1 rfl rfl ?_
  refine m_iload_n X dX3_measure_2 rfl rfl ?_
  refine m_callV X cs_X3_154  (c_X3_row hM hT hW b k hs hk) hM.1 rfl rfl rfl (Nat.le_of_ble_eq_true rfl) dX3_measure_3 ⟨by decide, by decide, by decide, by decide⟩ (fun v M hp => ?_) (fun _ _ _ _ h => h.elim)
  obtain ⟨rfl, rfl⟩ := hp
  refine m_sti ?_
  refine m_istore X dX3_measure_6 rfl rfl ?_
  refine m_iload X dX3_measure_8 rfl ?_
  refine m_ifne X dX3_measure_10 (t := 31) (by decide) (fun c_10 => ?_) (fun c_10 => ?_)
  · skip
    try simp only [bI_0, Bool.not_eq_false] at c_10
    rw [z_nI (by have := rowF_lt σ b k; omega)] at c_10
    have e : measureA σ a b k = (rowF σ b k, σ) := if_pos c_10
    refine m_iload X dX3_measure_31 rfl ?_
    exact m_iret X dX3_measure_33 (by decide) (by decide) (by rw [e]; first | exact pT_mk hM hT FrT.rf | (rw [c_10]; exact pT_mk hM (hT.setRg ha) FrT.rf))
  · skip
    try simp only [bI_0, Bool.not_eq_false] at c_10
    rw [z_nI (by have := rowF_lt σ b k; omega)] at c_10
    have hp0 := hW.pos hs (rowF_0 c_10).1
    have e : measureA σ a b k = (0, σ.setRg a (lN (σ.ln (σ.sl b)))) := if_neg (fun z => z c_10)
    refine m_aload_n X dX3_measure_13 rfl rfl (by first | rfl | exact isR_rf) ?_
    refine m_getf X fg_X3_29_X3 hM.1 rfl dX3_measure_14 ?_
    refine m_iload_n X dX3_measure_17 rfl rfl ?_
    refine m_aload_n X dX3_measure_18 rfl rfl (by first | rfl | exact isR_rf) ?_
    refine m_getf X fg_X3_16_X3 hM.1 rfl dX3_measure_19 ?_
    refine m_aload_n X dX3_measure_22 rfl rfl (by first | rfl | exact isR_rf) ?_
    refine m_getf X fg_X3_26_X3 hM.1 rfl dX3_measure_23 ?_
    refine m_iload_n X dX3_measure_26 rfl rfl ?_
    refine s_iald X hM rfl rfl (by exact tin (by simp only [alen]; omega) rfl) dX3_measure_27 ?_
    refine m_topi X (hT.slot hs) ?_
    refine s_iald X hM rfl rfl (by exact tin (by simp only [alen]; omega) rfl) dX3_measure_28 ?_
    refine m_topi X (hT.length hW hp0.1 hp0.2.1) ?_
    refine m_i2l X dX3_measure_29 ?_
    refine m_topl X (nI_l (by omega)) ?_
    refine s_last X hM rfl rfl (by exact tin (by simp only [alen]; omega) rfl) dX3_measure_30 (fun M hM => ?_)
    refine m_iload X dX3_measure_31 rfl ?_
    exact m_iret X dX3_measure_33 (by decide) (by decide) (by rw [e]; first | exact pT_mk hM hT FrT.rf | (rw [c_10]; exact pT_mk hM (hT.setRg ha) FrT.rf))
set_option maxHeartbeats 4000000 in
theorem c_X3_move {G : GX} {h : Nat} {ad : Nat → Nat} {F : Nat → Int32} {A : Nat → Nat → Int32} {B : Nat → Nat → Int64} {M : Mem} {σ : AS} (hM : MRep G h ad F A B M) (hT : MT σ F A B) (hW : WF σ) (a b k : Nat) (ha : a < 12) (hs : b < 12) (hk : k < 10) : Con G yX3_move wX3_move (rmm 3 64) [.ref h, .int (nI a), .int (nI b), .int (nI k)] M (pT G h ad F A (some (.int (nI (moveA σ a b k).1))) (moveA σ a b k).2) nX := by
  refine Con.mk (by decide) rfl [(0, some (.ref h)), (1, some (.int (nI a))), (2, some (.int (nI b))), (3, some (.int (nI k)))] rfl fun x X hno => ?_
  have hb1 := hW.1
  have hb2 := hW.2.1
  refine m_iload_n X dX3_move_0 rfl rfl ?_
  refine m_ifne X dX3_move_1 (t := 8) (by decide) (fun c_1 => ?_) (fun c_1 => ?_)
  · skip
    try simp only [bI_0, Bool.not_eq_false] at c_1
    rw [z_nI (by omega)] at c_1
    have hsl := hW.sl hs
    refine m_aload_n X dX3_move_8 rfl rfl (by first | rfl | exact isR_rf) ?_
    refine m_iload_n X dX3_move_9 rfl rfl ?_
    refine m_iload_n X dX3_move_10 rfl rfl ?_
    refine m_callV X cs_X3_150  (c_X3_as hM hT hW b k hs hk) hM.1 rfl rfl rfl (Nat.le_of_ble_eq_true rfl) dX3_move_11 ⟨by decide, by decide, by decide, by decide⟩ (fun v M hp => ?_) (fun _ _ _ _ h => h.elim)
    obtain ⟨rfl, rfl⟩ := hp
    refine m_sti ?_
    refine m_istore X dX3_move_14 rfl rfl ?_
    refine m_iload X dX3_move_16 rfl ?_
    refine m_ifne X dX3_move_18 (t := 33) (by decide) (fun c_18 => ?_) (fun c_18 => ?_)
    · skip
      try simp only [bI_0, Bool.not_eq_false] at c_18
      try rw [z_nI (by have := asF_lt σ b k; omega)] at c_18
      refine m_iload X dX3_move_33 rfl ?_
      exact m_iret X dX3_move_35 (by decide) (by decide) (by first | exact absurd trivial c_18 | exact absurd rfl c_18 | (have e : moveA σ a b k = (2, σ) := if_pos ⟨c_1, c_18⟩; rw [asF_n c_18, e]; exact pT_mk hM hT FrT.rf) | (have e : moveA σ a b k = (0, σ.setSl a (σ.sl b)) := if_neg (fun z => by first | exact z.1 c_1 | exact z.2 c_18); rw [e]; first | exact pT_mk hM (hT.setSl ha) (FrT.rf.aset (by decide)) | (rw [c_18]; exact pT_mk hM (hT.setSl ha) (FrT.rf.aset (by decide)))))
    · skip
      try simp only [bI_0, Bool.not_eq_false] at c_18
      try rw [z_nI (by have := asF_lt σ b k; omega)] at c_18
      have hsl := hW.sl hs
      refine m_aload_n X dX3_move_21 rfl rfl (by first | rfl | exact isR_rf) ?_
      refine m_getf X fg_X3_26_X3 hM.1 rfl dX3_move_22 ?_
      refine m_iload_n X dX3_move_25 rfl rfl ?_
      refine m_aload_n X dX3_move_26 rfl rfl (by first | rfl | exact isR_rf) ?_
      refine m_getf X fg_X3_26_X3 hM.1 rfl dX3_move_27 ?_
      refine m_iload_n X dX3_move_30 rfl rfl ?_
      refine s_iald X hM rfl rfl (by exact tin (by simp only [alen]; omega) rfl) dX3_move_31 ?_
      refine m_topi X (hT.slot hs) ?_
      refine s_iast X hM rfl rfl (by exact tin (by simp only [alen]; omega) rfl) dX3_move_32 (fun M hM => ?_)
      refine m_iload X dX3_move_33 rfl ?_
      exact m_iret X dX3_move_35 (by decide) (by decide) (by first | exact absurd trivial c_18 | exact absurd rfl c_18 | (have e : moveA σ a b k = (2, σ) := if_pos ⟨c_1, c_18⟩; rw [asF_n c_18, e]; exact pT_mk hM hT FrT.rf) | (have e : moveA σ a b k = (0, σ.setSl a (σ.sl b)) := if_neg (fun z => by first | exact z.1 c_1 | exact z.2 c_18); rw [e]; first | exact pT_mk hM (hT.setSl ha) (FrT.rf.aset (by decide)) | (rw [c_18]; exact pT_mk hM (hT.setSl ha) (FrT.rf.aset (by decide)))))
  · skip
    try simp only [bI_0, Bool.not_eq_false] at c_1
    rw [z_nI (by omega)] at c_1
    refine m_iconst X dX3_move_4 (v := 0) (by decide) ?_
    refine m_goto X dX3_move_5 (t := 14) (by decide) ?_
    refine m_istore X dX3_move_14 rfl rfl ?_
    refine m_iload X dX3_move_16 rfl ?_
    refine m_ifne X dX3_move_18 (t := 33) (by decide) (fun c_18 => ?_) (fun c_18 => ?_)
    · skip
      try simp only [bI_0, Bool.not_eq_false] at c_18
      try rw [z_nI (by have := asF_lt σ b k; omega)] at c_18
      refine m_iload X dX3_move_33 rfl ?_
      exact m_iret X dX3_move_35 (by decide) (by decide) (by first | exact absurd trivial c_18 | exact absurd rfl c_18 | (have e : moveA σ a b k = (2, σ) := if_pos ⟨c_1, c_18⟩; rw [asF_n c_18, e]; exact pT_mk hM hT FrT.rf) | (have e : moveA σ a b k = (0, σ.setSl a (σ.sl b)) := if_neg (fun z => by first | exact z.1 c_1 | exact z.2 c_18); rw [e]; first | exact pT_mk hM (hT.setSl ha) (FrT.rf.aset (by decide)) | (rw [c_18]; exact pT_mk hM (hT.setSl ha) (FrT.rf.aset (by decide)))))
    · skip
      try simp only [bI_0, Bool.not_eq_false] at c_18
      try rw [z_nI (by have := asF_lt σ b k; omega)] at c_18
      have hsl := hW.sl hs
      refine m_aload_n X dX3_move_21 rfl rfl (by first | rfl | exact isR_rf) ?_
      refine m_getf X fg_X3_26_X3 hM.1 rfl dX3_move_22 ?_
      refine m_iload_n X dX3_move_25 rfl rfl ?_
      refine m_aload_n X dX3_move_26 rfl rfl (by first | rfl | exact isR_rf) ?_
      refine m_getf X fg_X3_26_X3 hM.1 rfl dX3_move_27 ?_
      refine m_iload_n X dX3_move_30 rfl rfl ?_
      refine s_iald X hM rfl rfl (by exact tin (by simp only [alen]; omega) rfl) dX3_move_31 ?_
      refine m_topi X (hT.slot hs) ?_
      refine s_iast X hM rfl rfl (by exact tin (by simp only [alen]; omega) rfl) dX3_move_32 (fun M hM => ?_)
      refine m_iload X dX3_move_33 rfl ?_
      exact m_iret X dX3_move_35 (by decide) (by decide) (by first | exact absurd trivial c_18 | exact absurd rfl c_18 | (have e : moveA σ a b k = (2, σ) := if_pos ⟨c_1, c_18⟩; rw [asF_n c_18, e]; exact pT_mk hM hT FrT.rf) | (have e : moveA σ a b k = (0, σ.setSl a (σ.sl b)) := if_neg (fun z => by first | exact z.1 c_1 | exact z.2 c_18); rw [e]; first | exact pT_mk hM (hT.setSl ha) (FrT.rf.aset (by decide)) | (rw [c_18]; exact pT_mk hM (hT.setSl ha) (FrT.rf.aset (by decide)))))
theorem toldV_bits : ((52 : Int32).toInt64 &&& 63) = (52 : Int64) := by decide
set_option maxHeartbeats 4000000 in
theorem c_X3_told (G : GX) (M : Mem) (k : Nat) (v : Int64) (hk : k < 10) : Con G yX3_told wX3_told (rmm 0 0) [.int (nI k), .long v] M (pR M (some (.long (toldV k v)))) nX := by
  refine Con.mk (by decide) rfl [(0, some (.int (nI k))), (1, some (.long v))] rfl fun x X hno => ?_
  have q1 : nI k = 1 ↔ k = 1 := nI_eq (b := 1) (by omega) (by decide)
  have q2 : nI k = 2 ↔ k = 2 := nI_eq (b := 2) (by omega) (by decide)
  have q4 : nI k = 4 ↔ k = 4 := nI_eq (b := 4) (by omega) (by decide)
  have hj : ∀ b : Bool, b = (decide ((v >>> (52 : Int64)) &&& 2047 = 2047) && !decide (v &&& 4503599627370495 = 0)) → WM G x 4 (QM G x (pR M (some (.long (toldV k v)))) nX (rmm 0 0)) 0 0 M 30 [(0, some (.int (nI k))), (1, some (.long v))] [.int (bI b)] := by
    intro b hb
    refine m_istore_n X dX3_told_30 rfl rfl rfl ?_
    refine m_iload_n X dX3_told_31 rfl rfl ?_
    refine m_iconst X dX3_told_32 (v := 1) (by decide) ?_
    refine m_icmpne X dX3_told_33 (t := 42) (by decide) (fun c_33 => ?_) (fun c_33 => ?_)
    · skip
      rw [q1] at c_33
      refine m_iload_n X dX3_told_42 rfl rfl ?_
      refine m_iconst X dX3_told_43 (v := 2) (by decide) ?_
      refine m_icmpne X dX3_told_44 (t := 54) (by decide) (fun c_44 => ?_) (fun c_44 => ?_)
      · skip
        rw [q2] at c_44
        refine m_iload_n X dX3_told_54 rfl rfl ?_
        refine m_iconst X dX3_told_55 (v := 4) (by decide) ?_
        refine m_icmpne X dX3_told_56 (t := 69) (by decide) (fun c_56 => ?_) (fun c_56 => ?_)
        · skip
          rw [q4] at c_56
          refine m_lload_n X dX3_told_69 rfl rfl ?_
          exact m_lret X dX3_told_70 (by decide) (by decide) (by refine ⟨?_, rfl⟩; simp [toldV, c_33, c_44, c_56] <;> simp_all)
        · skip
          rw [q4] at c_56
          refine m_iload_n X dX3_told_59 rfl rfl ?_
          refine m_ifeq X dX3_told_60 (t := 69) (by decide) (fun c_60 => ?_) (fun c_60 => ?_)
          · skip
            try simp only [bI_0, Bool.not_eq_false] at c_60
            refine m_lload_n X dX3_told_69 rfl rfl ?_
            exact m_lret X dX3_told_70 (by decide) (by decide) (by refine ⟨?_, rfl⟩; simp [toldV, c_33, c_44, c_56, c_60] <;> simp_all)
          · skip
            try simp only [bI_0, Bool.not_eq_false] at c_60
            refine m_ldc2 X q1178 dX3_told_63 ?_
            refine m_goto X dX3_told_66 (t := 70) (by decide) ?_
            exact m_lret X dX3_told_70 (by decide) (by decide) (by refine ⟨?_, rfl⟩; simp [toldV, c_33, c_44, c_56, c_60] <;> simp_all)
      · skip
        rw [q2] at c_44
        refine m_lload_n X dX3_told_47 rfl rfl ?_
        refine m_l2i X dX3_told_48 ?_
        refine m_i2b X dX3_told_49 ?_
        refine m_i2l X dX3_told_50 ?_
        refine m_goto X dX3_told_51 (t := 70) (by decide) ?_
        exact m_lret X dX3_told_70 (by decide) (by decide) (by refine ⟨?_, rfl⟩; simp [toldV, c_33, c_44] <;> simp_all)
    · skip
      rw [q1] at c_33
      refine m_lload_n X dX3_told_36 rfl rfl ?_
      refine m_l2i X dX3_told_37 ?_
      refine m_i2l X dX3_told_38 ?_
      refine m_goto X dX3_told_39 (t := 70) (by decide) ?_
      exact m_lret X dX3_told_70 (by decide) (by decide) (by refine ⟨?_, rfl⟩; simp [toldV, c_33] <;> simp_all)
  refine m_lload_n X dX3_told_0 rfl rfl ?_
  refine m_bipush X dX3_told_1 (v := 52) (by decide) ?_
  refine m_lshr X dX3_told_3 ?_
  refine m_topl X (congrArg (v >>> ·) toldV_bits) ?_
  refine m_ldc2 X q1176 dX3_told_4 ?_
  refine m_land X dX3_told_7 ?_
  refine m_ldc2 X q1176 dX3_told_8 ?_
  refine m_lcmp X dX3_told_11 ?_
  refine m_ifne X dX3_told_12 (t := 29) (by decide) (fun c_12 => ?_) (fun c_12 => ?_)
  · skip
    try simp only [bI_0, Bool.not_eq_false] at c_12
    rw [lg_cmp_eq] at c_12
    refine m_iconst X dX3_told_29 (v := 0) (by decide) ?_
    first | exact hj false (by simp [c_12]) | exact hj true (by simp [c_12])
  · skip
    try simp only [bI_0, Bool.not_eq_false] at c_12
    rw [lg_cmp_eq] at c_12
    refine m_lload_n X dX3_told_15 rfl rfl ?_
    refine m_ldc2 X q1177 dX3_told_16 ?_
    refine m_land X dX3_told_19 ?_
    refine m_lconst X dX3_told_20 (v := 0) (by decide) ?_
    refine m_lcmp X dX3_told_21 ?_
    refine m_ifeq X dX3_told_22 (t := 29) (by decide) (fun c_22 => ?_) (fun c_22 => ?_)
    · skip
      try simp only [bI_0, Bool.not_eq_false] at c_22
      rw [lg_cmp_eq] at c_22
      refine m_iconst X dX3_told_29 (v := 0) (by decide) ?_
      first | exact hj false (by simp [c_12, c_22]) | exact hj true (by simp [c_12, c_22])
    · skip
      try simp only [bI_0, Bool.not_eq_false] at c_22
      rw [lg_cmp_eq] at c_22
      refine m_iconst X dX3_told_25 (v := 1) (by decide) ?_
      refine m_goto X dX3_told_26 (t := 30) (by decide) ?_
      first | exact hj false (by simp [c_12, c_22]) | exact hj true (by simp [c_12, c_22])
set_option maxHeartbeats 4000000 in
theorem c_X3_tell {G : GX} {h : Nat} {ad : Nat → Nat} {F : Nat → Int32} {A : Nat → Nat → Int32} {B : Nat → Nat → Int64} {M : Mem} {σ : AS} (hM : MRep G h ad F A B M) (hT : MT σ F A B) (hW : WF σ) (a b : Nat) (ha : a < 8) (hs : b < 12) : Con G yX3_tell wX3_tell (rmm 4 86) [.ref h, .int (nI a), .int (nI b)] M (pT G h ad F A (some (.int (nI (tellA σ a b).1))) (tellA σ a b).2) nX := by
  refine Con.mk (by decide) rfl [(0, some (.ref h)), (1, some (.int (nI a))), (2, some (.int (nI b)))] rfl fun x X hno => ?_
  have hb1 := hW.1
  have hb2 := hW.2.1
  refine m_aload_n X dX3_tell_0 rfl rfl (by first | rfl | exact isR_rf) ?_
  refine m_iload_n X dX3_tell_1 rfl rfl ?_
  refine m_bipush X dX3_tell_2 (v := 8) (by decide) ?_
  refine m_callV X cs_X3_154  (c_X3_row hM hT hW b 8 hs (by decide)) hM.1 rfl rfl rfl (Nat.le_of_ble_eq_true rfl) dX3_tell_4 ⟨by decide, by decide, by decide, by decide⟩ (fun v M hp => ?_) (fun _ _ _ _ h => h.elim)
  obtain ⟨rfl, rfl⟩ := hp
  refine m_sti ?_
  refine m_istore_n X dX3_tell_7 rfl rfl rfl ?_
  refine m_iload_n X dX3_tell_8 rfl rfl ?_
  refine m_ifne X dX3_tell_9 (t := 60) (by decide) (fun c_9 => ?_) (fun c_9 => ?_)
  · skip
    try simp only [bI_0, Bool.not_eq_false] at c_9
    rw [z_nI (by have := rowF_lt σ b 8; omega)] at c_9
    have e : tellA σ a b = (rowF σ b 8, σ) := if_pos c_9
    refine m_iload_n X dX3_tell_60 rfl rfl ?_
    exact m_iret X dX3_tell_61 (by decide) (by decide) (by rw [e]; first | exact pT_mk hM hT FrT.rf | (rw [c_9]; exact pT_mk hM (hT.setRg ha) FrT.rf))
  · skip
    try simp only [bI_0, Bool.not_eq_false] at c_9
    rw [z_nI (by have := rowF_lt σ b 8; omega)] at c_9
    have hp0 := hW.pos hs (rowF_0 c_9).1
    have e : tellA σ a b = (0, σ.setRg a (if σ.kd (σ.sl b) = 9 then 2 * σ.nm (σ.sl b) + 1 else σ.nm (σ.sl b)).toInt64) := if_neg (fun z => z c_9)
    refine m_aload_n X dX3_tell_12 rfl rfl (by first | rfl | exact isR_rf) ?_
    refine m_getf X fg_X3_19_X3 hM.1 rfl dX3_tell_13 ?_
    refine m_aload_n X dX3_tell_16 rfl rfl (by first | rfl | exact isR_rf) ?_
    refine m_getf X fg_X3_26_X3 hM.1 rfl dX3_tell_17 ?_
    refine m_iload_n X dX3_tell_20 rfl rfl ?_
    refine s_iald X hM rfl rfl (by exact tin (by simp only [alen]; omega) rfl) dX3_tell_21 ?_
    refine m_topi X (hT.slot hs) ?_
    refine s_iald X hM rfl rfl (by exact tin (by simp only [alen]; omega) rfl) dX3_tell_22 ?_
    refine m_topi X (hT.number hW hp0.1 hp0.2.1) ?_
    refine m_istore X dX3_tell_23 rfl rfl ?_
    refine m_aload_n X dX3_tell_25 rfl rfl (by first | rfl | exact isR_rf) ?_
    refine m_getf X fg_X3_29_X3 hM.1 rfl dX3_tell_26 ?_
    refine m_iload_n X dX3_tell_29 rfl rfl ?_
    refine m_aload_n X dX3_tell_30 rfl rfl (by first | rfl | exact isR_rf) ?_
    refine m_getf X fg_X3_7_X3 hM.1 rfl dX3_tell_31 ?_
    refine m_aload_n X dX3_tell_34 rfl rfl (by first | rfl | exact isR_rf) ?_
    refine m_getf X fg_X3_26_X3 hM.1 rfl dX3_tell_35 ?_
    refine m_iload_n X dX3_tell_38 rfl rfl ?_
    refine s_iald X hM rfl rfl (by exact tin (by simp only [alen]; omega) rfl) dX3_tell_39 ?_
    refine m_topi X (hT.slot hs) ?_
    refine s_iald X hM rfl rfl (by exact tin (by simp only [alen]; omega) rfl) dX3_tell_40 ?_
    refine m_topi X (hT.kind hW hp0.1 hp0.2.1) ?_
    refine m_bipush X dX3_tell_41 (v := 9) (by decide) ?_
    refine m_icmpne X dX3_tell_43 (t := 56) (by decide) (fun c_43 => ?_) (fun c_43 => ?_)
    · skip
      have c_43 : ¬ σ.kd (σ.sl b) = 9 := fun z => c_43 (by rw [z]; rfl)
      rw [if_neg c_43] at e
      refine m_iload X dX3_tell_56 rfl ?_
      refine m_i2l X dX3_tell_58 ?_
      refine s_last X hM rfl rfl (by exact tin (by simp only [alen]; omega) rfl) dX3_tell_59 (fun M hM => ?_)
      refine m_iload_n X dX3_tell_60 rfl rfl ?_
      exact m_iret X dX3_tell_61 (by decide) (by decide) (by rw [e]; first | exact pT_mk hM hT FrT.rf | (rw [c_9]; exact pT_mk hM (hT.setRg ha) FrT.rf))
    · skip
      have c_43 : σ.kd (σ.sl b) = 9 := (nI_eq (b := 9) (by omega) (by decide)).mp c_43
      rw [if_pos c_43] at e
      refine m_iconst X dX3_tell_46 (v := 2) (by decide) ?_
      refine m_iload X dX3_tell_47 rfl ?_
      refine m_imul X dX3_tell_49 ?_
      refine m_iconst X dX3_tell_50 (v := 1) (by decide) ?_
      refine m_iadd X dX3_tell_51 ?_
      refine m_i2l X dX3_tell_52 ?_
      refine m_goto X dX3_tell_53 (t := 59) (by decide) ?_
      refine s_last X hM rfl rfl (by exact tin (by simp only [alen]; omega) rfl) dX3_tell_59 (fun M hM => ?_)
      refine m_iload_n X dX3_tell_60 rfl rfl ?_
      exact m_iret X dX3_tell_61 (by decide) (by decide) (by rw [e]; first | exact pT_mk hM hT FrT.rf | (rw [c_9]; exact pT_mk hM (hT.setRg ha) FrT.rf))
set_option maxHeartbeats 4000000 in
theorem c_X3_get {G : GX} {h : Nat} {ad : Nat → Nat} {F : Nat → Int32} {A : Nat → Nat → Int32} {B : Nat → Nat → Int64} {M : Mem} {σ : AS} (hM : MRep G h ad F A B M) (hT : MT σ F A B) (hW : WF σ) (a b k : Nat) (i : Int32) (ha : a < 8) (hs : b < 12) (hk : k < 10) : Con G yX3_get wX3_get (rmm 5 110) [.ref h, .int (nI a), .int (nI b), .int (nI k), .int i] M (pT G h ad F A (some (.int (nI (getA σ a b k i).1))) (getA σ a b k i).2) nX := by
  refine Con.mk (by decide) rfl [(0, some (.ref h)), (1, some (.int (nI a))), (2, some (.int (nI b))), (3, some (.int (nI k))), (4, some (.int i))] rfl fun x X hno => ?_
  have hb1 := hW.1
  have hb2 := hW.2.1
  refine m_aload_n X dX3_get_0 rfl rfl (by first | rfl | exact isR_rf) ?_
  refine m_iload_n X dX3_get_1 rfl rfl ?_
  refine m_iload_n X dX3_get_2 rfl rfl ?_
  refine m_iload X dX3_get_3 rfl ?_
  refine m_callV X cs_X3_170  (c_X3_itemOf hM hT hW b k i hs hk) hM.1 rfl rfl rfl (Nat.le_of_ble_eq_true rfl) dX3_get_5 ⟨by decide, by decide, by decide, by decide⟩ (fun v M hp => ?_) (fun _ _ _ _ h => h.elim)
  obtain ⟨rfl, rfl⟩ := hp
  refine m_sti ?_
  refine m_istore X dX3_get_8 rfl rfl ?_
  refine m_iload X dX3_get_10 rfl ?_
  refine m_ifne X dX3_get_12 (t := 40) (by decide) (fun c_12 => ?_) (fun c_12 => ?_)
  · skip
    try simp only [bI_0, Bool.not_eq_false] at c_12
    rw [z_nI (by have := itemF_lt σ b k i; omega)] at c_12
    have e : getA σ a b k i = (itemF σ b k i, σ) := if_pos c_12
    refine m_iload X dX3_get_40 rfl ?_
    exact m_iret X dX3_get_42 (by decide) (by decide) (by rw [e]; first | exact pT_mk hM hT FrT.rf | (rw [c_12]; exact pT_mk hM (hT.setRg ha) FrT.rf))
  · skip
    try simp only [bI_0, Bool.not_eq_false] at c_12
    rw [z_nI (by have := itemF_lt σ b k i; omega)] at c_12
    have hp0 := hW.pos hs (fun z => by simp [itemF, rowF, asF, z] at c_12)
    obtain ⟨h0, hk0, j, hj, rfl⟩ := itemF_0 c_12 (by omega)
    have e : getA σ a b k (nI j) = (0, σ.setRg a (σ.it (σ.bg (σ.sl b) + j))) := by rw [getA, if_neg (fun z => z c_12), nI_toNat (by omega)]
    refine m_aload_n X dX3_get_15 rfl rfl (by first | rfl | exact isR_rf) ?_
    refine m_getf X fg_X3_29_X3 hM.1 rfl dX3_get_16 ?_
    refine m_iload_n X dX3_get_19 rfl rfl ?_
    refine m_aload_n X dX3_get_20 rfl rfl (by first | rfl | exact isR_rf) ?_
    refine m_getf X fg_X3_22_X3 hM.1 rfl dX3_get_21 ?_
    refine m_aload_n X dX3_get_24 rfl rfl (by first | rfl | exact isR_rf) ?_
    refine m_getf X fg_X3_13_X3 hM.1 rfl dX3_get_25 ?_
    refine m_aload_n X dX3_get_28 rfl rfl (by first | rfl | exact isR_rf) ?_
    refine m_getf X fg_X3_26_X3 hM.1 rfl dX3_get_29 ?_
    refine m_iload_n X dX3_get_32 rfl rfl ?_
    refine s_iald X hM rfl rfl (by exact tin (by simp only [alen]; omega) rfl) dX3_get_33 ?_
    refine m_topi X (hT.slot hs) ?_
    refine s_iald X hM rfl rfl (by exact tin (by simp only [alen]; omega) rfl) dX3_get_34 ?_
    refine m_topi X (hT.begin hW hp0.1 hp0.2.1) ?_
    refine m_iload X dX3_get_35 rfl ?_
    refine m_iadd X dX3_get_37 ?_
    refine m_topi X (nI_add _ _) ?_
    refine s_lald X hM rfl rfl (by exact tin (by simp only [alen]; omega) rfl) dX3_get_38 ?_
    refine m_topl X (hT.item hW (by omega)) ?_
    refine s_last X hM rfl rfl (by exact tin (by simp only [alen]; omega) rfl) dX3_get_39 (fun M hM => ?_)
    refine m_iload X dX3_get_40 rfl ?_
    exact m_iret X dX3_get_42 (by decide) (by decide) (by rw [e]; first | exact pT_mk hM hT FrT.rf | (rw [c_12]; exact pT_mk hM (hT.setRg ha) FrT.rf))
set_option maxHeartbeats 4000000 in
theorem c_X3_set {G : GX} {h : Nat} {ad : Nat → Nat} {F : Nat → Int32} {A : Nat → Nat → Int32} {B : Nat → Nat → Int64} {M : Mem} {σ : AS} (hM : MRep G h ad F A B M) (hT : MT σ F A B) (hW : WF σ) (a k : Nat) (i : Int32) (d : Nat) (hs : a < 12) (hk : k < 10) (hd : d < 8) : Con G yX3_set wX3_set (rmm 5 110) [.ref h, .int (nI a), .int (nI k), .int i, .int (nI d)] M (pT G h ad F A (some (.int (nI (setA σ a k i d).1))) (setA σ a k i d).2) nX := by
  refine Con.mk (by decide) rfl [(0, some (.ref h)), (1, some (.int (nI a))), (2, some (.int (nI k))), (3, some (.int i)), (4, some (.int (nI d)))] rfl fun x X hno => ?_
  have hb1 := hW.1
  have hb2 := hW.2.1
  refine m_aload_n X dX3_set_0 rfl rfl (by first | rfl | exact isR_rf) ?_
  refine m_iload_n X dX3_set_1 rfl rfl ?_
  refine m_iload_n X dX3_set_2 rfl rfl ?_
  refine m_iload_n X dX3_set_3 rfl rfl ?_
  refine m_callV X cs_X3_170  (c_X3_itemOf hM hT hW a k i hs hk) hM.1 rfl rfl rfl (Nat.le_of_ble_eq_true rfl) dX3_set_4 ⟨by decide, by decide, by decide, by decide⟩ (fun v M hp => ?_) (fun _ _ _ _ h => h.elim)
  obtain ⟨rfl, rfl⟩ := hp
  refine m_sti ?_
  refine m_istore X dX3_set_7 rfl rfl ?_
  refine m_iload X dX3_set_9 rfl ?_
  refine m_ifne X dX3_set_11 (t := 43) (by decide) (fun c_11 => ?_) (fun c_11 => ?_)
  · skip
    try simp only [bI_0, Bool.not_eq_false] at c_11
    rw [z_nI (by have := itemF_lt σ a k i; omega)] at c_11
    have e : setA σ a k i d = (itemF σ a k i, σ) := if_pos c_11
    refine m_iload X dX3_set_43 rfl ?_
    exact m_iret X dX3_set_45 (by decide) (by decide) (by rw [e]; first | exact pT_mk hM hT FrT.rf | (rw [c_11]; exact pT_mk hM (hT.setIt (by omega)) FrT.rf))
  · skip
    try simp only [bI_0, Bool.not_eq_false] at c_11
    rw [z_nI (by have := itemF_lt σ a k i; omega)] at c_11
    have hp0 := hW.pos hs (fun z => by simp [itemF, rowF, asF, z] at c_11)
    obtain ⟨h0, hk0, j, hj, rfl⟩ := itemF_0 c_11 (by omega)
    have e : setA σ a k (nI j) d = (0, σ.setIt (σ.bg (σ.sl a) + j) (toldV k (σ.rg d))) := by rw [setA, if_neg (fun z => z c_11), nI_toNat (by omega)]
    refine m_aload_n X dX3_set_14 rfl rfl (by first | rfl | exact isR_rf) ?_
    refine m_getf X fg_X3_22_X3 hM.1 rfl dX3_set_15 ?_
    refine m_aload_n X dX3_set_18 rfl rfl (by first | rfl | exact isR_rf) ?_
    refine m_getf X fg_X3_13_X3 hM.1 rfl dX3_set_19 ?_
    refine m_aload_n X dX3_set_22 rfl rfl (by first | rfl | exact isR_rf) ?_
    refine m_getf X fg_X3_26_X3 hM.1 rfl dX3_set_23 ?_
    refine m_iload_n X dX3_set_26 rfl rfl ?_
    refine s_iald X hM rfl rfl (by exact tin (by simp only [alen]; omega) rfl) dX3_set_27 ?_
    refine m_topi X (hT.slot hs) ?_
    refine s_iald X hM rfl rfl (by exact tin (by simp only [alen]; omega) rfl) dX3_set_28 ?_
    refine m_topi X (hT.begin hW hp0.1 hp0.2.1) ?_
    refine m_iload_n X dX3_set_29 rfl rfl ?_
    refine m_iadd X dX3_set_30 ?_
    refine m_topi X (nI_add _ _) ?_
    refine m_iload_n X dX3_set_31 rfl rfl ?_
    refine m_aload_n X dX3_set_32 rfl rfl (by first | rfl | exact isR_rf) ?_
    refine m_getf X fg_X3_29_X3 hM.1 rfl dX3_set_33 ?_
    refine m_iload X dX3_set_36 rfl ?_
    refine s_lald X hM rfl rfl (by exact tin (by simp only [alen]; omega) rfl) dX3_set_38 ?_
    refine m_topl X (hT.reg hd) ?_
    refine m_callS X cs_X3_182  (c_X3_told _ _ k _ hk) rfl rfl (Nat.le_of_ble_eq_true rfl) dX3_set_39 ⟨by decide, by decide, by decide, by decide⟩ (fun v M hp => ?_) (fun _ _ _ _ h => h.elim)
    obtain ⟨rfl, rfl⟩ := hp
    refine m_stl ?_
    refine s_last X hM rfl rfl (by exact tin (by simp only [alen]; omega) rfl) dX3_set_42 (fun M hM => ?_)
    refine m_iload X dX3_set_43 rfl ?_
    exact m_iret X dX3_set_45 (by decide) (by decide) (by rw [e]; first | exact pT_mk hM hT FrT.rf | (rw [c_11]; exact pT_mk hM (hT.setIt (by omega)) FrT.rf))
set_option maxHeartbeats 4000000 in
theorem c_X3_take {G : GX} {h : Nat} {ad : Nat → Nat} {F : Nat → Int32} {A : Nat → Nat → Int32} {B : Nat → Nat → Int64} {M : Mem} {σ : AS} (hM : MRep G h ad F A B M) (hT : MT σ F A B) (hW : WF σ) (a b k : Nat) (i : Int32) (ha : a < 12) (hs : b < 12) (hk : k < 10) (hk5 : 5 ≤ k ∧ k ≤ 7) : Con G yX3_take wX3_take (rmm 5 110) [.ref h, .int (nI a), .int (nI b), .int (nI k), .int i] M (pT G h ad F A (some (.int (nI (takeA σ a b k i).1))) (takeA σ a b k i).2) nX := by
  refine Con.mk (by decide) rfl [(0, some (.ref h)), (1, some (.int (nI a))), (2, some (.int (nI b))), (3, some (.int (nI k))), (4, some (.int i))] rfl fun x X hno => ?_
  have hb1 := hW.1
  have hb2 := hW.2.1
  refine m_aload_n X dX3_take_0 rfl rfl (by first | rfl | exact isR_rf) ?_
  refine m_iload_n X dX3_take_1 rfl rfl ?_
  refine m_iload_n X dX3_take_2 rfl rfl ?_
  refine m_iload X dX3_take_3 rfl ?_
  refine m_callV X cs_X3_170  (c_X3_itemOf hM hT hW b k i hs hk) hM.1 rfl rfl rfl (Nat.le_of_ble_eq_true rfl) dX3_take_5 ⟨by decide, by decide, by decide, by decide⟩ (fun v M hp => ?_) (fun _ _ _ _ h => h.elim)
  obtain ⟨rfl, rfl⟩ := hp
  refine m_sti ?_
  refine m_istore X dX3_take_8 rfl rfl ?_
  refine m_iload X dX3_take_10 rfl ?_
  refine m_ifne X dX3_take_12 (t := 41) (by decide) (fun c_12 => ?_) (fun c_12 => ?_)
  · skip
    try simp only [bI_0, Bool.not_eq_false] at c_12
    rw [z_nI (by have := itemF_lt σ b k i; omega)] at c_12
    have e : takeA σ a b k i = (itemF σ b k i, σ) := if_pos c_12
    refine m_iload X dX3_take_41 rfl ?_
    exact m_iret X dX3_take_43 (by decide) (by decide) (by rw [e]; first | exact pT_mk hM hT FrT.rf | (rw [c_12]; exact pT_mk hM (hT.setSl ha) (FrT.rf.aset (by decide))))
  · skip
    try simp only [bI_0, Bool.not_eq_false] at c_12
    rw [z_nI (by have := itemF_lt σ b k i; omega)] at c_12
    have hp0 := hW.pos hs (fun z => by simp [itemF, rowF, asF, z] at c_12)
    obtain ⟨h0, hk0, j, hj, rfl⟩ := itemF_0 c_12 (by omega)
    obtain ⟨u, hu0, hu1, hu2⟩ := hW.2.2.2.2 _ hp0.1 hp0.2.1 (by simp [isK] at hk0; omega) j hj
    have e : takeA σ a b k (nI j) = (0, σ.setSl a u) := by rw [takeA, if_neg (fun z => z c_12), nI_toNat (by omega), hu1, lN_toInt (by omega)]; rfl
    refine m_aload_n X dX3_take_15 rfl rfl (by first | rfl | exact isR_rf) ?_
    refine m_getf X fg_X3_26_X3 hM.1 rfl dX3_take_16 ?_
    refine m_iload_n X dX3_take_19 rfl rfl ?_
    refine m_aload_n X dX3_take_20 rfl rfl (by first | rfl | exact isR_rf) ?_
    refine m_getf X fg_X3_22_X3 hM.1 rfl dX3_take_21 ?_
    refine m_aload_n X dX3_take_24 rfl rfl (by first | rfl | exact isR_rf) ?_
    refine m_getf X fg_X3_13_X3 hM.1 rfl dX3_take_25 ?_
    refine m_aload_n X dX3_take_28 rfl rfl (by first | rfl | exact isR_rf) ?_
    refine m_getf X fg_X3_26_X3 hM.1 rfl dX3_take_29 ?_
    refine m_iload_n X dX3_take_32 rfl rfl ?_
    refine s_iald X hM rfl rfl (by exact tin (by simp only [alen]; omega) rfl) dX3_take_33 ?_
    refine m_topi X (hT.slot hs) ?_
    refine s_iald X hM rfl rfl (by exact tin (by simp only [alen]; omega) rfl) dX3_take_34 ?_
    refine m_topi X (hT.begin hW hp0.1 hp0.2.1) ?_
    refine m_iload X dX3_take_35 rfl ?_
    refine m_iadd X dX3_take_37 ?_
    refine m_topi X (nI_add _ _) ?_
    refine s_lald X hM rfl rfl (by exact tin (by simp only [alen]; omega) rfl) dX3_take_38 ?_
    refine m_topl X (hT.item hW (by omega)) ?_
    refine m_l2i X dX3_take_39 ?_
    refine m_topi X ((congrArg Int64.toInt32 hu1).trans (lN_i u)) ?_
    refine s_iast X hM rfl rfl (by exact tin (by simp only [alen]; omega) rfl) dX3_take_40 (fun M hM => ?_)
    refine m_iload X dX3_take_41 rfl ?_
    exact m_iret X dX3_take_43 (by decide) (by decide) (by rw [e]; first | exact pT_mk hM hT FrT.rf | (rw [c_12]; exact pT_mk hM (hT.setSl ha) (FrT.rf.aset (by decide))))
