/-! THE MODEL'S THINGS (printed by wip/D-80403w/tools/m31.py) -/
set_option maxRecDepth 100000
/-- the end of a method that moves the things -/
def pT (G : GX) (h : Nat) (ad : Nat → Nat) (F : Nat → Int32) (A : Nat → Nat → Int32) (r : Option Value) (σ' : AS) : Option Value → Mem → Prop := fun v M' => v = r ∧ ∃ (F' : Nat → Int32) (A' : Nat → Nat → Int32) (B' : Nat → Nat → Int64), MRep G h ad F' A' B' M' ∧ MT σ' F' A' B' ∧ FrT F A F' A'
/-- the end of one that reads -/
def pR (M : Mem) (r : Option Value) : Option Value → Mem → Prop := fun v M' => v = r ∧ M' = M
section MTL
variable {σ : AS} {F : Nat → Int32} {A : Nat → Nat → Int32} {B : Nat → Nat → Int64}
theorem MT.slot (hT : MT σ F A B) {s : Nat} (hs : s < 12) : A 7 (nI s).toNatClampNeg = nI (σ.sl s) := by rw [nI_clamp (by omega)]; exact hT.2.2.2.2.2.1 s hs
theorem MT.reg (hT : MT σ F A B) {s : Nat} (hs : s < 8) : B 8 (nI s).toNatClampNeg = σ.rg s := by rw [nI_clamp (by omega)]; exact hT.2.2.2.2.2.2 s hs
theorem MT.kind (hT : MT σ F A B) (hW : WF σ) {t : Nat} (h1 : 1 ≤ t) (ht : t ≤ σ.T) : A 2 (nI t).toNatClampNeg = nI (σ.kd t) := by rw [nI_clamp (by have := hW.1; omega)]; exact (hT.2.2.2.1 t h1 ht).1
theorem MT.begin (hT : MT σ F A B) (hW : WF σ) {t : Nat} (h1 : 1 ≤ t) (ht : t ≤ σ.T) : A 3 (nI t).toNatClampNeg = nI (σ.bg t) := by rw [nI_clamp (by have := hW.1; omega)]; exact (hT.2.2.2.1 t h1 ht).2.1
theorem MT.length (hT : MT σ F A B) (hW : WF σ) {t : Nat} (h1 : 1 ≤ t) (ht : t ≤ σ.T) : A 4 (nI t).toNatClampNeg = nI (σ.ln t) := by rw [nI_clamp (by have := hW.1; omega)]; exact (hT.2.2.2.1 t h1 ht).2.2.1
theorem MT.number (hT : MT σ F A B) (hW : WF σ) {t : Nat} (h1 : 1 ≤ t) (ht : t ≤ σ.T) : A 5 (nI t).toNatClampNeg = σ.nm t := by rw [nI_clamp (by have := hW.1; omega)]; exact (hT.2.2.2.1 t h1 ht).2.2.2
theorem MT.item (hT : MT σ F A B) (hW : WF σ) {j : Nat} (hj : j < σ.I) : B 6 (nI j).toNatClampNeg = σ.it j := by rw [nI_clamp (by have := hW.2.1; omega)]; exact hT.2.2.2.2.1 j hj
theorem WF.sl (hW : WF σ) {s : Nat} (hs : s < 12) : σ.sl s ≤ σ.T := hW.2.2.2.1 s hs
theorem WF.len (hW : WF σ) {t : Nat} (h1 : 1 ≤ t) (ht : t ≤ σ.T) : σ.bg t + σ.ln t ≤ σ.I := (hW.2.2.1 t h1 ht).2.2.1
end MTL
theorem tin {t N : Nat} (h : t < N) (hN : Nat.blt N 100000 = true) : vp_in (nI t) N := by
  have h2 : N < 100000 := by simpa using hN
  exact vp_in_nI h (by omega)
def maskI (k : Int32) : Int32 := ((1 : Int32) <<< (k &&& 31) ||| (if k = 8 then 512 else 0)) ||| (if k = 6 then 128 else 0)
theorem is_mask : ∀ k, k < 10 → ∀ d, d < 10 → (((maskI (nI k) >>> (nI d &&& 31)) &&& 1 = 1) ↔ isK d k = true) := by decide +kernel
theorem nIb (b : Bool) : bI b = if b = true then 1 else 0 := by cases b <;> rfl
set_option maxHeartbeats 4000000 in
theorem c_X3_mask (G : GX) (M : Mem) (k : Int32) : Con G yX3_mask wX3_mask (rmm 0 0) [.int k] M (pR M (some (.int (maskI k)))) nX := by
  refine Con.mk (by decide) rfl [(0, some (.int k))] rfl fun x X hno => ?_
  refine m_iconst X dX3_mask_0 (v := 1) (by decide) ?_
  refine m_iload_n X dX3_mask_1 rfl rfl ?_
  refine m_ishl X dX3_mask_2 ?_
  refine m_iload_n X dX3_mask_3 rfl rfl ?_
  refine m_bipush X dX3_mask_4 (v := 8) (by decide) ?_
  refine m_icmpne X dX3_mask_6 (t := 15) (by decide) (fun c_6 => ?_) (fun c_6 => ?_)
  · skip
    refine m_iconst X dX3_mask_15 (v := 0) (by decide) ?_
    refine m_ior X dX3_mask_16 ?_
    refine m_iload_n X dX3_mask_17 rfl rfl ?_
    refine m_bipush X dX3_mask_18 (v := 6) (by decide) ?_
    refine m_icmpne X dX3_mask_20 (t := 29) (by decide) (fun c_20 => ?_) (fun c_20 => ?_)
    · skip
      refine m_iconst X dX3_mask_29 (v := 0) (by decide) ?_
      refine m_ior X dX3_mask_30 ?_
      exact m_iret X dX3_mask_31 (by decide) (by decide) (by refine ⟨?_, rfl⟩; first | (exact absurd (c_6.symm.trans c_20) (by decide)) | simp [maskI, c_6, c_20])
    · skip
      refine m_sipush X dX3_mask_23 (v := 128) (by decide) ?_
      refine m_goto X dX3_mask_26 (t := 30) (by decide) ?_
      refine m_ior X dX3_mask_30 ?_
      exact m_iret X dX3_mask_31 (by decide) (by decide) (by refine ⟨?_, rfl⟩; first | (exact absurd (c_6.symm.trans c_20) (by decide)) | simp [maskI, c_6, c_20])
  · skip
    refine m_sipush X dX3_mask_9 (v := 512) (by decide) ?_
    refine m_goto X dX3_mask_12 (t := 16) (by decide) ?_
    refine m_ior X dX3_mask_16 ?_
    refine m_iload_n X dX3_mask_17 rfl rfl ?_
    refine m_bipush X dX3_mask_18 (v := 6) (by decide) ?_
    refine m_icmpne X dX3_mask_20 (t := 29) (by decide) (fun c_20 => ?_) (fun c_20 => ?_)
    · skip
      refine m_iconst X dX3_mask_29 (v := 0) (by decide) ?_
      refine m_ior X dX3_mask_30 ?_
      exact m_iret X dX3_mask_31 (by decide) (by decide) (by refine ⟨?_, rfl⟩; first | (exact absurd (c_6.symm.trans c_20) (by decide)) | simp [maskI, c_6, c_20])
    · skip
      refine m_sipush X dX3_mask_23 (v := 128) (by decide) ?_
      refine m_goto X dX3_mask_26 (t := 30) (by decide) ?_
      refine m_ior X dX3_mask_30 ?_
      exact m_iret X dX3_mask_31 (by decide) (by decide) (by refine ⟨?_, rfl⟩; first | (exact absurd (c_6.symm.trans c_20) (by decide)) | simp [maskI, c_6, c_20])
set_option maxHeartbeats 4000000 in
theorem c_X3_is {G : GX} {h : Nat} {ad : Nat → Nat} {F : Nat → Int32} {A : Nat → Nat → Int32} {B : Nat → Nat → Int64} {M : Mem} {σ : AS} (hM : MRep G h ad F A B M) (hT : MT σ F A B) (hW : WF σ) (t k : Nat) (h1 : 1 ≤ t) (ht : t ≤ σ.T) (hk : k < 10) : Con G yX3_is wX3_is (rmm 1 20) [.ref h, .int (nI t), .int (nI k)] M (pR M (some (.int (bI (isK (σ.kd t) k))))) nX := by
  refine Con.mk (by decide) rfl [(0, some (.ref h)), (1, some (.int (nI t))), (2, some (.int (nI k)))] rfl fun x X hno => ?_
  have hb := hW.1
  have hd := hW.2.2.1 t h1 ht
  refine m_iload_n X dX3_is_0 rfl rfl ?_
  refine m_callS X cs_X3_107  (c_X3_mask _ _ _) rfl rfl (by decide) dX3_is_1 ⟨by decide, by decide, by decide, by decide⟩ (fun v M hp => ?_) (fun _ _ _ _ h => h.elim)
  obtain ⟨rfl, rfl⟩ := hp
  refine m_sti ?_
  refine m_aload_n X dX3_is_4 rfl rfl (by first | rfl | exact isR_rf) ?_
  refine m_getf X fg_X3_7_X3 hM.1 rfl dX3_is_5 ?_
  refine m_iload_n X dX3_is_8 rfl rfl ?_
  refine s_iald X hM rfl rfl (by exact tin (by simp only [alen]; omega) rfl) dX3_is_9 ?_
  refine m_topi X (hT.kind hW h1 ht) ?_
  refine m_ishr X dX3_is_10 ?_
  refine m_iconst X dX3_is_11 (v := 1) (by decide) ?_
  refine m_iand X dX3_is_12 ?_
  refine m_iconst X dX3_is_13 (v := 1) (by decide) ?_
  refine m_icmpne X dX3_is_14 (t := 21) (by decide) (fun c_14 => ?_) (fun c_14 => ?_)
  · skip
    have e1 : isK (σ.kd t) k = false := Bool.eq_false_iff.mpr fun z => c_14 ((is_mask k hk _ (by omega)).mpr z)
    refine m_iconst X dX3_is_21 (v := 0) (by decide) ?_
    exact m_zret X dX3_is_22 (by first | rfl | exact bI_nar) (by decide) (by decide) (by rw [e1]; exact ⟨rfl, rfl⟩)
  · skip
    have e1 : isK (σ.kd t) k = true := (is_mask k hk _ (by omega)).mp c_14
    refine m_iconst X dX3_is_17 (v := 1) (by decide) ?_
    refine m_goto X dX3_is_18 (t := 22) (by decide) ?_
    exact m_zret X dX3_is_22 (by first | rfl | exact bI_nar) (by decide) (by decide) (by rw [e1]; exact ⟨rfl, rfl⟩)
set_option maxHeartbeats 4000000 in
theorem c_X3_as {G : GX} {h : Nat} {ad : Nat → Nat} {F : Nat → Int32} {A : Nat → Nat → Int32} {B : Nat → Nat → Int64} {M : Mem} {σ : AS} (hM : MRep G h ad F A B M) (hT : MT σ F A B) (hW : WF σ) (s k : Nat) (hs : s < 12) (hk : k < 10) : Con G yX3_as wX3_as (rmm 2 42) [.ref h, .int (nI s), .int (nI k)] M (pR M (some (.int (nI (asF σ s k))))) nX := by
  refine Con.mk (by decide) rfl [(0, some (.ref h)), (1, some (.int (nI s))), (2, some (.int (nI k)))] rfl fun x X hno => ?_
  have hb := hW.1
  have hsl := hW.sl hs
  have z0 : nI (σ.sl s) = 0 ↔ σ.sl s = 0 := nI_eq (b := 0) (by omega) (by decide)
  refine m_aload_n X dX3_as_0 rfl rfl (by first | rfl | exact isR_rf) ?_
  refine m_getf X fg_X3_26_X3 hM.1 rfl dX3_as_1 ?_
  refine m_iload_n X dX3_as_4 rfl rfl ?_
  refine s_iald X hM rfl rfl (by exact tin (by simp only [alen]; omega) rfl) dX3_as_5 ?_
  refine m_topi X (hT.slot hs) ?_
  refine m_ifeq X dX3_as_6 (t := 27) (by decide) (fun c_6 => ?_) (fun c_6 => ?_)
  · skip
    try simp only [bI_0, bI_n0] at c_6
    rw [z0] at c_6
    refine m_iconst X dX3_as_27 (v := 0) (by decide) ?_
    exact m_iret X dX3_as_28 (by decide) (by decide) (by refine ⟨?_, rfl⟩; simp [asF, c_6]; first | done | rfl)
  · skip
    try simp only [bI_0, bI_n0] at c_6
    rw [z0] at c_6
    refine m_aload_n X dX3_as_9 rfl rfl (by first | rfl | exact isR_rf) ?_
    refine m_aload_n X dX3_as_10 rfl rfl (by first | rfl | exact isR_rf) ?_
    refine m_getf X fg_X3_26_X3 hM.1 rfl dX3_as_11 ?_
    refine m_iload_n X dX3_as_14 rfl rfl ?_
    refine s_iald X hM rfl rfl (by exact tin (by simp only [alen]; omega) rfl) dX3_as_15 ?_
    refine m_topi X (hT.slot hs) ?_
    refine m_iload_n X dX3_as_16 rfl rfl ?_
    refine m_callV X cs_X3_146  (c_X3_is hM hT hW (σ.sl s) k (by omega) hsl hk) hM.1 rfl rfl rfl (by decide) dX3_as_17 ⟨by decide, by decide, by decide, by decide⟩ (fun v M hp => ?_) (fun _ _ _ _ h => h.elim)
    obtain ⟨rfl, rfl⟩ := hp
    refine m_sti ?_
    refine m_ifne X dX3_as_20 (t := 27) (by decide) (fun c_20 => ?_) (fun c_20 => ?_)
    · skip
      try simp only [bI_0, bI_n0] at c_20
      refine m_iconst X dX3_as_27 (v := 0) (by decide) ?_
      exact m_iret X dX3_as_28 (by decide) (by decide) (by refine ⟨?_, rfl⟩; simp [asF, c_6, c_20]; first | done | rfl)
    · skip
      try simp only [bI_0, bI_n0] at c_20
      refine m_iconst X dX3_as_23 (v := 2) (by decide) ?_
      refine m_goto X dX3_as_24 (t := 28) (by decide) ?_
      exact m_iret X dX3_as_28 (by decide) (by decide) (by refine ⟨?_, rfl⟩; simp [asF, c_6, c_20]; first | done | rfl)
set_option maxHeartbeats 4000000 in
theorem c_X3_row {G : GX} {h : Nat} {ad : Nat → Nat} {F : Nat → Int32} {A : Nat → Nat → Int32} {B : Nat → Nat → Int64} {M : Mem} {σ : AS} (hM : MRep G h ad F A B M) (hT : MT σ F A B) (hW : WF σ) (s k : Nat) (hs : s < 12) (hk : k < 10) : Con G yX3_row wX3_row (rmm 3 64) [.ref h, .int (nI s), .int (nI k)] M (pR M (some (.int (nI (rowF σ s k))))) nX := by
  refine Con.mk (by decide) rfl [(0, some (.ref h)), (1, some (.int (nI s))), (2, some (.int (nI k)))] rfl fun x X hno => ?_
  have hb := hW.1
  have hsl := hW.sl hs
  have z0 : nI (σ.sl s) = 0 ↔ σ.sl s = 0 := nI_eq (b := 0) (by omega) (by decide)
  have z1 : nI (asF σ s k) = 0 ↔ asF σ s k = 0 := nI_eq (b := 0) (by unfold asF; split <;> decide) (by decide)
  refine m_aload_n X dX3_row_0 rfl rfl (by first | rfl | exact isR_rf) ?_
  refine m_iload_n X dX3_row_1 rfl rfl ?_
  refine m_iload_n X dX3_row_2 rfl rfl ?_
  refine m_callV X cs_X3_150  (c_X3_as hM hT hW s k hs hk) hM.1 rfl rfl rfl (by decide) dX3_row_3 ⟨by decide, by decide, by decide, by decide⟩ (fun v M hp => ?_) (fun _ _ _ _ h => h.elim)
  obtain ⟨rfl, rfl⟩ := hp
  refine m_sti ?_
  refine m_ifeq X dX3_row_6 (t := 13) (by decide) (fun c_6 => ?_) (fun c_6 => ?_)
  · skip
    try simp only [bI_0, bI_n0] at c_6
    rw [z1] at c_6
    refine m_aload_n X dX3_row_13 rfl rfl (by first | rfl | exact isR_rf) ?_
    refine m_getf X fg_X3_26_X3 hM.1 rfl dX3_row_14 ?_
    refine m_iload_n X dX3_row_17 rfl rfl ?_
    refine s_iald X hM rfl rfl (by exact tin (by simp only [alen]; omega) rfl) dX3_row_18 ?_
    refine m_topi X (hT.slot hs) ?_
    refine m_ifne X dX3_row_19 (t := 26) (by decide) (fun c_19 => ?_) (fun c_19 => ?_)
    · skip
      try simp only [bI_0, bI_n0] at c_19
      rw [z0] at c_19
      refine m_iconst X dX3_row_26 (v := 0) (by decide) ?_
      exact m_iret X dX3_row_27 (by decide) (by decide) (by refine ⟨?_, rfl⟩; simp [rowF, c_6, c_19]; first | done | rfl)
    · skip
      try simp only [bI_0, bI_n0] at c_19
      rw [z0] at c_19
      refine m_iconst X dX3_row_22 (v := 1) (by decide) ?_
      refine m_goto X dX3_row_23 (t := 27) (by decide) ?_
      exact m_iret X dX3_row_27 (by decide) (by decide) (by refine ⟨?_, rfl⟩; simp [rowF, c_6, c_19]; first | done | rfl)
  · skip
    try simp only [bI_0, bI_n0] at c_6
    rw [z1] at c_6
    refine m_iconst X dX3_row_9 (v := 2) (by decide) ?_
    refine m_goto X dX3_row_10 (t := 27) (by decide) ?_
    exact m_iret X dX3_row_27 (by decide) (by decide) (by refine ⟨?_, rfl⟩; simp [rowF, c_6]; first | done | rfl)
theorem inB_len {i : Int32} {n : Nat} (hn : n ≤ 3000) : inB i 0 (nI n - 1) = inN i n := by
  have e : (nI n - nI 1).toInt = (n : Int) - (1 : Nat) := pk_sub_toInt (by omega) (by decide)
  have e' : (nI n - 1).toInt = (n : Int) - 1 := e
  have h0 : (i < 0) ↔ i.toInt < 0 := Int32.lt_iff_toInt_lt
  have h1 : (nI n - 1 < i) ↔ (n : Int) - 1 < i.toInt := by rw [Int32.lt_iff_toInt_lt, e']
  unfold inB inN
  simp only [h0, h1]
  rw [Bool.eq_iff_iff]
  simp only [Bool.and_eq_true, Bool.not_eq_true', decide_eq_false_iff_not, decide_eq_true_eq]
  omega
theorem rowF_0 {σ : AS} {s k : Nat} (h : rowF σ s k = 0) : σ.sl s ≠ 0 ∧ isK (σ.kd (σ.sl s)) k = true := by
  unfold rowF asF at h
  by_cases h0 : σ.sl s = 0
  · simp [h0] at h
  · cases hk : isK (σ.kd (σ.sl s)) k with
    | true => exact ⟨h0, rfl⟩
    | false => simp [h0, hk] at h
theorem rowF_lt (σ : AS) (s k : Nat) : rowF σ s k < 10 := by
  unfold rowF
  split
  · decide
  · split <;> decide
theorem itemF_lt (σ : AS) (s k : Nat) (i : Int32) : itemF σ s k i < 10 := by
  unfold itemF
  split
  · exact rowF_lt _ _ _
  · split <;> decide
theorem fits_t {σ : AS} {a b : Nat} : σ.fits a b = true ↔ σ.T + a ≤ 200 ∧ σ.I + b ≤ 3000 := by
  unfold AS.fits
  rw [Bool.and_eq_true, Nat.ble_eq, Nat.ble_eq]
theorem fits_f {σ : AS} {a b : Nat} : σ.fits a b = false ↔ ¬ (σ.T + a ≤ 200 ∧ σ.I + b ≤ 3000) := by rw [← fits_t, Bool.not_eq_true]
theorem lg_gt {a b : Nat} (ha : a < 2 ^ 63) (hb : b < 2 ^ 63) : 0 < lg_cmp (lN a) (lN b) ↔ b < a := by rw [lg_cmp_gt, pk_lLT hb ha]
set_option maxHeartbeats 4000000 in
theorem c_X3_itemOf {G : GX} {h : Nat} {ad : Nat → Nat} {F : Nat → Int32} {A : Nat → Nat → Int32} {B : Nat → Nat → Int64} {M : Mem} {σ : AS} (hM : MRep G h ad F A B M) (hT : MT σ F A B) (hW : WF σ) (s k : Nat) (i : Int32) (hs : s < 12) (hk : k < 10) : Con G yX3_itemOf wX3_itemOf (rmm 4 86) [.ref h, .int (nI s), .int (nI k), .int i] M (pR M (some (.int (nI (itemF σ s k i))))) nX := by
  refine Con.mk (by decide) rfl [(0, some (.ref h)), (1, some (.int (nI s))), (2, some (.int (nI k))), (3, some (.int i))] rfl fun x X hno => ?_
  have hb := hW.1
  have hsl := hW.sl hs
  have z1 : nI (rowF σ s k) = 0 ↔ rowF σ s k = 0 := nI_eq (b := 0) (by have := rowF_lt σ s k; omega) (by decide)
  refine m_aload_n X dX3_itemOf_0 rfl rfl (by first | rfl | exact isR_rf) ?_
  refine m_iload_n X dX3_itemOf_1 rfl rfl ?_
  refine m_iload_n X dX3_itemOf_2 rfl rfl ?_
  refine m_callV X cs_X3_154  (c_X3_row hM hT hW s k hs hk) hM.1 rfl rfl rfl (by decide) dX3_itemOf_3 ⟨by decide, by decide, by decide, by decide⟩ (fun v M hp => ?_) (fun _ _ _ _ h => h.elim)
  obtain ⟨rfl, rfl⟩ := hp
  refine m_sti ?_
  refine m_istore X dX3_itemOf_6 rfl rfl ?_
  refine m_iload X dX3_itemOf_8 rfl ?_
  refine m_ifeq X dX3_itemOf_10 (t := 18) (by decide) (fun c_10 => ?_) (fun c_10 => ?_)
  · skip
    try simp only [bI_0, bI_n0] at c_10
    rw [z1] at c_10
    refine m_iload_n X dX3_itemOf_18 rfl rfl ?_
    refine m_iconst X dX3_itemOf_19 (v := 0) (by decide) ?_
    refine m_aload_n X dX3_itemOf_20 rfl rfl (by first | rfl | exact isR_rf) ?_
    refine m_getf X fg_X3_16_X3 hM.1 rfl dX3_itemOf_21 ?_
    refine m_aload_n X dX3_itemOf_24 rfl rfl (by first | rfl | exact isR_rf) ?_
    refine m_getf X fg_X3_26_X3 hM.1 rfl dX3_itemOf_25 ?_
    refine m_iload_n X dX3_itemOf_28 rfl rfl ?_
    refine s_iald X hM rfl rfl (by exact tin (by simp only [alen]; omega) rfl) dX3_itemOf_29 ?_
    refine m_topi X (hT.slot hs) ?_
    refine s_iald X hM rfl rfl (by exact tin (by simp only [alen]; omega) rfl) dX3_itemOf_30 ?_
    refine m_topi X (hT.length hW (by have := (rowF_0 c_10).1; omega) hsl) ?_
    refine m_iconst X dX3_itemOf_31 (v := 1) (by decide) ?_
    refine m_isub X dX3_itemOf_32 ?_
    refine m_callS X cs_X3_103  (c_X3_in _ _ _ _ _) rfl rfl (by decide) dX3_itemOf_33 ⟨by decide, by decide, by decide, by decide⟩ (fun v M hp => ?_) (fun _ _ _ _ h => h.elim)
    obtain ⟨rfl, rfl⟩ := hp
    refine m_sti ?_
    refine m_topi X (congrArg bI (inB_len (by have := hW.len (t := σ.sl s) (by have := (rowF_0 c_10).1; omega) hsl; have := hW.2.1; omega))) ?_
    refine m_ifeq X dX3_itemOf_36 (t := 43) (by decide) (fun c_36 => ?_) (fun c_36 => ?_)
    · skip
      try simp only [bI_0, bI_n0] at c_36
      refine m_iconst X dX3_itemOf_43 (v := 3) (by decide) ?_
      exact m_iret X dX3_itemOf_44 (by decide) (by decide) (by refine ⟨?_, rfl⟩; simp [itemF, c_10, c_36]; first | done | rfl)
    · skip
      try simp only [bI_0, bI_n0] at c_36
      refine m_iconst X dX3_itemOf_39 (v := 0) (by decide) ?_
      refine m_goto X dX3_itemOf_40 (t := 44) (by decide) ?_
      exact m_iret X dX3_itemOf_44 (by decide) (by decide) (by refine ⟨?_, rfl⟩; simp [itemF, c_10, c_36]; first | done | rfl)
  · skip
    try simp only [bI_0, bI_n0] at c_10
    rw [z1] at c_10
    refine m_iload X dX3_itemOf_13 rfl ?_
    refine m_goto X dX3_itemOf_15 (t := 44) (by decide) ?_
    exact m_iret X dX3_itemOf_44 (by decide) (by decide) (by refine ⟨?_, rfl⟩; simp [itemF, c_10]; first | done | rfl)
set_option maxHeartbeats 4000000 in
theorem c_X3_fits {G : GX} {h : Nat} {ad : Nat → Nat} {F : Nat → Int32} {A : Nat → Nat → Int32} {B : Nat → Nat → Int64} {M : Mem} {σ : AS} (hM : MRep G h ad F A B M) (hT : MT σ F A B) (hW : WF σ) (a b : Nat) (ha : a < 2 ^ 62) (hb : b < 2 ^ 62 + 2 ^ 40) : Con G yX3_fits wX3_fits (rmm 0 0) [.ref h, .long (lN a), .long (lN b)] M (pR M (some (.int (bI (σ.fits a b))))) nX := by
  refine Con.mk (by decide) rfl [(0, some (.ref h)), (1, some (.long (lN a))), (3, some (.long (lN b)))] rfl fun x X hno => ?_
  have h1 := hW.1
  have h2 := hW.2.1
  refine m_aload_n X dX3_fits_0 rfl rfl (by first | rfl | exact isR_rf) ?_
  refine m_getf X fg_X3_111_X3 hM.1 rfl dX3_fits_1 ?_
  refine m_topi X (hT.1) ?_
  refine m_i2l X dX3_fits_4 ?_
  refine m_topl X (nI_l (by omega)) ?_
  refine m_lload_n X dX3_fits_5 rfl rfl ?_
  refine m_ladd X dX3_fits_6 ?_
  refine m_topl X (lN_add _ _) ?_
  refine m_ldc2 X q1128 dX3_fits_7 ?_
  refine m_lcmp X dX3_fits_10 ?_
  refine m_ifgt X dX3_fits_11 (t := 32) (by decide) (fun c_11 => ?_) (fun c_11 => ?_)
  · skip
    try simp only [bI_0, bI_n0] at c_11
    have c_11 := (lg_gt (b := 200) (by omega) (by decide)).mp c_11
    refine m_iconst X dX3_fits_32 (v := 0) (by decide) ?_
    exact m_zret X dX3_fits_33 (by first | rfl | exact bI_nar) (by decide) (by decide) (by refine ⟨?_, rfl⟩; first | (rw [show σ.fits a b = false from fits_f.mpr (by omega)]; rfl) | (rw [show σ.fits a b = true from fits_t.mpr (by omega)]; rfl))
  · skip
    try simp only [bI_0, bI_n0] at c_11
    have c_11 : ¬ 200 < σ.T + a := fun z => c_11 ((lg_gt (b := 200) (by omega) (by decide)).mpr z)
    refine m_aload_n X dX3_fits_14 rfl rfl (by first | rfl | exact isR_rf) ?_
    refine m_getf X fg_X3_114_X3 hM.1 rfl dX3_fits_15 ?_
    refine m_topi X (hT.2.1) ?_
    refine m_i2l X dX3_fits_18 ?_
    refine m_topl X (nI_l (by omega)) ?_
    refine m_lload_n X dX3_fits_19 rfl rfl ?_
    refine m_ladd X dX3_fits_20 ?_
    refine m_topl X (lN_add _ _) ?_
    refine m_ldc2 X q1129 dX3_fits_21 ?_
    refine m_lcmp X dX3_fits_24 ?_
    refine m_ifgt X dX3_fits_25 (t := 32) (by decide) (fun c_25 => ?_) (fun c_25 => ?_)
    · skip
      try simp only [bI_0, bI_n0] at c_25
      have c_25 := (lg_gt (b := 3000) (by omega) (by decide)).mp c_25
      refine m_iconst X dX3_fits_32 (v := 0) (by decide) ?_
      exact m_zret X dX3_fits_33 (by first | rfl | exact bI_nar) (by decide) (by decide) (by refine ⟨?_, rfl⟩; first | (rw [show σ.fits a b = false from fits_f.mpr (by omega)]; rfl) | (rw [show σ.fits a b = true from fits_t.mpr (by omega)]; rfl))
    · skip
      try simp only [bI_0, bI_n0] at c_25
      have c_25 : ¬ 3000 < σ.I + b := fun z => c_25 ((lg_gt (b := 3000) (by omega) (by decide)).mpr z)
      refine m_iconst X dX3_fits_28 (v := 1) (by decide) ?_
      refine m_goto X dX3_fits_29 (t := 33) (by decide) ?_
      exact m_zret X dX3_fits_33 (by first | rfl | exact bI_nar) (by decide) (by decide) (by refine ⟨?_, rfl⟩; first | (rw [show σ.fits a b = false from fits_f.mpr (by omega)]; rfl) | (rw [show σ.fits a b = true from fits_t.mpr (by omega)]; rfl))
theorem MT_fresh {σ : AS} {F : Nat → Int32} {A : Nat → Nat → Int32} {B B' : Nat → Nat → Int64} {k n : Nat} (hT : MT σ F A B) (hW : WF σ) (hT1 : σ.T < 200) (hB1 : ∀ j, j < σ.I → B' 6 j = B 6 j) (hB2 : ∀ j, σ.I ≤ j → j < σ.I + n → B' 6 j = 0) (hB3 : ∀ j, j ≠ 6 → B' j = B j) :
    MT (σ.fresh k n) (upd (upd F 0 (nI (σ.T + 1))) 1 (nI (σ.I + n))) (aset (aset (aset (aset A 2 (nI (σ.T + 1)).toNatClampNeg (nI k)) 3 (nI (σ.T + 1)).toNatClampNeg (nI σ.I)) 4 (nI (σ.T + 1)).toNatClampNeg (nI n)) 5 (nI (σ.T + 1)).toNatClampNeg 0) B' := by
  have ec : (nI (σ.T + 1)).toNatClampNeg = σ.T + 1 := nI_clamp (by omega)
  rw [ec]
  obtain ⟨h1, h2, h3, h4, h5, h6, h7⟩ := hT
  refine ⟨?_, ?_, ?_, fun t t1 t2 => ?_, fun j hj => ?_, fun s hs => ?_, fun r hr => ?_⟩
  · simp [upd, AS.fresh]
  · simp [upd, AS.fresh]
  · simp only [upd, AS.fresh]; exact h3
  · show _ = nI (updN σ.kd (σ.T + 1) k t) ∧ _ = nI (updN σ.bg (σ.T + 1) σ.I t) ∧ _ = nI (updN σ.ln (σ.T + 1) n t) ∧ _ = upd σ.nm (σ.T + 1) 0 t
    by_cases e : t = σ.T + 1
    · subst e
      simp [aset, updN, upd]
    · have t2' : t ≤ σ.T + 1 := t2
      have := h4 t t1 (by omega)
      simpa [aset, updN, upd, e] using this
  · have hj' : j < σ.I + n := hj
    show B' 6 j = if σ.I ≤ j ∧ j < σ.I + n then 0 else σ.it j
    by_cases e : σ.I ≤ j
    · rw [if_pos ⟨e, hj'⟩]; exact hB2 j e hj'
    · rw [if_neg (fun z => e z.1), hB1 j (by omega)]; exact h5 j (by omega)
  · rw [aset_n (by decide), aset_n (by decide), aset_n (by decide), aset_n (by decide)]; exact h6 s hs
  · rw [hB3 8 (by decide)]; exact h7 r hr
set_option maxHeartbeats 4000000 in
theorem c_X3_fresh {G : GX} {h : Nat} {ad : Nat → Nat} {F : Nat → Int32} {A : Nat → Nat → Int32} {B : Nat → Nat → Int64} {M : Mem} {σ : AS} (hM : MRep G h ad F A B M) (hT : MT σ F A B) (hW : WF σ) (k n : Nat) (hk : k < 10) (hT1 : σ.T < 200) (hI : σ.I + n ≤ 3000) : Con G yX3_fresh wX3_fresh (rmm 0 0) [.ref h, .int (nI k), .int (nI n)] M (pT G h ad F A (some (.int (nI (σ.T + 1)))) (σ.fresh k n)) nX := by
  have hb1 := hW.1
  have hb2 := hW.2.1
  refine Con.mk (by decide) rfl [(0, some (.ref h)), (1, some (.int (nI k))), (2, some (.int (nI n)))] rfl fun x X hno => ?_
  have loop : ∀ (d i : Nat) (B' : Nat → Nat → Int64) (M' : Mem), i + d = n → (∀ j, j < σ.I → B' 6 j = B 6 j) → (∀ j, σ.I ≤ j → j < σ.I + i → B' 6 j = 0) → (∀ j, j ≠ 6 → B' j = B j) → MRep G h ad (upd F 0 (nI (σ.T + 1))) (aset (aset (aset (aset A 2 (nI (σ.T + 1)).toNatClampNeg (nI k)) 3 (nI (σ.T + 1)).toNatClampNeg (nI σ.I)) 4 (nI (σ.T + 1)).toNatClampNeg (nI n)) 5 (nI (σ.T + 1)).toNatClampNeg 0) B' M' → WM G x 4 (QM G x (pT G h ad F A (some (.int (nI (σ.T + 1)))) (σ.fresh k n)) nX (rmm 0 0)) 0 0 M' 55 [(3, some (.int (nI i))), (0, some (.ref h)), (1, some (.int (nI k))), (2, some (.int (nI n)))] [] := by
    intro d
    induction d with
    | zero =>
      intro i B' M hi hp1 hp2 hp3 hM
      refine m_iload_n X dX3_fresh_55 rfl rfl ?_
      refine m_iload_n X dX3_fresh_56 rfl rfl ?_
      refine m_icmpge X dX3_fresh_57 (t := 78) (by decide) (fun c_57 => ?_) (fun c_57 => ?_)
      · skip
        refine m_aload_n X dX3_fresh_78 rfl rfl (by first | rfl | exact isR_rf) ?_
        refine m_dup X dX3_fresh_79 rfl ?_
        refine m_getf X fg_X3_114_X3 hM.1 rfl dX3_fresh_80 ?_
        refine m_topi X ((pk_un (by decide)).trans hT.2.1) ?_
        refine m_iload_n X dX3_fresh_83 rfl rfl ?_
        refine m_iadd X dX3_fresh_84 ?_
        refine m_topi X (nI_add _ _) ?_
        refine s_put X hM fp_X3_114_X3 rfl rfl rfl rfl dX3_fresh_85 (fun M hM => ?_)
        refine m_aload_n X dX3_fresh_88 rfl rfl (by first | rfl | exact isR_rf) ?_
        refine m_getf X fg_X3_111_X3 hM.1 rfl dX3_fresh_89 ?_
        refine m_topi X ((pk_un (by decide)).trans pk_us) ?_
        exact m_iret X dX3_fresh_92 (by decide) (by decide) (by exact ⟨rfl, _, _, _, hM, MT_fresh hT hW hT1 hp1 (fun j j1 j2 => hp2 j j1 (by omega)) hp3, fun k h0 h1 _ => by simp [upd, h0, h1], fun k hk => by rw [aset_n (by omega), aset_n (by omega), aset_n (by omega), aset_n (by omega)]⟩)
      · skip
        exact absurd (nI_le (show n ≤ i by omega) (by omega)) c_57
    | succ d ih =>
      intro i B' M hi hp1 hp2 hp3 hM
      refine m_iload_n X dX3_fresh_55 rfl rfl ?_
      refine m_iload_n X dX3_fresh_56 rfl rfl ?_
      refine m_icmpge X dX3_fresh_57 (t := 78) (by decide) (fun c_57 => ?_) (fun c_57 => ?_)
      · skip
        exact absurd c_57 (nI_ge (show i < n by omega) (by omega))
      · skip
        refine m_aload_n X dX3_fresh_60 rfl rfl (by first | rfl | exact isR_rf) ?_
        refine m_getf X fg_X3_22_X3 hM.1 rfl dX3_fresh_61 ?_
        refine m_aload_n X dX3_fresh_64 rfl rfl (by first | rfl | exact isR_rf) ?_
        refine m_getf X fg_X3_114_X3 hM.1 rfl dX3_fresh_65 ?_
        refine m_topi X ((pk_un (by decide)).trans hT.2.1) ?_
        refine m_iload_n X dX3_fresh_68 rfl rfl ?_
        refine m_iadd X dX3_fresh_69 ?_
        refine m_topi X (nI_add _ _) ?_
        refine m_lconst X dX3_fresh_70 (v := 0) (by decide) ?_
        refine s_last X hM rfl rfl (by exact tin (by simp only [alen]; omega) rfl) dX3_fresh_71 (fun M hM => ?_)
        refine m_iinc X dX3_fresh_72 rfl (w := 1) (by decide) rfl ?_
        refine m_goto X dX3_fresh_75 (t := 55) (by decide) ?_
        refine m_loc [(3, some (.int (nI (i + 1)))), (0, some (.ref h)), (1, some (.int (nI k))), (2, some (.int (nI n)))] ⟨by rw [nI_succ]; rfl, rfl, rfl, rfl, trivial⟩ (ih (i + 1) _ _ (by omega) (fun j hj => ?_) (fun j h1 h2 => ?_) (fun j hj => ?_) hM)
        · rw [nI_clamp (by omega), bset_k]; simp only [vp_updL]; rw [if_neg (by omega)]; exact hp1 j hj
        · rw [nI_clamp (by omega), bset_k]; simp only [vp_updL]; split
          · rfl
          · exact hp2 j h1 (by omega)
        · rw [bset_n hj]; exact hp3 j hj
  refine m_aload_n X dX3_fresh_0 rfl rfl (by first | rfl | exact isR_rf) ?_
  refine m_dup X dX3_fresh_1 rfl ?_
  refine m_getf X fg_X3_111_X3 hM.1 rfl dX3_fresh_2 ?_
  refine m_iconst X dX3_fresh_5 (v := 1) (by decide) ?_
  refine m_iadd X dX3_fresh_6 ?_
  refine m_topi X ((congrArg (· + 1) hT.1).trans (nI_1 _)) ?_
  refine s_put X hM fp_X3_111_X3 rfl rfl rfl rfl dX3_fresh_7 (fun M hM => ?_)
  refine m_aload_n X dX3_fresh_10 rfl rfl (by first | rfl | exact isR_rf) ?_
  refine m_getf X fg_X3_7_X3 hM.1 rfl dX3_fresh_11 ?_
  refine m_aload_n X dX3_fresh_14 rfl rfl (by first | rfl | exact isR_rf) ?_
  refine m_getf X fg_X3_111_X3 hM.1 rfl dX3_fresh_15 ?_
  refine m_topi X (pk_us) ?_
  refine m_iload_n X dX3_fresh_18 rfl rfl ?_
  refine s_iast X hM rfl rfl (by exact tin (by simp only [alen]; omega) rfl) dX3_fresh_19 (fun M hM => ?_)
  refine m_aload_n X dX3_fresh_20 rfl rfl (by first | rfl | exact isR_rf) ?_
  refine m_getf X fg_X3_13_X3 hM.1 rfl dX3_fresh_21 ?_
  refine m_aload_n X dX3_fresh_24 rfl rfl (by first | rfl | exact isR_rf) ?_
  refine m_getf X fg_X3_111_X3 hM.1 rfl dX3_fresh_25 ?_
  refine m_topi X (pk_us) ?_
  refine m_aload_n X dX3_fresh_28 rfl rfl (by first | rfl | exact isR_rf) ?_
  refine m_getf X fg_X3_114_X3 hM.1 rfl dX3_fresh_29 ?_
  refine m_topi X ((pk_un (by decide)).trans hT.2.1) ?_
  refine s_iast X hM rfl rfl (by exact tin (by simp only [alen]; omega) rfl) dX3_fresh_32 (fun M hM => ?_)
  refine m_aload_n X dX3_fresh_33 rfl rfl (by first | rfl | exact isR_rf) ?_
  refine m_getf X fg_X3_16_X3 hM.1 rfl dX3_fresh_34 ?_
  refine m_aload_n X dX3_fresh_37 rfl rfl (by first | rfl | exact isR_rf) ?_
  refine m_getf X fg_X3_111_X3 hM.1 rfl dX3_fresh_38 ?_
  refine m_topi X (pk_us) ?_
  refine m_iload_n X dX3_fresh_41 rfl rfl ?_
  refine s_iast X hM rfl rfl (by exact tin (by simp only [alen]; omega) rfl) dX3_fresh_42 (fun M hM => ?_)
  refine m_aload_n X dX3_fresh_43 rfl rfl (by first | rfl | exact isR_rf) ?_
  refine m_getf X fg_X3_19_X3 hM.1 rfl dX3_fresh_44 ?_
  refine m_aload_n X dX3_fresh_47 rfl rfl (by first | rfl | exact isR_rf) ?_
  refine m_getf X fg_X3_111_X3 hM.1 rfl dX3_fresh_48 ?_
  refine m_topi X (pk_us) ?_
  refine m_iconst X dX3_fresh_51 (v := 0) (by decide) ?_
  refine s_iast X hM rfl rfl (by exact tin (by simp only [alen]; omega) rfl) dX3_fresh_52 (fun M hM => ?_)
  refine m_iconst X dX3_fresh_53 (v := 0) (by decide) ?_
  refine m_istore_n X dX3_fresh_54 rfl rfl rfl ?_
  exact loop n 0 B M (by omega) (fun _ _ => rfl) (fun j h1 h2 => by omega) (fun _ _ => rfl) hM
