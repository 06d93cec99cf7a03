/-! THE MODEL'S FURTHER ACTS (printed by wip/D-80403w/tools/m33.py) -/
set_option maxRecDepth 100000
section WFS
variable {σ : AS}
theorem WF.fresh (hW : WF σ) {k n : Nat} (hT1 : σ.T < 200) (hI : σ.I + n ≤ 3000) (hk : 1 ≤ k ∧ k ≤ 9) (h8 : 8 ≤ k → n = 0) : WF (σ.fresh k n) := by
  obtain ⟨h1, h2, h3, h4, h5⟩ := hW
  refine ⟨hT1, hI, fun t t1 t2 => ?_, fun s hs => Nat.le_succ_of_le (h4 s hs), fun t t1 t2 t3 i hi => ?_⟩
  · rw [fresh_T] at t2
    rw [fresh_kd, fresh_bg, fresh_ln, fresh_I, fresh_T]
    simp only [updN]
    by_cases e : t = σ.T + 1
    · simp only [if_pos e]
      exact ⟨hk.1, hk.2, Nat.le_refl _, h8, fun u u1 u2 => by omega⟩
    · simp only [if_neg e]
      obtain ⟨a1, a2, a3, a4, a5⟩ := h3 t t1 (by omega)
      refine ⟨a1, a2, by omega, a4, fun u u1 u2 => ?_⟩
      by_cases e2 : u = σ.T + 1
      · rw [if_pos e2]; exact a3
      · rw [if_neg e2]; exact a5 u u1 (by omega)
  · rw [fresh_T] at t2
    rw [fresh_kd] at t3
    rw [fresh_ln] at hi
    rw [fresh_kd, fresh_bg, fresh_it]
    simp only [updN] at t3 hi ⊢
    by_cases e : t = σ.T + 1
    · simp only [if_pos e] at hi ⊢
      exact ⟨0, Nat.zero_le _, by rw [if_pos ⟨by omega, by omega⟩]; rfl, fun z => absurd rfl z⟩
    · simp only [if_neg e] at t3 hi ⊢
      obtain ⟨u, u1, u2, u3⟩ := h5 t t1 (by omega) t3 i hi
      have := (h3 t t1 (by omega)).2.2.1
      refine ⟨u, by rw [fresh_T]; omega, by rw [if_neg (by omega)]; exact u2, fun z => ?_⟩
      rw [if_neg (by omega)]
      exact u3 z
theorem WF.setSl (hW : WF σ) {s t : Nat} (ht : t ≤ σ.T) : WF (σ.setSl s t) := by
  obtain ⟨h1, h2, h3, h4, h5⟩ := hW
  refine ⟨h1, h2, h3, fun r hr => ?_, h5⟩
  rw [setSl_sl]
  simp only [updN]
  split
  · exact ht
  · exact h4 r hr
theorem WF.setRg (hW : WF σ) {r : Nat} {v : Int64} : WF (σ.setRg r v) := hW
theorem WF.setNm (hW : WF σ) {r : Nat} {v : Int32} : WF (σ.setNm r v) := hW
theorem WF.setCm (hW : WF σ) {v : Int32} : WF (σ.setCm v) := hW
/-- the items' places tell the thing and the place in it -/
theorem WF.inj (hW : WF σ) {t i t' i' : Nat} (t1 : 1 ≤ t) (t2 : t ≤ σ.T) (hi : i < σ.ln t) (s1 : 1 ≤ t') (s2 : t' ≤ σ.T) (hi' : i' < σ.ln t') (h : σ.bg t + i = σ.bg t' + i') : t = t' ∧ i = i' := by
  have : t = t' := by
    rcases Nat.lt_trichotomy t t' with e | e | e
    · have := (hW.2.2.1 t t1 t2).2.2.2.2 t' e s2; omega
    · exact e
    · have := (hW.2.2.1 t' s1 s2).2.2.2.2 t e t2; omega
  subst this
  exact ⟨rfl, by omega⟩
theorem WF.setIt (hW : WF σ) {t i : Nat} {v : Int64} (t1 : 1 ≤ t) (t2 : t ≤ σ.T) (hi : i < σ.ln t) (hv : 5 ≤ σ.kd t → ∃ u : Nat, u ≤ σ.T ∧ v = lN u ∧ (u ≠ 0 → isK (σ.kd u) (elk (σ.kd t)) = true)) : WF (σ.setIt (σ.bg t + i) v) := by
  refine ⟨hW.1, hW.2.1, hW.2.2.1, hW.2.2.2.1, fun t' s1 s2 s3 i' hi' => ?_⟩
  show ∃ u : Nat, u ≤ σ.T ∧ (if σ.bg t' + i' = σ.bg t + i then v else σ.it (σ.bg t' + i')) = lN u ∧ (u ≠ 0 → isK (σ.kd u) (elk (σ.kd t')) = true)
  by_cases e : σ.bg t' + i' = σ.bg t + i
  · obtain ⟨rfl, rfl⟩ := hW.inj s1 s2 hi' t1 t2 hi e
    rw [if_pos rfl]
    exact hv s3
  · rw [if_neg e]
    exact hW.2.2.2.2 t' s1 s2 s3 i' hi'
end WFS
theorem rowsS_T (σ : AS) (b e i : Nat) : (rowsS σ b e i).T = σ.T + i := by
  induction i with
  | zero => rfl
  | succ i ih =>
    show ((rowsS σ b e i).fresh 1 e).T = _
    rw [fresh_T, ih]
    omega
theorem rowsS_I (σ : AS) (b e i : Nat) : (rowsS σ b e i).I = σ.I + i * e := by
  induction i with
  | zero => simp [rowsS]
  | succ i ih =>
    show ((rowsS σ b e i).fresh 1 e).I = _
    rw [fresh_I, ih, Nat.succ_mul]
    omega
theorem rowsS_old (σ : AS) (b e i t : Nat) (ht : t ≤ σ.T) : (rowsS σ b e i).kd t = σ.kd t ∧ (rowsS σ b e i).bg t = σ.bg t ∧ (rowsS σ b e i).ln t = σ.ln t := by
  induction i with
  | zero => exact ⟨rfl, rfl, rfl⟩
  | succ i ih =>
    show ((rowsS σ b e i).fresh 1 e).kd t = _ ∧ ((rowsS σ b e i).fresh 1 e).bg t = _ ∧ ((rowsS σ b e i).fresh 1 e).ln t = _
    rw [fresh_kd, fresh_bg, fresh_ln, rowsS_T, updN_n (by omega), updN_n (by omega), updN_n (by omega)]
    exact ih
theorem rowsS_WF {σ : AS} {n e : Nat} (hW : WF σ) (hT : σ.T + (1 + n) ≤ 200) (hI : σ.I + (n + n * e) ≤ 3000) : ∀ i, i ≤ n → WF (rowsS (σ.fresh 5 n) σ.I e i) := by
  have hW0 : WF (σ.fresh 5 n) := hW.fresh (by omega) (by omega) (by decide) (fun z => by omega)
  intro i
  induction i with
  | zero => intro _; exact hW0
  | succ i ih =>
    intro hi
    have hWi := ih (by omega)
    have hle : (i + 1) * e ≤ n * e := Nat.mul_le_mul_right e hi
    have hsm : (i + 1) * e = i * e + e := Nat.succ_mul i e
    have eT : (rowsS (σ.fresh 5 n) σ.I e i).T = σ.T + 1 + i := rowsS_T _ _ _ _
    have eI : (rowsS (σ.fresh 5 n) σ.I e i).I = σ.I + n + i * e := rowsS_I _ _ _ _
    have hWf := hWi.fresh (k := 1) (n := e) (by omega) (by omega) (by decide) (fun z => by omega)
    obtain ⟨o1, o2, o3⟩ := rowsS_old (σ.fresh 5 n) σ.I e i (σ.T + 1) (Nat.le_refl _)
    rw [fresh_kd, updN_s] at o1
    rw [fresh_bg, updN_s] at o2
    rw [fresh_ln, updN_s] at o3
    have b1 : ((rowsS (σ.fresh 5 n) σ.I e i).fresh 1 e).bg (σ.T + 1) = σ.I := by rw [fresh_bg, updN_n (by omega)]; exact o2
    have l1 : ((rowsS (σ.fresh 5 n) σ.I e i).fresh 1 e).ln (σ.T + 1) = n := by rw [fresh_ln, updN_n (by omega)]; exact o3
    have k1 : ((rowsS (σ.fresh 5 n) σ.I e i).fresh 1 e).kd (σ.T + 1) = 5 := by rw [fresh_kd, updN_n (by omega)]; exact o1
    have := hWf.setIt (t := σ.T + 1) (i := i) (v := lN ((rowsS (σ.fresh 5 n) σ.I e i).T + 1)) (by omega) (by rw [fresh_T]; omega) (by rw [l1]; omega) (fun _ => ⟨(rowsS (σ.fresh 5 n) σ.I e i).T + 1, by rw [fresh_T]; exact Nat.le_refl _, rfl, fun _ => by rw [k1, fresh_kd, updN_s]; rfl⟩)
    rw [b1] at this
    exact this
theorem inB_k {a b c : Nat} (ha : a < 2 ^ 31) (hb : b < 2 ^ 31) (hc : c < 2 ^ 31) : inB (nI a) (nI b) (nI c) = true ↔ b ≤ a ∧ a ≤ c := by
  unfold inB
  simp only [Bool.and_eq_true, Bool.not_eq_true', decide_eq_false_iff_not, nI_ltI ha hb, nI_ltI hc ha]
  omega
theorem meetK_iff {j k : Nat} : meetK j k = true ↔ (j = k ∧ j < 8) ∨ ((5 ≤ j ∧ j ≤ 7) ∧ 5 ≤ k ∧ k ≤ 7) := by
  unfold meetK
  simp only [Bool.or_eq_true, Bool.and_eq_true, beq_iff_eq, Nat.blt_eq, Nat.ble_eq]
  omega
set_option maxHeartbeats 4000000 in
theorem c_X3_meet (G : GX) (M : Mem) (j k : Nat) (hj : j < 10) (hk : k < 10) : Con G yX3_meet wX3_meet (rmm 1 22) [.int (nI j), .int (nI k)] M (pR M (some (.int (bI (meetK j k))))) nX := by
  refine Con.mk (by decide) rfl [(0, some (.int (nI j))), (1, some (.int (nI k)))] rfl fun x X hno => ?_
  have e1 : inB (nI j) 5 7 = true ↔ 5 ≤ j ∧ j ≤ 7 := inB_k (b := 5) (c := 7) (by omega) (by decide) (by decide)
  have e2 : inB (nI k) 5 7 = true ↔ 5 ≤ k ∧ k ≤ 7 := inB_k (b := 5) (c := 7) (by omega) (by decide) (by decide)
  have q1 : nI j = nI k ↔ j = k := nI_eq (by omega) (by omega)
  have q2 : nI j < 8 ↔ j < 8 := nI_ltI (b := 8) (by omega) (by decide)
  refine m_iload_n X dX3_meet_0 rfl rfl ?_
  refine m_iload_n X dX3_meet_1 rfl rfl ?_
  refine m_icmpne X dX3_meet_2 (t := 11) (by decide) (fun c_2 => ?_) (fun c_2 => ?_)
  · skip
    rw [q1] at c_2
    refine m_iload_n X dX3_meet_11 rfl rfl ?_
    refine m_iconst X dX3_meet_12 (v := 5) (by decide) ?_
    refine m_bipush X dX3_meet_13 (v := 7) (by decide) ?_
    refine m_callS X cs_X3_103  (c_X3_in _ _ _ _ _) rfl rfl (Nat.le_of_ble_eq_true rfl) dX3_meet_15 ⟨by decide, by decide, by decide, by decide⟩ (fun v M hp => ?_) (fun _ _ _ _ h => h.elim)
    obtain ⟨rfl, rfl⟩ := hp
    refine m_sti ?_
    refine m_ifeq X dX3_meet_18 (t := 35) (by decide) (fun c_18 => ?_) (fun c_18 => ?_)
    · skip
      try simp only [bI_0, Bool.not_eq_false] at c_18
      rw [← Bool.not_eq_true, e1] at c_18
      refine m_iconst X dX3_meet_35 (v := 0) (by decide) ?_
      exact m_zret X dX3_meet_36 (by first | rfl | exact bI_nar) (by decide) (by decide) (by refine ⟨?_, rfl⟩; first | (rw [show meetK j k = false by (rw [← Bool.not_eq_true, meetK_iff]; omega)]; rfl) | (rw [show meetK j k = true by (rw [meetK_iff]; omega)]; rfl))
    · skip
      try simp only [bI_0, Bool.not_eq_false] at c_18
      rw [e1] at c_18
      refine m_iload_n X dX3_meet_21 rfl rfl ?_
      refine m_iconst X dX3_meet_22 (v := 5) (by decide) ?_
      refine m_bipush X dX3_meet_23 (v := 7) (by decide) ?_
      refine m_callS X cs_X3_103  (c_X3_in _ _ _ _ _) rfl rfl (Nat.le_of_ble_eq_true rfl) dX3_meet_25 ⟨by decide, by decide, by decide, by decide⟩ (fun v M hp => ?_) (fun _ _ _ _ h => h.elim)
      obtain ⟨rfl, rfl⟩ := hp
      refine m_sti ?_
      refine m_ifeq X dX3_meet_28 (t := 35) (by decide) (fun c_28 => ?_) (fun c_28 => ?_)
      · skip
        try simp only [bI_0, Bool.not_eq_false] at c_28
        rw [← Bool.not_eq_true, e2] at c_28
        refine m_iconst X dX3_meet_35 (v := 0) (by decide) ?_
        exact m_zret X dX3_meet_36 (by first | rfl | exact bI_nar) (by decide) (by decide) (by refine ⟨?_, rfl⟩; first | (rw [show meetK j k = false by (rw [← Bool.not_eq_true, meetK_iff]; omega)]; rfl) | (rw [show meetK j k = true by (rw [meetK_iff]; omega)]; rfl))
      · skip
        try simp only [bI_0, Bool.not_eq_false] at c_28
        rw [e2] at c_28
        refine m_iconst X dX3_meet_31 (v := 1) (by decide) ?_
        refine m_goto X dX3_meet_32 (t := 36) (by decide) ?_
        exact m_zret X dX3_meet_36 (by first | rfl | exact bI_nar) (by decide) (by decide) (by refine ⟨?_, rfl⟩; first | (rw [show meetK j k = false by (rw [← Bool.not_eq_true, meetK_iff]; omega)]; rfl) | (rw [show meetK j k = true by (rw [meetK_iff]; omega)]; rfl))
  · skip
    rw [q1] at c_2
    refine m_iload_n X dX3_meet_5 rfl rfl ?_
    refine m_bipush X dX3_meet_6 (v := 8) (by decide) ?_
    refine m_icmplt X dX3_meet_8 (t := 31) (by decide) (fun c_8 => ?_) (fun c_8 => ?_)
    · skip
      rw [q2] at c_8
      refine m_iconst X dX3_meet_31 (v := 1) (by decide) ?_
      refine m_goto X dX3_meet_32 (t := 36) (by decide) ?_
      exact m_zret X dX3_meet_36 (by first | rfl | exact bI_nar) (by decide) (by decide) (by refine ⟨?_, rfl⟩; first | (rw [show meetK j k = false by (rw [← Bool.not_eq_true, meetK_iff]; omega)]; rfl) | (rw [show meetK j k = true by (rw [meetK_iff]; omega)]; rfl))
    · skip
      rw [q2] at c_8
      refine m_iload_n X dX3_meet_11 rfl rfl ?_
      refine m_iconst X dX3_meet_12 (v := 5) (by decide) ?_
      refine m_bipush X dX3_meet_13 (v := 7) (by decide) ?_
      refine m_callS X cs_X3_103  (c_X3_in _ _ _ _ _) rfl rfl (Nat.le_of_ble_eq_true rfl) dX3_meet_15 ⟨by decide, by decide, by decide, by decide⟩ (fun v M hp => ?_) (fun _ _ _ _ h => h.elim)
      obtain ⟨rfl, rfl⟩ := hp
      refine m_sti ?_
      refine m_ifeq X dX3_meet_18 (t := 35) (by decide) (fun c_18 => ?_) (fun c_18 => ?_)
      · skip
        try simp only [bI_0, Bool.not_eq_false] at c_18
        rw [← Bool.not_eq_true, e1] at c_18
        refine m_iconst X dX3_meet_35 (v := 0) (by decide) ?_
        exact m_zret X dX3_meet_36 (by first | rfl | exact bI_nar) (by decide) (by decide) (by refine ⟨?_, rfl⟩; first | (rw [show meetK j k = false by (rw [← Bool.not_eq_true, meetK_iff]; omega)]; rfl) | (rw [show meetK j k = true by (rw [meetK_iff]; omega)]; rfl))
      · skip
        try simp only [bI_0, Bool.not_eq_false] at c_18
        rw [e1] at c_18
        refine m_iload_n X dX3_meet_21 rfl rfl ?_
        refine m_iconst X dX3_meet_22 (v := 5) (by decide) ?_
        refine m_bipush X dX3_meet_23 (v := 7) (by decide) ?_
        refine m_callS X cs_X3_103  (c_X3_in _ _ _ _ _) rfl rfl (Nat.le_of_ble_eq_true rfl) dX3_meet_25 ⟨by decide, by decide, by decide, by decide⟩ (fun v M hp => ?_) (fun _ _ _ _ h => h.elim)
        obtain ⟨rfl, rfl⟩ := hp
        refine m_sti ?_
        refine m_ifeq X dX3_meet_28 (t := 35) (by decide) (fun c_28 => ?_) (fun c_28 => ?_)
        · skip
          try simp only [bI_0, Bool.not_eq_false] at c_28
          rw [← Bool.not_eq_true, e2] at c_28
          refine m_iconst X dX3_meet_35 (v := 0) (by decide) ?_
          exact m_zret X dX3_meet_36 (by first | rfl | exact bI_nar) (by decide) (by decide) (by refine ⟨?_, rfl⟩; first | (rw [show meetK j k = false by (rw [← Bool.not_eq_true, meetK_iff]; omega)]; rfl) | (rw [show meetK j k = true by (rw [meetK_iff]; omega)]; rfl))
        · skip
          try simp only [bI_0, Bool.not_eq_false] at c_28
          rw [e2] at c_28
          refine m_iconst X dX3_meet_31 (v := 1) (by decide) ?_
          refine m_goto X dX3_meet_32 (t := 36) (by decide) ?_
          exact m_zret X dX3_meet_36 (by first | rfl | exact bI_nar) (by decide) (by decide) (by refine ⟨?_, rfl⟩; first | (rw [show meetK j k = false by (rw [← Bool.not_eq_true, meetK_iff]; omega)]; rfl) | (rw [show meetK j k = true by (rw [meetK_iff]; omega)]; rfl))
theorem MT_copy {σ : AS} {F : Nat → Int32} {A : Nat → Nat → Int32} {B B' : Nat → Nat → Int64} {f t n : Nat} (hT : MT σ F A B) (h6 : ∀ j, j < σ.I → B' 6 j = va_cpy σ.it σ.it f t n j) (h : ∀ j, j ≠ 6 → B' j = B j) : MT (σ.copyIt f t n) F A B' := by
  obtain ⟨h1, h2, h3, h4, h5, h6', h7⟩ := hT
  exact ⟨h1, h2, h3, h4, fun j hj => h6 j hj, h6', fun r hr => by rw [h 8 (by decide)]; exact h7 r hr⟩
set_option maxHeartbeats 4000000 in
theorem c_X3_cloned {G : GX} {h : Nat} {ad : Nat → Nat} {F0 : Nat → Int32} {A0 : Nat → Nat → Int32} {B0 : Nat → Nat → Int64} {M : Mem} {σ : AS} (hM : MRep G h ad F0 A0 B0 M) (hT : MT σ F0 A0 B0) (hW : WF σ) (a b : Nat) (ha : a < 12) (hs : b < 12) : Con G yX3_cloned wX3_cloned (rmm 4 86) [.ref h, .int (nI a), .int (nI b)] M (pT G h ad F0 A0 (some (.int (nI (cloneA σ a b).1))) (cloneA σ a b).2) nX := by
  refine Con.mk (by decide) rfl [(0, some (.ref h)), (1, some (.int (nI a))), (2, some (.int (nI b)))] rfl fun x X hno => ?_
  have hb1 := hW.1
  have hb2 := hW.2.1
  refine m_aload_n X dX3_cloned_0 rfl rfl (by first | rfl | exact isR_rf) ?_
  refine m_iload_n X dX3_cloned_1 rfl rfl ?_
  refine m_iconst X dX3_cloned_2 (v := 1) (by decide) ?_
  refine m_callV X cs_X3_154  (c_X3_row hM hT hW b 1 hs (by decide)) hM.1 rfl rfl rfl (Nat.le_of_ble_eq_true rfl) dX3_cloned_3 ⟨by decide, by decide, by decide, by decide⟩ (fun v M hp => ?_) (fun _ _ _ _ h => h.elim)
  obtain ⟨rfl, rfl⟩ := hp
  refine m_sti ?_
  refine m_istore_n X dX3_cloned_6 rfl rfl rfl ?_
  refine m_iload_n X dX3_cloned_7 rfl rfl ?_
  refine m_ifeq X dX3_cloned_8 (t := 13) (by decide) (fun c_8 => ?_) (fun c_8 => ?_)
  · skip
    try simp only [bI_0, Bool.not_eq_false] at c_8
    rw [z_nI (by have := rowF_lt σ b 1; omega)] at c_8
    have hp0 := hW.pos hs (rowF_0 c_8).1
    have hk0 := (rowF_0 c_8).2
    refine m_aload_n X dX3_cloned_13 rfl rfl (by first | rfl | exact isR_rf) ?_
    refine m_getf X fg_X3_16_X3 hM.1 rfl dX3_cloned_14 ?_
    refine m_aload_n X dX3_cloned_17 rfl rfl (by first | rfl | exact isR_rf) ?_
    refine m_getf X fg_X3_26_X3 hM.1 rfl dX3_cloned_18 ?_
    refine m_iload_n X dX3_cloned_21 rfl rfl ?_
    refine s_iald X hM rfl rfl (by exact tin (by simp only [alen]; omega) rfl) dX3_cloned_22 ?_
    refine m_topi X (hT.slot hs) ?_
    refine s_iald X hM rfl rfl (by exact tin (by simp only [alen]; omega) rfl) dX3_cloned_23 ?_
    refine m_topi X (hT.length hW hp0.1 hp0.2.1) ?_
    refine m_istore X dX3_cloned_24 rfl rfl ?_
    refine m_aload_n X dX3_cloned_26 rfl rfl (by first | rfl | exact isR_rf) ?_
    refine m_lconst X dX3_cloned_27 (v := 1) (by decide) ?_
    refine m_iload X dX3_cloned_28 rfl ?_
    refine m_i2l X dX3_cloned_30 ?_
    refine m_topl X (nI_l (by omega)) ?_
    refine m_callV X cs_X3_157  (c_X3_fits hM hT hW 1 (σ.ln (σ.sl b)) (by decide) (by omega)) hM.1 rfl rfl rfl (Nat.le_of_ble_eq_true rfl) dX3_cloned_31 ⟨by decide, by decide, by decide, by decide⟩ (fun v M hp => ?_) (fun _ _ _ _ h => h.elim)
    obtain ⟨rfl, rfl⟩ := hp
    refine m_sti ?_
    refine m_ifne X dX3_cloned_34 (t := 40) (by decide) (fun c_34 => ?_) (fun c_34 => ?_)
    · skip
      try simp only [bI_0, Bool.not_eq_false] at c_34
      have c_34 := fits_t.mp c_34
      refine m_aload_n X dX3_cloned_40 rfl rfl (by first | rfl | exact isR_rf) ?_
      refine m_getf X fg_X3_13_X3 hM.1 rfl dX3_cloned_41 ?_
      refine m_aload_n X dX3_cloned_44 rfl rfl (by first | rfl | exact isR_rf) ?_
      refine m_getf X fg_X3_26_X3 hM.1 rfl dX3_cloned_45 ?_
      refine m_iload_n X dX3_cloned_48 rfl rfl ?_
      refine s_iald X hM rfl rfl (by exact tin (by simp only [alen]; omega) rfl) dX3_cloned_49 ?_
      refine m_topi X (hT.slot hs) ?_
      refine s_iald X hM rfl rfl (by exact tin (by simp only [alen]; omega) rfl) dX3_cloned_50 ?_
      refine m_topi X (hT.begin hW hp0.1 hp0.2.1) ?_
      refine m_istore X dX3_cloned_51 rfl rfl ?_
      refine m_aload_n X dX3_cloned_53 rfl rfl (by first | rfl | exact isR_rf) ?_
      refine m_getf X fg_X3_26_X3 hM.1 rfl dX3_cloned_54 ?_
      refine m_iload_n X dX3_cloned_57 rfl rfl ?_
      refine m_aload_n X dX3_cloned_58 rfl rfl (by first | rfl | exact isR_rf) ?_
      refine m_iconst X dX3_cloned_59 (v := 1) (by decide) ?_
      refine m_iload X dX3_cloned_60 rfl ?_
      refine m_callV X cs_X3_161  (c_X3_fresh hM hT hW 1 (σ.ln (σ.sl b)) (by decide) (by omega) (by omega)) hM.1 rfl rfl rfl (Nat.le_of_ble_eq_true rfl) dX3_cloned_62 ⟨by decide, by decide, by decide, by decide⟩ (fun v M hp => ?_) (fun _ _ _ _ h => h.elim)
      obtain ⟨rfl, F, A, B, hM, hT, hFr⟩ := hp
      refine m_sti ?_
      refine s_iast X hM rfl rfl (by exact tin (by simp only [alen]; omega) rfl) dX3_cloned_65 (fun M hM => ?_)
      have hT1 := hT.setSl (s := a) (t := σ.T + 1) ha
      have hF1 := hFr.aset (k := 7) (i := (nI a).toNatClampNeg) (v := nI (σ.T + 1)) (by decide)
      have hs1 := (congrFun (aset_k (A := A) (k := 7) (i := (nI a).toNatClampNeg) (v := nI (σ.T + 1))) _).trans pk_us
      have hb3 : aset A 7 (nI a).toNatClampNeg (nI (σ.T + 1)) 3 (nI (σ.T + 1)).toNatClampNeg = nI σ.I := by rw [nI_clamp (by omega : σ.T + 1 < 2 ^ 31)]; exact (hT1.2.2.2.1 (σ.T + 1) (by omega) (Nat.le_refl _)).2.1.trans (by rw [setSl_bg, fresh_bg, updN_s])
      have hB0 : ∀ j, j < σ.I → B 6 j = σ.it j := fun j hj => (hT1.2.2.2.2.1 j (by rw [setSl_I, fresh_I]; omega)).trans (if_neg (by omega))
      have hcp : ∀ i, i = σ.ln (σ.sl b) → ∀ j, j < σ.I + σ.ln (σ.sl b) → (if σ.I ≤ j ∧ j < σ.I + i then σ.it (σ.bg (σ.sl b) + (j - σ.I)) else B 6 j) = va_cpy ((σ.fresh 1 (σ.ln (σ.sl b))).setSl a (σ.T + 1)).it ((σ.fresh 1 (σ.ln (σ.sl b))).setSl a (σ.T + 1)).it (σ.bg (σ.sl b)) σ.I (σ.ln (σ.sl b)) j := by
        intro i hi j hj
        subst hi
        unfold va_cpy
        by_cases e9 : σ.I ≤ j ∧ j < σ.I + σ.ln (σ.sl b)
        · rw [if_pos e9, if_pos e9]; exact (if_neg (by omega)).symm
        · rw [if_neg e9, if_neg e9]; exact hT1.2.2.2.2.1 j (by rw [setSl_I, fresh_I]; exact hj)
      generalize hA1 : aset A 7 (nI a).toNatClampNeg (nI (σ.T + 1)) = A1 at hM hT1 hF1 hs1 hb3
      generalize F = F1 at hM hT1 hF1
      generalize B = B1 at hM hT1 hB0 hcp
      have loop : ∀ (d i : Nat) (B' : Nat → Nat → Int64) (M' : Mem), i + d = σ.ln (σ.sl b) → (∀ j, j < σ.I + σ.ln (σ.sl b) → B' 6 j = if σ.I ≤ j ∧ j < σ.I + i then σ.it (σ.bg (σ.sl b) + (j - σ.I)) else B1 6 j) → (∀ j, j ≠ 6 → B' j = B1 j) → MRep G h ad F1 A1 B' M' → WM G x 7 (QM G x (pT G h ad F0 A0 (some (.int (nI (cloneA σ a b).1))) (cloneA σ a b).2) nX (rmm 4 86)) 0 0 M' 69 [(6, some (.int (nI i))), (0, some (.ref h)), (1, some (.int (nI a))), (4, some (.int (nI (σ.ln (σ.sl b))))), (5, some (.int (nI (σ.bg (σ.sl b)))))] [] := by
        intro d
        induction d with
        | zero =>
          intro i B' M hi hp2 hp3 hM
          refine m_iload X dX3_cloned_69 rfl ?_
          refine m_iload X dX3_cloned_71 rfl ?_
          refine m_icmpge X dX3_cloned_73 (t := 111) (by decide) (fun c_73 => ?_) (fun c_73 => ?_)
          · skip
            refine m_iconst X dX3_cloned_111 (v := 0) (by decide) ?_
            exact m_iret X dX3_cloned_112 (by decide) (by decide) (by have e : cloneA σ a b = (0, ((σ.fresh 1 (σ.ln (σ.sl b))).setSl a (σ.T + 1)).copyIt (σ.bg (σ.sl b)) σ.I (σ.ln (σ.sl b))) := by { rw [cloneA, if_neg (fun z => z c_8), if_neg (by rw [Bool.not_eq_false]; exact fits_t.mpr c_34)] }; rw [e]; exact pT_mk hM (MT_copy hT1 (fun j hj => (hp2 j hj).trans (hcp i (by omega) j hj)) hp3) hF1)
          · skip
            exact absurd (nI_le (show σ.ln (σ.sl b) ≤ i by omega) (by omega)) c_73
        | succ d ih =>
          intro i B' M hi hp2 hp3 hM
          refine m_iload X dX3_cloned_69 rfl ?_
          refine m_iload X dX3_cloned_71 rfl ?_
          refine m_icmpge X dX3_cloned_73 (t := 111) (by decide) (fun c_73 => ?_) (fun c_73 => ?_)
          · skip
            exact absurd c_73 (nI_ge (show i < σ.ln (σ.sl b) by omega) (by omega))
          · skip
            refine m_aload_n X dX3_cloned_76 rfl rfl (by first | rfl | exact isR_rf) ?_
            refine m_getf X fg_X3_22_X3 hM.1 rfl dX3_cloned_77 ?_
            refine m_aload_n X dX3_cloned_80 rfl rfl (by first | rfl | exact isR_rf) ?_
            refine m_getf X fg_X3_13_X3 hM.1 rfl dX3_cloned_81 ?_
            refine m_aload_n X dX3_cloned_84 rfl rfl (by first | rfl | exact isR_rf) ?_
            refine m_getf X fg_X3_26_X3 hM.1 rfl dX3_cloned_85 ?_
            refine m_iload_n X dX3_cloned_88 rfl rfl ?_
            refine s_iald X hM rfl rfl (by exact tin (by simp only [alen]; omega) rfl) dX3_cloned_89 ?_
            refine m_topi X (hs1) ?_
            refine s_iald X hM rfl rfl (by exact tin (by simp only [alen]; omega) rfl) dX3_cloned_90 ?_
            refine m_topi X (hb3) ?_
            refine m_iload X dX3_cloned_91 rfl ?_
            refine m_iadd X dX3_cloned_93 ?_
            refine m_topi X (nI_add _ _) ?_
            refine m_aload_n X dX3_cloned_94 rfl rfl (by first | rfl | exact isR_rf) ?_
            refine m_getf X fg_X3_22_X3 hM.1 rfl dX3_cloned_95 ?_
            refine m_iload X dX3_cloned_98 rfl ?_
            refine m_iload X dX3_cloned_100 rfl ?_
            refine m_iadd X dX3_cloned_102 ?_
            refine m_topi X (nI_add _ _) ?_
            refine s_lald X hM rfl rfl (by exact tin (by simp only [alen]; omega) rfl) dX3_cloned_103 ?_
            refine m_topl X ((show B' 6 (nI (σ.bg (σ.sl b) + i)).toNatClampNeg = σ.it (σ.bg (σ.sl b) + i) by rw [nI_clamp (by omega), hp2 _ (by omega), if_neg (by omega)]; exact hB0 _ (by omega))) ?_
            refine s_last X hM rfl rfl (by exact tin (by simp only [alen]; omega) rfl) dX3_cloned_104 (fun M hM => ?_)
            refine m_iinc X dX3_cloned_105 rfl (w := 1) (by decide) rfl ?_
            refine m_goto X dX3_cloned_108 (t := 69) (by decide) ?_
            refine m_loc [(6, some (.int (nI (i + 1)))), (0, some (.ref h)), (1, some (.int (nI a))), (4, some (.int (nI (σ.ln (σ.sl b))))), (5, some (.int (nI (σ.bg (σ.sl b)))))] ⟨by rw [nI_succ i]; rfl, rfl, rfl, rfl, rfl, trivial⟩ (ih (i + 1) _ _ (by omega) (fun j hj => ?_) (fun j hj => ?_) hM)
            · rw [nI_clamp (by omega), bset_k]; simp only [vp_updL]
              by_cases e9 : j = σ.I + i
              · rw [if_pos e9, if_pos ⟨by omega, by omega⟩, e9, Nat.add_sub_cancel_left]
              · rw [if_neg e9, hp2 j hj]
                by_cases e8 : σ.I ≤ j ∧ j < σ.I + i
                · rw [if_pos e8, if_pos ⟨e8.1, by omega⟩]
                · rw [if_neg e8, if_neg (fun z => e8 ⟨z.1, by omega⟩)]
            · rw [bset_n hj]; exact hp3 j hj
      refine m_iconst X dX3_cloned_66 (v := 0) (by decide) ?_
      refine m_istore X dX3_cloned_67 rfl rfl ?_
      exact m_loc [(6, some (.int (nI 0))), (0, some (.ref h)), (1, some (.int (nI a))), (4, some (.int (nI (σ.ln (σ.sl b))))), (5, some (.int (nI (σ.bg (σ.sl b)))))] ⟨rfl, rfl, rfl, rfl, rfl, trivial⟩ (loop _ 0 _ _ (Nat.zero_add _) (fun j hj => by rw [if_neg (by omega)]) (fun _ _ => rfl) hM)
    · skip
      try simp only [bI_0, Bool.not_eq_false] at c_34
      have c_34 := fits_f.mp c_34
      refine m_bipush X dX3_cloned_37 (v := 8) (by decide) ?_
      exact m_iret X dX3_cloned_39 (by decide) (by decide) (by have e : cloneA σ a b = (8, σ) := by { rw [cloneA, if_neg (fun z => z c_8), if_pos (fits_f.mpr c_34)] }; rw [e]; exact pT_mk hM hT FrT.rf)
  · skip
    try simp only [bI_0, Bool.not_eq_false] at c_8
    rw [z_nI (by have := rowF_lt σ b 1; omega)] at c_8
    have e : cloneA σ a b = (rowF σ b 1, σ) := if_pos c_8
    refine m_iload_n X dX3_cloned_11 rfl rfl ?_
    exact m_iret X dX3_cloned_12 (by decide) (by decide) (by rw [e]; exact pT_mk hM hT FrT.rf)
theorem div_m1 (a : Int64) : a / (-1) = -a := by
  apply Int64.toInt_inj.mp
  have h1 : (-1 : Int64).toInt = -1 := rfl
  rw [Int64.toInt_div, h1, Int.tdiv_neg, Int.tdiv_one]
  exact (Int64.toInt_neg a).symm
set_option maxHeartbeats 4000000 in
theorem c_X3_divide {G : GX} {h : Nat} {ad : Nat → Nat} {F : Nat → Int32} {A : Nat → Nat → Int32} {B : Nat → Nat → Int64} {M : Mem} {σ : AS} (hM : MRep G h ad F A B M) (hT : MT σ F A B) (hW : WF σ) (a b c : Nat) (r : Bool) (ha : a < 8) (hb : b < 8) (hc : c < 8) : Con G yX3_divide wX3_divide (rmm 0 0) [.ref h, .int (nI a), .int (nI b), .int (nI c), .int (bI r)] M (pT G h ad F A (some (.int (nI (divA σ a b c r).1))) (divA σ a b c r).2) nX := by
  refine Con.mk (by decide) rfl [(0, some (.ref h)), (1, some (.int (nI a))), (2, some (.int (nI b))), (3, some (.int (nI c))), (4, some (.int (bI r)))] rfl fun x X hno => ?_
  have hb1 := hW.1
  have hb2 := hW.2.1
  refine m_aload_n X dX3_divide_0 rfl rfl (by first | rfl | exact isR_rf) ?_
  refine m_getf X fg_X3_29_X3 hM.1 rfl dX3_divide_1 ?_
  refine m_iload_n X dX3_divide_4 rfl rfl ?_
  refine s_lald X hM rfl rfl (by exact tin (by simp only [alen]; omega) rfl) dX3_divide_5 ?_
  refine m_topl X (hT.reg hc) ?_
  refine m_lconst X dX3_divide_6 (v := 0) (by decide) ?_
  refine m_lcmp X dX3_divide_7 ?_
  refine m_ifne X dX3_divide_8 (t := 14) (by decide) (fun c_8 => ?_) (fun c_8 => ?_)
  · skip
    try simp only [bI_0, Bool.not_eq_false] at c_8
    rw [lg_cmp_eq] at c_8
    refine m_aload_n X dX3_divide_14 rfl rfl (by first | rfl | exact isR_rf) ?_
    refine m_getf X fg_X3_29_X3 hM.1 rfl dX3_divide_15 ?_
    refine m_iload_n X dX3_divide_18 rfl rfl ?_
    refine s_lald X hM rfl rfl (by exact tin (by simp only [alen]; omega) rfl) dX3_divide_19 ?_
    refine m_topl X (hT.reg hc) ?_
    refine m_ldc2 X q1210 dX3_divide_20 ?_
    refine m_lcmp X dX3_divide_23 ?_
    refine m_ifne X dX3_divide_24 (t := 37) (by decide) (fun c_24 => ?_) (fun c_24 => ?_)
    · skip
      try simp only [bI_0, Bool.not_eq_false] at c_24
      have e : divA σ a b c r = (0, σ.setRg a (if r = true then σ.rg b - σ.rg b / σ.rg c * σ.rg c else σ.rg b / σ.rg c)) := if_neg c_8
      refine m_aload_n X dX3_divide_37 rfl rfl (by first | rfl | exact isR_rf) ?_
      refine m_getf X fg_X3_29_X3 hM.1 rfl dX3_divide_38 ?_
      refine m_iload_n X dX3_divide_41 rfl rfl ?_
      refine s_lald X hM rfl rfl (by exact tin (by simp only [alen]; omega) rfl) dX3_divide_42 ?_
      refine m_topl X (hT.reg hb) ?_
      refine m_aload_n X dX3_divide_43 rfl rfl (by first | rfl | exact isR_rf) ?_
      refine m_getf X fg_X3_29_X3 hM.1 rfl dX3_divide_44 ?_
      refine m_iload_n X dX3_divide_47 rfl rfl ?_
      refine s_lald X hM rfl rfl (by exact tin (by simp only [alen]; omega) rfl) dX3_divide_48 ?_
      refine m_topl X (hT.reg hc) ?_
      refine m_ldiv X dX3_divide_49 c_8 ?_
      refine m_lstore X dX3_divide_50 rfl rfl ?_
      refine m_aload_n X dX3_divide_52 rfl rfl (by first | rfl | exact isR_rf) ?_
      refine m_getf X fg_X3_29_X3 hM.1 rfl dX3_divide_53 ?_
      refine m_iload_n X dX3_divide_56 rfl rfl ?_
      refine m_iload X dX3_divide_57 rfl ?_
      refine m_ifeq X dX3_divide_59 (t := 81) (by decide) (fun c_59 => ?_) (fun c_59 => ?_)
      · skip
        try simp only [bI_0, Bool.not_eq_false] at c_59
        subst c_59
        rw [if_neg (by decide)] at e
        refine m_lload X dX3_divide_81 rfl ?_
        refine s_last X hM rfl rfl (by exact tin (by simp only [alen]; omega) rfl) dX3_divide_83 (fun M hM => ?_)
        refine m_iconst X dX3_divide_84 (v := 0) (by decide) ?_
        exact m_iret X dX3_divide_85 (by decide) (by decide) (by rw [e]; first | exact pT_mk hM hT FrT.rf | exact pT_mk hM (hT.setRg ha) FrT.rf)
      · skip
        try simp only [bI_0, Bool.not_eq_false] at c_59
        subst c_59
        rw [if_pos rfl] at e
        refine m_aload_n X dX3_divide_62 rfl rfl (by first | rfl | exact isR_rf) ?_
        refine m_getf X fg_X3_29_X3 hM.1 rfl dX3_divide_63 ?_
        refine m_iload_n X dX3_divide_66 rfl rfl ?_
        refine s_lald X hM rfl rfl (by exact tin (by simp only [alen]; omega) rfl) dX3_divide_67 ?_
        refine m_topl X (hT.reg hb) ?_
        refine m_lload X dX3_divide_68 rfl ?_
        refine m_aload_n X dX3_divide_70 rfl rfl (by first | rfl | exact isR_rf) ?_
        refine m_getf X fg_X3_29_X3 hM.1 rfl dX3_divide_71 ?_
        refine m_iload_n X dX3_divide_74 rfl rfl ?_
        refine s_lald X hM rfl rfl (by exact tin (by simp only [alen]; omega) rfl) dX3_divide_75 ?_
        refine m_topl X (hT.reg hc) ?_
        refine m_lmul X dX3_divide_76 ?_
        refine m_lsub X dX3_divide_77 ?_
        refine m_goto X dX3_divide_78 (t := 83) (by decide) ?_
        refine s_last X hM rfl rfl (by exact tin (by simp only [alen]; omega) rfl) dX3_divide_83 (fun M hM => ?_)
        refine m_iconst X dX3_divide_84 (v := 0) (by decide) ?_
        exact m_iret X dX3_divide_85 (by decide) (by decide) (by rw [e]; first | exact pT_mk hM hT FrT.rf | exact pT_mk hM (hT.setRg ha) FrT.rf)
    · skip
      try simp only [bI_0, Bool.not_eq_false] at c_24
      rw [lg_cmp_eq] at c_24
      have e : divA σ a b c r = (0, σ.setRg a (if r = true then σ.rg b - σ.rg b / σ.rg c * σ.rg c else σ.rg b / σ.rg c)) := if_neg c_8
      have e9 : -σ.rg b = σ.rg b / σ.rg c := by rw [c_24, div_m1]
      refine m_aload_n X dX3_divide_27 rfl rfl (by first | rfl | exact isR_rf) ?_
      refine m_getf X fg_X3_29_X3 hM.1 rfl dX3_divide_28 ?_
      refine m_iload_n X dX3_divide_31 rfl rfl ?_
      refine s_lald X hM rfl rfl (by exact tin (by simp only [alen]; omega) rfl) dX3_divide_32 ?_
      refine m_topl X (hT.reg hb) ?_
      refine m_lneg X dX3_divide_33 ?_
      refine m_topl X e9 ?_
      refine m_goto X dX3_divide_34 (t := 50) (by decide) ?_
      refine m_lstore X dX3_divide_50 rfl rfl ?_
      refine m_aload_n X dX3_divide_52 rfl rfl (by first | rfl | exact isR_rf) ?_
      refine m_getf X fg_X3_29_X3 hM.1 rfl dX3_divide_53 ?_
      refine m_iload_n X dX3_divide_56 rfl rfl ?_
      refine m_iload X dX3_divide_57 rfl ?_
      refine m_ifeq X dX3_divide_59 (t := 81) (by decide) (fun c_59 => ?_) (fun c_59 => ?_)
      · skip
        try simp only [bI_0, Bool.not_eq_false] at c_59
        subst c_59
        rw [if_neg (by decide)] at e
        refine m_lload X dX3_divide_81 rfl ?_
        refine s_last X hM rfl rfl (by exact tin (by simp only [alen]; omega) rfl) dX3_divide_83 (fun M hM => ?_)
        refine m_iconst X dX3_divide_84 (v := 0) (by decide) ?_
        exact m_iret X dX3_divide_85 (by decide) (by decide) (by rw [e]; first | exact pT_mk hM hT FrT.rf | exact pT_mk hM (hT.setRg ha) FrT.rf)
      · skip
        try simp only [bI_0, Bool.not_eq_false] at c_59
        subst c_59
        rw [if_pos rfl] at e
        refine m_aload_n X dX3_divide_62 rfl rfl (by first | rfl | exact isR_rf) ?_
        refine m_getf X fg_X3_29_X3 hM.1 rfl dX3_divide_63 ?_
        refine m_iload_n X dX3_divide_66 rfl rfl ?_
        refine s_lald X hM rfl rfl (by exact tin (by simp only [alen]; omega) rfl) dX3_divide_67 ?_
        refine m_topl X (hT.reg hb) ?_
        refine m_lload X dX3_divide_68 rfl ?_
        refine m_aload_n X dX3_divide_70 rfl rfl (by first | rfl | exact isR_rf) ?_
        refine m_getf X fg_X3_29_X3 hM.1 rfl dX3_divide_71 ?_
        refine m_iload_n X dX3_divide_74 rfl rfl ?_
        refine s_lald X hM rfl rfl (by exact tin (by simp only [alen]; omega) rfl) dX3_divide_75 ?_
        refine m_topl X (hT.reg hc) ?_
        refine m_lmul X dX3_divide_76 ?_
        refine m_lsub X dX3_divide_77 ?_
        refine m_goto X dX3_divide_78 (t := 83) (by decide) ?_
        refine s_last X hM rfl rfl (by exact tin (by simp only [alen]; omega) rfl) dX3_divide_83 (fun M hM => ?_)
        refine m_iconst X dX3_divide_84 (v := 0) (by decide) ?_
        exact m_iret X dX3_divide_85 (by decide) (by decide) (by rw [e]; first | exact pT_mk hM hT FrT.rf | exact pT_mk hM (hT.setRg ha) FrT.rf)
  · skip
    try simp only [bI_0, Bool.not_eq_false] at c_8
    rw [lg_cmp_eq] at c_8
    have e : divA σ a b c r = (6, σ) := if_pos c_8
    refine m_bipush X dX3_divide_11 (v := 6) (by decide) ?_
    exact m_iret X dX3_divide_13 (by decide) (by decide) (by rw [e]; first | exact pT_mk hM hT FrT.rf | exact pT_mk hM (hT.setRg ha) FrT.rf)
set_option maxHeartbeats 4000000 in
theorem c_X3_deep {G : GX} {h : Nat} {ad : Nat → Nat} {F0 : Nat → Int32} {A0 : Nat → Nat → Int32} {B0 : Nat → Nat → Int64} {M : Mem} {σ : AS} (hM : MRep G h ad F0 A0 B0 M) (hT : MT σ F0 A0 B0) (hW : WF σ) (s : Nat) (n e : Int32) (hs : s < 12) : Con G yX3_deep wX3_deep (rmm 1 24) [.ref h, .int (nI s), .int n, .int e] M (pT G h ad F0 A0 (some (.int (nI (deepA σ s n e).1))) (deepA σ s n e).2) nX := by
  refine Con.mk (by decide) rfl [(0, some (.ref h)), (1, some (.int (nI s))), (2, some (.int n)), (3, some (.int e))] rfl fun x X hno => ?_
  have hb1 := hW.1
  have hb2 := hW.2.1
  refine m_iload_n X dX3_deep_0 rfl rfl ?_
  refine m_iflt X dX3_deep_1 (t := 8) (by decide) (fun c_1 => ?_) (fun c_1 => ?_)
  · skip
    try simp only [bI_0, Bool.not_eq_false] at c_1
    refine m_iconst X dX3_deep_8 (v := 4) (by decide) ?_
    exact m_iret X dX3_deep_9 (by decide) (by decide) (by have e : deepA σ s n e = (4, σ) := if_pos (by first | (left; rw [Int32.lt_iff_toInt_lt] at c_1; exact c_1) | (right; rw [Int32.not_le, Int32.lt_iff_toInt_lt] at c_5; exact c_5)); rw [e]; exact pT_mk hM hT FrT.rf)
  · skip
    try simp only [bI_0, Bool.not_eq_false] at c_1
    refine m_iload_n X dX3_deep_4 rfl rfl ?_
    refine m_ifge X dX3_deep_5 (t := 10) (by decide) (fun c_5 => ?_) (fun c_5 => ?_)
    · skip
      try simp only [bI_0, Bool.not_eq_false] at c_5
      rw [Int32.not_lt] at c_1
      obtain ⟨m, hm, rfl⟩ := nI_of (Int32.not_lt.mpr c_1)
      obtain ⟨q, hq, rfl⟩ := nI_of (Int32.not_lt.mpr c_5)
      have hmq : m * q ≤ 2 ^ 31 * 2 ^ 31 := Nat.mul_le_mul (by omega) (by omega)
      refine m_aload_n X dX3_deep_10 rfl rfl (by first | rfl | exact isR_rf) ?_
      refine m_lconst X dX3_deep_11 (v := 1) (by decide) ?_
      refine m_iload_n X dX3_deep_12 rfl rfl ?_
      refine m_i2l X dX3_deep_13 ?_
      refine m_topl X (nI_l hm) ?_
      refine m_ladd X dX3_deep_14 ?_
      refine m_topl X (lN_add 1 m) ?_
      refine m_iload_n X dX3_deep_15 rfl rfl ?_
      refine m_i2l X dX3_deep_16 ?_
      refine m_topl X (nI_l hm) ?_
      refine m_iload_n X dX3_deep_17 rfl rfl ?_
      refine m_i2l X dX3_deep_18 ?_
      refine m_topl X (nI_l hm) ?_
      refine m_iload_n X dX3_deep_19 rfl rfl ?_
      refine m_i2l X dX3_deep_20 ?_
      refine m_topl X (nI_l hq) ?_
      refine m_lmul X dX3_deep_21 ?_
      refine m_topl X (lN_mul _ _) ?_
      refine m_ladd X dX3_deep_22 ?_
      refine m_topl X (lN_add _ _) ?_
      refine m_callV X cs_X3_157  (c_X3_fits hM hT hW (1 + m) (m + m * q) (by omega) (by omega)) hM.1 rfl rfl rfl (Nat.le_of_ble_eq_true rfl) dX3_deep_23 ⟨by decide, by decide, by decide, by decide⟩ (fun v M hp => ?_) (fun _ _ _ _ h => h.elim)
      obtain ⟨rfl, rfl⟩ := hp
      refine m_sti ?_
      refine m_ifne X dX3_deep_26 (t := 32) (by decide) (fun c_26 => ?_) (fun c_26 => ?_)
      · skip
        try simp only [bI_0, Bool.not_eq_false] at c_26
        have c_26 := fits_t.mp c_26
        refine m_aload_n X dX3_deep_32 rfl rfl (by first | rfl | exact isR_rf) ?_
        refine m_iconst X dX3_deep_33 (v := 5) (by decide) ?_
        refine m_iload_n X dX3_deep_34 rfl rfl ?_
        refine m_callV X cs_X3_161  (c_X3_fresh hM hT hW 5 m (by decide) (by omega) (by omega)) hM.1 rfl rfl rfl (Nat.le_of_ble_eq_true rfl) dX3_deep_35 ⟨by decide, by decide, by decide, by decide⟩ (fun v M hp => ?_) (fun _ _ _ _ h => h.elim)
        obtain ⟨rfl, F, A, B, hM, hT, hFr⟩ := hp
        refine m_sti ?_
        refine m_istore X dX3_deep_38 rfl rfl ?_
        have loop : ∀ (d i : Nat) (F : Nat → Int32) (A : Nat → Nat → Int32) (B : Nat → Nat → Int64) (M' : Mem), i + d = m → MRep G h ad F A B M' → MT (rowsS (σ.fresh 5 m) σ.I q i) F A B → FrT F0 A0 F A → WM G x 6 (QM G x (pT G h ad F0 A0 (some (.int (nI (deepA σ s (nI m) (nI q)).1))) (deepA σ s (nI m) (nI q)).2) nX (rmm 1 24)) 0 0 M' 43 [(5, some (.int (nI i))), (0, some (.ref h)), (1, some (.int (nI s))), (2, some (.int (nI m))), (3, some (.int (nI q))), (4, some (.int (nI (σ.T + 1))))] [] := by
          intro d
          induction d with
          | zero =>
            intro i F A B M hi hM hT hG
            refine m_iload X dX3_deep_43 rfl ?_
            refine m_iload_n X dX3_deep_45 rfl rfl ?_
            refine m_icmpge X dX3_deep_46 (t := 77) (by decide) (fun c_46 => ?_) (fun c_46 => ?_)
            · skip
              refine m_aload_n X dX3_deep_77 rfl rfl (by first | rfl | exact isR_rf) ?_
              refine m_getf X fg_X3_26_X3 hM.1 rfl dX3_deep_78 ?_
              refine m_iload_n X dX3_deep_81 rfl rfl ?_
              refine m_iload X dX3_deep_82 rfl ?_
              refine s_iast X hM rfl rfl (by exact tin (by simp only [alen]; omega) rfl) dX3_deep_84 (fun M hM => ?_)
              refine m_iconst X dX3_deep_85 (v := 0) (by decide) ?_
              exact m_iret X dX3_deep_86 (by decide) (by decide) (by have e : deepA σ s (nI m) (nI q) = (0, (rowsS (σ.fresh 5 m) σ.I q m).setSl s (σ.T + 1)) := by { rw [deepA, nI_toInt hm, nI_toInt hq, if_neg (by omega), if_neg]; { rfl }; { rw [Bool.not_eq_false]; exact fits_t.mpr (by simpa using c_26) } }; rw [e]; have hi9 : i = m := by { omega }; subst hi9; exact pT_mk hM (hT.setSl hs) (hG.aset (by decide)))
            · skip
              exact absurd (nI_le (show m ≤ i by omega) (by omega)) c_46
          | succ d ih =>
            intro i F A B M hi hM hT hG
            have hWi := rowsS_WF hW c_26.1 c_26.2 i (by omega)
            have hle : (i + 1) * q ≤ m * q := Nat.mul_le_mul_right q (by omega)
            have hsm : (i + 1) * q = i * q + q := Nat.succ_mul i q
            have eT : (rowsS (σ.fresh 5 m) σ.I q i).T = σ.T + 1 + i := rowsS_T _ _ _ _
            have eI : (rowsS (σ.fresh 5 m) σ.I q i).I = σ.I + m + i * q := rowsS_I _ _ _ _
            have o2 : (rowsS (σ.fresh 5 m) σ.I q i).bg (σ.T + 1) = σ.I := (rowsS_old (σ.fresh 5 m) σ.I q i (σ.T + 1) (Nat.le_refl _)).2.1.trans (by rw [fresh_bg, updN_s])
            refine m_iload X dX3_deep_43 rfl ?_
            refine m_iload_n X dX3_deep_45 rfl rfl ?_
            refine m_icmpge X dX3_deep_46 (t := 77) (by decide) (fun c_46 => ?_) (fun c_46 => ?_)
            · skip
              exact absurd c_46 (nI_ge (show i < m by omega) (by omega))
            · skip
              refine m_aload_n X dX3_deep_49 rfl rfl (by first | rfl | exact isR_rf) ?_
              refine m_getf X fg_X3_22_X3 hM.1 rfl dX3_deep_50 ?_
              refine m_aload_n X dX3_deep_53 rfl rfl (by first | rfl | exact isR_rf) ?_
              refine m_getf X fg_X3_13_X3 hM.1 rfl dX3_deep_54 ?_
              refine m_iload X dX3_deep_57 rfl ?_
              refine s_iald X hM rfl rfl (by exact tin (by simp only [alen]; omega) rfl) dX3_deep_59 ?_
              refine m_topi X ((hT.begin hWi (by omega) (by omega)).trans (congrArg nI o2)) ?_
              refine m_iload X dX3_deep_60 rfl ?_
              refine m_iadd X dX3_deep_62 ?_
              refine m_topi X (nI_add _ _) ?_
              refine m_aload_n X dX3_deep_63 rfl rfl (by first | rfl | exact isR_rf) ?_
              refine m_iconst X dX3_deep_64 (v := 1) (by decide) ?_
              refine m_iload_n X dX3_deep_65 rfl rfl ?_
              refine m_callV X cs_X3_161  (c_X3_fresh hM hT hWi 1 q (by decide) (by omega) (by omega)) hM.1 rfl rfl rfl (Nat.le_of_ble_eq_true rfl) dX3_deep_66 ⟨by decide, by decide, by decide, by decide⟩ (fun v M hp => ?_) (fun _ _ _ _ h => h.elim)
              obtain ⟨rfl, F, A, B, hM, hT, hFr⟩ := hp
              refine m_sti ?_
              refine m_i2l X dX3_deep_69 ?_
              refine m_topl X (nI_l (by omega)) ?_
              refine s_last X hM rfl rfl (by exact tin (by simp only [alen]; omega) rfl) dX3_deep_70 (fun M hM => ?_)
              refine m_iinc X dX3_deep_71 rfl (w := 1) (by decide) rfl ?_
              refine m_goto X dX3_deep_74 (t := 43) (by decide) ?_
              exact m_loc [(5, some (.int (nI (i + 1)))), (0, some (.ref h)), (1, some (.int (nI s))), (2, some (.int (nI m))), (3, some (.int (nI q))), (4, some (.int (nI (σ.T + 1))))] ⟨by rw [nI_succ i]; rfl, rfl, rfl, rfl, rfl, rfl, trivial⟩ (ih (i + 1) _ _ _ _ (by omega) hM (hT.setIt (by omega)) (hG.tr hFr))
        refine m_iconst X dX3_deep_40 (v := 0) (by decide) ?_
        refine m_istore X dX3_deep_41 rfl rfl ?_
        exact m_loc [(5, some (.int (nI 0))), (0, some (.ref h)), (1, some (.int (nI s))), (2, some (.int (nI m))), (3, some (.int (nI q))), (4, some (.int (nI (σ.T + 1))))] ⟨rfl, rfl, rfl, rfl, rfl, rfl, trivial⟩ (loop _ 0 _ _ _ _ (Nat.zero_add _) hM hT hFr)
      · skip
        try simp only [bI_0, Bool.not_eq_false] at c_26
        have c_26 := fits_f.mp c_26
        refine m_bipush X dX3_deep_29 (v := 8) (by decide) ?_
        exact m_iret X dX3_deep_31 (by decide) (by decide) (by have e : deepA σ s (nI m) (nI q) = (8, σ) := by { rw [deepA, nI_toInt hm, nI_toInt hq, if_neg (by omega), if_pos]; exact fits_f.mpr (by simpa using c_26) }; rw [e]; exact pT_mk hM hT FrT.rf)
    · skip
      try simp only [bI_0, Bool.not_eq_false] at c_5
      refine m_iconst X dX3_deep_8 (v := 4) (by decide) ?_
      exact m_iret X dX3_deep_9 (by decide) (by decide) (by have e : deepA σ s n e = (4, σ) := if_pos (by first | (left; rw [Int32.lt_iff_toInt_lt] at c_1; exact c_1) | (right; rw [Int32.not_le, Int32.lt_iff_toInt_lt] at c_5; exact c_5)); rw [e]; exact pT_mk hM hT FrT.rf)
set_option maxHeartbeats 4000000 in
theorem c_X3_lay {G : GX} {h : Nat} {ad : Nat → Nat} {F : Nat → Int32} {A : Nat → Nat → Int32} {B : Nat → Nat → Int64} {M : Mem} {σ : AS} (hM : MRep G h ad F A B M) (hT : MT σ F A B) (hW : WF σ) (a k : Nat) (i : Int32) (d : Nat) (hs : a < 12) (hk : 5 ≤ k ∧ k ≤ 7) (hd : d < 12) : Con G yX3_lay wX3_lay (rmm 5 110) [.ref h, .int (nI a), .int (nI k), .int i, .int (nI d)] M (pT G h ad F A (some (.int (nI (layA σ a k i d).1))) (layA σ a k i d).2) nX := by
  refine Con.mk (by decide) rfl [(0, some (.ref h)), (1, some (.int (nI a))), (2, some (.int (nI k))), (3, some (.int i)), (4, some (.int (nI d)))] rfl fun x X hno => ?_
  have hb1 := hW.1
  have hb2 := hW.2.1
  refine m_aload_n X dX3_lay_0 rfl rfl (by first | rfl | exact isR_rf) ?_
  refine m_iload_n X dX3_lay_1 rfl rfl ?_
  refine m_iload_n X dX3_lay_2 rfl rfl ?_
  refine m_callV X cs_X3_150  (c_X3_as hM hT hW a k hs (by omega)) hM.1 rfl rfl rfl (Nat.le_of_ble_eq_true rfl) dX3_lay_3 ⟨by decide, by decide, by decide, by decide⟩ (fun v M hp => ?_) (fun _ _ _ _ h => h.elim)
  obtain ⟨rfl, rfl⟩ := hp
  refine m_sti ?_
  refine m_istore X dX3_lay_6 rfl rfl ?_
  refine m_iload X dX3_lay_8 rfl ?_
  refine m_ifeq X dX3_lay_10 (t := 18) (by decide) (fun c_10 => ?_) (fun c_10 => ?_)
  · skip
    try simp only [bI_0, Bool.not_eq_false] at c_10
    rw [z_nI (by have := asF_lt σ a k; omega)] at c_10
    refine m_aload_n X dX3_lay_18 rfl rfl (by first | rfl | exact isR_rf) ?_
    refine m_iload X dX3_lay_19 rfl ?_
    refine m_iload_n X dX3_lay_21 rfl rfl ?_
    refine m_iconst X dX3_lay_22 (v := 5) (by decide) ?_
    refine m_icmpne X dX3_lay_23 (t := 30) (by decide) (fun c_23 => ?_) (fun c_23 => ?_)
    · skip
      have c_23 : ¬ k = 5 := fun z => c_23 (by rw [z]; rfl)
      refine m_iload_n X dX3_lay_30 rfl rfl ?_
      refine m_bipush X dX3_lay_31 (v := 6) (by decide) ?_
      refine m_icmpne X dX3_lay_33 (t := 41) (by decide) (fun c_33 => ?_) (fun c_33 => ?_)
      · skip
        have c_33 : ¬ k = 6 := fun z => c_33 (by rw [z]; rfl)
        have ek : elk k = 9 := (if_neg c_23).trans (if_neg c_33)
        refine m_bipush X dX3_lay_41 (v := 9) (by decide) ?_
        refine m_callV X cs_X3_150  (c_X3_as hM hT hW d 9 hd (by decide)) hM.1 rfl rfl rfl (Nat.le_of_ble_eq_true rfl) dX3_lay_43 ⟨by decide, by decide, by decide, by decide⟩ (fun v M hp => ?_) (fun _ _ _ _ h => h.elim)
        obtain ⟨rfl, rfl⟩ := hp
        refine m_sti ?_
        refine m_istore X dX3_lay_46 rfl rfl ?_
        refine m_iload X dX3_lay_48 rfl ?_
        refine m_ifeq X dX3_lay_50 (t := 58) (by decide) (fun c_50 => ?_) (fun c_50 => ?_)
        · skip
          try simp only [bI_0, Bool.not_eq_false] at c_50
          rw [z_nI (by have := asF_lt σ d 1; have := asF_lt σ d 8; have := asF_lt σ d 9; omega), ← ek] at c_50
          refine m_aload_n X dX3_lay_58 rfl rfl (by first | rfl | exact isR_rf) ?_
          refine m_iload_n X dX3_lay_59 rfl rfl ?_
          refine m_iload_n X dX3_lay_60 rfl rfl ?_
          refine m_iload_n X dX3_lay_61 rfl rfl ?_
          refine m_callV X cs_X3_170  (c_X3_itemOf hM hT hW a k i hs (by omega)) hM.1 rfl rfl rfl (Nat.le_of_ble_eq_true rfl) dX3_lay_62 ⟨by decide, by decide, by decide, by decide⟩ (fun v M hp => ?_) (fun _ _ _ _ h => h.elim)
          obtain ⟨rfl, rfl⟩ := hp
          refine m_sti ?_
          refine m_istore X dX3_lay_65 rfl rfl ?_
          refine m_iload X dX3_lay_67 rfl ?_
          refine m_ifeq X dX3_lay_69 (t := 75) (by decide) (fun c_69 => ?_) (fun c_69 => ?_)
          · skip
            try simp only [bI_0, Bool.not_eq_false] at c_69
            rw [z_nI (by have := itemF_lt σ a k i; omega)] at c_69
            have hp0 := hW.pos hs (fun z => by simp [itemF, rowF, asF, z] at c_69)
            have e5 : layA σ a k i d = if σ.kd (σ.sl a) = 7 ∧ σ.sl d ≠ 0 ∧ σ.kd (σ.sl d) = 8 then (5, σ) else (0, σ.setIt (σ.bg (σ.sl a) + i.toInt.toNat) (lN (σ.sl d))) := by rw [layA, if_neg (fun z => by rcases z with z | z; exact z c_10; exact z c_50), if_neg (fun z => z c_69)]
            obtain ⟨h0, hk0, j, hj, rfl⟩ := itemF_0 c_69 (by omega)
            rw [nI_toNat (by omega)] at e5
            have hsd := hW.sl hd
            refine m_aload_n X dX3_lay_75 rfl rfl (by first | rfl | exact isR_rf) ?_
            refine m_getf X fg_X3_7_X3 hM.1 rfl dX3_lay_76 ?_
            refine m_aload_n X dX3_lay_79 rfl rfl (by first | rfl | exact isR_rf) ?_
            refine m_getf X fg_X3_26_X3 hM.1 rfl dX3_lay_80 ?_
            refine m_iload_n X dX3_lay_83 rfl rfl ?_
            refine s_iald X hM rfl rfl (by exact tin (by simp only [alen]; omega) rfl) dX3_lay_84 ?_
            refine m_topi X (hT.slot hs) ?_
            refine s_iald X hM rfl rfl (by exact tin (by simp only [alen]; omega) rfl) dX3_lay_85 ?_
            refine m_topi X (hT.kind hW hp0.1 hp0.2.1) ?_
            refine m_bipush X dX3_lay_86 (v := 7) (by decide) ?_
            refine m_icmpne X dX3_lay_88 (t := 120) (by decide) (fun c_88 => ?_) (fun c_88 => ?_)
            · skip
              have c_88 : ¬ σ.kd (σ.sl a) = 7 := fun z => c_88 (by rw [z]; rfl)
              have e : layA σ a k (nI j) d = (0, σ.setIt (σ.bg (σ.sl a) + j) (lN (σ.sl d))) := e5.trans (if_neg (fun z => c_88 z.1))
              refine m_aload_n X dX3_lay_120 rfl rfl (by first | rfl | exact isR_rf) ?_
              refine m_getf X fg_X3_22_X3 hM.1 rfl dX3_lay_121 ?_
              refine m_aload_n X dX3_lay_124 rfl rfl (by first | rfl | exact isR_rf) ?_
              refine m_getf X fg_X3_13_X3 hM.1 rfl dX3_lay_125 ?_
              refine m_aload_n X dX3_lay_128 rfl rfl (by first | rfl | exact isR_rf) ?_
              refine m_getf X fg_X3_26_X3 hM.1 rfl dX3_lay_129 ?_
              refine m_iload_n X dX3_lay_132 rfl rfl ?_
              refine s_iald X hM rfl rfl (by exact tin (by simp only [alen]; omega) rfl) dX3_lay_133 ?_
              refine m_topi X (hT.slot hs) ?_
              refine s_iald X hM rfl rfl (by exact tin (by simp only [alen]; omega) rfl) dX3_lay_134 ?_
              refine m_topi X (hT.begin hW hp0.1 hp0.2.1) ?_
              refine m_iload_n X dX3_lay_135 rfl rfl ?_
              refine m_iadd X dX3_lay_136 ?_
              refine m_topi X (nI_add _ _) ?_
              refine m_aload_n X dX3_lay_137 rfl rfl (by first | rfl | exact isR_rf) ?_
              refine m_getf X fg_X3_26_X3 hM.1 rfl dX3_lay_138 ?_
              refine m_iload X dX3_lay_141 rfl ?_
              refine s_iald X hM rfl rfl (by exact tin (by simp only [alen]; omega) rfl) dX3_lay_143 ?_
              refine m_topi X (hT.slot hd) ?_
              refine m_i2l X dX3_lay_144 ?_
              refine m_topl X (nI_l (by omega)) ?_
              refine s_last X hM rfl rfl (by exact tin (by simp only [alen]; omega) rfl) dX3_lay_145 (fun M hM => ?_)
              refine m_iconst X dX3_lay_146 (v := 0) (by decide) ?_
              exact m_iret X dX3_lay_147 (by decide) (by decide) (by rw [e]; exact pT_mk hM (hT.setIt (by omega)) FrT.rf)
            · skip
              have c_88 : σ.kd (σ.sl a) = 7 := (nI_eq (b := 7) (by omega) (by decide)).mp c_88
              refine m_aload_n X dX3_lay_91 rfl rfl (by first | rfl | exact isR_rf) ?_
              refine m_getf X fg_X3_26_X3 hM.1 rfl dX3_lay_92 ?_
              refine m_iload X dX3_lay_95 rfl ?_
              refine s_iald X hM rfl rfl (by exact tin (by simp only [alen]; omega) rfl) dX3_lay_97 ?_
              refine m_topi X (hT.slot hd) ?_
              refine m_ifeq X dX3_lay_98 (t := 120) (by decide) (fun c_98 => ?_) (fun c_98 => ?_)
              · skip
                try simp only [bI_0, Bool.not_eq_false] at c_98
                rw [z_nI (by omega)] at c_98
                have e : layA σ a k (nI j) d = (0, σ.setIt (σ.bg (σ.sl a) + j) (lN (σ.sl d))) := e5.trans (if_neg (fun z => z.2.1 c_98))
                refine m_aload_n X dX3_lay_120 rfl rfl (by first | rfl | exact isR_rf) ?_
                refine m_getf X fg_X3_22_X3 hM.1 rfl dX3_lay_121 ?_
                refine m_aload_n X dX3_lay_124 rfl rfl (by first | rfl | exact isR_rf) ?_
                refine m_getf X fg_X3_13_X3 hM.1 rfl dX3_lay_125 ?_
                refine m_aload_n X dX3_lay_128 rfl rfl (by first | rfl | exact isR_rf) ?_
                refine m_getf X fg_X3_26_X3 hM.1 rfl dX3_lay_129 ?_
                refine m_iload_n X dX3_lay_132 rfl rfl ?_
                refine s_iald X hM rfl rfl (by exact tin (by simp only [alen]; omega) rfl) dX3_lay_133 ?_
                refine m_topi X (hT.slot hs) ?_
                refine s_iald X hM rfl rfl (by exact tin (by simp only [alen]; omega) rfl) dX3_lay_134 ?_
                refine m_topi X (hT.begin hW hp0.1 hp0.2.1) ?_
                refine m_iload_n X dX3_lay_135 rfl rfl ?_
                refine m_iadd X dX3_lay_136 ?_
                refine m_topi X (nI_add _ _) ?_
                refine m_aload_n X dX3_lay_137 rfl rfl (by first | rfl | exact isR_rf) ?_
                refine m_getf X fg_X3_26_X3 hM.1 rfl dX3_lay_138 ?_
                refine m_iload X dX3_lay_141 rfl ?_
                refine s_iald X hM rfl rfl (by exact tin (by simp only [alen]; omega) rfl) dX3_lay_143 ?_
                refine m_topi X (hT.slot hd) ?_
                refine m_i2l X dX3_lay_144 ?_
                refine m_topl X (nI_l (by omega)) ?_
                refine s_last X hM rfl rfl (by exact tin (by simp only [alen]; omega) rfl) dX3_lay_145 (fun M hM => ?_)
                refine m_iconst X dX3_lay_146 (v := 0) (by decide) ?_
                exact m_iret X dX3_lay_147 (by decide) (by decide) (by rw [e]; exact pT_mk hM (hT.setIt (by omega)) FrT.rf)
              · skip
                try simp only [bI_0, Bool.not_eq_false] at c_98
                rw [z_nI (by omega)] at c_98
                have hq0 := hW.pos hd c_98
                refine m_aload_n X dX3_lay_101 rfl rfl (by first | rfl | exact isR_rf) ?_
                refine m_getf X fg_X3_7_X3 hM.1 rfl dX3_lay_102 ?_
                refine m_aload_n X dX3_lay_105 rfl rfl (by first | rfl | exact isR_rf) ?_
                refine m_getf X fg_X3_26_X3 hM.1 rfl dX3_lay_106 ?_
                refine m_iload X dX3_lay_109 rfl ?_
                refine s_iald X hM rfl rfl (by exact tin (by simp only [alen]; omega) rfl) dX3_lay_111 ?_
                refine m_topi X (hT.slot hd) ?_
                refine s_iald X hM rfl rfl (by exact tin (by simp only [alen]; omega) rfl) dX3_lay_112 ?_
                refine m_topi X (hT.kind hW hq0.1 hq0.2.1) ?_
                refine m_bipush X dX3_lay_113 (v := 8) (by decide) ?_
                refine m_icmpne X dX3_lay_115 (t := 120) (by decide) (fun c_115 => ?_) (fun c_115 => ?_)
                · skip
                  have c_115 : ¬ σ.kd (σ.sl d) = 8 := fun z => c_115 (by rw [z]; rfl)
                  have e : layA σ a k (nI j) d = (0, σ.setIt (σ.bg (σ.sl a) + j) (lN (σ.sl d))) := e5.trans (if_neg (fun z => c_115 z.2.2))
                  refine m_aload_n X dX3_lay_120 rfl rfl (by first | rfl | exact isR_rf) ?_
                  refine m_getf X fg_X3_22_X3 hM.1 rfl dX3_lay_121 ?_
                  refine m_aload_n X dX3_lay_124 rfl rfl (by first | rfl | exact isR_rf) ?_
                  refine m_getf X fg_X3_13_X3 hM.1 rfl dX3_lay_125 ?_
                  refine m_aload_n X dX3_lay_128 rfl rfl (by first | rfl | exact isR_rf) ?_
                  refine m_getf X fg_X3_26_X3 hM.1 rfl dX3_lay_129 ?_
                  refine m_iload_n X dX3_lay_132 rfl rfl ?_
                  refine s_iald X hM rfl rfl (by exact tin (by simp only [alen]; omega) rfl) dX3_lay_133 ?_
                  refine m_topi X (hT.slot hs) ?_
                  refine s_iald X hM rfl rfl (by exact tin (by simp only [alen]; omega) rfl) dX3_lay_134 ?_
                  refine m_topi X (hT.begin hW hp0.1 hp0.2.1) ?_
                  refine m_iload_n X dX3_lay_135 rfl rfl ?_
                  refine m_iadd X dX3_lay_136 ?_
                  refine m_topi X (nI_add _ _) ?_
                  refine m_aload_n X dX3_lay_137 rfl rfl (by first | rfl | exact isR_rf) ?_
                  refine m_getf X fg_X3_26_X3 hM.1 rfl dX3_lay_138 ?_
                  refine m_iload X dX3_lay_141 rfl ?_
                  refine s_iald X hM rfl rfl (by exact tin (by simp only [alen]; omega) rfl) dX3_lay_143 ?_
                  refine m_topi X (hT.slot hd) ?_
                  refine m_i2l X dX3_lay_144 ?_
                  refine m_topl X (nI_l (by omega)) ?_
                  refine s_last X hM rfl rfl (by exact tin (by simp only [alen]; omega) rfl) dX3_lay_145 (fun M hM => ?_)
                  refine m_iconst X dX3_lay_146 (v := 0) (by decide) ?_
                  exact m_iret X dX3_lay_147 (by decide) (by decide) (by rw [e]; exact pT_mk hM (hT.setIt (by omega)) FrT.rf)
                · skip
                  have c_115 : σ.kd (σ.sl d) = 8 := (nI_eq (b := 8) (by omega) (by decide)).mp c_115
                  have e : layA σ a k (nI j) d = (5, σ) := e5.trans (if_pos ⟨c_88, c_98, c_115⟩)
                  refine m_iconst X dX3_lay_118 (v := 5) (by decide) ?_
                  exact m_iret X dX3_lay_119 (by decide) (by decide) (by rw [e]; exact pT_mk hM hT FrT.rf)
          · skip
            try simp only [bI_0, Bool.not_eq_false] at c_69
            rw [z_nI (by have := itemF_lt σ a k i; omega)] at c_69
            have e : layA σ a k i d = (itemF σ a k i, σ) := by rw [layA, if_neg (fun z => by rcases z with z | z; exact z c_10; exact z c_50), if_pos c_69]
            have e2 : itemF σ a k i = itemF σ a k i := rfl
            refine m_iload X dX3_lay_72 rfl ?_
            exact m_iret X dX3_lay_74 (by decide) (by decide) (by rw [e, e2]; exact pT_mk hM hT FrT.rf)
        · skip
          try simp only [bI_0, Bool.not_eq_false] at c_50
          rw [z_nI (by have := asF_lt σ d 1; have := asF_lt σ d 8; have := asF_lt σ d 9; omega), ← ek] at c_50
          refine m_iload X dX3_lay_53 rfl ?_
          refine m_goto X dX3_lay_55 (t := 65) (by decide) ?_
          refine m_istore X dX3_lay_65 rfl rfl ?_
          refine m_iload X dX3_lay_67 rfl ?_
          refine m_ifeq X dX3_lay_69 (t := 75) (by decide) (fun c_69 => ?_) (fun c_69 => ?_)
          · skip
            try simp only [bI_0, Bool.not_eq_false] at c_69
            rw [z_nI (by have := asF_lt σ d 1; have := asF_lt σ d 8; have := asF_lt σ d 9; omega), ← ek] at c_69
            exact absurd c_69 c_50
          · skip
            try simp only [bI_0, Bool.not_eq_false] at c_69
            have e : layA σ a k i d = (2, σ) := if_pos (Or.inr c_50)
            have e2 := asF_n c_50
            rw [ek] at e2
            refine m_iload X dX3_lay_72 rfl ?_
            exact m_iret X dX3_lay_74 (by decide) (by decide) (by rw [e, e2]; exact pT_mk hM hT FrT.rf)
      · skip
        have c_33 : k = 6 := (nI_eq (b := 6) (by omega) (by decide)).mp c_33
        have ek : elk k = 8 := (if_neg c_23).trans (if_pos c_33)
        refine m_bipush X dX3_lay_36 (v := 8) (by decide) ?_
        refine m_goto X dX3_lay_38 (t := 43) (by decide) ?_
        refine m_callV X cs_X3_150  (c_X3_as hM hT hW d 8 hd (by decide)) hM.1 rfl rfl rfl (Nat.le_of_ble_eq_true rfl) dX3_lay_43 ⟨by decide, by decide, by decide, by decide⟩ (fun v M hp => ?_) (fun _ _ _ _ h => h.elim)
        obtain ⟨rfl, rfl⟩ := hp
        refine m_sti ?_
        refine m_istore X dX3_lay_46 rfl rfl ?_
        refine m_iload X dX3_lay_48 rfl ?_
        refine m_ifeq X dX3_lay_50 (t := 58) (by decide) (fun c_50 => ?_) (fun c_50 => ?_)
        · skip
          try simp only [bI_0, Bool.not_eq_false] at c_50
          rw [z_nI (by have := asF_lt σ d 1; have := asF_lt σ d 8; have := asF_lt σ d 9; omega), ← ek] at c_50
          refine m_aload_n X dX3_lay_58 rfl rfl (by first | rfl | exact isR_rf) ?_
          refine m_iload_n X dX3_lay_59 rfl rfl ?_
          refine m_iload_n X dX3_lay_60 rfl rfl ?_
          refine m_iload_n X dX3_lay_61 rfl rfl ?_
          refine m_callV X cs_X3_170  (c_X3_itemOf hM hT hW a k i hs (by omega)) hM.1 rfl rfl rfl (Nat.le_of_ble_eq_true rfl) dX3_lay_62 ⟨by decide, by decide, by decide, by decide⟩ (fun v M hp => ?_) (fun _ _ _ _ h => h.elim)
          obtain ⟨rfl, rfl⟩ := hp
          refine m_sti ?_
          refine m_istore X dX3_lay_65 rfl rfl ?_
          refine m_iload X dX3_lay_67 rfl ?_
          refine m_ifeq X dX3_lay_69 (t := 75) (by decide) (fun c_69 => ?_) (fun c_69 => ?_)
          · skip
            try simp only [bI_0, Bool.not_eq_false] at c_69
            rw [z_nI (by have := itemF_lt σ a k i; omega)] at c_69
            have hp0 := hW.pos hs (fun z => by simp [itemF, rowF, asF, z] at c_69)
            have e5 : layA σ a k i d = if σ.kd (σ.sl a) = 7 ∧ σ.sl d ≠ 0 ∧ σ.kd (σ.sl d) = 8 then (5, σ) else (0, σ.setIt (σ.bg (σ.sl a) + i.toInt.toNat) (lN (σ.sl d))) := by rw [layA, if_neg (fun z => by rcases z with z | z; exact z c_10; exact z c_50), if_neg (fun z => z c_69)]
            obtain ⟨h0, hk0, j, hj, rfl⟩ := itemF_0 c_69 (by omega)
            rw [nI_toNat (by omega)] at e5
            have hsd := hW.sl hd
            refine m_aload_n X dX3_lay_75 rfl rfl (by first | rfl | exact isR_rf) ?_
            refine m_getf X fg_X3_7_X3 hM.1 rfl dX3_lay_76 ?_
            refine m_aload_n X dX3_lay_79 rfl rfl (by first | rfl | exact isR_rf) ?_
            refine m_getf X fg_X3_26_X3 hM.1 rfl dX3_lay_80 ?_
            refine m_iload_n X dX3_lay_83 rfl rfl ?_
            refine s_iald X hM rfl rfl (by exact tin (by simp only [alen]; omega) rfl) dX3_lay_84 ?_
            refine m_topi X (hT.slot hs) ?_
            refine s_iald X hM rfl rfl (by exact tin (by simp only [alen]; omega) rfl) dX3_lay_85 ?_
            refine m_topi X (hT.kind hW hp0.1 hp0.2.1) ?_
            refine m_bipush X dX3_lay_86 (v := 7) (by decide) ?_
            refine m_icmpne X dX3_lay_88 (t := 120) (by decide) (fun c_88 => ?_) (fun c_88 => ?_)
            · skip
              have c_88 : ¬ σ.kd (σ.sl a) = 7 := fun z => c_88 (by rw [z]; rfl)
              have e : layA σ a k (nI j) d = (0, σ.setIt (σ.bg (σ.sl a) + j) (lN (σ.sl d))) := e5.trans (if_neg (fun z => c_88 z.1))
              refine m_aload_n X dX3_lay_120 rfl rfl (by first | rfl | exact isR_rf) ?_
              refine m_getf X fg_X3_22_X3 hM.1 rfl dX3_lay_121 ?_
              refine m_aload_n X dX3_lay_124 rfl rfl (by first | rfl | exact isR_rf) ?_
              refine m_getf X fg_X3_13_X3 hM.1 rfl dX3_lay_125 ?_
              refine m_aload_n X dX3_lay_128 rfl rfl (by first | rfl | exact isR_rf) ?_
              refine m_getf X fg_X3_26_X3 hM.1 rfl dX3_lay_129 ?_
              refine m_iload_n X dX3_lay_132 rfl rfl ?_
              refine s_iald X hM rfl rfl (by exact tin (by simp only [alen]; omega) rfl) dX3_lay_133 ?_
              refine m_topi X (hT.slot hs) ?_
              refine s_iald X hM rfl rfl (by exact tin (by simp only [alen]; omega) rfl) dX3_lay_134 ?_
              refine m_topi X (hT.begin hW hp0.1 hp0.2.1) ?_
              refine m_iload_n X dX3_lay_135 rfl rfl ?_
              refine m_iadd X dX3_lay_136 ?_
              refine m_topi X (nI_add _ _) ?_
              refine m_aload_n X dX3_lay_137 rfl rfl (by first | rfl | exact isR_rf) ?_
              refine m_getf X fg_X3_26_X3 hM.1 rfl dX3_lay_138 ?_
              refine m_iload X dX3_lay_141 rfl ?_
              refine s_iald X hM rfl rfl (by exact tin (by simp only [alen]; omega) rfl) dX3_lay_143 ?_
              refine m_topi X (hT.slot hd) ?_
              refine m_i2l X dX3_lay_144 ?_
              refine m_topl X (nI_l (by omega)) ?_
              refine s_last X hM rfl rfl (by exact tin (by simp only [alen]; omega) rfl) dX3_lay_145 (fun M hM => ?_)
              refine m_iconst X dX3_lay_146 (v := 0) (by decide) ?_
              exact m_iret X dX3_lay_147 (by decide) (by decide) (by rw [e]; exact pT_mk hM (hT.setIt (by omega)) FrT.rf)
            · skip
              have c_88 : σ.kd (σ.sl a) = 7 := (nI_eq (b := 7) (by omega) (by decide)).mp c_88
              refine m_aload_n X dX3_lay_91 rfl rfl (by first | rfl | exact isR_rf) ?_
              refine m_getf X fg_X3_26_X3 hM.1 rfl dX3_lay_92 ?_
              refine m_iload X dX3_lay_95 rfl ?_
              refine s_iald X hM rfl rfl (by exact tin (by simp only [alen]; omega) rfl) dX3_lay_97 ?_
              refine m_topi X (hT.slot hd) ?_
              refine m_ifeq X dX3_lay_98 (t := 120) (by decide) (fun c_98 => ?_) (fun c_98 => ?_)
              · skip
                try simp only [bI_0, Bool.not_eq_false] at c_98
                rw [z_nI (by omega)] at c_98
                have e : layA σ a k (nI j) d = (0, σ.setIt (σ.bg (σ.sl a) + j) (lN (σ.sl d))) := e5.trans (if_neg (fun z => z.2.1 c_98))
                refine m_aload_n X dX3_lay_120 rfl rfl (by first | rfl | exact isR_rf) ?_
                refine m_getf X fg_X3_22_X3 hM.1 rfl dX3_lay_121 ?_
                refine m_aload_n X dX3_lay_124 rfl rfl (by first | rfl | exact isR_rf) ?_
                refine m_getf X fg_X3_13_X3 hM.1 rfl dX3_lay_125 ?_
                refine m_aload_n X dX3_lay_128 rfl rfl (by first | rfl | exact isR_rf) ?_
                refine m_getf X fg_X3_26_X3 hM.1 rfl dX3_lay_129 ?_
                refine m_iload_n X dX3_lay_132 rfl rfl ?_
                refine s_iald X hM rfl rfl (by exact tin (by simp only [alen]; omega) rfl) dX3_lay_133 ?_
                refine m_topi X (hT.slot hs) ?_
                refine s_iald X hM rfl rfl (by exact tin (by simp only [alen]; omega) rfl) dX3_lay_134 ?_
                refine m_topi X (hT.begin hW hp0.1 hp0.2.1) ?_
                refine m_iload_n X dX3_lay_135 rfl rfl ?_
                refine m_iadd X dX3_lay_136 ?_
                refine m_topi X (nI_add _ _) ?_
                refine m_aload_n X dX3_lay_137 rfl rfl (by first | rfl | exact isR_rf) ?_
                refine m_getf X fg_X3_26_X3 hM.1 rfl dX3_lay_138 ?_
                refine m_iload X dX3_lay_141 rfl ?_
                refine s_iald X hM rfl rfl (by exact tin (by simp only [alen]; omega) rfl) dX3_lay_143 ?_
                refine m_topi X (hT.slot hd) ?_
                refine m_i2l X dX3_lay_144 ?_
                refine m_topl X (nI_l (by omega)) ?_
                refine s_last X hM rfl rfl (by exact tin (by simp only [alen]; omega) rfl) dX3_lay_145 (fun M hM => ?_)
                refine m_iconst X dX3_lay_146 (v := 0) (by decide) ?_
                exact m_iret X dX3_lay_147 (by decide) (by decide) (by rw [e]; exact pT_mk hM (hT.setIt (by omega)) FrT.rf)
              · skip
                try simp only [bI_0, Bool.not_eq_false] at c_98
                rw [z_nI (by omega)] at c_98
                have hq0 := hW.pos hd c_98
                refine m_aload_n X dX3_lay_101 rfl rfl (by first | rfl | exact isR_rf) ?_
                refine m_getf X fg_X3_7_X3 hM.1 rfl dX3_lay_102 ?_
                refine m_aload_n X dX3_lay_105 rfl rfl (by first | rfl | exact isR_rf) ?_
                refine m_getf X fg_X3_26_X3 hM.1 rfl dX3_lay_106 ?_
                refine m_iload X dX3_lay_109 rfl ?_
                refine s_iald X hM rfl rfl (by exact tin (by simp only [alen]; omega) rfl) dX3_lay_111 ?_
                refine m_topi X (hT.slot hd) ?_
                refine s_iald X hM rfl rfl (by exact tin (by simp only [alen]; omega) rfl) dX3_lay_112 ?_
                refine m_topi X (hT.kind hW hq0.1 hq0.2.1) ?_
                refine m_bipush X dX3_lay_113 (v := 8) (by decide) ?_
                refine m_icmpne X dX3_lay_115 (t := 120) (by decide) (fun c_115 => ?_) (fun c_115 => ?_)
                · skip
                  have c_115 : ¬ σ.kd (σ.sl d) = 8 := fun z => c_115 (by rw [z]; rfl)
                  have e : layA σ a k (nI j) d = (0, σ.setIt (σ.bg (σ.sl a) + j) (lN (σ.sl d))) := e5.trans (if_neg (fun z => c_115 z.2.2))
                  refine m_aload_n X dX3_lay_120 rfl rfl (by first | rfl | exact isR_rf) ?_
                  refine m_getf X fg_X3_22_X3 hM.1 rfl dX3_lay_121 ?_
                  refine m_aload_n X dX3_lay_124 rfl rfl (by first | rfl | exact isR_rf) ?_
                  refine m_getf X fg_X3_13_X3 hM.1 rfl dX3_lay_125 ?_
                  refine m_aload_n X dX3_lay_128 rfl rfl (by first | rfl | exact isR_rf) ?_
                  refine m_getf X fg_X3_26_X3 hM.1 rfl dX3_lay_129 ?_
                  refine m_iload_n X dX3_lay_132 rfl rfl ?_
                  refine s_iald X hM rfl rfl (by exact tin (by simp only [alen]; omega) rfl) dX3_lay_133 ?_
                  refine m_topi X (hT.slot hs) ?_
                  refine s_iald X hM rfl rfl (by exact tin (by simp only [alen]; omega) rfl) dX3_lay_134 ?_
                  refine m_topi X (hT.begin hW hp0.1 hp0.2.1) ?_
                  refine m_iload_n X dX3_lay_135 rfl rfl ?_
                  refine m_iadd X dX3_lay_136 ?_
                  refine m_topi X (nI_add _ _) ?_
                  refine m_aload_n X dX3_lay_137 rfl rfl (by first | rfl | exact isR_rf) ?_
                  refine m_getf X fg_X3_26_X3 hM.1 rfl dX3_lay_138 ?_
                  refine m_iload X dX3_lay_141 rfl ?_
                  refine s_iald X hM rfl rfl (by exact tin (by simp only [alen]; omega) rfl) dX3_lay_143 ?_
                  refine m_topi X (hT.slot hd) ?_
                  refine m_i2l X dX3_lay_144 ?_
                  refine m_topl X (nI_l (by omega)) ?_
                  refine s_last X hM rfl rfl (by exact tin (by simp only [alen]; omega) rfl) dX3_lay_145 (fun M hM => ?_)
                  refine m_iconst X dX3_lay_146 (v := 0) (by decide) ?_
                  exact m_iret X dX3_lay_147 (by decide) (by decide) (by rw [e]; exact pT_mk hM (hT.setIt (by omega)) FrT.rf)
                · skip
                  have c_115 : σ.kd (σ.sl d) = 8 := (nI_eq (b := 8) (by omega) (by decide)).mp c_115
                  have e : layA σ a k (nI j) d = (5, σ) := e5.trans (if_pos ⟨c_88, c_98, c_115⟩)
                  refine m_iconst X dX3_lay_118 (v := 5) (by decide) ?_
                  exact m_iret X dX3_lay_119 (by decide) (by decide) (by rw [e]; exact pT_mk hM hT FrT.rf)
          · skip
            try simp only [bI_0, Bool.not_eq_false] at c_69
            rw [z_nI (by have := itemF_lt σ a k i; omega)] at c_69
            have e : layA σ a k i d = (itemF σ a k i, σ) := by rw [layA, if_neg (fun z => by rcases z with z | z; exact z c_10; exact z c_50), if_pos c_69]
            have e2 : itemF σ a k i = itemF σ a k i := rfl
            refine m_iload X dX3_lay_72 rfl ?_
            exact m_iret X dX3_lay_74 (by decide) (by decide) (by rw [e, e2]; exact pT_mk hM hT FrT.rf)
        · skip
          try simp only [bI_0, Bool.not_eq_false] at c_50
          rw [z_nI (by have := asF_lt σ d 1; have := asF_lt σ d 8; have := asF_lt σ d 9; omega), ← ek] at c_50
          refine m_iload X dX3_lay_53 rfl ?_
          refine m_goto X dX3_lay_55 (t := 65) (by decide) ?_
          refine m_istore X dX3_lay_65 rfl rfl ?_
          refine m_iload X dX3_lay_67 rfl ?_
          refine m_ifeq X dX3_lay_69 (t := 75) (by decide) (fun c_69 => ?_) (fun c_69 => ?_)
          · skip
            try simp only [bI_0, Bool.not_eq_false] at c_69
            rw [z_nI (by have := asF_lt σ d 1; have := asF_lt σ d 8; have := asF_lt σ d 9; omega), ← ek] at c_69
            exact absurd c_69 c_50
          · skip
            try simp only [bI_0, Bool.not_eq_false] at c_69
            have e : layA σ a k i d = (2, σ) := if_pos (Or.inr c_50)
            have e2 := asF_n c_50
            rw [ek] at e2
            refine m_iload X dX3_lay_72 rfl ?_
            exact m_iret X dX3_lay_74 (by decide) (by decide) (by rw [e, e2]; exact pT_mk hM hT FrT.rf)
    · skip
      have c_23 : k = 5 := (nI_eq (b := 5) (by omega) (by decide)).mp c_23
      have ek : elk k = 1 := if_pos c_23
      refine m_iconst X dX3_lay_26 (v := 1) (by decide) ?_
      refine m_goto X dX3_lay_27 (t := 43) (by decide) ?_
      refine m_callV X cs_X3_150  (c_X3_as hM hT hW d 1 hd (by decide)) hM.1 rfl rfl rfl (Nat.le_of_ble_eq_true rfl) dX3_lay_43 ⟨by decide, by decide, by decide, by decide⟩ (fun v M hp => ?_) (fun _ _ _ _ h => h.elim)
      obtain ⟨rfl, rfl⟩ := hp
      refine m_sti ?_
      refine m_istore X dX3_lay_46 rfl rfl ?_
      refine m_iload X dX3_lay_48 rfl ?_
      refine m_ifeq X dX3_lay_50 (t := 58) (by decide) (fun c_50 => ?_) (fun c_50 => ?_)
      · skip
        try simp only [bI_0, Bool.not_eq_false] at c_50
        rw [z_nI (by have := asF_lt σ d 1; have := asF_lt σ d 8; have := asF_lt σ d 9; omega), ← ek] at c_50
        refine m_aload_n X dX3_lay_58 rfl rfl (by first | rfl | exact isR_rf) ?_
        refine m_iload_n X dX3_lay_59 rfl rfl ?_
        refine m_iload_n X dX3_lay_60 rfl rfl ?_
        refine m_iload_n X dX3_lay_61 rfl rfl ?_
        refine m_callV X cs_X3_170  (c_X3_itemOf hM hT hW a k i hs (by omega)) hM.1 rfl rfl rfl (Nat.le_of_ble_eq_true rfl) dX3_lay_62 ⟨by decide, by decide, by decide, by decide⟩ (fun v M hp => ?_) (fun _ _ _ _ h => h.elim)
        obtain ⟨rfl, rfl⟩ := hp
        refine m_sti ?_
        refine m_istore X dX3_lay_65 rfl rfl ?_
        refine m_iload X dX3_lay_67 rfl ?_
        refine m_ifeq X dX3_lay_69 (t := 75) (by decide) (fun c_69 => ?_) (fun c_69 => ?_)
        · skip
          try simp only [bI_0, Bool.not_eq_false] at c_69
          rw [z_nI (by have := itemF_lt σ a k i; omega)] at c_69
          have hp0 := hW.pos hs (fun z => by simp [itemF, rowF, asF, z] at c_69)
          have e5 : layA σ a k i d = if σ.kd (σ.sl a) = 7 ∧ σ.sl d ≠ 0 ∧ σ.kd (σ.sl d) = 8 then (5, σ) else (0, σ.setIt (σ.bg (σ.sl a) + i.toInt.toNat) (lN (σ.sl d))) := by rw [layA, if_neg (fun z => by rcases z with z | z; exact z c_10; exact z c_50), if_neg (fun z => z c_69)]
          obtain ⟨h0, hk0, j, hj, rfl⟩ := itemF_0 c_69 (by omega)
          rw [nI_toNat (by omega)] at e5
          have hsd := hW.sl hd
          refine m_aload_n X dX3_lay_75 rfl rfl (by first | rfl | exact isR_rf) ?_
          refine m_getf X fg_X3_7_X3 hM.1 rfl dX3_lay_76 ?_
          refine m_aload_n X dX3_lay_79 rfl rfl (by first | rfl | exact isR_rf) ?_
          refine m_getf X fg_X3_26_X3 hM.1 rfl dX3_lay_80 ?_
          refine m_iload_n X dX3_lay_83 rfl rfl ?_
          refine s_iald X hM rfl rfl (by exact tin (by simp only [alen]; omega) rfl) dX3_lay_84 ?_
          refine m_topi X (hT.slot hs) ?_
          refine s_iald X hM rfl rfl (by exact tin (by simp only [alen]; omega) rfl) dX3_lay_85 ?_
          refine m_topi X (hT.kind hW hp0.1 hp0.2.1) ?_
          refine m_bipush X dX3_lay_86 (v := 7) (by decide) ?_
          refine m_icmpne X dX3_lay_88 (t := 120) (by decide) (fun c_88 => ?_) (fun c_88 => ?_)
          · skip
            have c_88 : ¬ σ.kd (σ.sl a) = 7 := fun z => c_88 (by rw [z]; rfl)
            have e : layA σ a k (nI j) d = (0, σ.setIt (σ.bg (σ.sl a) + j) (lN (σ.sl d))) := e5.trans (if_neg (fun z => c_88 z.1))
            refine m_aload_n X dX3_lay_120 rfl rfl (by first | rfl | exact isR_rf) ?_
            refine m_getf X fg_X3_22_X3 hM.1 rfl dX3_lay_121 ?_
            refine m_aload_n X dX3_lay_124 rfl rfl (by first | rfl | exact isR_rf) ?_
            refine m_getf X fg_X3_13_X3 hM.1 rfl dX3_lay_125 ?_
            refine m_aload_n X dX3_lay_128 rfl rfl (by first | rfl | exact isR_rf) ?_
            refine m_getf X fg_X3_26_X3 hM.1 rfl dX3_lay_129 ?_
            refine m_iload_n X dX3_lay_132 rfl rfl ?_
            refine s_iald X hM rfl rfl (by exact tin (by simp only [alen]; omega) rfl) dX3_lay_133 ?_
            refine m_topi X (hT.slot hs) ?_
            refine s_iald X hM rfl rfl (by exact tin (by simp only [alen]; omega) rfl) dX3_lay_134 ?_
            refine m_topi X (hT.begin hW hp0.1 hp0.2.1) ?_
            refine m_iload_n X dX3_lay_135 rfl rfl ?_
            refine m_iadd X dX3_lay_136 ?_
            refine m_topi X (nI_add _ _) ?_
            refine m_aload_n X dX3_lay_137 rfl rfl (by first | rfl | exact isR_rf) ?_
            refine m_getf X fg_X3_26_X3 hM.1 rfl dX3_lay_138 ?_
            refine m_iload X dX3_lay_141 rfl ?_
            refine s_iald X hM rfl rfl (by exact tin (by simp only [alen]; omega) rfl) dX3_lay_143 ?_
            refine m_topi X (hT.slot hd) ?_
            refine m_i2l X dX3_lay_144 ?_
            refine m_topl X (nI_l (by omega)) ?_
            refine s_last X hM rfl rfl (by exact tin (by simp only [alen]; omega) rfl) dX3_lay_145 (fun M hM => ?_)
            refine m_iconst X dX3_lay_146 (v := 0) (by decide) ?_
            exact m_iret X dX3_lay_147 (by decide) (by decide) (by rw [e]; exact pT_mk hM (hT.setIt (by omega)) FrT.rf)
          · skip
            have c_88 : σ.kd (σ.sl a) = 7 := (nI_eq (b := 7) (by omega) (by decide)).mp c_88
            refine m_aload_n X dX3_lay_91 rfl rfl (by first | rfl | exact isR_rf) ?_
            refine m_getf X fg_X3_26_X3 hM.1 rfl dX3_lay_92 ?_
            refine m_iload X dX3_lay_95 rfl ?_
            refine s_iald X hM rfl rfl (by exact tin (by simp only [alen]; omega) rfl) dX3_lay_97 ?_
            refine m_topi X (hT.slot hd) ?_
            refine m_ifeq X dX3_lay_98 (t := 120) (by decide) (fun c_98 => ?_) (fun c_98 => ?_)
            · skip
              try simp only [bI_0, Bool.not_eq_false] at c_98
              rw [z_nI (by omega)] at c_98
              have e : layA σ a k (nI j) d = (0, σ.setIt (σ.bg (σ.sl a) + j) (lN (σ.sl d))) := e5.trans (if_neg (fun z => z.2.1 c_98))
              refine m_aload_n X dX3_lay_120 rfl rfl (by first | rfl | exact isR_rf) ?_
              refine m_getf X fg_X3_22_X3 hM.1 rfl dX3_lay_121 ?_
              refine m_aload_n X dX3_lay_124 rfl rfl (by first | rfl | exact isR_rf) ?_
              refine m_getf X fg_X3_13_X3 hM.1 rfl dX3_lay_125 ?_
              refine m_aload_n X dX3_lay_128 rfl rfl (by first | rfl | exact isR_rf) ?_
              refine m_getf X fg_X3_26_X3 hM.1 rfl dX3_lay_129 ?_
              refine m_iload_n X dX3_lay_132 rfl rfl ?_
              refine s_iald X hM rfl rfl (by exact tin (by simp only [alen]; omega) rfl) dX3_lay_133 ?_
              refine m_topi X (hT.slot hs) ?_
              refine s_iald X hM rfl rfl (by exact tin (by simp only [alen]; omega) rfl) dX3_lay_134 ?_
              refine m_topi X (hT.begin hW hp0.1 hp0.2.1) ?_
              refine m_iload_n X dX3_lay_135 rfl rfl ?_
              refine m_iadd X dX3_lay_136 ?_
              refine m_topi X (nI_add _ _) ?_
              refine m_aload_n X dX3_lay_137 rfl rfl (by first | rfl | exact isR_rf) ?_
              refine m_getf X fg_X3_26_X3 hM.1 rfl dX3_lay_138 ?_
              refine m_iload X dX3_lay_141 rfl ?_
              refine s_iald X hM rfl rfl (by exact tin (by simp only [alen]; omega) rfl) dX3_lay_143 ?_
              refine m_topi X (hT.slot hd) ?_
              refine m_i2l X dX3_lay_144 ?_
              refine m_topl X (nI_l (by omega)) ?_
              refine s_last X hM rfl rfl (by exact tin (by simp only [alen]; omega) rfl) dX3_lay_145 (fun M hM => ?_)
              refine m_iconst X dX3_lay_146 (v := 0) (by decide) ?_
              exact m_iret X dX3_lay_147 (by decide) (by decide) (by rw [e]; exact pT_mk hM (hT.setIt (by omega)) FrT.rf)
            · skip
              try simp only [bI_0, Bool.not_eq_false] at c_98
              rw [z_nI (by omega)] at c_98
              have hq0 := hW.pos hd c_98
              refine m_aload_n X dX3_lay_101 rfl rfl (by first | rfl | exact isR_rf) ?_
              refine m_getf X fg_X3_7_X3 hM.1 rfl dX3_lay_102 ?_
              refine m_aload_n X dX3_lay_105 rfl rfl (by first | rfl | exact isR_rf) ?_
              refine m_getf X fg_X3_26_X3 hM.1 rfl dX3_lay_106 ?_
              refine m_iload X dX3_lay_109 rfl ?_
              refine s_iald X hM rfl rfl (by exact tin (by simp only [alen]; omega) rfl) dX3_lay_111 ?_
              refine m_topi X (hT.slot hd) ?_
              refine s_iald X hM rfl rfl (by exact tin (by simp only [alen]; omega) rfl) dX3_lay_112 ?_
              refine m_topi X (hT.kind hW hq0.1 hq0.2.1) ?_
              refine m_bipush X dX3_lay_113 (v := 8) (by decide) ?_
              refine m_icmpne X dX3_lay_115 (t := 120) (by decide) (fun c_115 => ?_) (fun c_115 => ?_)
              · skip
                have c_115 : ¬ σ.kd (σ.sl d) = 8 := fun z => c_115 (by rw [z]; rfl)
                have e : layA σ a k (nI j) d = (0, σ.setIt (σ.bg (σ.sl a) + j) (lN (σ.sl d))) := e5.trans (if_neg (fun z => c_115 z.2.2))
                refine m_aload_n X dX3_lay_120 rfl rfl (by first | rfl | exact isR_rf) ?_
                refine m_getf X fg_X3_22_X3 hM.1 rfl dX3_lay_121 ?_
                refine m_aload_n X dX3_lay_124 rfl rfl (by first | rfl | exact isR_rf) ?_
                refine m_getf X fg_X3_13_X3 hM.1 rfl dX3_lay_125 ?_
                refine m_aload_n X dX3_lay_128 rfl rfl (by first | rfl | exact isR_rf) ?_
                refine m_getf X fg_X3_26_X3 hM.1 rfl dX3_lay_129 ?_
                refine m_iload_n X dX3_lay_132 rfl rfl ?_
                refine s_iald X hM rfl rfl (by exact tin (by simp only [alen]; omega) rfl) dX3_lay_133 ?_
                refine m_topi X (hT.slot hs) ?_
                refine s_iald X hM rfl rfl (by exact tin (by simp only [alen]; omega) rfl) dX3_lay_134 ?_
                refine m_topi X (hT.begin hW hp0.1 hp0.2.1) ?_
                refine m_iload_n X dX3_lay_135 rfl rfl ?_
                refine m_iadd X dX3_lay_136 ?_
                refine m_topi X (nI_add _ _) ?_
                refine m_aload_n X dX3_lay_137 rfl rfl (by first | rfl | exact isR_rf) ?_
                refine m_getf X fg_X3_26_X3 hM.1 rfl dX3_lay_138 ?_
                refine m_iload X dX3_lay_141 rfl ?_
                refine s_iald X hM rfl rfl (by exact tin (by simp only [alen]; omega) rfl) dX3_lay_143 ?_
                refine m_topi X (hT.slot hd) ?_
                refine m_i2l X dX3_lay_144 ?_
                refine m_topl X (nI_l (by omega)) ?_
                refine s_last X hM rfl rfl (by exact tin (by simp only [alen]; omega) rfl) dX3_lay_145 (fun M hM => ?_)
                refine m_iconst X dX3_lay_146 (v := 0) (by decide) ?_
                exact m_iret X dX3_lay_147 (by decide) (by decide) (by rw [e]; exact pT_mk hM (hT.setIt (by omega)) FrT.rf)
              · skip
                have c_115 : σ.kd (σ.sl d) = 8 := (nI_eq (b := 8) (by omega) (by decide)).mp c_115
                have e : layA σ a k (nI j) d = (5, σ) := e5.trans (if_pos ⟨c_88, c_98, c_115⟩)
                refine m_iconst X dX3_lay_118 (v := 5) (by decide) ?_
                exact m_iret X dX3_lay_119 (by decide) (by decide) (by rw [e]; exact pT_mk hM hT FrT.rf)
        · skip
          try simp only [bI_0, Bool.not_eq_false] at c_69
          rw [z_nI (by have := itemF_lt σ a k i; omega)] at c_69
          have e : layA σ a k i d = (itemF σ a k i, σ) := by rw [layA, if_neg (fun z => by rcases z with z | z; exact z c_10; exact z c_50), if_pos c_69]
          have e2 : itemF σ a k i = itemF σ a k i := rfl
          refine m_iload X dX3_lay_72 rfl ?_
          exact m_iret X dX3_lay_74 (by decide) (by decide) (by rw [e, e2]; exact pT_mk hM hT FrT.rf)
      · skip
        try simp only [bI_0, Bool.not_eq_false] at c_50
        rw [z_nI (by have := asF_lt σ d 1; have := asF_lt σ d 8; have := asF_lt σ d 9; omega), ← ek] at c_50
        refine m_iload X dX3_lay_53 rfl ?_
        refine m_goto X dX3_lay_55 (t := 65) (by decide) ?_
        refine m_istore X dX3_lay_65 rfl rfl ?_
        refine m_iload X dX3_lay_67 rfl ?_
        refine m_ifeq X dX3_lay_69 (t := 75) (by decide) (fun c_69 => ?_) (fun c_69 => ?_)
        · skip
          try simp only [bI_0, Bool.not_eq_false] at c_69
          rw [z_nI (by have := asF_lt σ d 1; have := asF_lt σ d 8; have := asF_lt σ d 9; omega), ← ek] at c_69
          exact absurd c_69 c_50
        · skip
          try simp only [bI_0, Bool.not_eq_false] at c_69
          have e : layA σ a k i d = (2, σ) := if_pos (Or.inr c_50)
          have e2 := asF_n c_50
          rw [ek] at e2
          refine m_iload X dX3_lay_72 rfl ?_
          exact m_iret X dX3_lay_74 (by decide) (by decide) (by rw [e, e2]; exact pT_mk hM hT FrT.rf)
  · skip
    try simp only [bI_0, Bool.not_eq_false] at c_10
    rw [z_nI (by have := asF_lt σ a k; omega)] at c_10
    refine m_iload X dX3_lay_13 rfl ?_
    refine m_goto X dX3_lay_15 (t := 46) (by decide) ?_
    refine m_istore X dX3_lay_46 rfl rfl ?_
    refine m_iload X dX3_lay_48 rfl ?_
    refine m_ifeq X dX3_lay_50 (t := 58) (by decide) (fun c_50 => ?_) (fun c_50 => ?_)
    · skip
      try simp only [bI_0, Bool.not_eq_false] at c_50
      rw [z_nI (by have := asF_lt σ a k; omega)] at c_50
      exact absurd c_50 c_10
    · skip
      try simp only [bI_0, Bool.not_eq_false] at c_50
      rw [z_nI (by have := asF_lt σ a k; omega)] at c_50
      refine m_iload X dX3_lay_53 rfl ?_
      refine m_goto X dX3_lay_55 (t := 65) (by decide) ?_
      refine m_istore X dX3_lay_65 rfl rfl ?_
      refine m_iload X dX3_lay_67 rfl ?_
      refine m_ifeq X dX3_lay_69 (t := 75) (by decide) (fun c_69 => ?_) (fun c_69 => ?_)
      · skip
        try simp only [bI_0, Bool.not_eq_false] at c_69
        rw [z_nI (by have := asF_lt σ a k; omega)] at c_69
        exact absurd c_69 c_10
      · skip
        try simp only [bI_0, Bool.not_eq_false] at c_69
        have e : layA σ a k i d = (2, σ) := if_pos (Or.inl c_10)
        have e2 := asF_n c_10
        refine m_iload X dX3_lay_72 rfl ?_
        exact m_iret X dX3_lay_74 (by decide) (by decide) (by rw [e, e2]; exact pT_mk hM hT FrT.rf)
