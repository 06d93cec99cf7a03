/-! THE MODEL RUNS A NODE, CLEARS ITS STORE, TELLS WHAT IS ALIKE (printed by wip/D-80403w/tools/m42.py) -/
set_option maxRecDepth 100000
/-- the end of goes -/
def pG (G : GX) (h : Nat) (ad : Nat → Nat) (ν : NS) (p : Nat × ES) (F : Nat → Int32) (A : Nat → Nat → Int32) : Option Value → Mem → Prop := fun v M' => v = some (.int (nI p.1)) ∧ ∃ (F' : Nat → Int32) (A' : Nat → Nat → Int32) (B' : Nat → Nat → Int64), MRep G h ad F' A' B' M' ∧ RI ν p.2 F' A' B' ∧ F' 28 = F 28 ∧ Keep 0 A A'

set_option maxHeartbeats 4000000 in
theorem c_X3_goes {G : GX} {h : Nat} {ad : Nat → Nat} {F : Nat → Int32} {A : Nat → Nat → Int32} {B : Nat → Nat → Int64} {M : Mem} (hM : MRep G h ad F A B M) {ν : NS} {s : ES} (hR : RI ν s F A B) (hV : VN ν) (n : Nat) (hn : n < ν.N) : Con G yX3_goes wX3_goes (rmm 8 182) [.ref h, .int (nI n)] M (pG G h ad ν (exec ν 81 n s) F A) nX := by
  refine Con.mk (by decide) rfl [(0, some (.ref h)), (1, some (.int (nI n)))] rfl fun x X hno => ?_
  refine m_aload_n X dX3_goes_0 rfl rfl (by first | rfl | exact isR_rf) ?_
  refine m_iconst X dX3_goes_1 (v := (-1)) (by decide) ?_
  refine s_put X hM fp_X3_228_X3 rfl rfl rfl rfl dX3_goes_2 (fun M hM => ?_)
  refine m_aload_n X dX3_goes_5 rfl rfl (by first | rfl | exact isR_rf) ?_
  refine m_iload_n X dX3_goes_6 rfl rfl ?_
  refine m_callV X cs_X3_231  (c_X3_push hM 0 (nI n) (by rw [pk_us]; rfl) (by decide)) hM.1 rfl rfl rfl (Nat.le_of_ble_eq_true rfl) dX3_goes_7 ⟨by decide, by decide, by decide, by decide⟩ (fun v M hp => ?_) (fun _ _ _ _ h => h.elim)
  obtain ⟨rfl, hM⟩ := hp
  refine m_stn ?_
  refine m_iconst X dX3_goes_10 (v := 0) (by decide) ?_
  refine m_istore_n X dX3_goes_11 rfl rfl rfl ?_
  refine m_loc [(2, some (.int (0))), (0, some (.ref h)), (1, some (.int (nI n)))] ⟨rfl, rfl, rfl, trivial⟩ ?_
  refine goes_run X hV 81 0 n s _ _ _ _ hM (hR.to (fun k hk => by rw [pk_un hk, pk_un hk]) fun k a b c => pushA_k a b c) (by have := hV.1; omega) hn (by have := hV.1; omega) pk_us (pushA_24.trans (if_pos rfl)) (pushA_25.trans (if_pos rfl)) (pushA_26.trans (if_pos rfl)) fun F' A' B' M' hM' hR' h27 h28 hK => ?_
  have h28' : F' 28 = F 28 := h28.trans (by rw [pk_un (by decide), pk_un (by decide)])
  have hK' := (Keep.push (A := A) (v := nI n) (Nat.le_refl 0)).tr hK
  refine m_aload_n X dX3_goes_12 rfl rfl (by first | rfl | exact isR_rf) ?_
  refine m_getf X fg_X3_228_X3 hM'.1 rfl dX3_goes_13 ?_
  refine m_iflt X dX3_goes_16 (t := 75) (by decide) (fun c_16 => ?_) (fun c_16 => absurd (by rw [h27]; decide) c_16)
  refine m_iload_n X dX3_goes_75 rfl rfl ?_
  exact m_iret X dX3_goes_76 (by decide) (by decide) (by exact ⟨rfl, F', A', B', hM', hR', h28', hK'⟩)
theorem RI.anew {ν : NS} {s : ES} {F : Nat → Int32} {A : Nat → Nat → Int32} {B : Nat → Nat → Int64} (h : RI ν s F A B) : RI ν s.anew (upd (upd (upd (upd (upd (upd F 17 0) 18 0) 19 0) 20 0) 21 0) 22 (-1)) A B := by
  obtain ⟨h1, h2, h3, h4, h5, h6, h7, h8⟩ := h
  have e : ∀ j, j ≠ 17 → j ≠ 18 → j ≠ 19 → j ≠ 20 → j ≠ 21 → j ≠ 22 → upd (upd (upd (upd (upd (upd F 17 0) 18 0) 19 0) 20 0) 21 0) 22 (-1) j = F j := fun j a b c d e f => by rw [pk_un f, pk_un e, pk_un d, pk_un c, pk_un b, pk_un a]
  refine ⟨⟨(e 0 (by decide) (by decide) (by decide) (by decide) (by decide) (by decide)).trans h1.1, (e 1 (by decide) (by decide) (by decide) (by decide) (by decide) (by decide)).trans h1.2.1, ?_, h1.2.2.2⟩, h2.setCm, ?_, ?_, ?_, ?_, ?_, h8.to (e 9 (by decide) (by decide) (by decide) (by decide) (by decide) (by decide)) fun _ _ _ => rfl⟩
  · rw [pk_un (by decide), pk_un (by decide), pk_un (by decide), pk_us]; rfl
  · rw [pk_un (by decide), pk_un (by decide), pk_un (by decide), pk_un (by decide), pk_un (by decide), pk_us]; rfl
  · rw [pk_un (by decide), pk_un (by decide), pk_un (by decide), pk_un (by decide), pk_us]; rfl
  · rw [pk_un (by decide), pk_un (by decide), pk_us]; rfl
  · rw [pk_un (by decide), pk_us]; rfl
  · rw [pk_us]; rfl
set_option maxHeartbeats 4000000 in
theorem c_X3_run {G : GX} {h : Nat} {ad : Nat → Nat} {F : Nat → Int32} {A : Nat → Nat → Int32} {B : Nat → Nat → Int64} {M : Mem} {Φ : FS} (hM : MRep G h ad F A B M) (hI : MF Φ F A B) (hW : FW Φ) (v : Int32) : Con G yX3_run wX3_run (rmm 9 205) [.ref h, .int v] M (pA G h ad (.int (apRun v Φ).1) (apRun v Φ).2) nX := by
  refine Con.mk (by decide) rfl [(0, some (.ref h)), (1, some (.int v))] rfl fun x X hno => ?_
  have hN := hW.1.1
  have hWF := hW.2.1
  have hb1 := hWF.1
  have hb2 := hWF.2.1
  have hR := hI.1
  have hT := hR.1
  have hMN := hR.2.2.2.2.2.2.2
  refine m_aload_n X dX3_run_0 rfl rfl (by first | rfl | exact isR_rf) ?_
  refine m_iload_n X dX3_run_1 rfl rfl ?_
  refine m_callV X cs_X3_139  (c_X3_isNode hM hMN.1 hN v) hM.1 rfl rfl rfl (Nat.le_of_ble_eq_true rfl) dX3_run_2 ⟨by decide, by decide, by decide, by decide⟩ (fun v M hp => ?_) (fun _ _ _ _ h => h.elim)
  obtain ⟨rfl, rfl⟩ := hp
  refine m_sti ?_
  refine m_ifne X dX3_run_5 (t := 10) (by decide) (fun c_5 => ?_) (fun c_5 => ?_)
  · skip
    try simp only [bI_0, Bool.not_eq_false] at c_5
    obtain ⟨n, hn, rfl⟩ := isN_nI hN c_5
    have e : apRun (nI n) Φ = (nI (exec Φ.1 81 n Φ.2.1.anew).1, Φ.1, (exec Φ.1 81 n Φ.2.1.anew).2, Φ.2.2) := by unfold apRun; rw [if_pos c_5, tn_nI (by omega)]
    refine m_aload_n X dX3_run_10 rfl rfl (by first | rfl | exact isR_rf) ?_
    refine m_iconst X dX3_run_11 (v := 0) (by decide) ?_
    refine s_put X hM fp_X3_235_X3 rfl rfl rfl rfl dX3_run_12 (fun M hM => ?_)
    refine m_aload_n X dX3_run_15 rfl rfl (by first | rfl | exact isR_rf) ?_
    refine m_iconst X dX3_run_16 (v := 0) (by decide) ?_
    refine s_put X hM fp_X3_241_X3 rfl rfl rfl rfl dX3_run_17 (fun M hM => ?_)
    refine m_aload_n X dX3_run_20 rfl rfl (by first | rfl | exact isR_rf) ?_
    refine m_iconst X dX3_run_21 (v := 0) (by decide) ?_
    refine s_put X hM fp_X3_177_X3 rfl rfl rfl rfl dX3_run_22 (fun M hM => ?_)
    refine m_aload_n X dX3_run_25 rfl rfl (by first | rfl | exact isR_rf) ?_
    refine m_iconst X dX3_run_26 (v := 0) (by decide) ?_
    refine s_put X hM fp_X3_251_X3 rfl rfl rfl rfl dX3_run_27 (fun M hM => ?_)
    refine m_aload_n X dX3_run_30 rfl rfl (by first | rfl | exact isR_rf) ?_
    refine m_iconst X dX3_run_31 (v := 0) (by decide) ?_
    refine s_put X hM fp_X3_248_X3 rfl rfl rfl rfl dX3_run_32 (fun M hM => ?_)
    refine m_aload_n X dX3_run_35 rfl rfl (by first | rfl | exact isR_rf) ?_
    refine m_iconst X dX3_run_36 (v := (-1)) (by decide) ?_
    refine s_put X hM fp_X3_53_X3 rfl rfl rfl rfl dX3_run_37 (fun M hM => ?_)
    refine m_aload_n X dX3_run_40 rfl rfl (by first | rfl | exact isR_rf) ?_
    refine m_iload_n X dX3_run_41 rfl rfl ?_
    refine m_callV X cs_X3_263  (c_X3_goes hM hR.anew hW.1 n hn) hM.1 rfl rfl rfl (Nat.le_of_ble_eq_true rfl) dX3_run_42 ⟨by decide, by decide, by decide, by decide⟩ (fun v M hp => ?_) (fun _ _ _ _ h => h.elim)
    obtain ⟨rfl, F', A', B', hM, hR', h28, hK⟩ := hp
    refine m_sti ?_
    exact m_iret X dX3_run_45 (by decide) (by decide) (by rw [e]; exact ⟨rfl, F', A', B', hM, hR', hI.2.to (h28.trans (by rw [pk_un (by decide), pk_un (by decide), pk_un (by decide), pk_un (by decide), pk_un (by decide), pk_un (by decide)])) fun k a b => hK.1 k (by omega) (by omega) (by omega) (by omega)⟩)
  · skip
    try simp only [bI_0, Bool.not_eq_false] at c_5
    refine m_iconst X dX3_run_8 (v := (-1)) (by decide) ?_
    exact m_iret X dX3_run_9 (by decide) (by decide) (by refine ⟨?_, F, A, B, hM, ?_⟩ <;> (unfold apRun; rw [if_neg (by rw [c_5]; decide)]); exact hI)
theorem MF.clear {Φ : FS} {F : Nat → Int32} {A A' : Nat → Nat → Int32} {B B' : Nat → Nat → Int64} (hI : MF Φ F A B) (hA : ∀ k, k ≠ 7 → A' k = A k) (h7 : ∀ s, s < 12 → A' 7 s = 0) (h8 : ∀ r, r < 8 → B' 8 r = 0) : MF (apClear Φ).2 (upd (upd F 0 0) 1 0) A' B' := by
  obtain ⟨⟨h1, h2, h3, h4, h5, h6, h7', h8'⟩, hq⟩ := hI
  have e : ∀ j, j ≠ 0 → j ≠ 1 → upd (upd F 0 0) 1 0 j = F j := fun j a b => by rw [pk_un b, pk_un a]
  refine ⟨⟨⟨?_, pk_us, (e 19 (by decide) (by decide)).trans h1.2.2.1, fun t t1 t2 => ?_, fun j hj => absurd hj (Nat.not_lt_zero _), fun s hs => (h7 s hs).trans nI_0.symm, fun r hr => h8 r hr⟩, ⟨Nat.zero_le _, Nat.zero_le _, fun t t1 t2 => ?_, fun s _ => Nat.le_refl 0, fun t t1 t2 => ?_⟩, (e 17 (by decide) (by decide)).trans h3, (e 18 (by decide) (by decide)).trans h4, (e 20 (by decide) (by decide)).trans h5, (e 21 (by decide) (by decide)).trans h6, (e 22 (by decide) (by decide)).trans h7', h8'.to (e 9 (by decide) (by decide)) fun k a b => hA k (by omega)⟩, hq.to (e 28 (by decide) (by decide)) fun k a b => hA k (by omega)⟩
  · rw [pk_un (by decide), pk_us]; exact nI_0.symm
  · have : t ≤ 0 := t2
    omega
  · have : t ≤ 0 := t2
    omega
  · have : t ≤ 0 := t2
    omega
set_option maxHeartbeats 4000000 in
theorem c_X3_clear {G : GX} {h : Nat} {ad : Nat → Nat} {F : Nat → Int32} {A : Nat → Nat → Int32} {B : Nat → Nat → Int64} {M : Mem} {Φ : FS} (hM : MRep G h ad F A B M) (hI : MF Φ F A B) (hW : FW Φ) : Con G yX3_clear wX3_clear (rmm 0 0) [.ref h] M (pA G h ad (.int (apClear Φ).1) (apClear Φ).2) nX := by
  refine Con.mk (by decide) rfl [(0, some (.ref h))] rfl fun x X hno => ?_
  have hN := hW.1.1
  have hWF := hW.2.1
  have hb1 := hWF.1
  have hb2 := hWF.2.1
  have hR := hI.1
  have hT := hR.1
  have hMN := hR.2.2.2.2.2.2.2
  have loop2 : ∀ (d i : Nat) (A' : Nat → Nat → Int32) (B' : Nat → Nat → Int64) (M' : Mem), i + d = 8 → (∀ k, k ≠ 7 → A' k = A k) → (∀ s, s < 12 → A' 7 s = 0) → (∀ r, r < i → B' 8 r = 0) → MRep G h ad (upd (upd F 0 0) 1 0) A' B' M' → WM G x 3 (QM G x (pA G h ad (.int (apClear Φ).1) (apClear Φ).2) nX (rmm 0 0)) 0 0 M' 38 [(2, some (.int (nI i))), (0, some (.ref h)), (1, some (.int (nI Φ.2.1.1.T)))] [] := by
    intro d
    induction d with
    | zero =>
      intro i A' B' M' hi hA h7 h8 hM
      refine m_iload_n X dX3_clear_38 rfl rfl ?_
      refine m_bipush X dX3_clear_39 (v := 8) (by decide) ?_
      refine m_icmpge X dX3_clear_41 (t := 57) (by decide) (fun c_41 => ?_) (fun c_41 => absurd ((nI_leI (a := 8) (by decide) (by omega)).mpr (by omega)) c_41)
      refine m_iload_n X dX3_clear_57 rfl rfl ?_
      exact m_iret X dX3_clear_58 (by decide) (by decide) (by exact ⟨rfl, _, _, _, hM, hI.clear hA h7 fun r hr => h8 r (by omega)⟩)
    | succ d ih =>
      intro i A' B' M' hi hA h7 h8 hM
      refine m_iload_n X dX3_clear_38 rfl rfl ?_
      refine m_bipush X dX3_clear_39 (v := 8) (by decide) ?_
      refine m_icmpge X dX3_clear_41 (t := 57) (by decide) (fun c_41 => absurd ((nI_leI (a := 8) (by decide) (by omega)).mp c_41) (by omega)) (fun c_41 => ?_)
      refine m_aload_n X dX3_clear_44 rfl rfl (by first | rfl | exact isR_rf) ?_
      refine m_getf X fg_X3_29_X3 hM.1 rfl dX3_clear_45 ?_
      refine m_iload_n X dX3_clear_48 rfl rfl ?_
      refine m_lconst X dX3_clear_49 (v := 0) (by decide) ?_
      refine s_last X hM rfl rfl (by exact tin (by simp only [alen]; omega) rfl) dX3_clear_50 (fun M hM => ?_)
      refine m_iinc X dX3_clear_51 rfl (w := 1) (by decide) rfl ?_
      refine m_goto X dX3_clear_54 (t := 38) (by decide) ?_
      refine m_loc [(2, some (.int (nI (i + 1)))), (0, some (.ref h)), (1, some (.int (nI Φ.2.1.1.T)))] ⟨by rw [nI_succ i]; rfl, rfl, rfl, trivial⟩ (ih (i + 1) _ _ _ (by omega) hA h7 (fun r hr => ?_) hM)
      rw [nI_clamp (by omega), bset_k]
      unfold vp_updL
      split
      · rfl
      · exact h8 r (by omega)
  have loop1 : ∀ (d i : Nat) (A' : Nat → Nat → Int32) (M' : Mem), i + d = 12 → (∀ k, k ≠ 7 → A' k = A k) → (∀ s, s < i → A' 7 s = 0) → MRep G h ad (upd (upd F 0 0) 1 0) A' B M' → WM G x 3 (QM G x (pA G h ad (.int (apClear Φ).1) (apClear Φ).2) nX (rmm 0 0)) 0 0 M' 17 [(2, some (.int (nI i))), (0, some (.ref h)), (1, some (.int (nI Φ.2.1.1.T)))] [] := by
    intro d
    induction d with
    | zero =>
      intro i A' M' hi hA h7 hM
      refine m_iload_n X dX3_clear_17 rfl rfl ?_
      refine m_bipush X dX3_clear_18 (v := 12) (by decide) ?_
      refine m_icmpge X dX3_clear_20 (t := 36) (by decide) (fun c_20 => ?_) (fun c_20 => absurd ((nI_leI (a := 12) (by decide) (by omega)).mpr (by omega)) c_20)
      refine m_iconst X dX3_clear_36 (v := 0) (by decide) ?_
      refine m_istore_n X dX3_clear_37 rfl rfl rfl ?_
      exact m_loc [(2, some (.int (nI 0))), (0, some (.ref h)), (1, some (.int (nI Φ.2.1.1.T)))] ⟨rfl, rfl, rfl, trivial⟩ (loop2 8 0 _ _ _ rfl hA (fun s hs => h7 s (by omega)) (fun r hr => absurd hr (Nat.not_lt_zero _)) hM)
    | succ d ih =>
      intro i A' M' hi hA h7 hM
      refine m_iload_n X dX3_clear_17 rfl rfl ?_
      refine m_bipush X dX3_clear_18 (v := 12) (by decide) ?_
      refine m_icmpge X dX3_clear_20 (t := 36) (by decide) (fun c_20 => absurd ((nI_leI (a := 12) (by decide) (by omega)).mp c_20) (by omega)) (fun c_20 => ?_)
      refine m_aload_n X dX3_clear_23 rfl rfl (by first | rfl | exact isR_rf) ?_
      refine m_getf X fg_X3_26_X3 hM.1 rfl dX3_clear_24 ?_
      refine m_iload_n X dX3_clear_27 rfl rfl ?_
      refine m_iconst X dX3_clear_28 (v := 0) (by decide) ?_
      refine s_iast X hM rfl rfl (by exact tin (by simp only [alen]; omega) rfl) dX3_clear_29 (fun M hM => ?_)
      refine m_iinc X dX3_clear_30 rfl (w := 1) (by decide) rfl ?_
      refine m_goto X dX3_clear_33 (t := 17) (by decide) ?_
      refine m_loc [(2, some (.int (nI (i + 1)))), (0, some (.ref h)), (1, some (.int (nI Φ.2.1.1.T)))] ⟨by rw [nI_succ i]; rfl, rfl, rfl, trivial⟩ (ih (i + 1) _ _ (by omega) (fun k hk => (aset_n hk).trans (hA k hk)) (fun r hr => ?_) hM)
      rw [nI_clamp (by omega), aset_k]
      unfold upd
      split
      · rfl
      · exact h7 r (by omega)
  refine m_aload_n X dX3_clear_0 rfl rfl (by first | rfl | exact isR_rf) ?_
  refine m_getf X fg_X3_111_X3 hM.1 rfl dX3_clear_1 ?_
  refine m_topi X (hT.1) ?_
  refine m_istore_n X dX3_clear_4 rfl rfl rfl ?_
  refine m_aload_n X dX3_clear_5 rfl rfl (by first | rfl | exact isR_rf) ?_
  refine m_iconst X dX3_clear_6 (v := 0) (by decide) ?_
  refine s_put X hM fp_X3_111_X3 rfl rfl rfl rfl dX3_clear_7 (fun M hM => ?_)
  refine m_aload_n X dX3_clear_10 rfl rfl (by first | rfl | exact isR_rf) ?_
  refine m_iconst X dX3_clear_11 (v := 0) (by decide) ?_
  refine s_put X hM fp_X3_114_X3 rfl rfl rfl rfl dX3_clear_12 (fun M hM => ?_)
  refine m_iconst X dX3_clear_15 (v := 0) (by decide) ?_
  refine m_istore_n X dX3_clear_16 rfl rfl rfl ?_
  exact m_loc [(2, some (.int (nI 0))), (0, some (.ref h)), (1, some (.int (nI Φ.2.1.1.T)))] ⟨rfl, rfl, rfl, trivial⟩ (loop1 12 0 _ _ rfl (fun _ _ => rfl) (fun r hr => absurd hr (Nat.not_lt_zero _)) hM)
theorem allR_mono {p : Nat → Bool} {n : Nat} (b : Bool) : ∀ i, i ≤ n → (b && (List.range i).all p) = false → (b && (List.range n).all p) = false := by
  intro i hi h
  cases b with
  | false => rfl
  | true =>
    rw [Bool.true_and] at h ⊢
    rw [List.all_eq_false] at h ⊢
    obtain ⟨z, hz, hp⟩ := h
    exact ⟨z, List.mem_range.mpr (Nat.lt_of_lt_of_le (List.mem_range.mp hz) hi), hp⟩
theorem allR_succ {p : Nat → Bool} {b : Bool} {i : Nat} (h : (b && (List.range i).all p) = true) : (b && (List.range (i + 1)).all p) = p i := by
  rw [List.range_succ, List.all_append, ← Bool.and_assoc, h, Bool.true_and]
  simp
def plB (σ : AS) (x y : Nat) : Bool := decide (σ.kd x = σ.kd y) && decide (σ.ln x = σ.ln y) && decide (σ.nm x = σ.nm y)
theorem plB_iff {σ : AS} {x y : Nat} : plB σ x y = true ↔ σ.kd x = σ.kd y ∧ σ.ln x = σ.ln y ∧ σ.nm x = σ.nm y := by
  unfold plB
  rw [Bool.and_eq_true, Bool.and_eq_true, decide_eq_true_eq, decide_eq_true_eq, decide_eq_true_eq]
  exact and_assoc
set_option maxHeartbeats 4000000 in
theorem c_X3_plainTwins {G : GX} {h : Nat} {ad : Nat → Nat} {F : Nat → Int32} {A : Nat → Nat → Int32} {B : Nat → Nat → Int64} {M : Mem} {σ : AS} (hM : MRep G h ad F A B M) (hT : MT σ F A B) (hW : WF σ) (x y : Nat) (hx1 : 1 ≤ x) (hx2 : x ≤ σ.T) (hy1 : 1 ≤ y) (hy2 : y ≤ σ.T) : Con G yX3_plainTwins wX3_plainTwins (rmm 0 0) [.ref h, .int (nI x), .int (nI y)] M (pR M (some (.int (bI (plainT σ x y))))) nX := by
  refine Con.mk (by decide) rfl [(0, some (.ref h)), (1, some (.int (nI x))), (2, some (.int (nI y)))] rfl fun x' X hno => ?_
  have hb1 := hW.1
  have hb2 := hW.2.1
  have hxl := hW.len hx1 hx2
  have hyl := hW.len hy1 hy2
  have hxk := (hW.2.2.1 x hx1 hx2).2.1
  have hyk := (hW.2.2.1 y hy1 hy2).2.1
  have hno2 : (1 : Int32) = bI true := rfl
  have loop : ∀ (d i : Nat), i + d = σ.ln x → WM G x' 5 (QM G x' (pR M (some (.int (bI (plainT σ x y))))) nX (rmm 0 0)) 0 0 M 54 [(4, some (.int (nI i))), (3, some (.int (bI (plB σ x y && (List.range i).all (fun i => decide (σ.it (σ.bg x + i) = σ.it (σ.bg y + i))))))), (0, some (.ref h)), (1, some (.int (nI x))), (2, some (.int (nI y)))] [] := by
    intro d
    induction d with
    | zero =>
      intro i hi
      refine m_iload_n X dX3_plainTwins_54 rfl rfl ?_
      refine m_ifeq X dX3_plainTwins_55 (t := 113) (by decide) (fun c_55 => ?_) (fun c_55 => ?_)
      · skip
        try simp only [bI_0, Bool.not_eq_false] at c_55
        refine m_iload_n X dX3_plainTwins_113 rfl rfl ?_
        exact m_zret X dX3_plainTwins_114 (by first | rfl | exact bI_nar) (by decide) (by decide) (by refine ⟨?_, rfl⟩; have e : plainT σ x y = (plB σ x y && (List.range (σ.ln x)).all (fun i => decide (σ.it (σ.bg x + i) = σ.it (σ.bg y + i)))) := rfl; rw [e]; first | (rw [c_55, allR_mono _ i (by omega) c_55]; done) | (rw [show i = σ.ln x by omega]))
      · skip
        try simp only [bI_0, Bool.not_eq_false] at c_55
        refine m_iload X dX3_plainTwins_58 rfl ?_
        refine m_aload_n X dX3_plainTwins_60 rfl rfl (by first | rfl | exact isR_rf) ?_
        refine m_getf X fg_X3_16_X3 hM.1 rfl dX3_plainTwins_61 ?_
        refine m_iload_n X dX3_plainTwins_64 rfl rfl ?_
        refine s_iald X hM rfl rfl (by exact tin (by simp only [alen]; omega) rfl) dX3_plainTwins_65 ?_
        refine m_topi X (hT.length hW hx1 hx2) ?_
        refine m_icmpge X dX3_plainTwins_66 (t := 113) (by decide) (fun c_66 => ?_) (fun c_66 => absurd ((nI_leI (by omega) (by omega)).mpr (by omega)) c_66)
        refine m_iload_n X dX3_plainTwins_113 rfl rfl ?_
        exact m_zret X dX3_plainTwins_114 (by first | rfl | exact bI_nar) (by decide) (by decide) (by refine ⟨?_, rfl⟩; have e : plainT σ x y = (plB σ x y && (List.range (σ.ln x)).all (fun i => decide (σ.it (σ.bg x + i) = σ.it (σ.bg y + i)))) := rfl; rw [e]; first | (rw [c_55, allR_mono _ i (by omega) c_55]; done) | (rw [show i = σ.ln x by omega]))
    | succ d ih =>
      intro i hi
      refine m_iload_n X dX3_plainTwins_54 rfl rfl ?_
      refine m_ifeq X dX3_plainTwins_55 (t := 113) (by decide) (fun c_55 => ?_) (fun c_55 => ?_)
      · skip
        try simp only [bI_0, Bool.not_eq_false] at c_55
        refine m_iload_n X dX3_plainTwins_113 rfl rfl ?_
        exact m_zret X dX3_plainTwins_114 (by first | rfl | exact bI_nar) (by decide) (by decide) (by refine ⟨?_, rfl⟩; have e : plainT σ x y = (plB σ x y && (List.range (σ.ln x)).all (fun i => decide (σ.it (σ.bg x + i) = σ.it (σ.bg y + i)))) := rfl; rw [e]; rw [c_55, allR_mono _ i (by omega) c_55])
      · skip
        try simp only [bI_0, Bool.not_eq_false] at c_55
        have hbs := plB_iff.mp ((Bool.and_eq_true _ _).mp c_55).1
        have hnx := allR_succ c_55
        refine m_iload X dX3_plainTwins_58 rfl ?_
        refine m_aload_n X dX3_plainTwins_60 rfl rfl (by first | rfl | exact isR_rf) ?_
        refine m_getf X fg_X3_16_X3 hM.1 rfl dX3_plainTwins_61 ?_
        refine m_iload_n X dX3_plainTwins_64 rfl rfl ?_
        refine s_iald X hM rfl rfl (by exact tin (by simp only [alen]; omega) rfl) dX3_plainTwins_65 ?_
        refine m_topi X (hT.length hW hx1 hx2) ?_
        refine m_icmpge X dX3_plainTwins_66 (t := 113) (by decide) (fun c_66 => absurd ((nI_leI (by omega) (by omega)).mp c_66) (by omega)) (fun c_66 => ?_)
        refine m_aload_n X dX3_plainTwins_69 rfl rfl (by first | rfl | exact isR_rf) ?_
        refine m_getf X fg_X3_22_X3 hM.1 rfl dX3_plainTwins_70 ?_
        refine m_aload_n X dX3_plainTwins_73 rfl rfl (by first | rfl | exact isR_rf) ?_
        refine m_getf X fg_X3_13_X3 hM.1 rfl dX3_plainTwins_74 ?_
        refine m_iload_n X dX3_plainTwins_77 rfl rfl ?_
        refine s_iald X hM rfl rfl (by exact tin (by simp only [alen]; omega) rfl) dX3_plainTwins_78 ?_
        refine m_topi X (hT.begin hW hx1 hx2) ?_
        refine m_iload X dX3_plainTwins_79 rfl ?_
        refine m_iadd X dX3_plainTwins_81 ?_
        refine m_topi X (nI_add _ _) ?_
        refine s_lald X hM rfl rfl (by exact tin (by simp only [alen]; omega) rfl) dX3_plainTwins_82 ?_
        refine m_topl X (hT.item hW (by omega)) ?_
        refine m_aload_n X dX3_plainTwins_83 rfl rfl (by first | rfl | exact isR_rf) ?_
        refine m_getf X fg_X3_22_X3 hM.1 rfl dX3_plainTwins_84 ?_
        refine m_aload_n X dX3_plainTwins_87 rfl rfl (by first | rfl | exact isR_rf) ?_
        refine m_getf X fg_X3_13_X3 hM.1 rfl dX3_plainTwins_88 ?_
        refine m_iload_n X dX3_plainTwins_91 rfl rfl ?_
        refine s_iald X hM rfl rfl (by exact tin (by simp only [alen]; omega) rfl) dX3_plainTwins_92 ?_
        refine m_topi X (hT.begin hW hy1 hy2) ?_
        refine m_iload X dX3_plainTwins_93 rfl ?_
        refine m_iadd X dX3_plainTwins_95 ?_
        refine m_topi X (nI_add _ _) ?_
        refine s_lald X hM rfl rfl (by exact tin (by simp only [alen]; omega) rfl) dX3_plainTwins_96 ?_
        refine m_topl X (hT.item hW (by omega)) ?_
        refine m_lcmp X dX3_plainTwins_97 ?_
        refine m_ifne X dX3_plainTwins_98 (t := 105) (by decide) (fun c_98 => ?_) (fun c_98 => ?_)
        · skip
          try simp only [bI_0, Bool.not_eq_false] at c_98
          refine m_iconst X dX3_plainTwins_105 (v := 0) (by decide) ?_
          refine m_istore_n X dX3_plainTwins_106 rfl rfl rfl ?_
          refine m_iinc X dX3_plainTwins_107 rfl (w := 1) (by decide) rfl ?_
          refine m_goto X dX3_plainTwins_110 (t := 54) (by decide) ?_
          refine m_loc [(4, some (.int (nI (i + 1)))), (3, some (.int (bI (plB σ x y && (List.range (i + 1)).all (fun i => decide (σ.it (σ.bg x + i) = σ.it (σ.bg y + i))))))), (0, some (.ref h)), (1, some (.int (nI x))), (2, some (.int (nI y)))] ⟨by rw [nI_succ i]; rfl, by rw [hnx]; first | (rw [decide_eq_true ((lg_cmp_eq _ _).mp c_98)]; rfl) | (rw [decide_eq_false (fun z => c_98 ((lg_cmp_eq _ _).mpr z))]; rfl), rfl, rfl, rfl, trivial⟩ (ih (i + 1) (by omega))
        · skip
          try simp only [bI_0, Bool.not_eq_false] at c_98
          refine m_iconst X dX3_plainTwins_101 (v := 1) (by decide) ?_
          refine m_goto X dX3_plainTwins_102 (t := 106) (by decide) ?_
          refine m_istore_n X dX3_plainTwins_106 rfl rfl rfl ?_
          refine m_iinc X dX3_plainTwins_107 rfl (w := 1) (by decide) rfl ?_
          refine m_goto X dX3_plainTwins_110 (t := 54) (by decide) ?_
          refine m_loc [(4, some (.int (nI (i + 1)))), (3, some (.int (bI (plB σ x y && (List.range (i + 1)).all (fun i => decide (σ.it (σ.bg x + i) = σ.it (σ.bg y + i))))))), (0, some (.ref h)), (1, some (.int (nI x))), (2, some (.int (nI y)))] ⟨by rw [nI_succ i]; rfl, by rw [hnx]; first | (rw [decide_eq_true ((lg_cmp_eq _ _).mp c_98)]; rfl) | (rw [decide_eq_false (fun z => c_98 ((lg_cmp_eq _ _).mpr z))]; rfl), rfl, rfl, rfl, trivial⟩ (ih (i + 1) (by omega))
  refine m_aload_n X dX3_plainTwins_0 rfl rfl (by first | rfl | exact isR_rf) ?_
  refine m_getf X fg_X3_7_X3 hM.1 rfl dX3_plainTwins_1 ?_
  refine m_iload_n X dX3_plainTwins_4 rfl rfl ?_
  refine s_iald X hM rfl rfl (by exact tin (by simp only [alen]; omega) rfl) dX3_plainTwins_5 ?_
  refine m_topi X (hT.kind hW hx1 hx2) ?_
  refine m_aload_n X dX3_plainTwins_6 rfl rfl (by first | rfl | exact isR_rf) ?_
  refine m_getf X fg_X3_7_X3 hM.1 rfl dX3_plainTwins_7 ?_
  refine m_iload_n X dX3_plainTwins_10 rfl rfl ?_
  refine s_iald X hM rfl rfl (by exact tin (by simp only [alen]; omega) rfl) dX3_plainTwins_11 ?_
  refine m_topi X (hT.kind hW hy1 hy2) ?_
  refine m_icmpne X dX3_plainTwins_12 (t := 49) (by decide) (fun c_12 => ?_) (fun c_12 => ?_)
  · skip
    refine m_iconst X dX3_plainTwins_49 (v := 0) (by decide) ?_
    refine m_istore_n X dX3_plainTwins_50 rfl rfl rfl ?_
    refine m_iconst X dX3_plainTwins_51 (v := 0) (by decide) ?_
    refine m_istore X dX3_plainTwins_52 rfl rfl ?_
    refine m_loc [(4, some (.int (nI 0))), (3, some (.int (bI (plB σ x y && (List.range 0).all (fun i => decide (σ.it (σ.bg x + i) = σ.it (σ.bg y + i))))))), (0, some (.ref h)), (1, some (.int (nI x))), (2, some (.int (nI y)))] ⟨rfl, by rw [List.range_zero, List.all_nil, Bool.and_true]; first | (rw [plB_iff.mpr ⟨(nI_eq (by omega) (by omega)).mp c_12, (nI_eq (by omega) (by omega)).mp c_27, c_42⟩]; rfl) | (rw [show plB σ x y = false from Bool.eq_false_iff.mpr fun z => by have z := plB_iff.mp z; first | exact c_12 (congrArg nI z.1) | exact c_27 (congrArg nI z.2.1) | exact c_42 z.2.2]; rfl), rfl, rfl, rfl, trivial⟩ (loop (σ.ln x) 0 (Nat.zero_add _))
  · skip
    refine m_aload_n X dX3_plainTwins_15 rfl rfl (by first | rfl | exact isR_rf) ?_
    refine m_getf X fg_X3_16_X3 hM.1 rfl dX3_plainTwins_16 ?_
    refine m_iload_n X dX3_plainTwins_19 rfl rfl ?_
    refine s_iald X hM rfl rfl (by exact tin (by simp only [alen]; omega) rfl) dX3_plainTwins_20 ?_
    refine m_topi X (hT.length hW hx1 hx2) ?_
    refine m_aload_n X dX3_plainTwins_21 rfl rfl (by first | rfl | exact isR_rf) ?_
    refine m_getf X fg_X3_16_X3 hM.1 rfl dX3_plainTwins_22 ?_
    refine m_iload_n X dX3_plainTwins_25 rfl rfl ?_
    refine s_iald X hM rfl rfl (by exact tin (by simp only [alen]; omega) rfl) dX3_plainTwins_26 ?_
    refine m_topi X (hT.length hW hy1 hy2) ?_
    refine m_icmpne X dX3_plainTwins_27 (t := 49) (by decide) (fun c_27 => ?_) (fun c_27 => ?_)
    · skip
      refine m_iconst X dX3_plainTwins_49 (v := 0) (by decide) ?_
      refine m_istore_n X dX3_plainTwins_50 rfl rfl rfl ?_
      refine m_iconst X dX3_plainTwins_51 (v := 0) (by decide) ?_
      refine m_istore X dX3_plainTwins_52 rfl rfl ?_
      refine m_loc [(4, some (.int (nI 0))), (3, some (.int (bI (plB σ x y && (List.range 0).all (fun i => decide (σ.it (σ.bg x + i) = σ.it (σ.bg y + i))))))), (0, some (.ref h)), (1, some (.int (nI x))), (2, some (.int (nI y)))] ⟨rfl, by rw [List.range_zero, List.all_nil, Bool.and_true]; first | (rw [plB_iff.mpr ⟨(nI_eq (by omega) (by omega)).mp c_12, (nI_eq (by omega) (by omega)).mp c_27, c_42⟩]; rfl) | (rw [show plB σ x y = false from Bool.eq_false_iff.mpr fun z => by have z := plB_iff.mp z; first | exact c_12 (congrArg nI z.1) | exact c_27 (congrArg nI z.2.1) | exact c_42 z.2.2]; rfl), rfl, rfl, rfl, trivial⟩ (loop (σ.ln x) 0 (Nat.zero_add _))
    · skip
      refine m_aload_n X dX3_plainTwins_30 rfl rfl (by first | rfl | exact isR_rf) ?_
      refine m_getf X fg_X3_19_X3 hM.1 rfl dX3_plainTwins_31 ?_
      refine m_iload_n X dX3_plainTwins_34 rfl rfl ?_
      refine s_iald X hM rfl rfl (by exact tin (by simp only [alen]; omega) rfl) dX3_plainTwins_35 ?_
      refine m_topi X (hT.number hW hx1 hx2) ?_
      refine m_aload_n X dX3_plainTwins_36 rfl rfl (by first | rfl | exact isR_rf) ?_
      refine m_getf X fg_X3_19_X3 hM.1 rfl dX3_plainTwins_37 ?_
      refine m_iload_n X dX3_plainTwins_40 rfl rfl ?_
      refine s_iald X hM rfl rfl (by exact tin (by simp only [alen]; omega) rfl) dX3_plainTwins_41 ?_
      refine m_topi X (hT.number hW hy1 hy2) ?_
      refine m_icmpne X dX3_plainTwins_42 (t := 49) (by decide) (fun c_42 => ?_) (fun c_42 => ?_)
      · skip
        refine m_iconst X dX3_plainTwins_49 (v := 0) (by decide) ?_
        refine m_istore_n X dX3_plainTwins_50 rfl rfl rfl ?_
        refine m_iconst X dX3_plainTwins_51 (v := 0) (by decide) ?_
        refine m_istore X dX3_plainTwins_52 rfl rfl ?_
        refine m_loc [(4, some (.int (nI 0))), (3, some (.int (bI (plB σ x y && (List.range 0).all (fun i => decide (σ.it (σ.bg x + i) = σ.it (σ.bg y + i))))))), (0, some (.ref h)), (1, some (.int (nI x))), (2, some (.int (nI y)))] ⟨rfl, by rw [List.range_zero, List.all_nil, Bool.and_true]; first | (rw [plB_iff.mpr ⟨(nI_eq (by omega) (by omega)).mp c_12, (nI_eq (by omega) (by omega)).mp c_27, c_42⟩]; rfl) | (rw [show plB σ x y = false from Bool.eq_false_iff.mpr fun z => by have z := plB_iff.mp z; first | exact c_12 (congrArg nI z.1) | exact c_27 (congrArg nI z.2.1) | exact c_42 z.2.2]; rfl), rfl, rfl, rfl, trivial⟩ (loop (σ.ln x) 0 (Nat.zero_add _))
      · skip
        refine m_iconst X dX3_plainTwins_45 (v := 1) (by decide) ?_
        refine m_goto X dX3_plainTwins_46 (t := 50) (by decide) ?_
        refine m_istore_n X dX3_plainTwins_50 rfl rfl rfl ?_
        refine m_iconst X dX3_plainTwins_51 (v := 0) (by decide) ?_
        refine m_istore X dX3_plainTwins_52 rfl rfl ?_
        refine m_loc [(4, some (.int (nI 0))), (3, some (.int (bI (plB σ x y && (List.range 0).all (fun i => decide (σ.it (σ.bg x + i) = σ.it (σ.bg y + i))))))), (0, some (.ref h)), (1, some (.int (nI x))), (2, some (.int (nI y)))] ⟨rfl, by rw [List.range_zero, List.all_nil, Bool.and_true]; first | (rw [plB_iff.mpr ⟨(nI_eq (by omega) (by omega)).mp c_12, (nI_eq (by omega) (by omega)).mp c_27, c_42⟩]; rfl) | (rw [show plB σ x y = false from Bool.eq_false_iff.mpr fun z => by have z := plB_iff.mp z; first | exact c_12 (congrArg nI z.1) | exact c_27 (congrArg nI z.2.1) | exact c_42 z.2.2]; rfl), rfl, rfl, rfl, trivial⟩ (loop (σ.ln x) 0 (Nat.zero_add _))
