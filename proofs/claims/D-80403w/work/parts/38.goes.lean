/-! THE MODEL GOES THROUGH NODES (printed by wip/D-80403w/tools/m38.py) -/
set_option maxRecDepth 100000
theorem pushA_k {A : Nat → Nat → Int32} {t k : Nat} {v : Int32} (h4 : k ≠ 24) (h5 : k ≠ 25) (h6 : k ≠ 26) : pushA A t v k = A k := by
  unfold pushA
  rw [aset_n h6, aset_n h5, aset_n h4]
theorem pushA_24 {A : Nat → Nat → Int32} {t j : Nat} {v : Int32} : pushA A t v 24 j = if j = t then v else A 24 j := by
  unfold pushA
  rw [aset_n (by decide), aset_n (by decide), aset_k]
  rfl
theorem pushA_25 {A : Nat → Nat → Int32} {t j : Nat} {v : Int32} : pushA A t v 25 j = if j = t then 0 else A 25 j := by
  unfold pushA
  rw [aset_n (by decide), aset_k, aset_n (by decide)]
  rfl
theorem pushA_26 {A : Nat → Nat → Int32} {t j : Nat} {v : Int32} : pushA A t v 26 j = if j = t then 0 else A 26 j := by
  unfold pushA
  rw [aset_k, aset_n (by decide), aset_n (by decide)]
  rfl
/-- what lies below d on the stack, and the other arrays, stay -/
def Keep (d : Nat) (A A' : Nat → Nat → Int32) : Prop := (∀ k, k ≠ 24 → k ≠ 25 → k ≠ 26 → 8 ≤ k → A' k = A k) ∧ ∀ j, j < d → A' 24 j = A 24 j ∧ A' 25 j = A 25 j ∧ A' 26 j = A 26 j
theorem Keep.rf {d : Nat} {A : Nat → Nat → Int32} : Keep d A A := ⟨fun _ _ _ _ _ => rfl, fun _ _ => ⟨rfl, rfl, rfl⟩⟩
theorem Keep.tr {d : Nat} {A A' A'' : Nat → Nat → Int32} (h : Keep d A A') (h' : Keep d A' A'') : Keep d A A'' := ⟨fun k a b c e => (h'.1 k a b c e).trans (h.1 k a b c e), fun j hj => ⟨(h'.2 j hj).1.trans (h.2 j hj).1, (h'.2 j hj).2.1.trans (h.2 j hj).2.1, (h'.2 j hj).2.2.trans (h.2 j hj).2.2⟩⟩
theorem Keep.le {d e : Nat} {A A' : Nat → Nat → Int32} (h : Keep e A A') (hd : d ≤ e) : Keep d A A' := ⟨h.1, fun j hj => h.2 j (by omega)⟩
theorem Keep.atop {d k i : Nat} {A : Nat → Nat → Int32} {v : Int32} (hk : k = 24 ∨ k = 25 ∨ k = 26) (hi : d ≤ i) : Keep d A (aset A k i v) := by
  refine ⟨fun j a b c e => aset_n (by omega), fun j hj => ?_⟩
  have : ∀ q, aset A k i v q j = A q j := fun q => by
    unfold aset
    split
    · rw [if_neg (by omega)]
    · rfl
  exact ⟨this _, this _, this _⟩
theorem Keep.push {d t : Nat} {A : Nat → Nat → Int32} {v : Int32} (ht : d ≤ t) : Keep d A (pushA A t v) := (Keep.atop (Or.inl rfl) ht).tr ((Keep.atop (Or.inr (Or.inl rfl)) ht).tr (Keep.atop (Or.inr (Or.inr rfl)) ht))
theorem RI.to {ν : NS} {s : ES} {F F' : Nat → Int32} {A A' : Nat → Nat → Int32} {B : Nat → Nat → Int64} (h : RI ν s F A B) (hF : ∀ k, k ≠ 27 → F' k = F k) (hA : ∀ k, k ≠ 24 → k ≠ 25 → k ≠ 26 → A' k = A k) : RI ν s F' A' B := by
  obtain ⟨h1, h2, h3, h4, h5, h6, h7, h8⟩ := h
  have h1' : MT s.1 F' A B := ⟨(hF 0 (by decide)).trans h1.1, (hF 1 (by decide)).trans h1.2.1, (hF 19 (by decide)).trans h1.2.2.1, h1.2.2.2⟩
  exact ⟨h1'.updA fun k hk => hA k (by omega) (by omega) (by omega), h2, (hF 17 (by decide)).trans h3, (hF 18 (by decide)).trans h4, (hF 20 (by decide)).trans h5, (hF 21 (by decide)).trans h6, (hF 22 (by decide)).trans h7, h8.to (hF 9 (by decide)) fun k a b => hA k (by omega) (by omega) (by omega)⟩
theorem RI.last {ν : NS} {s : ES} {F : Nat → Int32} {A : Nat → Nat → Int32} {B : Nat → Nat → Int64} (h : RI ν s F A B) : RI ν (exLast s) (upd F 20 (F 20 + 1)) A B := by
  obtain ⟨h1, h2, h3, h4, h5, h6, h7, h8⟩ := h
  exact ⟨h1.updF (by decide) (by decide) (by decide), h2, (pk_un (by decide)).trans h3, (pk_un (by decide)).trans h4, pk_us.trans (by rw [h5]; rfl), (pk_un (by decide)).trans h6, (pk_un (by decide)).trans h7, h8.to (pk_un (by decide)) fun _ _ _ => rfl⟩
theorem RI.lost {ν : NS} {s : ES} {F : Nat → Int32} {A : Nat → Nat → Int32} {B : Nat → Nat → Int64} {b : Bool} {v : Int32} (h : RI ν s F A B) (hv : v = F 21 + (if b = true then 1 else 0)) : RI ν (exLost s b) (upd F 21 v) A B := by
  obtain ⟨h1, h2, h3, h4, h5, h6, h7, h8⟩ := h
  exact ⟨h1.updF (by decide) (by decide) (by decide), h2, (pk_un (by decide)).trans h3, (pk_un (by decide)).trans h4, (pk_un (by decide)).trans h5, pk_us.trans (by rw [hv, h6]; rfl), (pk_un (by decide)).trans h7, h8.to (pk_un (by decide)) fun _ _ _ => rfl⟩
theorem upd27_28 {F : Nat → Int32} {v : Int32} : upd F 27 v 28 = F 28 := pk_un (by decide)
theorem updF_n {F : Nat → Int32} {v : Int32} : ∀ k, k ≠ 27 → upd F 27 v k = F k := fun k hk => pk_un hk
theorem and510 (w : Int32) : bitT (w &&& 510) 0 = false := by
  have h : ((w &&& 510) >>> (nI 0 &&& 31)) &&& 1 = 0 := by
    rw [show (nI 0 &&& 31) = (0 : Int32) from rfl]
    apply Int32.toBitVec_inj.mp
    rw [show ((w &&& 510) >>> (0 : Int32)) = (w &&& 510) from sb_shr0 (w &&& 510)]
    rw [Int32.toBitVec_and, Int32.toBitVec_and, BitVec.and_assoc]
    exact BitVec.and_zero
  unfold bitT
  rw [h]
  decide
set_option maxHeartbeats 4000000 in
theorem goes_guard {G : GX} {x : MX} {h n0 : Nat} {ad : Nat → Nat} {Q : State → Prop} (X : Cx G x yX3_goes cX3_goes 4 (some .int) (rmm 8 182)) {F : Nat → Int32} {A : Nat → Nat → Int32} {B : Nat → Nat → Int64} {M : Mem} (hM : MRep G h ad F A B M) {d m : Nat} (hF : F 27 = nI d) (hd : d + 1 < 82) (hm : m < 80) (h24 : A 24 d = nI m) {r : Int32} (h10 : A 10 m = 3) (K : ∀ M' : Mem, MRep G h ad (guardR F A d m r).2.1 (guardR F A d m r).2.2 B M' → WM G x 4 Q 0 0 M' 12 [(2, some (.int ((guardR F A d m r).1))), (0, some (.ref h)), (1, some (.int (nI n0)))] []) : WM G x 4 Q 0 0 M 12 [(2, some (.int (r))), (0, some (.ref h)), (1, some (.int (nI n0)))] [] := by
  refine m_aload_n X dX3_goes_12 rfl rfl (by first | rfl | exact isR_rf) ?_
  refine m_getf X fg_X3_228_X3 hM.1 rfl dX3_goes_13 ?_
  refine m_topi X (hF) ?_
  refine m_iflt X dX3_goes_16 (t := 75) (by decide) (fun c_16 => absurd c_16 (nI_pos (by omega))) (fun c_16 => ?_)
  refine m_aload_n X dX3_goes_19 rfl rfl (by first | rfl | exact isR_rf) ?_
  refine m_getf X fg_X3_60_X3 hM.1 rfl dX3_goes_20 ?_
  refine m_aload_n X dX3_goes_23 rfl rfl (by first | rfl | exact isR_rf) ?_
  refine m_getf X fg_X3_228_X3 hM.1 rfl dX3_goes_24 ?_
  refine m_topi X (hF) ?_
  refine s_iald X hM rfl rfl (by exact tin (by simp only [alen]; omega) rfl) dX3_goes_27 ?_
  refine m_topi X ((congrArg (A 24) (nI_clamp (by omega))).trans h24) ?_
  refine m_istore_n X dX3_goes_28 rfl rfl rfl ?_
  refine m_aload_n X dX3_goes_29 rfl rfl (by first | rfl | exact isR_rf) ?_
  refine m_getf X fg_X3_32_X3 hM.1 rfl dX3_goes_30 ?_
  refine m_iload_n X dX3_goes_33 rfl rfl ?_
  refine s_iald X hM rfl rfl (by exact tin (by simp only [alen]; omega) rfl) dX3_goes_34 ?_
  refine m_topi X (congrArg (A 10) (nI_clamp (by omega))) ?_
  refine m_ifne X dX3_goes_35 (t := 46) (by decide) (fun c_35 => ?_) (fun c_35 => absurd (h10.symm.trans c_35) (by decide))
  refine m_aload_n X dX3_goes_46 rfl rfl (by first | rfl | exact isR_rf) ?_
  refine m_getf X fg_X3_32_X3 hM.1 rfl dX3_goes_47 ?_
  refine m_iload_n X dX3_goes_50 rfl rfl ?_
  refine s_iald X hM rfl rfl (by exact tin (by simp only [alen]; omega) rfl) dX3_goes_51 ?_
  refine m_topi X (congrArg (A 10) (nI_clamp (by omega))) ?_
  refine m_iconst X dX3_goes_52 (v := 3) (by decide) ?_
  refine m_icmpne X dX3_goes_53 (t := 65) (by decide) (fun c_53 => absurd h10 c_53) (fun c_53 => ?_)
  refine m_aload_n X dX3_goes_56 rfl rfl (by first | rfl | exact isR_rf) ?_
  refine m_iload_n X dX3_goes_57 rfl rfl ?_
  refine m_iload_n X dX3_goes_58 rfl rfl ?_
  refine m_callV X cs_X3_257  (c_X3_ofGuard hM d m r hF hd hm) hM.1 rfl rfl rfl (Nat.le_of_ble_eq_true rfl) dX3_goes_59 ⟨by decide, by decide, by decide, by decide⟩ (fun v M hp => ?_) (fun _ _ _ _ h => h.elim)
  obtain ⟨rfl, hM⟩ := hp
  refine m_sti ?_
  refine m_goto X dX3_goes_62 (t := 71) (by decide) ?_
  refine m_istore_n X dX3_goes_71 rfl rfl rfl ?_
  refine m_goto X dX3_goes_72 (t := 12) (by decide) ?_
  exact m_loc [(2, some (.int (_))), (0, some (.ref h)), (1, some (.int (nI n0)))] ⟨rfl, rfl, rfl, trivial⟩ (K _ hM)
set_option maxHeartbeats 4000000 in
theorem goes_both {G : GX} {x : MX} {h n0 : Nat} {ad : Nat → Nat} {Q : State → Prop} (X : Cx G x yX3_goes cX3_goes 4 (some .int) (rmm 8 182)) {F : Nat → Int32} {A : Nat → Nat → Int32} {B : Nat → Nat → Int64} {M : Mem} (hM : MRep G h ad F A B M) {d m : Nat} (hF : F 27 = nI d) (hd : d + 1 < 82) (hm : m < 80) (h24 : A 24 d = nI m) {r : Int32} (h10 : A 10 m = 1) (K : ∀ M' : Mem, MRep G h ad (bothR F A d m r).2.1 (bothR F A d m r).2.2 B M' → WM G x 4 Q 0 0 M' 12 [(2, some (.int ((bothR F A d m r).1))), (0, some (.ref h)), (1, some (.int (nI n0)))] []) : WM G x 4 Q 0 0 M 12 [(2, some (.int (r))), (0, some (.ref h)), (1, some (.int (nI n0)))] [] := by
  refine m_aload_n X dX3_goes_12 rfl rfl (by first | rfl | exact isR_rf) ?_
  refine m_getf X fg_X3_228_X3 hM.1 rfl dX3_goes_13 ?_
  refine m_topi X (hF) ?_
  refine m_iflt X dX3_goes_16 (t := 75) (by decide) (fun c_16 => absurd c_16 (nI_pos (by omega))) (fun c_16 => ?_)
  refine m_aload_n X dX3_goes_19 rfl rfl (by first | rfl | exact isR_rf) ?_
  refine m_getf X fg_X3_60_X3 hM.1 rfl dX3_goes_20 ?_
  refine m_aload_n X dX3_goes_23 rfl rfl (by first | rfl | exact isR_rf) ?_
  refine m_getf X fg_X3_228_X3 hM.1 rfl dX3_goes_24 ?_
  refine m_topi X (hF) ?_
  refine s_iald X hM rfl rfl (by exact tin (by simp only [alen]; omega) rfl) dX3_goes_27 ?_
  refine m_topi X ((congrArg (A 24) (nI_clamp (by omega))).trans h24) ?_
  refine m_istore_n X dX3_goes_28 rfl rfl rfl ?_
  refine m_aload_n X dX3_goes_29 rfl rfl (by first | rfl | exact isR_rf) ?_
  refine m_getf X fg_X3_32_X3 hM.1 rfl dX3_goes_30 ?_
  refine m_iload_n X dX3_goes_33 rfl rfl ?_
  refine s_iald X hM rfl rfl (by exact tin (by simp only [alen]; omega) rfl) dX3_goes_34 ?_
  refine m_topi X (congrArg (A 10) (nI_clamp (by omega))) ?_
  refine m_ifne X dX3_goes_35 (t := 46) (by decide) (fun c_35 => ?_) (fun c_35 => absurd (h10.symm.trans c_35) (by decide))
  refine m_aload_n X dX3_goes_46 rfl rfl (by first | rfl | exact isR_rf) ?_
  refine m_getf X fg_X3_32_X3 hM.1 rfl dX3_goes_47 ?_
  refine m_iload_n X dX3_goes_50 rfl rfl ?_
  refine s_iald X hM rfl rfl (by exact tin (by simp only [alen]; omega) rfl) dX3_goes_51 ?_
  refine m_topi X (congrArg (A 10) (nI_clamp (by omega))) ?_
  refine m_iconst X dX3_goes_52 (v := 3) (by decide) ?_
  refine m_icmpne X dX3_goes_53 (t := 65) (by decide) (fun c_53 => ?_) (fun c_53 => absurd (h10.symm.trans c_53) (by decide))
  refine m_aload_n X dX3_goes_65 rfl rfl (by first | rfl | exact isR_rf) ?_
  refine m_iload_n X dX3_goes_66 rfl rfl ?_
  refine m_iload_n X dX3_goes_67 rfl rfl ?_
  refine m_callV X cs_X3_260  (c_X3_ofBoth hM d m r hF hd hm h10) hM.1 rfl rfl rfl (Nat.le_of_ble_eq_true rfl) dX3_goes_68 ⟨by decide, by decide, by decide, by decide⟩ (fun v M hp => ?_) (fun _ _ _ _ h => h.elim)
  obtain ⟨rfl, hM⟩ := hp
  refine m_sti ?_
  refine m_istore_n X dX3_goes_71 rfl rfl rfl ?_
  refine m_goto X dX3_goes_72 (t := 12) (by decide) ?_
  exact m_loc [(2, some (.int (_))), (0, some (.ref h)), (1, some (.int (nI n0)))] ⟨rfl, rfl, rfl, trivial⟩ (K _ hM)
set_option maxHeartbeats 4000000 in
theorem goes_choice {G : GX} {x : MX} {h n0 : Nat} {ad : Nat → Nat} {Q : State → Prop} (X : Cx G x yX3_goes cX3_goes 4 (some .int) (rmm 8 182)) {F : Nat → Int32} {A : Nat → Nat → Int32} {B : Nat → Nat → Int64} {M : Mem} (hM : MRep G h ad F A B M) {d m : Nat} (hF : F 27 = nI d) (hd : d + 1 < 82) (hm : m < 80) (h24 : A 24 d = nI m) {r : Int32} {σ : AS} (hT : MT σ F A B) (hW : WF σ) {s k : Nat} (h10 : A 10 m = 2) (h12 : A 12 m = nI s) (h13 : A 13 m = nI k) (hs : s < 12) (hk : k < 10) (K : ∀ M' : Mem, MRep G h ad (choiceR σ F A d m s k r).2.1 (choiceR σ F A d m s k r).2.2 B M' → WM G x 4 Q 0 0 M' 12 [(2, some (.int ((choiceR σ F A d m s k r).1))), (0, some (.ref h)), (1, some (.int (nI n0)))] []) : WM G x 4 Q 0 0 M 12 [(2, some (.int (r))), (0, some (.ref h)), (1, some (.int (nI n0)))] [] := by
  refine m_aload_n X dX3_goes_12 rfl rfl (by first | rfl | exact isR_rf) ?_
  refine m_getf X fg_X3_228_X3 hM.1 rfl dX3_goes_13 ?_
  refine m_topi X (hF) ?_
  refine m_iflt X dX3_goes_16 (t := 75) (by decide) (fun c_16 => absurd c_16 (nI_pos (by omega))) (fun c_16 => ?_)
  refine m_aload_n X dX3_goes_19 rfl rfl (by first | rfl | exact isR_rf) ?_
  refine m_getf X fg_X3_60_X3 hM.1 rfl dX3_goes_20 ?_
  refine m_aload_n X dX3_goes_23 rfl rfl (by first | rfl | exact isR_rf) ?_
  refine m_getf X fg_X3_228_X3 hM.1 rfl dX3_goes_24 ?_
  refine m_topi X (hF) ?_
  refine s_iald X hM rfl rfl (by exact tin (by simp only [alen]; omega) rfl) dX3_goes_27 ?_
  refine m_topi X ((congrArg (A 24) (nI_clamp (by omega))).trans h24) ?_
  refine m_istore_n X dX3_goes_28 rfl rfl rfl ?_
  refine m_aload_n X dX3_goes_29 rfl rfl (by first | rfl | exact isR_rf) ?_
  refine m_getf X fg_X3_32_X3 hM.1 rfl dX3_goes_30 ?_
  refine m_iload_n X dX3_goes_33 rfl rfl ?_
  refine s_iald X hM rfl rfl (by exact tin (by simp only [alen]; omega) rfl) dX3_goes_34 ?_
  refine m_topi X (congrArg (A 10) (nI_clamp (by omega))) ?_
  refine m_ifne X dX3_goes_35 (t := 46) (by decide) (fun c_35 => ?_) (fun c_35 => absurd (h10.symm.trans c_35) (by decide))
  refine m_aload_n X dX3_goes_46 rfl rfl (by first | rfl | exact isR_rf) ?_
  refine m_getf X fg_X3_32_X3 hM.1 rfl dX3_goes_47 ?_
  refine m_iload_n X dX3_goes_50 rfl rfl ?_
  refine s_iald X hM rfl rfl (by exact tin (by simp only [alen]; omega) rfl) dX3_goes_51 ?_
  refine m_topi X (congrArg (A 10) (nI_clamp (by omega))) ?_
  refine m_iconst X dX3_goes_52 (v := 3) (by decide) ?_
  refine m_icmpne X dX3_goes_53 (t := 65) (by decide) (fun c_53 => ?_) (fun c_53 => absurd (h10.symm.trans c_53) (by decide))
  refine m_aload_n X dX3_goes_65 rfl rfl (by first | rfl | exact isR_rf) ?_
  refine m_iload_n X dX3_goes_66 rfl rfl ?_
  refine m_iload_n X dX3_goes_67 rfl rfl ?_
  refine m_callV X cs_X3_260  (c_X3_ofChoice hM hT hW d m s k r hF hd hm h10 h12 h13 hs hk) hM.1 rfl rfl rfl (Nat.le_of_ble_eq_true rfl) dX3_goes_68 ⟨by decide, by decide, by decide, by decide⟩ (fun v M hp => ?_) (fun _ _ _ _ h => h.elim)
  obtain ⟨rfl, hM⟩ := hp
  refine m_sti ?_
  refine m_istore_n X dX3_goes_71 rfl rfl rfl ?_
  refine m_goto X dX3_goes_72 (t := 12) (by decide) ?_
  exact m_loc [(2, some (.int (_))), (0, some (.ref h)), (1, some (.int (nI n0)))] ⟨rfl, rfl, rfl, trivial⟩ (K _ hM)
set_option maxHeartbeats 4000000 in
theorem goes_act {G : GX} {x : MX} {h n0 : Nat} {ad : Nat → Nat} {Q : State → Prop} (X : Cx G x yX3_goes cX3_goes 4 (some .int) (rmm 8 182)) {F : Nat → Int32} {A : Nat → Nat → Int32} {B : Nat → Nat → Int64} {M : Mem} (hM : MRep G h ad F A B M) {d m : Nat} (hF : F 27 = nI d) (hd : d + 1 < 82) (hm : m < 80) (h24 : A 24 d = nI m) {r : Int32} {ν : NS} {s : ES} (hR : RI ν s F A B) (hV : VN ν) (hn : m < ν.N) (hso : ν.so m = 0) (h10 : A 10 m = 0) (K : ∀ (F' : Nat → Int32) (A' : Nat → Nat → Int32) (B' : Nat → Nat → Int64) (M' : Mem), MRep G h ad F' A' B' M' → RI ν (exAct ν m s).2 F' A' B' → F' 27 = nI d - 1 → F' 28 = F 28 → (∀ k, 8 ≤ k → A' k = A k) → WM G x 4 Q 0 0 M' 12 [(2, some (.int (nI (exAct ν m s).1))), (0, some (.ref h)), (1, some (.int (nI n0)))] []) : WM G x 4 Q 0 0 M 12 [(2, some (.int (r))), (0, some (.ref h)), (1, some (.int (nI n0)))] [] := by
  refine m_aload_n X dX3_goes_12 rfl rfl (by first | rfl | exact isR_rf) ?_
  refine m_getf X fg_X3_228_X3 hM.1 rfl dX3_goes_13 ?_
  refine m_topi X (hF) ?_
  refine m_iflt X dX3_goes_16 (t := 75) (by decide) (fun c_16 => absurd c_16 (nI_pos (by omega))) (fun c_16 => ?_)
  refine m_aload_n X dX3_goes_19 rfl rfl (by first | rfl | exact isR_rf) ?_
  refine m_getf X fg_X3_60_X3 hM.1 rfl dX3_goes_20 ?_
  refine m_aload_n X dX3_goes_23 rfl rfl (by first | rfl | exact isR_rf) ?_
  refine m_getf X fg_X3_228_X3 hM.1 rfl dX3_goes_24 ?_
  refine m_topi X (hF) ?_
  refine s_iald X hM rfl rfl (by exact tin (by simp only [alen]; omega) rfl) dX3_goes_27 ?_
  refine m_topi X ((congrArg (A 24) (nI_clamp (by omega))).trans h24) ?_
  refine m_istore_n X dX3_goes_28 rfl rfl rfl ?_
  refine m_aload_n X dX3_goes_29 rfl rfl (by first | rfl | exact isR_rf) ?_
  refine m_getf X fg_X3_32_X3 hM.1 rfl dX3_goes_30 ?_
  refine m_iload_n X dX3_goes_33 rfl rfl ?_
  refine s_iald X hM rfl rfl (by exact tin (by simp only [alen]; omega) rfl) dX3_goes_34 ?_
  refine m_topi X (congrArg (A 10) (nI_clamp (by omega))) ?_
  refine m_ifne X dX3_goes_35 (t := 46) (by decide) (fun c_35 => absurd h10 c_35) (fun c_35 => ?_)
  refine m_aload_n X dX3_goes_38 rfl rfl (by first | rfl | exact isR_rf) ?_
  refine m_iload_n X dX3_goes_39 rfl rfl ?_
  refine m_callV X cs_X3_254  (c_X3_ofAct hM hR hV d m hF hn hso) hM.1 rfl rfl rfl (Nat.le_of_ble_eq_true rfl) dX3_goes_40 ⟨by decide, by decide, by decide, by decide⟩ (fun v M hp => ?_) (fun _ _ _ _ h => h.elim)
  obtain ⟨rfl, F', A', B', hM, hR', hF1, hF2, hA'⟩ := hp
  refine m_sti ?_
  refine m_goto X dX3_goes_43 (t := 71) (by decide) ?_
  refine m_istore_n X dX3_goes_71 rfl rfl rfl ?_
  refine m_goto X dX3_goes_72 (t := 12) (by decide) ?_
  exact m_loc [(2, some (.int (_))), (0, some (.ref h)), (1, some (.int (nI n0)))] ⟨rfl, rfl, rfl, trivial⟩ (K _ _ _ _ hM hR' hF1 hF2 hA')
set_option maxHeartbeats 4000000 in
theorem goes_run {G : GX} {x : MX} {h n0 : Nat} {ad : Nat → Nat} {Q : State → Prop} (X : Cx G x yX3_goes cX3_goes 4 (some .int) (rmm 8 182)) {ν : NS} (hV : VN ν) : ∀ (f d m : Nat) (s : ES) (F : Nat → Int32) (A : Nat → Nat → Int32) (B : Nat → Nat → Int64) (M : Mem), MRep G h ad F A B M → RI ν s F A B → m < f → m < ν.N → d + m < 81 → F 27 = nI d → A 24 d = nI m → A 25 d = 0 → A 26 d = 0 →
    (∀ (F' : Nat → Int32) (A' : Nat → Nat → Int32) (B' : Nat → Nat → Int64) (M' : Mem), MRep G h ad F' A' B' M' → RI ν (exec ν f m s).2 F' A' B' → F' 27 = nI d - 1 → F' 28 = F 28 → Keep d A A' → WM G x 4 Q 0 0 M' 12 [(2, some (.int (nI (exec ν f m s).1))), (0, some (.ref h)), (1, some (.int (nI n0)))] []) → WM G x 4 Q 0 0 M 12 [(2, some (.int (0))), (0, some (.ref h)), (1, some (.int (nI n0)))] [] := by
  have hN := hV.1
  intro f
  induction f with
  | zero => intro d m s F A B M hM hR hm; exact absurd hm (by omega)
  | succ f ih =>
    intro d m s F A B M hM hR hmf hmN hdm hF h24 h25 h26 K
    have hmn := hR.2.2.2.2.2.2.2.2 m hmN
    -- a child is gone through, one place higher
    have child : ∀ (p : Int32) (i : Nat) (s : ES) (F : Nat → Int32) (A : Nat → Nat → Int32) (B : Nat → Nat → Int64) (M : Mem), i < m → RI ν s F A B → A 24 d = nI m → MRep G h ad (upd F 27 (nI (d + 1))) (pushA (aset A 25 d p) (d + 1) (nI i)) B M →
        (∀ (F' : Nat → Int32) (A' : Nat → Nat → Int32) (B' : Nat → Nat → Int64) (M' : Mem), MRep G h ad F' A' B' M' → RI ν (exec ν f i s).2 F' A' B' → F' 27 = nI d → F' 28 = F 28 → A' 24 d = nI m → A' 25 d = p → A' 26 d = A 26 d → Keep d A A' → WM G x 4 Q 0 0 M' 12 [(2, some (.int (nI (exec ν f i s).1))), (0, some (.ref h)), (1, some (.int (nI n0)))] []) → WM G x 4 Q 0 0 M 12 [(2, some (.int (0))), (0, some (.ref h)), (1, some (.int (nI n0)))] [] := by
      intro p i s F A B M hi hR h24 hM K
      have hk := (Keep.atop (d := d) (k := 25) (i := d) (A := A) (v := p) (Or.inr (Or.inl rfl)) (Nat.le_refl _)).tr (Keep.push (t := d + 1) (v := nI i) (by omega))
      refine ih (d + 1) i s _ _ _ _ hM (hR.to updF_n fun k a b c => (pushA_k a b c).trans (aset_n b)) (by omega) (by omega) (by omega) pk_us (pushA_24.trans (if_pos rfl)) (pushA_25.trans (if_pos rfl)) (pushA_26.trans (if_pos rfl)) fun F' A' B' M' hM' hR' h27 h28 hK => ?_
      have hd := hK.2 d (by omega)
      refine K F' A' B' M' hM' hR' (h27.trans (nI_pred d)) (h28.trans (pk_un (by decide))) (hd.1.trans ?_) (hd.2.1.trans ?_) (hd.2.2.trans ?_) (hk.tr (hK.le (by omega)))
      · rw [pushA_24, if_neg (by omega), aset_n (by decide)]; exact h24
      · rw [pushA_25, if_neg (by omega), aset_k]; exact pk_us
      · rw [pushA_26, if_neg (by omega), aset_n (by decide)]
    rcases (hV.2 m hmN).1 with z | z | z | z
    · have e : exec ν (f + 1) m s = exAct ν m s := by rw [exec, if_pos z.1]
      rw [e] at K
      exact goes_act X hM hF (by omega) (by omega) h24 hR hV hmN z.1 (hmn.1.trans (by rw [z.1]; rfl)) fun F' A' B' M' a b c e2 g => K F' A' B' M' a b c e2 ⟨fun k _ _ _ hk => g k hk, fun j _ => by rw [g 24 (by decide), g 25 (by decide), g 26 (by decide)]; exact ⟨rfl, rfl, rfl⟩⟩
    · obtain ⟨zs, i, j, hi, hj, za, zb, -⟩ := z
      have e : exec ν (f + 1) m s = if (exec ν f i s).1 = 0 then exec ν f j (exec ν f i s).2 else exec ν f i s := by
        rw [exec, if_neg (by rw [zs]; decide), if_pos zs, za, zb, tn_nI (by omega), tn_nI (by omega)]
      have ib : ∀ (F : Nat → Int32) (A : Nat → Nat → Int32), MN ν F A → A 10 m = 1 ∧ A 12 m = nI i ∧ A 13 m = nI j := fun F A hn => ⟨((hn.2 m hmN).1).trans (by rw [zs]; rfl), ((hn.2 m hmN).2.2.1).trans za, ((hn.2 m hmN).2.2.2.1).trans zb⟩
      have n1 := ib F A hR.2.2.2.2.2.2.2
      refine goes_both X hM hF (by omega) (by omega) h24 n1.1 fun M1 hM1 => ?_
      rw [show bothR F A d m 0 = (0, upd F 27 (nI (d + 1)), pushA (aset A 25 d 1) (d + 1) (nI i)) by unfold bothR; rw [if_pos (Or.inl h25), if_pos h25, h25, n1.2.1]; rfl] at hM1 ⊢
      dsimp only at hM1 ⊢
      refine child 1 i s F A B M1 hi hR h24 hM1 fun F2 A2 B2 M2 hM2 hR2 h27 h28 g24 g25 g26 hK => ?_
      have n2 := ib F2 A2 hR2.2.2.2.2.2.2.2
      have hlt := exec_lt ν f i s
      refine goes_both X hM2 h27 (by omega) (by omega) g24 n2.1 fun M3 hM3 => ?_
      by_cases e0 : (exec ν f i s).1 = 0
      · rw [if_pos e0] at e
        rw [e] at K
        rw [show bothR F2 A2 d m (nI (exec ν f i s).1) = (0, upd F2 27 (nI (d + 1)), pushA (aset A2 25 d 2) (d + 1) (nI j)) by unfold bothR; rw [e0, if_pos (Or.inr ⟨g25, rfl⟩), g25, if_neg (by decide), n2.2.2]; rfl] at hM3 ⊢
        dsimp only at hM3 ⊢
        refine child 2 j _ F2 A2 B2 M3 hj hR2 g24 hM3 fun F4 A4 B4 M4 hM4 hR4 k27 k28 k24 k25 k26 hK2 => ?_
        have n4 := ib F4 A4 hR4.2.2.2.2.2.2.2
        refine goes_both X hM4 k27 (by omega) (by omega) k24 n4.1 fun M5 hM5 => ?_
        rw [show bothR F4 A4 d m (nI (exec ν f j (exec ν f i s).2).1) = (nI (exec ν f j (exec ν f i s).2).1, upd F4 27 (nI d - 1), A4) by unfold bothR; rw [if_neg (by rw [k25]; rintro (q | q); exact absurd q (by decide); exact absurd q.1 (by decide))]] at hM5 ⊢
        dsimp only at hM5 ⊢
        exact K _ _ _ _ hM5 (hR4.to updF_n fun _ _ _ _ => rfl) pk_us (upd27_28.trans (k28.trans h28)) (hK.tr hK2)
      · rw [if_neg e0] at e
        rw [e] at K
        rw [show bothR F2 A2 d m (nI (exec ν f i s).1) = (nI (exec ν f i s).1, upd F2 27 (nI d - 1), A2) by unfold bothR; rw [if_neg (by rw [g25]; rintro (q | q); exact absurd q (by decide); exact e0 ((z_nI (by omega)).mp q.2))]] at hM3 ⊢
        dsimp only at hM3 ⊢
        exact K _ _ _ _ hM3 (hR2.to updF_n fun _ _ _ _ => rfl) pk_us (upd27_28.trans h28) hK
    · obtain ⟨zs, q, k, i, j, hq, hk, hi, hj, za, zb, zc, zd, -⟩ := z
      have e : exec ν (f + 1) m s = exec ν f (if chooses s.1 q k = true then i else j) s := by
        rw [exec, if_neg (by rw [zs]; decide), if_neg (by rw [zs]; decide), if_pos zs, za, zb, zc, zd, tn_nI (by omega), tn_nI (by omega), tn_nI (by omega), tn_nI (by omega)]
      have ib : ∀ (F : Nat → Int32) (A : Nat → Nat → Int32), MN ν F A → A 10 m = 2 ∧ A 12 m = nI q ∧ A 13 m = nI k ∧ A 14 m = nI i ∧ A 15 m = nI j := fun F A hn => ⟨((hn.2 m hmN).1).trans (by rw [zs]; rfl), ((hn.2 m hmN).2.2.1).trans za, ((hn.2 m hmN).2.2.2.1).trans zb, ((hn.2 m hmN).2.2.2.2.1).trans zc, ((hn.2 m hmN).2.2.2.2.2.1).trans zd⟩
      have n1 := ib F A hR.2.2.2.2.2.2.2
      refine goes_choice X hM hF (by omega) (by omega) h24 hR.1 hR.2.1 n1.1 n1.2.1 n1.2.2.1 hq hk fun M1 hM1 => ?_
      rw [show choiceR s.1 F A d m q k 0 = (0, upd F 27 (nI (d + 1)), pushA (aset A 25 d 1) (d + 1) (nI (if chooses s.1 q k = true then i else j))) by unfold choiceR; rw [if_pos h25, n1.2.2.2.1, n1.2.2.2.2]; split <;> rfl] at hM1 ⊢
      dsimp only at hM1 ⊢
      rw [e] at K
      refine child 1 _ s F A B M1 (by split <;> omega) hR h24 hM1 fun F2 A2 B2 M2 hM2 hR2 h27 h28 g24 g25 g26 hK => ?_
      have n2 := ib F2 A2 hR2.2.2.2.2.2.2.2
      refine goes_choice X hM2 h27 (by omega) (by omega) g24 hR2.1 hR2.2.1 n2.1 n2.2.1 n2.2.2.1 hq hk fun M3 hM3 => ?_
      rw [show ∀ r, choiceR (exec ν f (if chooses s.1 q k = true then i else j) s).2.1 F2 A2 d m q k r = (r, upd F2 27 (nI d - 1), A2) from fun r => by unfold choiceR; rw [if_neg (by rw [g25]; decide)]] at hM3 ⊢
      dsimp only at hM3 ⊢
      exact K _ _ _ _ hM3 (hR2.to updF_n fun _ _ _ _ => rfl) pk_us (upd27_28.trans h28) hK
    · obtain ⟨zs, i, w, hi, za, zb, zc, zd, -⟩ := z
      have e : exec ν (f + 1) m s = exEnd (exec ν f) ν m (exHand (exec ν f) ν m (exec ν f i s)) := by
        rw [exec, if_neg (by rw [zs]; decide), if_neg (by rw [zs]; decide), if_neg (by rw [zs]; decide), za, tn_nI (by omega)]
      rw [e] at K
      have ib : ∀ (F : Nat → Int32) (A : Nat → Nat → Int32), MN ν F A → A 10 m = 3 ∧ A 12 m = nI i ∧ A 13 m = ν.nb m ∧ A 14 m = ν.nc m ∧ A 15 m = ν.nd m := fun F A hn => ⟨((hn.2 m hmN).1).trans (by rw [zs]; rfl), ((hn.2 m hmN).2.2.1).trans za, ((hn.2 m hmN).2.2.2.1), ((hn.2 m hmN).2.2.2.2.1), ((hn.2 m hmN).2.2.2.2.2.1)⟩
      have tail : ∀ (p : Nat × ES) (F' : Nat → Int32) (A' : Nat → Nat → Int32) (B' : Nat → Nat → Int64) (M1 : Mem) (T : Int32 × (Nat → Int32) × (Nat → Nat → Int32)), p = exHand (exec ν f) ν m (exec ν f i s) → p.1 < 10 → RI ν p.2 F' A' B' → F' 27 = nI d → F' 28 = F 28 → A' 24 d = nI m → Keep d A A' →
          T = (if ν.nd m < 0 then (nI p.1, upd F' 27 (nI d - 1), A') else (0, upd (upd F' 20 (F' 20 + 1)) 27 (nI (d + 1)), pushA (aset (aset A' 26 d (nI p.1)) 25 d 3) (d + 1) (ν.nd m))) → MRep G h ad T.2.1 T.2.2 B' M1 → WM G x 4 Q 0 0 M1 12 [(2, some (.int (T.1))), (0, some (.ref h)), (1, some (.int (nI n0)))] [] := by
        intro p F' A' B' M1 T hp hp10 hR' h27 h28 g24 hK hT hM1
        rw [← hp] at K
        by_cases hnd : ν.nd m < 0
        · rw [if_pos hnd] at hT
          subst hT
          dsimp only at hM1 ⊢
          have e2 : exEnd (exec ν f) ν m p = p := by unfold exEnd; rw [if_pos hnd]
          rw [e2] at K
          exact K _ _ _ _ hM1 (hR'.to updF_n fun _ _ _ _ => rfl) pk_us (upd27_28.trans h28) hK
        · rw [if_neg hnd] at hT
          subst hT
          obtain ⟨l, hl, el⟩ : ∃ l : Nat, l < m ∧ ν.nd m = nI l := by
            rcases zd with q | q
            · exact absurd (by rw [q]; decide) hnd
            · exact q
          have e2 : exEnd (exec ν f) ν m p = (if (exec ν f l (exLast p.2)).1 = 0 then p.1 else (exec ν f l (exLast p.2)).1, exLost (exec ν f l (exLast p.2)).2 (decide ((exec ν f l (exLast p.2)).1 ≠ 0) && decide (p.1 ≠ 0))) := by unfold exEnd; rw [if_neg hnd, el, tn_nI (by omega)]
          rw [e2] at K
          rw [el] at hM1
          refine child 3 l (exLast p.2) (upd F' 20 (F' 20 + 1)) (aset A' 26 d (nI p.1)) B' M1 hl (hR'.last.to (fun k _ => rfl) fun k _ _ hk => aset_n hk) ((congrFun (aset_n (by decide)) d).trans g24) hM1 fun F4 A4 B4 M4 hM4 hR4 k27 k28 k24 k25 k26 hK2 => ?_
          have n4 := ib F4 A4 hR4.2.2.2.2.2.2.2
          have hlt := exec_lt ν f l (exLast p.2)
          refine goes_guard X hM4 k27 (by omega) (by omega) k24 n4.1 fun M5 hM5 => ?_
          have k26' : A4 26 d = nI p.1 := k26.trans (by rw [aset_k]; exact pk_us)
          rw [show guardR F4 A4 d m (nI (exec ν f l (exLast p.2)).1) = (nI (if (exec ν f l (exLast p.2)).1 = 0 then p.1 else (exec ν f l (exLast p.2)).1), upd (upd F4 21 (F4 21 + (if (decide ((exec ν f l (exLast p.2)).1 ≠ 0) && decide (p.1 ≠ 0)) = true then 1 else 0))) 27 (nI d - 1), A4) by
            unfold guardR
            rw [if_neg (by rw [k25]; decide), if_pos k25, k26']
            have q1 : nI (exec ν f l (exLast p.2)).1 = 0 ↔ (exec ν f l (exLast p.2)).1 = 0 := z_nI (by omega)
            have q2 : nI p.1 = 0 ↔ p.1 = 0 := z_nI (by omega)
            by_cases a1 : (exec ν f l (exLast p.2)).1 = 0
            · have b1 := q1.mpr a1
              simp [a1, b1]
              simp [nI_0]
            · have b1 : ¬ nI (exec ν f l (exLast p.2)).1 = 0 := fun z => a1 (q1.mp z)
              by_cases a2 : p.1 = 0
              · have b2 := q2.mpr a2
                simp [a1, b1, a2, b2]
                simp [nI_0]
              · have b2 : ¬ nI p.1 = 0 := fun z => a2 (q2.mp z)
                simp [a1, b1, a2, b2]] at hM5 ⊢
          dsimp only at hM5 ⊢
          exact K _ _ _ _ hM5 ((hR4.lost rfl).to updF_n fun _ _ _ _ => rfl) pk_us (upd27_28.trans ((pk_un (by decide)).trans (k28.trans ((pk_un (by decide)).trans h28)))) (hK.tr ((Keep.atop (Or.inr (Or.inr rfl)) (Nat.le_refl _)).tr hK2))
      have n1 := ib F A hR.2.2.2.2.2.2.2
      refine goes_guard X hM hF (by omega) (by omega) h24 n1.1 fun M1 hM1 => ?_
      rw [show guardR F A d m 0 = (0, upd F 27 (nI (d + 1)), pushA (aset A 25 d 1) (d + 1) (nI i)) by unfold guardR; rw [if_pos h25, n1.2.1]] at hM1 ⊢
      dsimp only at hM1 ⊢
      refine child 1 i s F A B M1 hi hR h24 hM1 fun F2 A2 B2 M2 hM2 hR2 h27 h28 g24 g25 g26 hK => ?_
      have n2 := ib F2 A2 hR2.2.2.2.2.2.2.2
      have hlt := exec_lt ν f i s
      refine goes_guard X hM2 h27 (by omega) (by omega) g24 n2.1 fun M3 hM3 => ?_
      have hb : ((ν.nb m >>> (nI (exec ν f i s).1 &&& 31)) &&& 1 = 1) ↔ bitT (ν.nb m) (exec ν f i s).1 = true := by unfold bitT; exact decide_eq_true_iff.symm
      have hb0 : bitT (ν.nb m) (exec ν f i s).1 = true → (exec ν f i s).1 ≠ 0 := fun q z => by rw [z, zb, and510] at q; cases q
      have g : ∀ r, guardR F2 A2 d m (nI (exec ν f i s).1) = r → MRep G h ad r.2.1 r.2.2 B2 M3 → WM G x 4 Q 0 0 M3 12 [(2, some (.int (r.1))), (0, some (.ref h)), (1, some (.int (nI n0)))] [] := by
        intro r hr hM3
        unfold guardR at hr
        rw [if_neg (by rw [g25]; decide), if_neg (by rw [g25]; decide), n2.2.2.1, n2.2.2.2.1, n2.2.2.2.2] at hr
        by_cases ht : bitT (ν.nb m) (exec ν f i s).1 = true
        · have hcond : A2 25 d = 1 ∧ ν.nb m >>> (nI (exec ν f i s).1 &&& 31) &&& 1 = 1 := ⟨g25, hb.mpr ht⟩
          by_cases hc : ν.nc m < 0
          · rw [if_neg (fun z => z.2 hc), if_pos hcond] at hr
            refine tail (0, (exec ν f i s).2) F2 A2 B2 M3 r ?_ (by show 0 < 10; decide) hR2 h27 h28 g24 hK hr.symm hM3
            unfold exHand
            rw [if_pos ⟨hb0 ht, ht⟩, if_pos hc]
          · rw [if_pos ⟨hcond, hc⟩] at hr
            subst hr
            obtain ⟨j, hj, ej⟩ : ∃ j : Nat, j < m ∧ ν.nc m = nI j := by
              rcases zc with q | q
              · exact absurd (by rw [q]; decide) hc
              · exact q
            rw [ej] at hM3
            refine child 2 j _ F2 A2 B2 M3 hj hR2 g24 hM3 fun F4 A4 B4 M4 hM4 hR4 k27 k28 k24 k25 k26 hK2 => ?_
            have n4 := ib F4 A4 hR4.2.2.2.2.2.2.2
            refine goes_guard X hM4 k27 (by omega) (by omega) k24 n4.1 fun M5 hM5 => ?_
            refine tail (exec ν f j (exec ν f i s).2) F4 A4 B4 M5 _ ?_ (exec_lt ν f j _) hR4 k27 (k28.trans h28) k24 (hK.tr hK2) ?_ hM5
            · unfold exHand
              rw [if_pos ⟨hb0 ht, ht⟩, if_neg hc, ej, tn_nI (by omega)]
            · unfold guardR
              have nc1 : ¬ (A4 25 d = 1 ∧ A4 13 m >>> (nI (exec ν f j (exec ν f i s).2).1 &&& 31) &&& 1 = 1) := fun z => by rw [k25] at z; exact absurd z.1 (by decide)
              rw [if_neg (by rw [k25]; decide), if_neg (by rw [k25]; decide), if_neg (fun z => nc1 z.1), if_neg nc1, n4.2.2.2.2]
        · have hcond : ¬ (A2 25 d = 1 ∧ ν.nb m >>> (nI (exec ν f i s).1 &&& 31) &&& 1 = 1) := fun z => ht (hb.mp z.2)
          rw [if_neg (fun z => hcond z.1), if_neg hcond] at hr
          refine tail (exec ν f i s) F2 A2 B2 M3 r ?_ hlt hR2 h27 h28 g24 hK hr.symm hM3
          unfold exHand
          rw [if_neg (fun z => ht z.2)]
      exact g _ rfl hM3
