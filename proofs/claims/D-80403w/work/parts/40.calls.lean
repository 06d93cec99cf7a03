/-! THE MODEL'S CALLS, but report and alike (printed by wip/D-80403w/tools/m40.py) -/
set_option maxRecDepth 100000
theorem pA_eq {G : GX} {h : Nat} {ad : Nat → Nat} {v : Int32} {p q : Int32 × FS} {F : Nat → Int32} {A : Nat → Nat → Int32} {B : Nat → Nat → Int64} {M : Mem} (hM : MRep G h ad F A B M) (e : p = q) (hv : q.1 = v) (hI : MF q.2 F A B) : pA G h ad (.int p.1) p.2 (some (.int v)) M := by rw [e, hv]; exact ⟨rfl, F, A, B, hM, hI⟩
theorem nbI {ν : NS} {F : Nat → Int32} {A : Nat → Nat → Int32} (h : MN ν F A) {n : Nat} (hn : n < ν.N) (hN : ν.N ≤ 80) (k : Nat) {v : Int32} (hk : A k n = v) : A k (nI n).toNatClampNeg = v := by rw [nI_clamp (by omega)]; exact hk
theorem dcd {a b : Bool} {x y z : Int32} : (if (a && b) = true then x else y) = if a = true ∧ b = true then x else y := by cases a <;> cases b <;> rfl
set_option maxHeartbeats 4000000 in
theorem c_X3_isNode {G : GX} {h : Nat} {ad : Nat → Nat} {F : Nat → Int32} {A : Nat → Nat → Int32} {B : Nat → Nat → Int64} {M : Mem} {ν : NS} (hM : MRep G h ad F A B M) (hF : F 9 = nI ν.N) (hN : ν.N ≤ 80) (v : Int32) : Con G yX3_isNode wX3_isNode (rmm 1 22) [.ref h, .int v] M (pR M (some (.int (bI (isN ν v))))) nX := by
  refine Con.mk (by decide) rfl [(0, some (.ref h)), (1, some (.int v))] rfl fun x X hno => ?_
  refine m_iload_n X dX3_isNode_0 rfl rfl ?_
  refine m_iconst X dX3_isNode_1 (v := 0) (by decide) ?_
  refine m_aload_n X dX3_isNode_2 rfl rfl (by first | rfl | exact isR_rf) ?_
  refine m_getf X fg_X3_121_X3 hM.1 rfl dX3_isNode_3 ?_
  refine m_topi X (hF) ?_
  refine m_iconst X dX3_isNode_6 (v := 1) (by decide) ?_
  refine m_isub X dX3_isNode_7 ?_
  refine m_callS X cs_X3_103  (c_X3_in _ _ _ _ _) rfl rfl (Nat.le_of_ble_eq_true rfl) dX3_isNode_8 ⟨by decide, by decide, by decide, by decide⟩ (fun v M hp => ?_) (fun _ _ _ _ h => h.elim)
  obtain ⟨rfl, rfl⟩ := hp
  refine m_sti ?_
  refine m_topi X (congrArg bI (inB_len (by omega))) ?_
  exact m_zret X dX3_isNode_11 (by first | rfl | exact bI_nar) (by decide) (by decide) (by exact ⟨rfl, rfl⟩)
theorem MF_add {Φ : FS} {F : Nat → Int32} {A : Nat → Nat → Int32} {B : Nat → Nat → Int64} {s o p : Nat} {a b c d : Int32} (hI : MF Φ F A B) (hn : Φ.1.N < 80) :
    MF (Φ.1.add s o a b c d p, Φ.2.1, Φ.2.2.unreach Φ.1.N) (upd F 9 (nI (Φ.1.N + 1))) (aset (aset (aset (aset (aset (aset (aset (aset A 10 Φ.1.N (nI s)) 11 Φ.1.N (nI o)) 12 Φ.1.N a) 13 Φ.1.N b) 14 Φ.1.N c) 15 Φ.1.N d) 16 Φ.1.N (nI p)) 31 Φ.1.N 0) B := by
  obtain ⟨⟨h1, h2, h3, h4, h5, h6, h7, h8⟩, h9⟩ := hI
  have low : ∀ k, k < 8 → aset (aset (aset (aset (aset (aset (aset (aset A 10 Φ.1.N (nI s)) 11 Φ.1.N (nI o)) 12 Φ.1.N a) 13 Φ.1.N b) 14 Φ.1.N c) 15 Φ.1.N d) 16 Φ.1.N (nI p)) 31 Φ.1.N 0 k = A k := fun k hk => by
    rw [aset_n (by omega), aset_n (by omega), aset_n (by omega), aset_n (by omega), aset_n (by omega), aset_n (by omega), aset_n (by omega), aset_n (by omega)]
  refine ⟨⟨(h1.updF (by decide) (by decide) (by decide)).updA low, h2, (pk_un (by decide)).trans h3, (pk_un (by decide)).trans h4, (pk_un (by decide)).trans h5, (pk_un (by decide)).trans h6, (pk_un (by decide)).trans h7, pk_us, fun n hn2 => ?_⟩, fun t ht => ?_, fun n hn2 => ?_⟩
  · have hn2' : n < Φ.1.N + 1 := hn2
    show _ = nI (updN Φ.1.so Φ.1.N s n) ∧ _ = nI (updN Φ.1.op Φ.1.N o n) ∧ _ = upd Φ.1.na Φ.1.N a n ∧ _ = upd Φ.1.nb Φ.1.N b n ∧ _ = upd Φ.1.nc Φ.1.N c n ∧ _ = upd Φ.1.nd Φ.1.N d n ∧ _ = nI (updN Φ.1.co Φ.1.N p n)
    by_cases e : n = Φ.1.N
    · subst e
      simp [aset, updN, upd]
    · have := h8.2 n (by omega)
      simpa [aset, updN, upd, e] using this
  · have := h9.1 t ht
    rw [show ∀ k, k = 29 ∨ k = 30 → aset (aset (aset (aset (aset (aset (aset (aset A 10 Φ.1.N (nI s)) 11 Φ.1.N (nI o)) 12 Φ.1.N a) 13 Φ.1.N b) 14 Φ.1.N c) 15 Φ.1.N d) 16 Φ.1.N (nI p)) 31 Φ.1.N 0 k = A k from fun k hk => by
      rw [aset_n (by omega), aset_n (by omega), aset_n (by omega), aset_n (by omega), aset_n (by omega), aset_n (by omega), aset_n (by omega), aset_n (by omega)]] <;> first | (rw [show ∀ k, k = 29 ∨ k = 30 → aset (aset (aset (aset (aset (aset (aset (aset A 10 Φ.1.N (nI s)) 11 Φ.1.N (nI o)) 12 Φ.1.N a) 13 Φ.1.N b) 14 Φ.1.N c) 15 Φ.1.N d) 16 Φ.1.N (nI p)) 31 Φ.1.N 0 k = A k from fun k hk => by
      rw [aset_n (by omega), aset_n (by omega), aset_n (by omega), aset_n (by omega), aset_n (by omega), aset_n (by omega), aset_n (by omega), aset_n (by omega)]] <;> first | exact this | exact Or.inl rfl | exact Or.inr rfl) | exact Or.inl rfl | exact Or.inr rfl
  · have hn2' : n < Φ.1.N + 1 := hn2
    have hi : ∀ k, 32 ≤ k → aset (aset (aset (aset (aset (aset (aset (aset A 10 Φ.1.N (nI s)) 11 Φ.1.N (nI o)) 12 Φ.1.N a) 13 Φ.1.N b) 14 Φ.1.N c) 15 Φ.1.N d) 16 Φ.1.N (nI p)) 31 Φ.1.N 0 k = A k := fun k hk => by
      rw [aset_n (by omega), aset_n (by omega), aset_n (by omega), aset_n (by omega), aset_n (by omega), aset_n (by omega), aset_n (by omega), aset_n (by omega)]
    rw [hi 32 (by decide), hi 33 (by decide), hi 34 (by decide), hi 35 (by decide), aset_k, show upd F 9 (nI (Φ.1.N + 1)) 28 = F 28 from pk_un (by decide)]
    show (updB Φ.2.2.rch Φ.1.N false n = true ↔ _) ∧ (updB Φ.2.2.rch Φ.1.N false n = true → _)
    by_cases e : n = Φ.1.N
    · subst e
      simp [updB, upd]
    · have := h9.2 n (by omega)
      have e3 : aset (aset (aset (aset (aset (aset (aset A 10 Φ.1.N (nI s)) 11 Φ.1.N (nI o)) 12 Φ.1.N a) 13 Φ.1.N b) 14 Φ.1.N c) 15 Φ.1.N d) 16 Φ.1.N (nI p) 31 = A 31 := by
        rw [aset_n (by decide), aset_n (by decide), aset_n (by decide), aset_n (by decide), aset_n (by decide), aset_n (by decide), aset_n (by decide)]
      rw [e3]
      simpa [updB, upd, e, RP.unreach] using this
set_option maxHeartbeats 4000000 in
theorem c_X3_node {G : GX} {h : Nat} {ad : Nat → Nat} {F : Nat → Int32} {A : Nat → Nat → Int32} {B : Nat → Nat → Int64} {M : Mem} {Φ : FS} (hM : MRep G h ad F A B M) (hI : MF Φ F A B) (hW : FW Φ) (s o : Nat) (a b c d : Int32) (p : Nat) (hp : p < 2 ^ 20) : Con G yX3_node wX3_node (rmm 0 0) [.ref h, .int (nI s), .int (nI o), .int a, .int b, .int c, .int d, .int (nI p)] M (pA G h ad (.int (addN Φ s o a b c d p).1) (addN Φ s o a b c d p).2) nX := by
  refine Con.mk (by decide) rfl [(0, some (.ref h)), (1, some (.int (nI s))), (2, some (.int (nI o))), (3, some (.int a)), (4, some (.int b)), (5, some (.int c)), (6, some (.int d)), (7, some (.int (nI p)))] rfl fun x X hno => ?_
  have hN := hW.1.1
  have hWF := hW.2.1
  have hb1 := hWF.1
  have hb2 := hWF.2.1
  have hR := hI.1
  have hT := hR.1
  have hMN := hR.2.2.2.2.2.2.2
  refine m_aload_n X dX3_node_0 rfl rfl (by first | rfl | exact isR_rf) ?_
  refine m_getf X fg_X3_121_X3 hM.1 rfl dX3_node_1 ?_
  refine m_topi X (hMN.1) ?_
  refine m_bipush X dX3_node_4 (v := 80) (by decide) ?_
  refine m_icmpeq X dX3_node_6 (t := 16) (by decide) (fun c_6 => ?_) (fun c_6 => ?_)
  · skip
    have c_6 : Φ.1.N = 80 := (nI_eq (b := 80) (by omega) (by decide)).mp c_6
    refine m_bipush X dX3_node_16 (v := (-2)) (by decide) ?_
    exact m_iret X dX3_node_18 (by decide) (by decide) (by exact pA_eq hM (q := (-2, Φ)) (by unfold addN; rw [if_pos (by omega)]) rfl hI)
  · skip
    have c_6 : ¬ Φ.1.N = 80 := fun z => c_6 (by rw [z]; rfl)
    refine m_iload X dX3_node_9 rfl ?_
    refine m_bipush X dX3_node_11 (v := 100) (by decide) ?_
    refine m_icmple X dX3_node_13 (t := 19) (by decide) (fun c_13 => ?_) (fun c_13 => ?_)
    · skip
      have c_13 : p ≤ 100 := (nI_leI (b := 100) (by omega) (by decide)).mp c_13
      refine m_aload_n X dX3_node_19 rfl rfl (by first | rfl | exact isR_rf) ?_
      refine m_getf X fg_X3_32_X3 hM.1 rfl dX3_node_20 ?_
      refine m_aload_n X dX3_node_23 rfl rfl (by first | rfl | exact isR_rf) ?_
      refine m_getf X fg_X3_121_X3 hM.1 rfl dX3_node_24 ?_
      refine m_topi X (hMN.1) ?_
      refine m_iload_n X dX3_node_27 rfl rfl ?_
      refine s_iast X hM rfl rfl (by exact tin (by simp only [alen]; omega) rfl) dX3_node_28 (fun M hM => ?_)
      refine m_aload_n X dX3_node_29 rfl rfl (by first | rfl | exact isR_rf) ?_
      refine m_getf X fg_X3_35_X3 hM.1 rfl dX3_node_30 ?_
      refine m_aload_n X dX3_node_33 rfl rfl (by first | rfl | exact isR_rf) ?_
      refine m_getf X fg_X3_121_X3 hM.1 rfl dX3_node_34 ?_
      refine m_topi X (hMN.1) ?_
      refine m_iload_n X dX3_node_37 rfl rfl ?_
      refine s_iast X hM rfl rfl (by exact tin (by simp only [alen]; omega) rfl) dX3_node_38 (fun M hM => ?_)
      refine m_aload_n X dX3_node_39 rfl rfl (by first | rfl | exact isR_rf) ?_
      refine m_getf X fg_X3_38_X3 hM.1 rfl dX3_node_40 ?_
      refine m_aload_n X dX3_node_43 rfl rfl (by first | rfl | exact isR_rf) ?_
      refine m_getf X fg_X3_121_X3 hM.1 rfl dX3_node_44 ?_
      refine m_topi X (hMN.1) ?_
      refine m_iload_n X dX3_node_47 rfl rfl ?_
      refine s_iast X hM rfl rfl (by exact tin (by simp only [alen]; omega) rfl) dX3_node_48 (fun M hM => ?_)
      refine m_aload_n X dX3_node_49 rfl rfl (by first | rfl | exact isR_rf) ?_
      refine m_getf X fg_X3_41_X3 hM.1 rfl dX3_node_50 ?_
      refine m_aload_n X dX3_node_53 rfl rfl (by first | rfl | exact isR_rf) ?_
      refine m_getf X fg_X3_121_X3 hM.1 rfl dX3_node_54 ?_
      refine m_topi X (hMN.1) ?_
      refine m_iload X dX3_node_57 rfl ?_
      refine s_iast X hM rfl rfl (by exact tin (by simp only [alen]; omega) rfl) dX3_node_59 (fun M hM => ?_)
      refine m_aload_n X dX3_node_60 rfl rfl (by first | rfl | exact isR_rf) ?_
      refine m_getf X fg_X3_44_X3 hM.1 rfl dX3_node_61 ?_
      refine m_aload_n X dX3_node_64 rfl rfl (by first | rfl | exact isR_rf) ?_
      refine m_getf X fg_X3_121_X3 hM.1 rfl dX3_node_65 ?_
      refine m_topi X (hMN.1) ?_
      refine m_iload X dX3_node_68 rfl ?_
      refine s_iast X hM rfl rfl (by exact tin (by simp only [alen]; omega) rfl) dX3_node_70 (fun M hM => ?_)
      refine m_aload_n X dX3_node_71 rfl rfl (by first | rfl | exact isR_rf) ?_
      refine m_getf X fg_X3_47_X3 hM.1 rfl dX3_node_72 ?_
      refine m_aload_n X dX3_node_75 rfl rfl (by first | rfl | exact isR_rf) ?_
      refine m_getf X fg_X3_121_X3 hM.1 rfl dX3_node_76 ?_
      refine m_topi X (hMN.1) ?_
      refine m_iload X dX3_node_79 rfl ?_
      refine s_iast X hM rfl rfl (by exact tin (by simp only [alen]; omega) rfl) dX3_node_81 (fun M hM => ?_)
      refine m_aload_n X dX3_node_82 rfl rfl (by first | rfl | exact isR_rf) ?_
      refine m_getf X fg_X3_50_X3 hM.1 rfl dX3_node_83 ?_
      refine m_aload_n X dX3_node_86 rfl rfl (by first | rfl | exact isR_rf) ?_
      refine m_getf X fg_X3_121_X3 hM.1 rfl dX3_node_87 ?_
      refine m_topi X (hMN.1) ?_
      refine m_iload X dX3_node_90 rfl ?_
      refine s_iast X hM rfl rfl (by exact tin (by simp only [alen]; omega) rfl) dX3_node_92 (fun M hM => ?_)
      refine m_aload_n X dX3_node_93 rfl rfl (by first | rfl | exact isR_rf) ?_
      refine m_getf X fg_X3_76_X3 hM.1 rfl dX3_node_94 ?_
      refine m_aload_n X dX3_node_97 rfl rfl (by first | rfl | exact isR_rf) ?_
      refine m_getf X fg_X3_121_X3 hM.1 rfl dX3_node_98 ?_
      refine m_topi X (hMN.1) ?_
      refine m_iconst X dX3_node_101 (v := 0) (by decide) ?_
      refine s_zast X hM rfl rfl (by exact tin (by simp only [alen]; omega) rfl) (by first | rfl | exact bI_vp) dX3_node_102 (fun M hM => ?_)
      refine m_aload_n X dX3_node_103 rfl rfl (by first | rfl | exact isR_rf) ?_
      refine m_dup X dX3_node_104 rfl ?_
      refine m_getf X fg_X3_121_X3 hM.1 rfl dX3_node_105 ?_
      refine m_topi X (hMN.1) ?_
      refine m_iconst X dX3_node_108 (v := 1) (by decide) ?_
      refine m_iadd X dX3_node_109 ?_
      refine m_topi X (nI_1 _) ?_
      refine s_put X hM fp_X3_121_X3 rfl rfl rfl rfl dX3_node_110 (fun M hM => ?_)
      refine m_aload_n X dX3_node_113 rfl rfl (by first | rfl | exact isR_rf) ?_
      refine m_getf X fg_X3_121_X3 hM.1 rfl dX3_node_114 ?_
      refine m_topi X (pk_us) ?_
      refine m_iconst X dX3_node_117 (v := 1) (by decide) ?_
      refine m_isub X dX3_node_118 ?_
      refine m_topi X (nI_pred _) ?_
      exact m_iret X dX3_node_119 (by decide) (by decide) (by rw [nI_clamp (by omega)] at hM; exact pA_eq hM (q := (nI Φ.1.N, Φ.1.add s o a b c d p, Φ.2.1, Φ.2.2.unreach Φ.1.N)) (by unfold addN; rw [if_neg (by omega)]) rfl (MF_add hI (by omega)))
    · skip
      have c_13 : ¬ p ≤ 100 := fun z => c_13 ((nI_leI (b := 100) (by omega) (by decide)).mpr z)
      refine m_bipush X dX3_node_16 (v := (-2)) (by decide) ?_
      exact m_iret X dX3_node_18 (by decide) (by decide) (by exact pA_eq hM (q := (-2, Φ)) (by unfold addN; rw [if_pos (by omega)]) rfl hI)
theorem pA_n {G : GX} {h : Nat} {ad : Nat → Nat} {p q : Int32 × FS} {F : Nat → Int32} {A : Nat → Nat → Int32} {B : Nat → Nat → Int64} {M : Mem} (hM : MRep G h ad F A B M) (e : p = q) (hI : MF q.2 F A B) : pA G h ad (.int p.1) p.2 (some (.int q.1)) M := by rw [e]; exact ⟨rfl, F, A, B, hM, hI⟩
theorem isActB_op {op a b c d : Int32} (h : isActB op a b c d = true) : ∃ j : Nat, j < 18 ∧ op = nI j := by
  unfold isActB at h
  split at h
  · cases h
  · next h0 =>
    obtain ⟨j, hj, rfl⟩ := nI_of h0
    rw [nI_clamp hj] at h
    refine ⟨j, ?_, rfl⟩
    unfold isActN at h
    split at h <;> first | omega | cases h
set_option maxHeartbeats 4000000 in
theorem c_X3_act {G : GX} {h : Nat} {ad : Nat → Nat} {F : Nat → Int32} {A : Nat → Nat → Int32} {B : Nat → Nat → Int64} {M : Mem} {Φ : FS} (hM : MRep G h ad F A B M) (hI : MF Φ F A B) (hW : FW Φ) (op a b c d : Int32) : Con G yX3_act wX3_act (rmm 3 66) [.ref h, .int op, .int a, .int b, .int c, .int d] M (pA G h ad (.int (apAct op a b c d Φ).1) (apAct op a b c d Φ).2) nX := by
  refine Con.mk (by decide) rfl [(0, some (.ref h)), (1, some (.int op)), (2, some (.int a)), (3, some (.int b)), (4, some (.int c)), (5, some (.int d))] rfl fun x X hno => ?_
  have hN := hW.1.1
  have hWF := hW.2.1
  have hb1 := hWF.1
  have hb2 := hWF.2.1
  have hR := hI.1
  have hT := hR.1
  have hMN := hR.2.2.2.2.2.2.2
  refine m_iload_n X dX3_act_0 rfl rfl ?_
  refine m_iload_n X dX3_act_1 rfl rfl ?_
  refine m_iload_n X dX3_act_2 rfl rfl ?_
  refine m_iload X dX3_act_3 rfl ?_
  refine m_iload X dX3_act_5 rfl ?_
  refine m_callS X cs_X3_131  (c_X3_isAct _ _ _ _ _ _ _) rfl rfl (Nat.le_of_ble_eq_true rfl) dX3_act_7 ⟨by decide, by decide, by decide, by decide⟩ (fun v M hp => ?_) (fun _ _ _ _ h => h.elim)
  obtain ⟨rfl, rfl⟩ := hp
  refine m_sti ?_
  refine m_ifeq X dX3_act_10 (t := 29) (by decide) (fun c_10 => ?_) (fun c_10 => ?_)
  · skip
    try simp only [bI_0, Bool.not_eq_false] at c_10
    refine m_iconst X dX3_act_29 (v := (-1)) (by decide) ?_
    exact m_iret X dX3_act_30 (by decide) (by decide) (by exact pA_eq hM (q := (-1, Φ)) (if_neg (by rw [c_10]; decide)) rfl hI)
  · skip
    try simp only [bI_0, Bool.not_eq_false] at c_10
    have hop := isActB_op c_10
    obtain ⟨j, hj, rfl⟩ := hop
    have e : apAct (nI j) a b c d Φ = addN Φ 0 j a b c d 1 := by unfold apAct; rw [if_pos c_10, tn_nI (by omega)]
    refine m_aload_n X dX3_act_13 rfl rfl (by first | rfl | exact isR_rf) ?_
    refine m_iconst X dX3_act_14 (v := 0) (by decide) ?_
    refine m_iload_n X dX3_act_15 rfl rfl ?_
    refine m_iload_n X dX3_act_16 rfl rfl ?_
    refine m_iload_n X dX3_act_17 rfl rfl ?_
    refine m_iload X dX3_act_18 rfl ?_
    refine m_iload X dX3_act_20 rfl ?_
    refine m_iconst X dX3_act_22 (v := 1) (by decide) ?_
    refine m_callV X cs_X3_135  (c_X3_node hM hI hW 0 j a b c d 1 (by decide)) hM.1 rfl rfl rfl (Nat.le_of_ble_eq_true rfl) dX3_act_23 ⟨by decide, by decide, by decide, by decide⟩ (fun v M hp => ?_) (fun _ _ _ _ h => h.elim)
    obtain ⟨rfl, F', A', B', hM, hI'⟩ := hp
    refine m_sti ?_
    refine m_goto X dX3_act_26 (t := 30) (by decide) ?_
    exact m_iret X dX3_act_30 (by decide) (by decide) (by exact pA_n hM e hI')
set_option maxHeartbeats 4000000 in
theorem c_X3_both {G : GX} {h : Nat} {ad : Nat → Nat} {F : Nat → Int32} {A : Nat → Nat → Int32} {B : Nat → Nat → Int64} {M : Mem} {Φ : FS} (hM : MRep G h ad F A B M) (hI : MF Φ F A B) (hW : FW Φ) (i j : Int32) : Con G yX3_both wX3_both (rmm 2 43) [.ref h, .int i, .int j] M (pA G h ad (.int (apBoth i j Φ).1) (apBoth i j Φ).2) nX := by
  refine Con.mk (by decide) rfl [(0, some (.ref h)), (1, some (.int i)), (2, some (.int j))] rfl fun x X hno => ?_
  have hN := hW.1.1
  have hWF := hW.2.1
  have hb1 := hWF.1
  have hb2 := hWF.2.1
  have hR := hI.1
  have hT := hR.1
  have hMN := hR.2.2.2.2.2.2.2
  refine m_aload_n X dX3_both_0 rfl rfl (by first | rfl | exact isR_rf) ?_
  refine m_iload_n X dX3_both_1 rfl rfl ?_
  refine m_callV X cs_X3_139  (c_X3_isNode hM hMN.1 hN i) hM.1 rfl rfl rfl (Nat.le_of_ble_eq_true rfl) dX3_both_2 ⟨by decide, by decide, by decide, by decide⟩ (fun v M hp => ?_) (fun _ _ _ _ h => h.elim)
  obtain ⟨rfl, rfl⟩ := hp
  refine m_sti ?_
  refine m_ifeq X dX3_both_5 (t := 44) (by decide) (fun c_5 => ?_) (fun c_5 => ?_)
  · skip
    try simp only [bI_0, Bool.not_eq_false] at c_5
    refine m_iconst X dX3_both_44 (v := (-1)) (by decide) ?_
    exact m_iret X dX3_both_45 (by decide) (by decide) (by exact pA_eq hM (q := (-1, Φ)) (if_neg (by rintro ⟨z1, z2⟩; first | exact absurd z1 (by rw [c_5]; decide) | exact absurd z2 (by rw [c_13]; decide))) rfl hI)
  · skip
    try simp only [bI_0, Bool.not_eq_false] at c_5
    refine m_aload_n X dX3_both_8 rfl rfl (by first | rfl | exact isR_rf) ?_
    refine m_iload_n X dX3_both_9 rfl rfl ?_
    refine m_callV X cs_X3_139  (c_X3_isNode hM hMN.1 hN j) hM.1 rfl rfl rfl (Nat.le_of_ble_eq_true rfl) dX3_both_10 ⟨by decide, by decide, by decide, by decide⟩ (fun v M hp => ?_) (fun _ _ _ _ h => h.elim)
    obtain ⟨rfl, rfl⟩ := hp
    refine m_sti ?_
    refine m_ifeq X dX3_both_13 (t := 44) (by decide) (fun c_13 => ?_) (fun c_13 => ?_)
    · skip
      try simp only [bI_0, Bool.not_eq_false] at c_13
      refine m_iconst X dX3_both_44 (v := (-1)) (by decide) ?_
      exact m_iret X dX3_both_45 (by decide) (by decide) (by exact pA_eq hM (q := (-1, Φ)) (if_neg (by rintro ⟨z1, z2⟩; first | exact absurd z1 (by rw [c_5]; decide) | exact absurd z2 (by rw [c_13]; decide))) rfl hI)
    · skip
      try simp only [bI_0, Bool.not_eq_false] at c_13
      obtain ⟨i, hi, rfl⟩ := isN_nI hN c_5
      obtain ⟨j, hj, rfl⟩ := isN_nI hN c_13
      have hci := (hW.1.2 i hi).2
      have hcj := (hW.1.2 j hj).2
      have e : apBoth (nI i) (nI j) Φ = addN Φ 1 0 (nI i) (nI j) 0 0 (1 + Φ.1.co i + Φ.1.co j) := by unfold apBoth; rw [if_pos ⟨c_5, c_13⟩, tn_nI (by omega), tn_nI (by omega)]
      refine m_aload_n X dX3_both_16 rfl rfl (by first | rfl | exact isR_rf) ?_
      refine m_iconst X dX3_both_17 (v := 1) (by decide) ?_
      refine m_iconst X dX3_both_18 (v := 0) (by decide) ?_
      refine m_iload_n X dX3_both_19 rfl rfl ?_
      refine m_iload_n X dX3_both_20 rfl rfl ?_
      refine m_iconst X dX3_both_21 (v := 0) (by decide) ?_
      refine m_iconst X dX3_both_22 (v := 0) (by decide) ?_
      refine m_iconst X dX3_both_23 (v := 1) (by decide) ?_
      refine m_aload_n X dX3_both_24 rfl rfl (by first | rfl | exact isR_rf) ?_
      refine m_getf X fg_X3_50_X3 hM.1 rfl dX3_both_25 ?_
      refine m_iload_n X dX3_both_28 rfl rfl ?_
      refine s_iald X hM rfl rfl (by exact tin (by simp only [alen]; omega) rfl) dX3_both_29 ?_
      refine m_topi X (nbI hMN hi hN 16 (hMN.2 _ hi).2.2.2.2.2.2) ?_
      refine m_iadd X dX3_both_30 ?_
      refine m_topi X ((nI_add 1 _)) ?_
      refine m_aload_n X dX3_both_31 rfl rfl (by first | rfl | exact isR_rf) ?_
      refine m_getf X fg_X3_50_X3 hM.1 rfl dX3_both_32 ?_
      refine m_iload_n X dX3_both_35 rfl rfl ?_
      refine s_iald X hM rfl rfl (by exact tin (by simp only [alen]; omega) rfl) dX3_both_36 ?_
      refine m_topi X (nbI hMN hj hN 16 (hMN.2 _ hj).2.2.2.2.2.2) ?_
      refine m_iadd X dX3_both_37 ?_
      refine m_topi X (nI_add _ _) ?_
      refine m_callV X cs_X3_135  (c_X3_node hM hI hW 1 0 (nI i) (nI j) 0 0 (1 + Φ.1.co i + Φ.1.co j) (by omega)) hM.1 rfl rfl rfl (Nat.le_of_ble_eq_true rfl) dX3_both_38 ⟨by decide, by decide, by decide, by decide⟩ (fun v M hp => ?_) (fun _ _ _ _ h => h.elim)
      obtain ⟨rfl, F', A', B', hM, hI'⟩ := hp
      refine m_sti ?_
      refine m_goto X dX3_both_41 (t := 45) (by decide) ?_
      exact m_iret X dX3_both_45 (by decide) (by decide) (by exact pA_n hM e hI')
set_option maxHeartbeats 4000000 in
theorem c_X3_choice {G : GX} {h : Nat} {ad : Nat → Nat} {F : Nat → Int32} {A : Nat → Nat → Int32} {B : Nat → Nat → Int64} {M : Mem} {Φ : FS} (hM : MRep G h ad F A B M) (hI : MF Φ F A B) (hW : FW Φ) (s k i j : Int32) : Con G yX3_choice wX3_choice (rmm 2 43) [.ref h, .int s, .int k, .int i, .int j] M (pA G h ad (.int (apChoice s k i j Φ).1) (apChoice s k i j Φ).2) nX := by
  refine Con.mk (by decide) rfl [(0, some (.ref h)), (1, some (.int s)), (2, some (.int k)), (3, some (.int i)), (4, some (.int j))] rfl fun x X hno => ?_
  have hN := hW.1.1
  have hWF := hW.2.1
  have hb1 := hWF.1
  have hb2 := hWF.2.1
  have hR := hI.1
  have hT := hR.1
  have hMN := hR.2.2.2.2.2.2.2
  refine m_iload_n X dX3_choice_0 rfl rfl ?_
  refine m_callS X cs_X3_124  (c_X3_isSlot _ _ _) rfl rfl (Nat.le_of_ble_eq_true rfl) dX3_choice_1 ⟨by decide, by decide, by decide, by decide⟩ (fun v M hp => ?_) (fun _ _ _ _ h => h.elim)
  obtain ⟨rfl, rfl⟩ := hp
  refine m_sti ?_
  refine m_ifeq X dX3_choice_4 (t := 38) (by decide) (fun c_4 => ?_) (fun c_4 => ?_)
  · skip
    try simp only [bI_0, Bool.not_eq_false] at c_4
    refine m_iconst X dX3_choice_38 (v := 0) (by decide) ?_
    refine m_istore X dX3_choice_39 rfl rfl ?_
    refine m_iload X dX3_choice_41 rfl ?_
    refine m_ifeq X dX3_choice_43 (t := 76) (by decide) (fun c_43 => ?_) (fun c_43 => absurd rfl c_43)
    refine m_iconst X dX3_choice_76 (v := (-1)) (by decide) ?_
    exact m_iret X dX3_choice_77 (by decide) (by decide) (by exact pA_eq hM (q := (-1, Φ)) (if_neg (by rintro ⟨z1, z2, z3, z4⟩; first | exact absurd z1 (by rw [c_4]; decide) | exact absurd z2 (by rw [c_14]; decide) | exact absurd z3 (by rw [c_22]; decide) | exact absurd z4 (by rw [c_31]; decide))) rfl hI)
  · skip
    try simp only [bI_0, Bool.not_eq_false] at c_4
    refine m_iload_n X dX3_choice_7 rfl rfl ?_
    refine m_iconst X dX3_choice_8 (v := 0) (by decide) ?_
    refine m_bipush X dX3_choice_9 (v := 9) (by decide) ?_
    refine m_callS X cs_X3_103  (c_X3_in _ _ _ _ _) rfl rfl (Nat.le_of_ble_eq_true rfl) dX3_choice_11 ⟨by decide, by decide, by decide, by decide⟩ (fun v M hp => ?_) (fun _ _ _ _ h => h.elim)
    obtain ⟨rfl, rfl⟩ := hp
    refine m_sti ?_
    refine m_ifeq X dX3_choice_14 (t := 38) (by decide) (fun c_14 => ?_) (fun c_14 => ?_)
    · skip
      try simp only [bI_0, Bool.not_eq_false] at c_14
      refine m_iconst X dX3_choice_38 (v := 0) (by decide) ?_
      refine m_istore X dX3_choice_39 rfl rfl ?_
      refine m_iload X dX3_choice_41 rfl ?_
      refine m_ifeq X dX3_choice_43 (t := 76) (by decide) (fun c_43 => ?_) (fun c_43 => absurd rfl c_43)
      refine m_iconst X dX3_choice_76 (v := (-1)) (by decide) ?_
      exact m_iret X dX3_choice_77 (by decide) (by decide) (by exact pA_eq hM (q := (-1, Φ)) (if_neg (by rintro ⟨z1, z2, z3, z4⟩; first | exact absurd z1 (by rw [c_4]; decide) | exact absurd z2 (by rw [c_14]; decide) | exact absurd z3 (by rw [c_22]; decide) | exact absurd z4 (by rw [c_31]; decide))) rfl hI)
    · skip
      try simp only [bI_0, Bool.not_eq_false] at c_14
      refine m_aload_n X dX3_choice_17 rfl rfl (by first | rfl | exact isR_rf) ?_
      refine m_iload_n X dX3_choice_18 rfl rfl ?_
      refine m_callV X cs_X3_139  (c_X3_isNode hM hMN.1 hN i) hM.1 rfl rfl rfl (Nat.le_of_ble_eq_true rfl) dX3_choice_19 ⟨by decide, by decide, by decide, by decide⟩ (fun v M hp => ?_) (fun _ _ _ _ h => h.elim)
      obtain ⟨rfl, rfl⟩ := hp
      refine m_sti ?_
      refine m_ifeq X dX3_choice_22 (t := 38) (by decide) (fun c_22 => ?_) (fun c_22 => ?_)
      · skip
        try simp only [bI_0, Bool.not_eq_false] at c_22
        refine m_iconst X dX3_choice_38 (v := 0) (by decide) ?_
        refine m_istore X dX3_choice_39 rfl rfl ?_
        refine m_iload X dX3_choice_41 rfl ?_
        refine m_ifeq X dX3_choice_43 (t := 76) (by decide) (fun c_43 => ?_) (fun c_43 => absurd rfl c_43)
        refine m_iconst X dX3_choice_76 (v := (-1)) (by decide) ?_
        exact m_iret X dX3_choice_77 (by decide) (by decide) (by exact pA_eq hM (q := (-1, Φ)) (if_neg (by rintro ⟨z1, z2, z3, z4⟩; first | exact absurd z1 (by rw [c_4]; decide) | exact absurd z2 (by rw [c_14]; decide) | exact absurd z3 (by rw [c_22]; decide) | exact absurd z4 (by rw [c_31]; decide))) rfl hI)
      · skip
        try simp only [bI_0, Bool.not_eq_false] at c_22
        refine m_aload_n X dX3_choice_25 rfl rfl (by first | rfl | exact isR_rf) ?_
        refine m_iload X dX3_choice_26 rfl ?_
        refine m_callV X cs_X3_139  (c_X3_isNode hM hMN.1 hN j) hM.1 rfl rfl rfl (Nat.le_of_ble_eq_true rfl) dX3_choice_28 ⟨by decide, by decide, by decide, by decide⟩ (fun v M hp => ?_) (fun _ _ _ _ h => h.elim)
        obtain ⟨rfl, rfl⟩ := hp
        refine m_sti ?_
        refine m_ifeq X dX3_choice_31 (t := 38) (by decide) (fun c_31 => ?_) (fun c_31 => ?_)
        · skip
          try simp only [bI_0, Bool.not_eq_false] at c_31
          refine m_iconst X dX3_choice_38 (v := 0) (by decide) ?_
          refine m_istore X dX3_choice_39 rfl rfl ?_
          refine m_iload X dX3_choice_41 rfl ?_
          refine m_ifeq X dX3_choice_43 (t := 76) (by decide) (fun c_43 => ?_) (fun c_43 => absurd rfl c_43)
          refine m_iconst X dX3_choice_76 (v := (-1)) (by decide) ?_
          exact m_iret X dX3_choice_77 (by decide) (by decide) (by exact pA_eq hM (q := (-1, Φ)) (if_neg (by rintro ⟨z1, z2, z3, z4⟩; first | exact absurd z1 (by rw [c_4]; decide) | exact absurd z2 (by rw [c_14]; decide) | exact absurd z3 (by rw [c_22]; decide) | exact absurd z4 (by rw [c_31]; decide))) rfl hI)
        · skip
          try simp only [bI_0, Bool.not_eq_false] at c_31
          refine m_iconst X dX3_choice_34 (v := 1) (by decide) ?_
          refine m_goto X dX3_choice_35 (t := 39) (by decide) ?_
          refine m_istore X dX3_choice_39 rfl rfl ?_
          refine m_iload X dX3_choice_41 rfl ?_
          refine m_ifeq X dX3_choice_43 (t := 76) (by decide) (fun c_43 => absurd c_43 (by decide)) (fun c_43 => ?_)
          obtain ⟨i, hi, rfl⟩ := isN_nI hN c_22
          obtain ⟨j, hj, rfl⟩ := isN_nI hN c_31
          have hci := (hW.1.2 i hi).2
          have hcj := (hW.1.2 j hj).2
          have e : apChoice s k (nI i) (nI j) Φ = addN Φ 2 0 s k (nI i) (nI j) (1 + Φ.1.co i + Φ.1.co j) := by unfold apChoice; rw [if_pos ⟨c_4, c_14, c_22, c_31⟩, tn_nI (by omega), tn_nI (by omega)]
          refine m_aload_n X dX3_choice_46 rfl rfl (by first | rfl | exact isR_rf) ?_
          refine m_iconst X dX3_choice_47 (v := 2) (by decide) ?_
          refine m_iconst X dX3_choice_48 (v := 0) (by decide) ?_
          refine m_iload_n X dX3_choice_49 rfl rfl ?_
          refine m_iload_n X dX3_choice_50 rfl rfl ?_
          refine m_iload_n X dX3_choice_51 rfl rfl ?_
          refine m_iload X dX3_choice_52 rfl ?_
          refine m_iconst X dX3_choice_54 (v := 1) (by decide) ?_
          refine m_aload_n X dX3_choice_55 rfl rfl (by first | rfl | exact isR_rf) ?_
          refine m_getf X fg_X3_50_X3 hM.1 rfl dX3_choice_56 ?_
          refine m_iload_n X dX3_choice_59 rfl rfl ?_
          refine s_iald X hM rfl rfl (by exact tin (by simp only [alen]; omega) rfl) dX3_choice_60 ?_
          refine m_topi X (nbI hMN hi hN 16 (hMN.2 _ hi).2.2.2.2.2.2) ?_
          refine m_iadd X dX3_choice_61 ?_
          refine m_topi X ((nI_add 1 _)) ?_
          refine m_aload_n X dX3_choice_62 rfl rfl (by first | rfl | exact isR_rf) ?_
          refine m_getf X fg_X3_50_X3 hM.1 rfl dX3_choice_63 ?_
          refine m_iload X dX3_choice_66 rfl ?_
          refine s_iald X hM rfl rfl (by exact tin (by simp only [alen]; omega) rfl) dX3_choice_68 ?_
          refine m_topi X (nbI hMN hj hN 16 (hMN.2 _ hj).2.2.2.2.2.2) ?_
          refine m_iadd X dX3_choice_69 ?_
          refine m_topi X (nI_add _ _) ?_
          refine m_callV X cs_X3_135  (c_X3_node hM hI hW 2 0 s k (nI i) (nI j) (1 + Φ.1.co i + Φ.1.co j) (by omega)) hM.1 rfl rfl rfl (Nat.le_of_ble_eq_true rfl) dX3_choice_70 ⟨by decide, by decide, by decide, by decide⟩ (fun v M hp => ?_) (fun _ _ _ _ h => h.elim)
          obtain ⟨rfl, F', A', B', hM, hI'⟩ := hp
          refine m_sti ?_
          refine m_goto X dX3_choice_73 (t := 77) (by decide) ?_
          exact m_iret X dX3_choice_77 (by decide) (by decide) (by exact pA_n hM e hI')
theorem isN_m1 (ν : NS) : isN ν (-1) = false := rfl
theorem costO_m1 (c : Nat → Nat) : costO c (-1) = 0 := rfl
theorem costO_nI {c : Nat → Nat} {j : Nat} (hj : j < 2 ^ 31) : costO c (nI j) = c j := by
  unfold costO
  rw [if_neg (nI_pos hj), nI_toNat hj]
theorem optN {ν : NS} {v : Int32} (hN : ν.N ≤ 80) (h : v = -1 ∨ isN ν v = true) : v = -1 ∨ ∃ j : Nat, j < ν.N ∧ v = nI j := h.elim Or.inl fun z => Or.inr (isN_nI hN z)
set_option maxHeartbeats 4000000 in
theorem c_X3_guard {G : GX} {h : Nat} {ad : Nat → Nat} {F : Nat → Int32} {A : Nat → Nat → Int32} {B : Nat → Nat → Int64} {M : Mem} {Φ : FS} (hM : MRep G h ad F A B M) (hI : MF Φ F A B) (hW : FW Φ) (b w hd ls : Int32) : Con G yX3_guard wX3_guard (rmm 2 43) [.ref h, .int b, .int w, .int hd, .int ls] M (pA G h ad (.int (apGuard b w hd ls Φ).1) (apGuard b w hd ls Φ).2) nX := by
  refine Con.mk (by decide) rfl [(0, some (.ref h)), (1, some (.int b)), (2, some (.int w)), (3, some (.int hd)), (4, some (.int ls))] rfl fun x X hno => ?_
  have hN := hW.1.1
  have hWF := hW.2.1
  have hb1 := hWF.1
  have hb2 := hWF.2.1
  have hR := hI.1
  have hT := hR.1
  have hMN := hR.2.2.2.2.2.2.2
  refine m_aload_n X dX3_guard_0 rfl rfl (by first | rfl | exact isR_rf) ?_
  refine m_iload_n X dX3_guard_1 rfl rfl ?_
  refine m_callV X cs_X3_139  (c_X3_isNode hM hMN.1 hN b) hM.1 rfl rfl rfl (Nat.le_of_ble_eq_true rfl) dX3_guard_2 ⟨by decide, by decide, by decide, by decide⟩ (fun v M hp => ?_) (fun _ _ _ _ h => h.elim)
  obtain ⟨rfl, rfl⟩ := hp
  refine m_sti ?_
  refine m_ifeq X dX3_guard_5 (t := 40) (by decide) (fun c_5 => ?_) (fun c_5 => ?_)
  · skip
    try simp only [bI_0, Bool.not_eq_false] at c_5
    refine m_iconst X dX3_guard_40 (v := 0) (by decide) ?_
    refine m_istore X dX3_guard_41 rfl rfl ?_
    refine m_iload X dX3_guard_43 rfl ?_
    refine m_ifne X dX3_guard_45 (t := 50) (by decide) (fun c_45 => absurd rfl c_45) (fun c_45 => ?_)
    refine m_iconst X dX3_guard_48 (v := (-1)) (by decide) ?_
    exact m_iret X dX3_guard_49 (by decide) (by decide) (by exact pA_eq hM (q := (-1, Φ)) (if_neg (by rintro ⟨z1, z2, z3⟩; first | exact absurd z1 (by rw [c_5]; decide) | exact (z2.elim c_10 fun z => absurd z (by rw [c_18]; decide)) | exact (z3.elim c_24 fun z => absurd z (by rw [c_33]; decide)))) rfl hI)
  · skip
    try simp only [bI_0, Bool.not_eq_false] at c_5
    refine m_iload_n X dX3_guard_8 rfl rfl ?_
    refine m_iconst X dX3_guard_9 (v := (-1)) (by decide) ?_
    refine m_icmpeq X dX3_guard_10 (t := 21) (by decide) (fun c_10 => ?_) (fun c_10 => ?_)
    · skip
      refine m_iload X dX3_guard_21 rfl ?_
      refine m_iconst X dX3_guard_23 (v := (-1)) (by decide) ?_
      refine m_icmpeq X dX3_guard_24 (t := 36) (by decide) (fun c_24 => ?_) (fun c_24 => ?_)
      · skip
        refine m_iconst X dX3_guard_36 (v := 1) (by decide) ?_
        refine m_goto X dX3_guard_37 (t := 41) (by decide) ?_
        refine m_istore X dX3_guard_41 rfl rfl ?_
        refine m_iload X dX3_guard_43 rfl ?_
        refine m_ifne X dX3_guard_45 (t := 50) (by decide) (fun c_45 => ?_) (fun c_45 => absurd c_45 (by decide))
        obtain ⟨b, hb, rfl⟩ := isN_nI hN c_5
        have hcb := (hW.1.2 b hb).2
        have oh := optN hN (show hd = -1 ∨ isN Φ.1 hd = true by first | exact Or.inl c_10 | exact Or.inr c_18)
        have ol := optN hN (show ls = -1 ∨ isN Φ.1 ls = true by first | exact Or.inl c_24 | exact Or.inr c_33)
        have hch : costO Φ.1.co hd ≤ 100 := by
          rcases oh with q | ⟨j, hj, q⟩
          · rw [q, costO_m1]; omega
          · rw [q, costO_nI (by omega)]; exact (hW.1.2 j hj).2
        have hcl : costO Φ.1.co ls ≤ 100 := by
          rcases ol with q | ⟨j, hj, q⟩
          · rw [q, costO_m1]; omega
          · rw [q, costO_nI (by omega)]; exact (hW.1.2 j hj).2
        have e : apGuard (nI b) w hd ls Φ = addN Φ 3 0 (nI b) (w &&& 510) hd ls (1 + Φ.1.co b + costO Φ.1.co hd + 9 * costO Φ.1.co ls) := by unfold apGuard; rw [if_pos ⟨c_5, by first | exact Or.inl c_10 | exact Or.inr c_18, by first | exact Or.inl c_24 | exact Or.inr c_33⟩, tn_nI (by omega)]
        refine m_iconst X dX3_guard_50 (v := 1) (by decide) ?_
        refine m_aload_n X dX3_guard_51 rfl rfl (by first | rfl | exact isR_rf) ?_
        refine m_getf X fg_X3_50_X3 hM.1 rfl dX3_guard_52 ?_
        refine m_iload_n X dX3_guard_55 rfl rfl ?_
        refine s_iald X hM rfl rfl (by exact tin (by simp only [alen]; omega) rfl) dX3_guard_56 ?_
        refine m_topi X (nbI hMN hb hN 16 (hMN.2 _ hb).2.2.2.2.2.2) ?_
        refine m_iadd X dX3_guard_57 ?_
        refine m_topi X ((nI_add 1 _)) ?_
        refine m_iload_n X dX3_guard_58 rfl rfl ?_
        refine m_ifge X dX3_guard_59 (t := 66) (by decide) (fun c_59 => ?_) (fun c_59 => ?_)
        · skip
          try simp only [bI_0, Bool.not_eq_false] at c_59
          obtain ⟨j, hj, rfl⟩ := oh.resolve_left (fun z => by rw [z] at c_59; exact absurd c_59 (by decide))
          refine m_aload_n X dX3_guard_66 rfl rfl (by first | rfl | exact isR_rf) ?_
          refine m_getf X fg_X3_50_X3 hM.1 rfl dX3_guard_67 ?_
          refine m_iload_n X dX3_guard_70 rfl rfl ?_
          refine s_iald X hM rfl rfl (by exact tin (by simp only [alen]; omega) rfl) dX3_guard_71 ?_
          refine m_topi X ((nbI hMN hj hN 16 (hMN.2 _ hj).2.2.2.2.2.2).trans (congrArg nI (costO_nI (by omega)).symm)) ?_
          refine m_iadd X dX3_guard_72 ?_
          refine m_topi X (nI_add _ _) ?_
          refine m_iload X dX3_guard_73 rfl ?_
          refine m_ifge X dX3_guard_75 (t := 82) (by decide) (fun c_75 => ?_) (fun c_75 => ?_)
          · skip
            try simp only [bI_0, Bool.not_eq_false] at c_75
            obtain ⟨q, hq, rfl⟩ := ol.resolve_left (fun z => by rw [z] at c_75; exact absurd c_75 (by decide))
            refine m_bipush X dX3_guard_82 (v := 9) (by decide) ?_
            refine m_aload_n X dX3_guard_84 rfl rfl (by first | rfl | exact isR_rf) ?_
            refine m_getf X fg_X3_50_X3 hM.1 rfl dX3_guard_85 ?_
            refine m_iload X dX3_guard_88 rfl ?_
            refine s_iald X hM rfl rfl (by exact tin (by simp only [alen]; omega) rfl) dX3_guard_90 ?_
            refine m_topi X (nbI hMN hq hN 16 (hMN.2 _ hq).2.2.2.2.2.2) ?_
            refine m_imul X dX3_guard_91 ?_
            refine m_topi X ((pk_mul 9 _).trans (congrArg (fun z => nI (9 * z)) (costO_nI (by omega)).symm)) ?_
            refine m_iadd X dX3_guard_92 ?_
            refine m_topi X (nI_add _ _) ?_
            refine m_istore X dX3_guard_93 rfl rfl ?_
            refine m_aload_n X dX3_guard_95 rfl rfl (by first | rfl | exact isR_rf) ?_
            refine m_iconst X dX3_guard_96 (v := 3) (by decide) ?_
            refine m_iconst X dX3_guard_97 (v := 0) (by decide) ?_
            refine m_iload_n X dX3_guard_98 rfl rfl ?_
            refine m_iload_n X dX3_guard_99 rfl rfl ?_
            refine m_sipush X dX3_guard_100 (v := 510) (by decide) ?_
            refine m_iand X dX3_guard_103 ?_
            refine m_iload_n X dX3_guard_104 rfl rfl ?_
            refine m_iload X dX3_guard_105 rfl ?_
            refine m_iload X dX3_guard_107 rfl ?_
            refine m_callV X cs_X3_135  (c_X3_node hM hI hW 3 0 (nI b) (w &&& 510) _ _ _ (by omega)) hM.1 rfl rfl rfl (Nat.le_of_ble_eq_true rfl) dX3_guard_109 ⟨by decide, by decide, by decide, by decide⟩ (fun v M hp => ?_) (fun _ _ _ _ h => h.elim)
            obtain ⟨rfl, F', A', B', hM, hI'⟩ := hp
            refine m_sti ?_
            exact m_iret X dX3_guard_112 (by decide) (by decide) (by exact pA_n hM e hI')
          · skip
            try simp only [bI_0, Bool.not_eq_false] at c_75
            refine m_iconst X dX3_guard_78 (v := 0) (by decide) ?_
            have e8 : ls = -1 := ol.resolve_right (fun ⟨j, hj, z⟩ => c_75 (by rw [z]; exact nI_pos' (by omega)))
            refine m_topi X (show (0 : Int32) = nI (9 * costO Φ.1.co ls) by rw [e8]; rfl) ?_
            refine m_goto X dX3_guard_79 (t := 92) (by decide) ?_
            refine m_iadd X dX3_guard_92 ?_
            refine m_topi X (nI_add _ _) ?_
            refine m_istore X dX3_guard_93 rfl rfl ?_
            refine m_aload_n X dX3_guard_95 rfl rfl (by first | rfl | exact isR_rf) ?_
            refine m_iconst X dX3_guard_96 (v := 3) (by decide) ?_
            refine m_iconst X dX3_guard_97 (v := 0) (by decide) ?_
            refine m_iload_n X dX3_guard_98 rfl rfl ?_
            refine m_iload_n X dX3_guard_99 rfl rfl ?_
            refine m_sipush X dX3_guard_100 (v := 510) (by decide) ?_
            refine m_iand X dX3_guard_103 ?_
            refine m_iload_n X dX3_guard_104 rfl rfl ?_
            refine m_iload X dX3_guard_105 rfl ?_
            refine m_iload X dX3_guard_107 rfl ?_
            refine m_callV X cs_X3_135  (c_X3_node hM hI hW 3 0 (nI b) (w &&& 510) _ _ _ (by omega)) hM.1 rfl rfl rfl (Nat.le_of_ble_eq_true rfl) dX3_guard_109 ⟨by decide, by decide, by decide, by decide⟩ (fun v M hp => ?_) (fun _ _ _ _ h => h.elim)
            obtain ⟨rfl, F', A', B', hM, hI'⟩ := hp
            refine m_sti ?_
            exact m_iret X dX3_guard_112 (by decide) (by decide) (by exact pA_n hM e hI')
        · skip
          try simp only [bI_0, Bool.not_eq_false] at c_59
          refine m_iconst X dX3_guard_62 (v := 0) (by decide) ?_
          have e9 : hd = -1 := oh.resolve_right (fun ⟨j, hj, z⟩ => c_59 (by rw [z]; exact nI_pos' (by omega)))
          refine m_topi X (show (0 : Int32) = nI (costO Φ.1.co hd) by rw [e9]; rfl) ?_
          refine m_goto X dX3_guard_63 (t := 72) (by decide) ?_
          refine m_iadd X dX3_guard_72 ?_
          refine m_topi X (nI_add _ _) ?_
          refine m_iload X dX3_guard_73 rfl ?_
          refine m_ifge X dX3_guard_75 (t := 82) (by decide) (fun c_75 => ?_) (fun c_75 => ?_)
          · skip
            try simp only [bI_0, Bool.not_eq_false] at c_75
            obtain ⟨q, hq, rfl⟩ := ol.resolve_left (fun z => by rw [z] at c_75; exact absurd c_75 (by decide))
            refine m_bipush X dX3_guard_82 (v := 9) (by decide) ?_
            refine m_aload_n X dX3_guard_84 rfl rfl (by first | rfl | exact isR_rf) ?_
            refine m_getf X fg_X3_50_X3 hM.1 rfl dX3_guard_85 ?_
            refine m_iload X dX3_guard_88 rfl ?_
            refine s_iald X hM rfl rfl (by exact tin (by simp only [alen]; omega) rfl) dX3_guard_90 ?_
            refine m_topi X (nbI hMN hq hN 16 (hMN.2 _ hq).2.2.2.2.2.2) ?_
            refine m_imul X dX3_guard_91 ?_
            refine m_topi X ((pk_mul 9 _).trans (congrArg (fun z => nI (9 * z)) (costO_nI (by omega)).symm)) ?_
            refine m_iadd X dX3_guard_92 ?_
            refine m_topi X (nI_add _ _) ?_
            refine m_istore X dX3_guard_93 rfl rfl ?_
            refine m_aload_n X dX3_guard_95 rfl rfl (by first | rfl | exact isR_rf) ?_
            refine m_iconst X dX3_guard_96 (v := 3) (by decide) ?_
            refine m_iconst X dX3_guard_97 (v := 0) (by decide) ?_
            refine m_iload_n X dX3_guard_98 rfl rfl ?_
            refine m_iload_n X dX3_guard_99 rfl rfl ?_
            refine m_sipush X dX3_guard_100 (v := 510) (by decide) ?_
            refine m_iand X dX3_guard_103 ?_
            refine m_iload_n X dX3_guard_104 rfl rfl ?_
            refine m_iload X dX3_guard_105 rfl ?_
            refine m_iload X dX3_guard_107 rfl ?_
            refine m_callV X cs_X3_135  (c_X3_node hM hI hW 3 0 (nI b) (w &&& 510) _ _ _ (by omega)) hM.1 rfl rfl rfl (Nat.le_of_ble_eq_true rfl) dX3_guard_109 ⟨by decide, by decide, by decide, by decide⟩ (fun v M hp => ?_) (fun _ _ _ _ h => h.elim)
            obtain ⟨rfl, F', A', B', hM, hI'⟩ := hp
            refine m_sti ?_
            exact m_iret X dX3_guard_112 (by decide) (by decide) (by exact pA_n hM e hI')
          · skip
            try simp only [bI_0, Bool.not_eq_false] at c_75
            refine m_iconst X dX3_guard_78 (v := 0) (by decide) ?_
            have e8 : ls = -1 := ol.resolve_right (fun ⟨j, hj, z⟩ => c_75 (by rw [z]; exact nI_pos' (by omega)))
            refine m_topi X (show (0 : Int32) = nI (9 * costO Φ.1.co ls) by rw [e8]; rfl) ?_
            refine m_goto X dX3_guard_79 (t := 92) (by decide) ?_
            refine m_iadd X dX3_guard_92 ?_
            refine m_topi X (nI_add _ _) ?_
            refine m_istore X dX3_guard_93 rfl rfl ?_
            refine m_aload_n X dX3_guard_95 rfl rfl (by first | rfl | exact isR_rf) ?_
            refine m_iconst X dX3_guard_96 (v := 3) (by decide) ?_
            refine m_iconst X dX3_guard_97 (v := 0) (by decide) ?_
            refine m_iload_n X dX3_guard_98 rfl rfl ?_
            refine m_iload_n X dX3_guard_99 rfl rfl ?_
            refine m_sipush X dX3_guard_100 (v := 510) (by decide) ?_
            refine m_iand X dX3_guard_103 ?_
            refine m_iload_n X dX3_guard_104 rfl rfl ?_
            refine m_iload X dX3_guard_105 rfl ?_
            refine m_iload X dX3_guard_107 rfl ?_
            refine m_callV X cs_X3_135  (c_X3_node hM hI hW 3 0 (nI b) (w &&& 510) _ _ _ (by omega)) hM.1 rfl rfl rfl (Nat.le_of_ble_eq_true rfl) dX3_guard_109 ⟨by decide, by decide, by decide, by decide⟩ (fun v M hp => ?_) (fun _ _ _ _ h => h.elim)
            obtain ⟨rfl, F', A', B', hM, hI'⟩ := hp
            refine m_sti ?_
            exact m_iret X dX3_guard_112 (by decide) (by decide) (by exact pA_n hM e hI')
      · skip
        refine m_aload_n X dX3_guard_27 rfl rfl (by first | rfl | exact isR_rf) ?_
        refine m_iload X dX3_guard_28 rfl ?_
        refine m_callV X cs_X3_139  (c_X3_isNode hM hMN.1 hN ls) hM.1 rfl rfl rfl (Nat.le_of_ble_eq_true rfl) dX3_guard_30 ⟨by decide, by decide, by decide, by decide⟩ (fun v M hp => ?_) (fun _ _ _ _ h => h.elim)
        obtain ⟨rfl, rfl⟩ := hp
        refine m_sti ?_
        refine m_ifeq X dX3_guard_33 (t := 40) (by decide) (fun c_33 => ?_) (fun c_33 => ?_)
        · skip
          try simp only [bI_0, Bool.not_eq_false] at c_33
          refine m_iconst X dX3_guard_40 (v := 0) (by decide) ?_
          refine m_istore X dX3_guard_41 rfl rfl ?_
          refine m_iload X dX3_guard_43 rfl ?_
          refine m_ifne X dX3_guard_45 (t := 50) (by decide) (fun c_45 => absurd rfl c_45) (fun c_45 => ?_)
          refine m_iconst X dX3_guard_48 (v := (-1)) (by decide) ?_
          exact m_iret X dX3_guard_49 (by decide) (by decide) (by exact pA_eq hM (q := (-1, Φ)) (if_neg (by rintro ⟨z1, z2, z3⟩; first | exact absurd z1 (by rw [c_5]; decide) | exact (z2.elim c_10 fun z => absurd z (by rw [c_18]; decide)) | exact (z3.elim c_24 fun z => absurd z (by rw [c_33]; decide)))) rfl hI)
        · skip
          try simp only [bI_0, Bool.not_eq_false] at c_33
          refine m_iconst X dX3_guard_36 (v := 1) (by decide) ?_
          refine m_goto X dX3_guard_37 (t := 41) (by decide) ?_
          refine m_istore X dX3_guard_41 rfl rfl ?_
          refine m_iload X dX3_guard_43 rfl ?_
          refine m_ifne X dX3_guard_45 (t := 50) (by decide) (fun c_45 => ?_) (fun c_45 => absurd c_45 (by decide))
          obtain ⟨b, hb, rfl⟩ := isN_nI hN c_5
          have hcb := (hW.1.2 b hb).2
          have oh := optN hN (show hd = -1 ∨ isN Φ.1 hd = true by first | exact Or.inl c_10 | exact Or.inr c_18)
          have ol := optN hN (show ls = -1 ∨ isN Φ.1 ls = true by first | exact Or.inl c_24 | exact Or.inr c_33)
          have hch : costO Φ.1.co hd ≤ 100 := by
            rcases oh with q | ⟨j, hj, q⟩
            · rw [q, costO_m1]; omega
            · rw [q, costO_nI (by omega)]; exact (hW.1.2 j hj).2
          have hcl : costO Φ.1.co ls ≤ 100 := by
            rcases ol with q | ⟨j, hj, q⟩
            · rw [q, costO_m1]; omega
            · rw [q, costO_nI (by omega)]; exact (hW.1.2 j hj).2
          have e : apGuard (nI b) w hd ls Φ = addN Φ 3 0 (nI b) (w &&& 510) hd ls (1 + Φ.1.co b + costO Φ.1.co hd + 9 * costO Φ.1.co ls) := by unfold apGuard; rw [if_pos ⟨c_5, by first | exact Or.inl c_10 | exact Or.inr c_18, by first | exact Or.inl c_24 | exact Or.inr c_33⟩, tn_nI (by omega)]
          refine m_iconst X dX3_guard_50 (v := 1) (by decide) ?_
          refine m_aload_n X dX3_guard_51 rfl rfl (by first | rfl | exact isR_rf) ?_
          refine m_getf X fg_X3_50_X3 hM.1 rfl dX3_guard_52 ?_
          refine m_iload_n X dX3_guard_55 rfl rfl ?_
          refine s_iald X hM rfl rfl (by exact tin (by simp only [alen]; omega) rfl) dX3_guard_56 ?_
          refine m_topi X (nbI hMN hb hN 16 (hMN.2 _ hb).2.2.2.2.2.2) ?_
          refine m_iadd X dX3_guard_57 ?_
          refine m_topi X ((nI_add 1 _)) ?_
          refine m_iload_n X dX3_guard_58 rfl rfl ?_
          refine m_ifge X dX3_guard_59 (t := 66) (by decide) (fun c_59 => ?_) (fun c_59 => ?_)
          · skip
            try simp only [bI_0, Bool.not_eq_false] at c_59
            obtain ⟨j, hj, rfl⟩ := oh.resolve_left (fun z => by rw [z] at c_59; exact absurd c_59 (by decide))
            refine m_aload_n X dX3_guard_66 rfl rfl (by first | rfl | exact isR_rf) ?_
            refine m_getf X fg_X3_50_X3 hM.1 rfl dX3_guard_67 ?_
            refine m_iload_n X dX3_guard_70 rfl rfl ?_
            refine s_iald X hM rfl rfl (by exact tin (by simp only [alen]; omega) rfl) dX3_guard_71 ?_
            refine m_topi X ((nbI hMN hj hN 16 (hMN.2 _ hj).2.2.2.2.2.2).trans (congrArg nI (costO_nI (by omega)).symm)) ?_
            refine m_iadd X dX3_guard_72 ?_
            refine m_topi X (nI_add _ _) ?_
            refine m_iload X dX3_guard_73 rfl ?_
            refine m_ifge X dX3_guard_75 (t := 82) (by decide) (fun c_75 => ?_) (fun c_75 => ?_)
            · skip
              try simp only [bI_0, Bool.not_eq_false] at c_75
              obtain ⟨q, hq, rfl⟩ := ol.resolve_left (fun z => by rw [z] at c_75; exact absurd c_75 (by decide))
              refine m_bipush X dX3_guard_82 (v := 9) (by decide) ?_
              refine m_aload_n X dX3_guard_84 rfl rfl (by first | rfl | exact isR_rf) ?_
              refine m_getf X fg_X3_50_X3 hM.1 rfl dX3_guard_85 ?_
              refine m_iload X dX3_guard_88 rfl ?_
              refine s_iald X hM rfl rfl (by exact tin (by simp only [alen]; omega) rfl) dX3_guard_90 ?_
              refine m_topi X (nbI hMN hq hN 16 (hMN.2 _ hq).2.2.2.2.2.2) ?_
              refine m_imul X dX3_guard_91 ?_
              refine m_topi X ((pk_mul 9 _).trans (congrArg (fun z => nI (9 * z)) (costO_nI (by omega)).symm)) ?_
              refine m_iadd X dX3_guard_92 ?_
              refine m_topi X (nI_add _ _) ?_
              refine m_istore X dX3_guard_93 rfl rfl ?_
              refine m_aload_n X dX3_guard_95 rfl rfl (by first | rfl | exact isR_rf) ?_
              refine m_iconst X dX3_guard_96 (v := 3) (by decide) ?_
              refine m_iconst X dX3_guard_97 (v := 0) (by decide) ?_
              refine m_iload_n X dX3_guard_98 rfl rfl ?_
              refine m_iload_n X dX3_guard_99 rfl rfl ?_
              refine m_sipush X dX3_guard_100 (v := 510) (by decide) ?_
              refine m_iand X dX3_guard_103 ?_
              refine m_iload_n X dX3_guard_104 rfl rfl ?_
              refine m_iload X dX3_guard_105 rfl ?_
              refine m_iload X dX3_guard_107 rfl ?_
              refine m_callV X cs_X3_135  (c_X3_node hM hI hW 3 0 (nI b) (w &&& 510) _ _ _ (by omega)) hM.1 rfl rfl rfl (Nat.le_of_ble_eq_true rfl) dX3_guard_109 ⟨by decide, by decide, by decide, by decide⟩ (fun v M hp => ?_) (fun _ _ _ _ h => h.elim)
              obtain ⟨rfl, F', A', B', hM, hI'⟩ := hp
              refine m_sti ?_
              exact m_iret X dX3_guard_112 (by decide) (by decide) (by exact pA_n hM e hI')
            · skip
              try simp only [bI_0, Bool.not_eq_false] at c_75
              refine m_iconst X dX3_guard_78 (v := 0) (by decide) ?_
              have e8 : ls = -1 := ol.resolve_right (fun ⟨j, hj, z⟩ => c_75 (by rw [z]; exact nI_pos' (by omega)))
              refine m_topi X (show (0 : Int32) = nI (9 * costO Φ.1.co ls) by rw [e8]; rfl) ?_
              refine m_goto X dX3_guard_79 (t := 92) (by decide) ?_
              refine m_iadd X dX3_guard_92 ?_
              refine m_topi X (nI_add _ _) ?_
              refine m_istore X dX3_guard_93 rfl rfl ?_
              refine m_aload_n X dX3_guard_95 rfl rfl (by first | rfl | exact isR_rf) ?_
              refine m_iconst X dX3_guard_96 (v := 3) (by decide) ?_
              refine m_iconst X dX3_guard_97 (v := 0) (by decide) ?_
              refine m_iload_n X dX3_guard_98 rfl rfl ?_
              refine m_iload_n X dX3_guard_99 rfl rfl ?_
              refine m_sipush X dX3_guard_100 (v := 510) (by decide) ?_
              refine m_iand X dX3_guard_103 ?_
              refine m_iload_n X dX3_guard_104 rfl rfl ?_
              refine m_iload X dX3_guard_105 rfl ?_
              refine m_iload X dX3_guard_107 rfl ?_
              refine m_callV X cs_X3_135  (c_X3_node hM hI hW 3 0 (nI b) (w &&& 510) _ _ _ (by omega)) hM.1 rfl rfl rfl (Nat.le_of_ble_eq_true rfl) dX3_guard_109 ⟨by decide, by decide, by decide, by decide⟩ (fun v M hp => ?_) (fun _ _ _ _ h => h.elim)
              obtain ⟨rfl, F', A', B', hM, hI'⟩ := hp
              refine m_sti ?_
              exact m_iret X dX3_guard_112 (by decide) (by decide) (by exact pA_n hM e hI')
          · skip
            try simp only [bI_0, Bool.not_eq_false] at c_59
            refine m_iconst X dX3_guard_62 (v := 0) (by decide) ?_
            have e9 : hd = -1 := oh.resolve_right (fun ⟨j, hj, z⟩ => c_59 (by rw [z]; exact nI_pos' (by omega)))
            refine m_topi X (show (0 : Int32) = nI (costO Φ.1.co hd) by rw [e9]; rfl) ?_
            refine m_goto X dX3_guard_63 (t := 72) (by decide) ?_
            refine m_iadd X dX3_guard_72 ?_
            refine m_topi X (nI_add _ _) ?_
            refine m_iload X dX3_guard_73 rfl ?_
            refine m_ifge X dX3_guard_75 (t := 82) (by decide) (fun c_75 => ?_) (fun c_75 => ?_)
            · skip
              try simp only [bI_0, Bool.not_eq_false] at c_75
              obtain ⟨q, hq, rfl⟩ := ol.resolve_left (fun z => by rw [z] at c_75; exact absurd c_75 (by decide))
              refine m_bipush X dX3_guard_82 (v := 9) (by decide) ?_
              refine m_aload_n X dX3_guard_84 rfl rfl (by first | rfl | exact isR_rf) ?_
              refine m_getf X fg_X3_50_X3 hM.1 rfl dX3_guard_85 ?_
              refine m_iload X dX3_guard_88 rfl ?_
              refine s_iald X hM rfl rfl (by exact tin (by simp only [alen]; omega) rfl) dX3_guard_90 ?_
              refine m_topi X (nbI hMN hq hN 16 (hMN.2 _ hq).2.2.2.2.2.2) ?_
              refine m_imul X dX3_guard_91 ?_
              refine m_topi X ((pk_mul 9 _).trans (congrArg (fun z => nI (9 * z)) (costO_nI (by omega)).symm)) ?_
              refine m_iadd X dX3_guard_92 ?_
              refine m_topi X (nI_add _ _) ?_
              refine m_istore X dX3_guard_93 rfl rfl ?_
              refine m_aload_n X dX3_guard_95 rfl rfl (by first | rfl | exact isR_rf) ?_
              refine m_iconst X dX3_guard_96 (v := 3) (by decide) ?_
              refine m_iconst X dX3_guard_97 (v := 0) (by decide) ?_
              refine m_iload_n X dX3_guard_98 rfl rfl ?_
              refine m_iload_n X dX3_guard_99 rfl rfl ?_
              refine m_sipush X dX3_guard_100 (v := 510) (by decide) ?_
              refine m_iand X dX3_guard_103 ?_
              refine m_iload_n X dX3_guard_104 rfl rfl ?_
              refine m_iload X dX3_guard_105 rfl ?_
              refine m_iload X dX3_guard_107 rfl ?_
              refine m_callV X cs_X3_135  (c_X3_node hM hI hW 3 0 (nI b) (w &&& 510) _ _ _ (by omega)) hM.1 rfl rfl rfl (Nat.le_of_ble_eq_true rfl) dX3_guard_109 ⟨by decide, by decide, by decide, by decide⟩ (fun v M hp => ?_) (fun _ _ _ _ h => h.elim)
              obtain ⟨rfl, F', A', B', hM, hI'⟩ := hp
              refine m_sti ?_
              exact m_iret X dX3_guard_112 (by decide) (by decide) (by exact pA_n hM e hI')
            · skip
              try simp only [bI_0, Bool.not_eq_false] at c_75
              refine m_iconst X dX3_guard_78 (v := 0) (by decide) ?_
              have e8 : ls = -1 := ol.resolve_right (fun ⟨j, hj, z⟩ => c_75 (by rw [z]; exact nI_pos' (by omega)))
              refine m_topi X (show (0 : Int32) = nI (9 * costO Φ.1.co ls) by rw [e8]; rfl) ?_
              refine m_goto X dX3_guard_79 (t := 92) (by decide) ?_
              refine m_iadd X dX3_guard_92 ?_
              refine m_topi X (nI_add _ _) ?_
              refine m_istore X dX3_guard_93 rfl rfl ?_
              refine m_aload_n X dX3_guard_95 rfl rfl (by first | rfl | exact isR_rf) ?_
              refine m_iconst X dX3_guard_96 (v := 3) (by decide) ?_
              refine m_iconst X dX3_guard_97 (v := 0) (by decide) ?_
              refine m_iload_n X dX3_guard_98 rfl rfl ?_
              refine m_iload_n X dX3_guard_99 rfl rfl ?_
              refine m_sipush X dX3_guard_100 (v := 510) (by decide) ?_
              refine m_iand X dX3_guard_103 ?_
              refine m_iload_n X dX3_guard_104 rfl rfl ?_
              refine m_iload X dX3_guard_105 rfl ?_
              refine m_iload X dX3_guard_107 rfl ?_
              refine m_callV X cs_X3_135  (c_X3_node hM hI hW 3 0 (nI b) (w &&& 510) _ _ _ (by omega)) hM.1 rfl rfl rfl (Nat.le_of_ble_eq_true rfl) dX3_guard_109 ⟨by decide, by decide, by decide, by decide⟩ (fun v M hp => ?_) (fun _ _ _ _ h => h.elim)
              obtain ⟨rfl, F', A', B', hM, hI'⟩ := hp
              refine m_sti ?_
              exact m_iret X dX3_guard_112 (by decide) (by decide) (by exact pA_n hM e hI')
    · skip
      refine m_aload_n X dX3_guard_13 rfl rfl (by first | rfl | exact isR_rf) ?_
      refine m_iload_n X dX3_guard_14 rfl rfl ?_
      refine m_callV X cs_X3_139  (c_X3_isNode hM hMN.1 hN hd) hM.1 rfl rfl rfl (Nat.le_of_ble_eq_true rfl) dX3_guard_15 ⟨by decide, by decide, by decide, by decide⟩ (fun v M hp => ?_) (fun _ _ _ _ h => h.elim)
      obtain ⟨rfl, rfl⟩ := hp
      refine m_sti ?_
      refine m_ifeq X dX3_guard_18 (t := 40) (by decide) (fun c_18 => ?_) (fun c_18 => ?_)
      · skip
        try simp only [bI_0, Bool.not_eq_false] at c_18
        refine m_iconst X dX3_guard_40 (v := 0) (by decide) ?_
        refine m_istore X dX3_guard_41 rfl rfl ?_
        refine m_iload X dX3_guard_43 rfl ?_
        refine m_ifne X dX3_guard_45 (t := 50) (by decide) (fun c_45 => absurd rfl c_45) (fun c_45 => ?_)
        refine m_iconst X dX3_guard_48 (v := (-1)) (by decide) ?_
        exact m_iret X dX3_guard_49 (by decide) (by decide) (by exact pA_eq hM (q := (-1, Φ)) (if_neg (by rintro ⟨z1, z2, z3⟩; first | exact absurd z1 (by rw [c_5]; decide) | exact (z2.elim c_10 fun z => absurd z (by rw [c_18]; decide)) | exact (z3.elim c_24 fun z => absurd z (by rw [c_33]; decide)))) rfl hI)
      · skip
        try simp only [bI_0, Bool.not_eq_false] at c_18
        refine m_iload X dX3_guard_21 rfl ?_
        refine m_iconst X dX3_guard_23 (v := (-1)) (by decide) ?_
        refine m_icmpeq X dX3_guard_24 (t := 36) (by decide) (fun c_24 => ?_) (fun c_24 => ?_)
        · skip
          refine m_iconst X dX3_guard_36 (v := 1) (by decide) ?_
          refine m_goto X dX3_guard_37 (t := 41) (by decide) ?_
          refine m_istore X dX3_guard_41 rfl rfl ?_
          refine m_iload X dX3_guard_43 rfl ?_
          refine m_ifne X dX3_guard_45 (t := 50) (by decide) (fun c_45 => ?_) (fun c_45 => absurd c_45 (by decide))
          obtain ⟨b, hb, rfl⟩ := isN_nI hN c_5
          have hcb := (hW.1.2 b hb).2
          have oh := optN hN (show hd = -1 ∨ isN Φ.1 hd = true by first | exact Or.inl c_10 | exact Or.inr c_18)
          have ol := optN hN (show ls = -1 ∨ isN Φ.1 ls = true by first | exact Or.inl c_24 | exact Or.inr c_33)
          have hch : costO Φ.1.co hd ≤ 100 := by
            rcases oh with q | ⟨j, hj, q⟩
            · rw [q, costO_m1]; omega
            · rw [q, costO_nI (by omega)]; exact (hW.1.2 j hj).2
          have hcl : costO Φ.1.co ls ≤ 100 := by
            rcases ol with q | ⟨j, hj, q⟩
            · rw [q, costO_m1]; omega
            · rw [q, costO_nI (by omega)]; exact (hW.1.2 j hj).2
          have e : apGuard (nI b) w hd ls Φ = addN Φ 3 0 (nI b) (w &&& 510) hd ls (1 + Φ.1.co b + costO Φ.1.co hd + 9 * costO Φ.1.co ls) := by unfold apGuard; rw [if_pos ⟨c_5, by first | exact Or.inl c_10 | exact Or.inr c_18, by first | exact Or.inl c_24 | exact Or.inr c_33⟩, tn_nI (by omega)]
          refine m_iconst X dX3_guard_50 (v := 1) (by decide) ?_
          refine m_aload_n X dX3_guard_51 rfl rfl (by first | rfl | exact isR_rf) ?_
          refine m_getf X fg_X3_50_X3 hM.1 rfl dX3_guard_52 ?_
          refine m_iload_n X dX3_guard_55 rfl rfl ?_
          refine s_iald X hM rfl rfl (by exact tin (by simp only [alen]; omega) rfl) dX3_guard_56 ?_
          refine m_topi X (nbI hMN hb hN 16 (hMN.2 _ hb).2.2.2.2.2.2) ?_
          refine m_iadd X dX3_guard_57 ?_
          refine m_topi X ((nI_add 1 _)) ?_
          refine m_iload_n X dX3_guard_58 rfl rfl ?_
          refine m_ifge X dX3_guard_59 (t := 66) (by decide) (fun c_59 => ?_) (fun c_59 => ?_)
          · skip
            try simp only [bI_0, Bool.not_eq_false] at c_59
            obtain ⟨j, hj, rfl⟩ := oh.resolve_left (fun z => by rw [z] at c_59; exact absurd c_59 (by decide))
            refine m_aload_n X dX3_guard_66 rfl rfl (by first | rfl | exact isR_rf) ?_
            refine m_getf X fg_X3_50_X3 hM.1 rfl dX3_guard_67 ?_
            refine m_iload_n X dX3_guard_70 rfl rfl ?_
            refine s_iald X hM rfl rfl (by exact tin (by simp only [alen]; omega) rfl) dX3_guard_71 ?_
            refine m_topi X ((nbI hMN hj hN 16 (hMN.2 _ hj).2.2.2.2.2.2).trans (congrArg nI (costO_nI (by omega)).symm)) ?_
            refine m_iadd X dX3_guard_72 ?_
            refine m_topi X (nI_add _ _) ?_
            refine m_iload X dX3_guard_73 rfl ?_
            refine m_ifge X dX3_guard_75 (t := 82) (by decide) (fun c_75 => ?_) (fun c_75 => ?_)
            · skip
              try simp only [bI_0, Bool.not_eq_false] at c_75
              obtain ⟨q, hq, rfl⟩ := ol.resolve_left (fun z => by rw [z] at c_75; exact absurd c_75 (by decide))
              refine m_bipush X dX3_guard_82 (v := 9) (by decide) ?_
              refine m_aload_n X dX3_guard_84 rfl rfl (by first | rfl | exact isR_rf) ?_
              refine m_getf X fg_X3_50_X3 hM.1 rfl dX3_guard_85 ?_
              refine m_iload X dX3_guard_88 rfl ?_
              refine s_iald X hM rfl rfl (by exact tin (by simp only [alen]; omega) rfl) dX3_guard_90 ?_
              refine m_topi X (nbI hMN hq hN 16 (hMN.2 _ hq).2.2.2.2.2.2) ?_
              refine m_imul X dX3_guard_91 ?_
              refine m_topi X ((pk_mul 9 _).trans (congrArg (fun z => nI (9 * z)) (costO_nI (by omega)).symm)) ?_
              refine m_iadd X dX3_guard_92 ?_
              refine m_topi X (nI_add _ _) ?_
              refine m_istore X dX3_guard_93 rfl rfl ?_
              refine m_aload_n X dX3_guard_95 rfl rfl (by first | rfl | exact isR_rf) ?_
              refine m_iconst X dX3_guard_96 (v := 3) (by decide) ?_
              refine m_iconst X dX3_guard_97 (v := 0) (by decide) ?_
              refine m_iload_n X dX3_guard_98 rfl rfl ?_
              refine m_iload_n X dX3_guard_99 rfl rfl ?_
              refine m_sipush X dX3_guard_100 (v := 510) (by decide) ?_
              refine m_iand X dX3_guard_103 ?_
              refine m_iload_n X dX3_guard_104 rfl rfl ?_
              refine m_iload X dX3_guard_105 rfl ?_
              refine m_iload X dX3_guard_107 rfl ?_
              refine m_callV X cs_X3_135  (c_X3_node hM hI hW 3 0 (nI b) (w &&& 510) _ _ _ (by omega)) hM.1 rfl rfl rfl (Nat.le_of_ble_eq_true rfl) dX3_guard_109 ⟨by decide, by decide, by decide, by decide⟩ (fun v M hp => ?_) (fun _ _ _ _ h => h.elim)
              obtain ⟨rfl, F', A', B', hM, hI'⟩ := hp
              refine m_sti ?_
              exact m_iret X dX3_guard_112 (by decide) (by decide) (by exact pA_n hM e hI')
            · skip
              try simp only [bI_0, Bool.not_eq_false] at c_75
              refine m_iconst X dX3_guard_78 (v := 0) (by decide) ?_
              have e8 : ls = -1 := ol.resolve_right (fun ⟨j, hj, z⟩ => c_75 (by rw [z]; exact nI_pos' (by omega)))
              refine m_topi X (show (0 : Int32) = nI (9 * costO Φ.1.co ls) by rw [e8]; rfl) ?_
              refine m_goto X dX3_guard_79 (t := 92) (by decide) ?_
              refine m_iadd X dX3_guard_92 ?_
              refine m_topi X (nI_add _ _) ?_
              refine m_istore X dX3_guard_93 rfl rfl ?_
              refine m_aload_n X dX3_guard_95 rfl rfl (by first | rfl | exact isR_rf) ?_
              refine m_iconst X dX3_guard_96 (v := 3) (by decide) ?_
              refine m_iconst X dX3_guard_97 (v := 0) (by decide) ?_
              refine m_iload_n X dX3_guard_98 rfl rfl ?_
              refine m_iload_n X dX3_guard_99 rfl rfl ?_
              refine m_sipush X dX3_guard_100 (v := 510) (by decide) ?_
              refine m_iand X dX3_guard_103 ?_
              refine m_iload_n X dX3_guard_104 rfl rfl ?_
              refine m_iload X dX3_guard_105 rfl ?_
              refine m_iload X dX3_guard_107 rfl ?_
              refine m_callV X cs_X3_135  (c_X3_node hM hI hW 3 0 (nI b) (w &&& 510) _ _ _ (by omega)) hM.1 rfl rfl rfl (Nat.le_of_ble_eq_true rfl) dX3_guard_109 ⟨by decide, by decide, by decide, by decide⟩ (fun v M hp => ?_) (fun _ _ _ _ h => h.elim)
              obtain ⟨rfl, F', A', B', hM, hI'⟩ := hp
              refine m_sti ?_
              exact m_iret X dX3_guard_112 (by decide) (by decide) (by exact pA_n hM e hI')
          · skip
            try simp only [bI_0, Bool.not_eq_false] at c_59
            refine m_iconst X dX3_guard_62 (v := 0) (by decide) ?_
            have e9 : hd = -1 := oh.resolve_right (fun ⟨j, hj, z⟩ => c_59 (by rw [z]; exact nI_pos' (by omega)))
            refine m_topi X (show (0 : Int32) = nI (costO Φ.1.co hd) by rw [e9]; rfl) ?_
            refine m_goto X dX3_guard_63 (t := 72) (by decide) ?_
            refine m_iadd X dX3_guard_72 ?_
            refine m_topi X (nI_add _ _) ?_
            refine m_iload X dX3_guard_73 rfl ?_
            refine m_ifge X dX3_guard_75 (t := 82) (by decide) (fun c_75 => ?_) (fun c_75 => ?_)
            · skip
              try simp only [bI_0, Bool.not_eq_false] at c_75
              obtain ⟨q, hq, rfl⟩ := ol.resolve_left (fun z => by rw [z] at c_75; exact absurd c_75 (by decide))
              refine m_bipush X dX3_guard_82 (v := 9) (by decide) ?_
              refine m_aload_n X dX3_guard_84 rfl rfl (by first | rfl | exact isR_rf) ?_
              refine m_getf X fg_X3_50_X3 hM.1 rfl dX3_guard_85 ?_
              refine m_iload X dX3_guard_88 rfl ?_
              refine s_iald X hM rfl rfl (by exact tin (by simp only [alen]; omega) rfl) dX3_guard_90 ?_
              refine m_topi X (nbI hMN hq hN 16 (hMN.2 _ hq).2.2.2.2.2.2) ?_
              refine m_imul X dX3_guard_91 ?_
              refine m_topi X ((pk_mul 9 _).trans (congrArg (fun z => nI (9 * z)) (costO_nI (by omega)).symm)) ?_
              refine m_iadd X dX3_guard_92 ?_
              refine m_topi X (nI_add _ _) ?_
              refine m_istore X dX3_guard_93 rfl rfl ?_
              refine m_aload_n X dX3_guard_95 rfl rfl (by first | rfl | exact isR_rf) ?_
              refine m_iconst X dX3_guard_96 (v := 3) (by decide) ?_
              refine m_iconst X dX3_guard_97 (v := 0) (by decide) ?_
              refine m_iload_n X dX3_guard_98 rfl rfl ?_
              refine m_iload_n X dX3_guard_99 rfl rfl ?_
              refine m_sipush X dX3_guard_100 (v := 510) (by decide) ?_
              refine m_iand X dX3_guard_103 ?_
              refine m_iload_n X dX3_guard_104 rfl rfl ?_
              refine m_iload X dX3_guard_105 rfl ?_
              refine m_iload X dX3_guard_107 rfl ?_
              refine m_callV X cs_X3_135  (c_X3_node hM hI hW 3 0 (nI b) (w &&& 510) _ _ _ (by omega)) hM.1 rfl rfl rfl (Nat.le_of_ble_eq_true rfl) dX3_guard_109 ⟨by decide, by decide, by decide, by decide⟩ (fun v M hp => ?_) (fun _ _ _ _ h => h.elim)
              obtain ⟨rfl, F', A', B', hM, hI'⟩ := hp
              refine m_sti ?_
              exact m_iret X dX3_guard_112 (by decide) (by decide) (by exact pA_n hM e hI')
            · skip
              try simp only [bI_0, Bool.not_eq_false] at c_75
              refine m_iconst X dX3_guard_78 (v := 0) (by decide) ?_
              have e8 : ls = -1 := ol.resolve_right (fun ⟨j, hj, z⟩ => c_75 (by rw [z]; exact nI_pos' (by omega)))
              refine m_topi X (show (0 : Int32) = nI (9 * costO Φ.1.co ls) by rw [e8]; rfl) ?_
              refine m_goto X dX3_guard_79 (t := 92) (by decide) ?_
              refine m_iadd X dX3_guard_92 ?_
              refine m_topi X (nI_add _ _) ?_
              refine m_istore X dX3_guard_93 rfl rfl ?_
              refine m_aload_n X dX3_guard_95 rfl rfl (by first | rfl | exact isR_rf) ?_
              refine m_iconst X dX3_guard_96 (v := 3) (by decide) ?_
              refine m_iconst X dX3_guard_97 (v := 0) (by decide) ?_
              refine m_iload_n X dX3_guard_98 rfl rfl ?_
              refine m_iload_n X dX3_guard_99 rfl rfl ?_
              refine m_sipush X dX3_guard_100 (v := 510) (by decide) ?_
              refine m_iand X dX3_guard_103 ?_
              refine m_iload_n X dX3_guard_104 rfl rfl ?_
              refine m_iload X dX3_guard_105 rfl ?_
              refine m_iload X dX3_guard_107 rfl ?_
              refine m_callV X cs_X3_135  (c_X3_node hM hI hW 3 0 (nI b) (w &&& 510) _ _ _ (by omega)) hM.1 rfl rfl rfl (Nat.le_of_ble_eq_true rfl) dX3_guard_109 ⟨by decide, by decide, by decide, by decide⟩ (fun v M hp => ?_) (fun _ _ _ _ h => h.elim)
              obtain ⟨rfl, F', A', B', hM, hI'⟩ := hp
              refine m_sti ?_
              exact m_iret X dX3_guard_112 (by decide) (by decide) (by exact pA_n hM e hI')
        · skip
          refine m_aload_n X dX3_guard_27 rfl rfl (by first | rfl | exact isR_rf) ?_
          refine m_iload X dX3_guard_28 rfl ?_
          refine m_callV X cs_X3_139  (c_X3_isNode hM hMN.1 hN ls) hM.1 rfl rfl rfl (Nat.le_of_ble_eq_true rfl) dX3_guard_30 ⟨by decide, by decide, by decide, by decide⟩ (fun v M hp => ?_) (fun _ _ _ _ h => h.elim)
          obtain ⟨rfl, rfl⟩ := hp
          refine m_sti ?_
          refine m_ifeq X dX3_guard_33 (t := 40) (by decide) (fun c_33 => ?_) (fun c_33 => ?_)
          · skip
            try simp only [bI_0, Bool.not_eq_false] at c_33
            refine m_iconst X dX3_guard_40 (v := 0) (by decide) ?_
            refine m_istore X dX3_guard_41 rfl rfl ?_
            refine m_iload X dX3_guard_43 rfl ?_
            refine m_ifne X dX3_guard_45 (t := 50) (by decide) (fun c_45 => absurd rfl c_45) (fun c_45 => ?_)
            refine m_iconst X dX3_guard_48 (v := (-1)) (by decide) ?_
            exact m_iret X dX3_guard_49 (by decide) (by decide) (by exact pA_eq hM (q := (-1, Φ)) (if_neg (by rintro ⟨z1, z2, z3⟩; first | exact absurd z1 (by rw [c_5]; decide) | exact (z2.elim c_10 fun z => absurd z (by rw [c_18]; decide)) | exact (z3.elim c_24 fun z => absurd z (by rw [c_33]; decide)))) rfl hI)
          · skip
            try simp only [bI_0, Bool.not_eq_false] at c_33
            refine m_iconst X dX3_guard_36 (v := 1) (by decide) ?_
            refine m_goto X dX3_guard_37 (t := 41) (by decide) ?_
            refine m_istore X dX3_guard_41 rfl rfl ?_
            refine m_iload X dX3_guard_43 rfl ?_
            refine m_ifne X dX3_guard_45 (t := 50) (by decide) (fun c_45 => ?_) (fun c_45 => absurd c_45 (by decide))
            obtain ⟨b, hb, rfl⟩ := isN_nI hN c_5
            have hcb := (hW.1.2 b hb).2
            have oh := optN hN (show hd = -1 ∨ isN Φ.1 hd = true by first | exact Or.inl c_10 | exact Or.inr c_18)
            have ol := optN hN (show ls = -1 ∨ isN Φ.1 ls = true by first | exact Or.inl c_24 | exact Or.inr c_33)
            have hch : costO Φ.1.co hd ≤ 100 := by
              rcases oh with q | ⟨j, hj, q⟩
              · rw [q, costO_m1]; omega
              · rw [q, costO_nI (by omega)]; exact (hW.1.2 j hj).2
            have hcl : costO Φ.1.co ls ≤ 100 := by
              rcases ol with q | ⟨j, hj, q⟩
              · rw [q, costO_m1]; omega
              · rw [q, costO_nI (by omega)]; exact (hW.1.2 j hj).2
            have e : apGuard (nI b) w hd ls Φ = addN Φ 3 0 (nI b) (w &&& 510) hd ls (1 + Φ.1.co b + costO Φ.1.co hd + 9 * costO Φ.1.co ls) := by unfold apGuard; rw [if_pos ⟨c_5, by first | exact Or.inl c_10 | exact Or.inr c_18, by first | exact Or.inl c_24 | exact Or.inr c_33⟩, tn_nI (by omega)]
            refine m_iconst X dX3_guard_50 (v := 1) (by decide) ?_
            refine m_aload_n X dX3_guard_51 rfl rfl (by first | rfl | exact isR_rf) ?_
            refine m_getf X fg_X3_50_X3 hM.1 rfl dX3_guard_52 ?_
            refine m_iload_n X dX3_guard_55 rfl rfl ?_
            refine s_iald X hM rfl rfl (by exact tin (by simp only [alen]; omega) rfl) dX3_guard_56 ?_
            refine m_topi X (nbI hMN hb hN 16 (hMN.2 _ hb).2.2.2.2.2.2) ?_
            refine m_iadd X dX3_guard_57 ?_
            refine m_topi X ((nI_add 1 _)) ?_
            refine m_iload_n X dX3_guard_58 rfl rfl ?_
            refine m_ifge X dX3_guard_59 (t := 66) (by decide) (fun c_59 => ?_) (fun c_59 => ?_)
            · skip
              try simp only [bI_0, Bool.not_eq_false] at c_59
              obtain ⟨j, hj, rfl⟩ := oh.resolve_left (fun z => by rw [z] at c_59; exact absurd c_59 (by decide))
              refine m_aload_n X dX3_guard_66 rfl rfl (by first | rfl | exact isR_rf) ?_
              refine m_getf X fg_X3_50_X3 hM.1 rfl dX3_guard_67 ?_
              refine m_iload_n X dX3_guard_70 rfl rfl ?_
              refine s_iald X hM rfl rfl (by exact tin (by simp only [alen]; omega) rfl) dX3_guard_71 ?_
              refine m_topi X ((nbI hMN hj hN 16 (hMN.2 _ hj).2.2.2.2.2.2).trans (congrArg nI (costO_nI (by omega)).symm)) ?_
              refine m_iadd X dX3_guard_72 ?_
              refine m_topi X (nI_add _ _) ?_
              refine m_iload X dX3_guard_73 rfl ?_
              refine m_ifge X dX3_guard_75 (t := 82) (by decide) (fun c_75 => ?_) (fun c_75 => ?_)
              · skip
                try simp only [bI_0, Bool.not_eq_false] at c_75
                obtain ⟨q, hq, rfl⟩ := ol.resolve_left (fun z => by rw [z] at c_75; exact absurd c_75 (by decide))
                refine m_bipush X dX3_guard_82 (v := 9) (by decide) ?_
                refine m_aload_n X dX3_guard_84 rfl rfl (by first | rfl | exact isR_rf) ?_
                refine m_getf X fg_X3_50_X3 hM.1 rfl dX3_guard_85 ?_
                refine m_iload X dX3_guard_88 rfl ?_
                refine s_iald X hM rfl rfl (by exact tin (by simp only [alen]; omega) rfl) dX3_guard_90 ?_
                refine m_topi X (nbI hMN hq hN 16 (hMN.2 _ hq).2.2.2.2.2.2) ?_
                refine m_imul X dX3_guard_91 ?_
                refine m_topi X ((pk_mul 9 _).trans (congrArg (fun z => nI (9 * z)) (costO_nI (by omega)).symm)) ?_
                refine m_iadd X dX3_guard_92 ?_
                refine m_topi X (nI_add _ _) ?_
                refine m_istore X dX3_guard_93 rfl rfl ?_
                refine m_aload_n X dX3_guard_95 rfl rfl (by first | rfl | exact isR_rf) ?_
                refine m_iconst X dX3_guard_96 (v := 3) (by decide) ?_
                refine m_iconst X dX3_guard_97 (v := 0) (by decide) ?_
                refine m_iload_n X dX3_guard_98 rfl rfl ?_
                refine m_iload_n X dX3_guard_99 rfl rfl ?_
                refine m_sipush X dX3_guard_100 (v := 510) (by decide) ?_
                refine m_iand X dX3_guard_103 ?_
                refine m_iload_n X dX3_guard_104 rfl rfl ?_
                refine m_iload X dX3_guard_105 rfl ?_
                refine m_iload X dX3_guard_107 rfl ?_
                refine m_callV X cs_X3_135  (c_X3_node hM hI hW 3 0 (nI b) (w &&& 510) _ _ _ (by omega)) hM.1 rfl rfl rfl (Nat.le_of_ble_eq_true rfl) dX3_guard_109 ⟨by decide, by decide, by decide, by decide⟩ (fun v M hp => ?_) (fun _ _ _ _ h => h.elim)
                obtain ⟨rfl, F', A', B', hM, hI'⟩ := hp
                refine m_sti ?_
                exact m_iret X dX3_guard_112 (by decide) (by decide) (by exact pA_n hM e hI')
              · skip
                try simp only [bI_0, Bool.not_eq_false] at c_75
                refine m_iconst X dX3_guard_78 (v := 0) (by decide) ?_
                have e8 : ls = -1 := ol.resolve_right (fun ⟨j, hj, z⟩ => c_75 (by rw [z]; exact nI_pos' (by omega)))
                refine m_topi X (show (0 : Int32) = nI (9 * costO Φ.1.co ls) by rw [e8]; rfl) ?_
                refine m_goto X dX3_guard_79 (t := 92) (by decide) ?_
                refine m_iadd X dX3_guard_92 ?_
                refine m_topi X (nI_add _ _) ?_
                refine m_istore X dX3_guard_93 rfl rfl ?_
                refine m_aload_n X dX3_guard_95 rfl rfl (by first | rfl | exact isR_rf) ?_
                refine m_iconst X dX3_guard_96 (v := 3) (by decide) ?_
                refine m_iconst X dX3_guard_97 (v := 0) (by decide) ?_
                refine m_iload_n X dX3_guard_98 rfl rfl ?_
                refine m_iload_n X dX3_guard_99 rfl rfl ?_
                refine m_sipush X dX3_guard_100 (v := 510) (by decide) ?_
                refine m_iand X dX3_guard_103 ?_
                refine m_iload_n X dX3_guard_104 rfl rfl ?_
                refine m_iload X dX3_guard_105 rfl ?_
                refine m_iload X dX3_guard_107 rfl ?_
                refine m_callV X cs_X3_135  (c_X3_node hM hI hW 3 0 (nI b) (w &&& 510) _ _ _ (by omega)) hM.1 rfl rfl rfl (Nat.le_of_ble_eq_true rfl) dX3_guard_109 ⟨by decide, by decide, by decide, by decide⟩ (fun v M hp => ?_) (fun _ _ _ _ h => h.elim)
                obtain ⟨rfl, F', A', B', hM, hI'⟩ := hp
                refine m_sti ?_
                exact m_iret X dX3_guard_112 (by decide) (by decide) (by exact pA_n hM e hI')
            · skip
              try simp only [bI_0, Bool.not_eq_false] at c_59
              refine m_iconst X dX3_guard_62 (v := 0) (by decide) ?_
              have e9 : hd = -1 := oh.resolve_right (fun ⟨j, hj, z⟩ => c_59 (by rw [z]; exact nI_pos' (by omega)))
              refine m_topi X (show (0 : Int32) = nI (costO Φ.1.co hd) by rw [e9]; rfl) ?_
              refine m_goto X dX3_guard_63 (t := 72) (by decide) ?_
              refine m_iadd X dX3_guard_72 ?_
              refine m_topi X (nI_add _ _) ?_
              refine m_iload X dX3_guard_73 rfl ?_
              refine m_ifge X dX3_guard_75 (t := 82) (by decide) (fun c_75 => ?_) (fun c_75 => ?_)
              · skip
                try simp only [bI_0, Bool.not_eq_false] at c_75
                obtain ⟨q, hq, rfl⟩ := ol.resolve_left (fun z => by rw [z] at c_75; exact absurd c_75 (by decide))
                refine m_bipush X dX3_guard_82 (v := 9) (by decide) ?_
                refine m_aload_n X dX3_guard_84 rfl rfl (by first | rfl | exact isR_rf) ?_
                refine m_getf X fg_X3_50_X3 hM.1 rfl dX3_guard_85 ?_
                refine m_iload X dX3_guard_88 rfl ?_
                refine s_iald X hM rfl rfl (by exact tin (by simp only [alen]; omega) rfl) dX3_guard_90 ?_
                refine m_topi X (nbI hMN hq hN 16 (hMN.2 _ hq).2.2.2.2.2.2) ?_
                refine m_imul X dX3_guard_91 ?_
                refine m_topi X ((pk_mul 9 _).trans (congrArg (fun z => nI (9 * z)) (costO_nI (by omega)).symm)) ?_
                refine m_iadd X dX3_guard_92 ?_
                refine m_topi X (nI_add _ _) ?_
                refine m_istore X dX3_guard_93 rfl rfl ?_
                refine m_aload_n X dX3_guard_95 rfl rfl (by first | rfl | exact isR_rf) ?_
                refine m_iconst X dX3_guard_96 (v := 3) (by decide) ?_
                refine m_iconst X dX3_guard_97 (v := 0) (by decide) ?_
                refine m_iload_n X dX3_guard_98 rfl rfl ?_
                refine m_iload_n X dX3_guard_99 rfl rfl ?_
                refine m_sipush X dX3_guard_100 (v := 510) (by decide) ?_
                refine m_iand X dX3_guard_103 ?_
                refine m_iload_n X dX3_guard_104 rfl rfl ?_
                refine m_iload X dX3_guard_105 rfl ?_
                refine m_iload X dX3_guard_107 rfl ?_
                refine m_callV X cs_X3_135  (c_X3_node hM hI hW 3 0 (nI b) (w &&& 510) _ _ _ (by omega)) hM.1 rfl rfl rfl (Nat.le_of_ble_eq_true rfl) dX3_guard_109 ⟨by decide, by decide, by decide, by decide⟩ (fun v M hp => ?_) (fun _ _ _ _ h => h.elim)
                obtain ⟨rfl, F', A', B', hM, hI'⟩ := hp
                refine m_sti ?_
                exact m_iret X dX3_guard_112 (by decide) (by decide) (by exact pA_n hM e hI')
              · skip
                try simp only [bI_0, Bool.not_eq_false] at c_75
                refine m_iconst X dX3_guard_78 (v := 0) (by decide) ?_
                have e8 : ls = -1 := ol.resolve_right (fun ⟨j, hj, z⟩ => c_75 (by rw [z]; exact nI_pos' (by omega)))
                refine m_topi X (show (0 : Int32) = nI (9 * costO Φ.1.co ls) by rw [e8]; rfl) ?_
                refine m_goto X dX3_guard_79 (t := 92) (by decide) ?_
                refine m_iadd X dX3_guard_92 ?_
                refine m_topi X (nI_add _ _) ?_
                refine m_istore X dX3_guard_93 rfl rfl ?_
                refine m_aload_n X dX3_guard_95 rfl rfl (by first | rfl | exact isR_rf) ?_
                refine m_iconst X dX3_guard_96 (v := 3) (by decide) ?_
                refine m_iconst X dX3_guard_97 (v := 0) (by decide) ?_
                refine m_iload_n X dX3_guard_98 rfl rfl ?_
                refine m_iload_n X dX3_guard_99 rfl rfl ?_
                refine m_sipush X dX3_guard_100 (v := 510) (by decide) ?_
                refine m_iand X dX3_guard_103 ?_
                refine m_iload_n X dX3_guard_104 rfl rfl ?_
                refine m_iload X dX3_guard_105 rfl ?_
                refine m_iload X dX3_guard_107 rfl ?_
                refine m_callV X cs_X3_135  (c_X3_node hM hI hW 3 0 (nI b) (w &&& 510) _ _ _ (by omega)) hM.1 rfl rfl rfl (Nat.le_of_ble_eq_true rfl) dX3_guard_109 ⟨by decide, by decide, by decide, by decide⟩ (fun v M hp => ?_) (fun _ _ _ _ h => h.elim)
                obtain ⟨rfl, F', A', B', hM, hI'⟩ := hp
                refine m_sti ?_
                exact m_iret X dX3_guard_112 (by decide) (by decide) (by exact pA_n hM e hI')
theorem MF_forget {Φ : FS} {F : Nat → Int32} {A : Nat → Nat → Int32} {B : Nat → Nat → Int64} (hI : MF Φ F A B) : MF (Φ.1.none, Φ.2) (upd (upd F 9 0) 28 0) A B := by
  obtain ⟨⟨h1, h2, h3, h4, h5, h6, h7, h8⟩, h9⟩ := hI
  have e : ∀ k, k ≠ 9 → k ≠ 28 → upd (upd F 9 0) 28 0 k = F k := fun k a b => (pk_un b).trans (pk_un a)
  exact ⟨⟨(h1.updF (by decide) (by decide) (by decide)).updF (by decide) (by decide) (by decide), h2, (e 17 (by decide) (by decide)).trans h3, (e 18 (by decide) (by decide)).trans h4, (e 20 (by decide) (by decide)).trans h5, (e 21 (by decide) (by decide)).trans h6, (e 22 (by decide) (by decide)).trans h7, (pk_un (by decide)).trans pk_us, fun n hn => absurd hn (Nat.not_lt_zero n)⟩, h9.1, fun n hn => absurd hn (Nat.not_lt_zero n)⟩
set_option maxHeartbeats 4000000 in
theorem c_X3_forget {G : GX} {h : Nat} {ad : Nat → Nat} {F : Nat → Int32} {A : Nat → Nat → Int32} {B : Nat → Nat → Int64} {M : Mem} {Φ : FS} (hM : MRep G h ad F A B M) (hI : MF Φ F A B) (hW : FW Φ) : Con G yX3_forget wX3_forget (rmm 0 0) [.ref h] M (pA G h ad (.int (apForget Φ).1) (apForget Φ).2) nX := by
  refine Con.mk (by decide) rfl [(0, some (.ref h))] rfl fun x X hno => ?_
  have hN := hW.1.1
  have hWF := hW.2.1
  have hb1 := hWF.1
  have hb2 := hWF.2.1
  have hR := hI.1
  have hT := hR.1
  have hMN := hR.2.2.2.2.2.2.2
  refine m_aload_n X dX3_forget_0 rfl rfl (by first | rfl | exact isR_rf) ?_
  refine m_getf X fg_X3_121_X3 hM.1 rfl dX3_forget_1 ?_
  refine m_topi X (hMN.1) ?_
  refine m_istore_n X dX3_forget_4 rfl rfl rfl ?_
  refine m_aload_n X dX3_forget_5 rfl rfl (by first | rfl | exact isR_rf) ?_
  refine m_iconst X dX3_forget_6 (v := 0) (by decide) ?_
  refine s_put X hM fp_X3_121_X3 rfl rfl rfl rfl dX3_forget_7 (fun M hM => ?_)
  refine m_aload_n X dX3_forget_10 rfl rfl (by first | rfl | exact isR_rf) ?_
  refine m_iconst X dX3_forget_11 (v := 0) (by decide) ?_
  refine s_put X hM fp_X3_142_X3 rfl rfl rfl rfl dX3_forget_12 (fun M hM => ?_)
  refine m_iload_n X dX3_forget_15 rfl rfl ?_
  exact m_iret X dX3_forget_16 (by decide) (by decide) (by exact pA_eq hM (q := (nI Φ.1.N, Φ.1.none, Φ.2)) rfl rfl (MF_forget hI))
set_option maxHeartbeats 4000000 in
theorem c_X3_ran {G : GX} {h : Nat} {ad : Nat → Nat} {F : Nat → Int32} {A : Nat → Nat → Int32} {B : Nat → Nat → Int64} {M : Mem} {Φ : FS} (hM : MRep G h ad F A B M) (hI : MF Φ F A B) (hW : FW Φ) (w : Int32) : Con G yX3_ran wX3_ran (rmm 0 0) [.ref h, .int w] M (pR M (some (.int (apRan w Φ)))) nX := by
  refine Con.mk (by decide) rfl [(0, some (.ref h)), (1, some (.int w))] rfl fun x X hno => ?_
  have hN := hW.1.1
  have hWF := hW.2.1
  have hb1 := hWF.1
  have hb2 := hWF.2.1
  have hR := hI.1
  have hT := hR.1
  have hMN := hR.2.2.2.2.2.2.2
  refine m_iload_n X dX3_ran_0 rfl rfl ?_
  refine m_tsw X dX3_ran_1 (l0 := 0) (N := 6) (t := 70) (by decide) rfl (by decide) rfl (by decide) (by decide) (fun j_1 hj_1 ej_1 => ?_) (fun ho_1 => ?_)
  · skip
    have hk_1 : j_1 = 0 ∨ j_1 = 1 ∨ j_1 = 2 ∨ j_1 = 3 ∨ j_1 = 4 ∨ j_1 = 5 := by omega
    rcases hk_1 with rfl | rfl | rfl | rfl | rfl | rfl
    · skip
      subst ej_1
      refine m_pc (pc' := 40) (by decide) ?_
      refine m_aload_n X dX3_ran_40 rfl rfl (by first | rfl | exact isR_rf) ?_
      refine m_getf X fg_X3_235_X3 hM.1 rfl dX3_ran_41 ?_
      refine m_topi X (hR.2.2.1) ?_
      exact m_iret X dX3_ran_44 (by decide) (by decide) (by first | exact ⟨rfl, rfl⟩ | (rw [e]; exact ⟨rfl, rfl⟩))
    · skip
      subst ej_1
      refine m_pc (pc' := 45) (by decide) ?_
      refine m_aload_n X dX3_ran_45 rfl rfl (by first | rfl | exact isR_rf) ?_
      refine m_getf X fg_X3_241_X3 hM.1 rfl dX3_ran_46 ?_
      refine m_topi X (hR.2.2.2.1) ?_
      exact m_iret X dX3_ran_49 (by decide) (by decide) (by first | exact ⟨rfl, rfl⟩ | (rw [e]; exact ⟨rfl, rfl⟩))
    · skip
      subst ej_1
      refine m_pc (pc' := 50) (by decide) ?_
      refine m_aload_n X dX3_ran_50 rfl rfl (by first | rfl | exact isR_rf) ?_
      refine m_getf X fg_X3_177_X3 hM.1 rfl dX3_ran_51 ?_
      refine m_topi X (hT.2.2.1) ?_
      exact m_iret X dX3_ran_54 (by decide) (by decide) (by first | exact ⟨rfl, rfl⟩ | (rw [e]; exact ⟨rfl, rfl⟩))
    · skip
      subst ej_1
      refine m_pc (pc' := 55) (by decide) ?_
      refine m_aload_n X dX3_ran_55 rfl rfl (by first | rfl | exact isR_rf) ?_
      refine m_getf X fg_X3_251_X3 hM.1 rfl dX3_ran_56 ?_
      refine m_topi X (hR.2.2.2.2.1) ?_
      exact m_iret X dX3_ran_59 (by decide) (by decide) (by first | exact ⟨rfl, rfl⟩ | (rw [e]; exact ⟨rfl, rfl⟩))
    · skip
      subst ej_1
      refine m_pc (pc' := 60) (by decide) ?_
      refine m_aload_n X dX3_ran_60 rfl rfl (by first | rfl | exact isR_rf) ?_
      refine m_getf X fg_X3_248_X3 hM.1 rfl dX3_ran_61 ?_
      refine m_topi X (hR.2.2.2.2.2.1) ?_
      exact m_iret X dX3_ran_64 (by decide) (by decide) (by first | exact ⟨rfl, rfl⟩ | (rw [e]; exact ⟨rfl, rfl⟩))
    · skip
      subst ej_1
      refine m_pc (pc' := 65) (by decide) ?_
      refine m_aload_n X dX3_ran_65 rfl rfl (by first | rfl | exact isR_rf) ?_
      refine m_getf X fg_X3_53_X3 hM.1 rfl dX3_ran_66 ?_
      refine m_topi X (hR.2.2.2.2.2.2.1) ?_
      exact m_iret X dX3_ran_69 (by decide) (by decide) (by first | exact ⟨rfl, rfl⟩ | (rw [e]; exact ⟨rfl, rfl⟩))
  · skip
    have e : apRan w Φ = -1 := by
      unfold apRan
      rw [if_neg, if_neg, if_neg, if_neg, if_neg, if_neg] <;> (intro z; rw [z] at ho_1; exact absurd ho_1 (by decide))
    refine m_iconst X dX3_ran_70 (v := (-1)) (by decide) ?_
    exact m_iret X dX3_ran_71 (by decide) (by decide) (by first | exact ⟨rfl, rfl⟩ | (rw [e]; exact ⟨rfl, rfl⟩))
set_option maxHeartbeats 4000000 in
theorem c_X3_count {G : GX} {h : Nat} {ad : Nat → Nat} {F : Nat → Int32} {A : Nat → Nat → Int32} {B : Nat → Nat → Int64} {M : Mem} {Φ : FS} (hM : MRep G h ad F A B M) (hI : MF Φ F A B) (hW : FW Φ) (w : Int32) : Con G yX3_count wX3_count (rmm 0 0) [.ref h, .int w] M (pR M (some (.int (apCount w Φ)))) nX := by
  refine Con.mk (by decide) rfl [(0, some (.ref h)), (1, some (.int w))] rfl fun x X hno => ?_
  have hN := hW.1.1
  have hWF := hW.2.1
  have hb1 := hWF.1
  have hb2 := hWF.2.1
  have hR := hI.1
  have hT := hR.1
  have hMN := hR.2.2.2.2.2.2.2
  refine m_iload_n X dX3_count_0 rfl rfl ?_
  refine m_ifne X dX3_count_1 (t := 11) (by decide) (fun c_1 => ?_) (fun c_1 => ?_)
  · skip
    try simp only [bI_0, Bool.not_eq_false] at c_1
    refine m_iload_n X dX3_count_11 rfl rfl ?_
    refine m_iconst X dX3_count_12 (v := 1) (by decide) ?_
    refine m_icmpne X dX3_count_13 (t := 23) (by decide) (fun c_13 => ?_) (fun c_13 => ?_)
    · skip
      refine m_iload_n X dX3_count_23 rfl rfl ?_
      refine m_iconst X dX3_count_24 (v := 2) (by decide) ?_
      refine m_icmpne X dX3_count_25 (t := 35) (by decide) (fun c_25 => ?_) (fun c_25 => ?_)
      · skip
        refine m_iload_n X dX3_count_35 rfl rfl ?_
        refine m_iconst X dX3_count_36 (v := 3) (by decide) ?_
        refine m_icmpne X dX3_count_37 (t := 65) (by decide) (fun c_37 => ?_) (fun c_37 => ?_)
        · skip
          refine m_iconst X dX3_count_65 (v := (-1)) (by decide) ?_
          exact m_iret X dX3_count_66 (by decide) (by decide) (by refine ⟨?_, rfl⟩; simp [apCount, c_1, c_13, c_25, c_37])
        · skip
          refine m_aload_n X dX3_count_40 rfl rfl (by first | rfl | exact isR_rf) ?_
          refine m_getf X fg_X3_121_X3 hM.1 rfl dX3_count_41 ?_
          refine m_topi X (hMN.1) ?_
          refine m_ifne X dX3_count_44 (t := 51) (by decide) (fun c_44 => ?_) (fun c_44 => ?_)
          · skip
            try simp only [bI_0, Bool.not_eq_false] at c_44
            rw [z_nI (by omega)] at c_44
            refine m_aload_n X dX3_count_51 rfl rfl (by first | rfl | exact isR_rf) ?_
            refine m_getf X fg_X3_50_X3 hM.1 rfl dX3_count_52 ?_
            refine m_aload_n X dX3_count_55 rfl rfl (by first | rfl | exact isR_rf) ?_
            refine m_getf X fg_X3_121_X3 hM.1 rfl dX3_count_56 ?_
            refine m_topi X (hMN.1) ?_
            refine m_iconst X dX3_count_59 (v := 1) (by decide) ?_
            refine m_isub X dX3_count_60 ?_
            refine m_topi X (pk_sub (by omega : 1 ≤ Φ.1.N)) ?_
            refine s_iald X hM rfl rfl (by exact tin (by simp only [alen]; omega) rfl) dX3_count_61 ?_
            refine m_topi X (nbI hMN (by omega : Φ.1.N - 1 < Φ.1.N) hN 16 (hMN.2 _ (by omega)).2.2.2.2.2.2) ?_
            refine m_goto X dX3_count_62 (t := 66) (by decide) ?_
            exact m_iret X dX3_count_66 (by decide) (by decide) (by refine ⟨?_, rfl⟩; simp [apCount, c_1, c_13, c_25, c_37, c_44])
          · skip
            try simp only [bI_0, Bool.not_eq_false] at c_44
            rw [z_nI (by omega)] at c_44
            refine m_iconst X dX3_count_47 (v := 0) (by decide) ?_
            refine m_goto X dX3_count_48 (t := 66) (by decide) ?_
            exact m_iret X dX3_count_66 (by decide) (by decide) (by refine ⟨?_, rfl⟩; simp [apCount, c_1, c_13, c_25, c_37, c_44])
      · skip
        refine m_aload_n X dX3_count_28 rfl rfl (by first | rfl | exact isR_rf) ?_
        refine m_getf X fg_X3_121_X3 hM.1 rfl dX3_count_29 ?_
        refine m_topi X (hMN.1) ?_
        refine m_goto X dX3_count_32 (t := 66) (by decide) ?_
        exact m_iret X dX3_count_66 (by decide) (by decide) (by refine ⟨?_, rfl⟩; simp [apCount, c_1, c_13, c_25])
    · skip
      refine m_aload_n X dX3_count_16 rfl rfl (by first | rfl | exact isR_rf) ?_
      refine m_getf X fg_X3_114_X3 hM.1 rfl dX3_count_17 ?_
      refine m_topi X (hT.2.1) ?_
      refine m_goto X dX3_count_20 (t := 66) (by decide) ?_
      exact m_iret X dX3_count_66 (by decide) (by decide) (by refine ⟨?_, rfl⟩; simp [apCount, c_1, c_13])
  · skip
    try simp only [bI_0, Bool.not_eq_false] at c_1
    refine m_aload_n X dX3_count_4 rfl rfl (by first | rfl | exact isR_rf) ?_
    refine m_getf X fg_X3_111_X3 hM.1 rfl dX3_count_5 ?_
    refine m_topi X (hT.1) ?_
    refine m_goto X dX3_count_8 (t := 66) (by decide) ?_
    exact m_iret X dX3_count_66 (by decide) (by decide) (by refine ⟨?_, rfl⟩; simp [apCount, c_1])
set_option maxHeartbeats 4000000 in
theorem c_X3_register {G : GX} {h : Nat} {ad : Nat → Nat} {F : Nat → Int32} {A : Nat → Nat → Int32} {B : Nat → Nat → Int64} {M : Mem} {Φ : FS} (hM : MRep G h ad F A B M) (hI : MF Φ F A B) (hW : FW Φ) (r : Int32) : Con G yX3_register wX3_register (rmm 2 42) [.ref h, .int r] M (pR M (some (.long (apRegister r Φ)))) nX := by
  refine Con.mk (by decide) rfl [(0, some (.ref h)), (1, some (.int r))] rfl fun x X hno => ?_
  have hN := hW.1.1
  have hWF := hW.2.1
  have hb1 := hWF.1
  have hb2 := hWF.2.1
  have hR := hI.1
  have hT := hR.1
  have hMN := hR.2.2.2.2.2.2.2
  refine m_iload_n X dX3_register_0 rfl rfl ?_
  refine m_callS X cs_X3_128  (c_X3_isRegister _ _ _) rfl rfl (Nat.le_of_ble_eq_true rfl) dX3_register_1 ⟨by decide, by decide, by decide, by decide⟩ (fun v M hp => ?_) (fun _ _ _ _ h => h.elim)
  obtain ⟨rfl, rfl⟩ := hp
  refine m_sti ?_
  refine m_ifeq X dX3_register_4 (t := 16) (by decide) (fun c_4 => ?_) (fun c_4 => ?_)
  · skip
    try simp only [bI_0, Bool.not_eq_false] at c_4
    have e : apRegister r Φ = 0 := if_neg (by rw [c_4]; decide)
    refine m_lconst X dX3_register_16 (v := 0) (by decide) ?_
    exact m_lret X dX3_register_17 (by decide) (by decide) (by first | (rw [e]; exact ⟨rfl, rfl⟩) | (refine ⟨?_, rfl⟩; unfold apRegister; rw [if_pos c_4, tn_nI (by omega)]))
  · skip
    try simp only [bI_0, Bool.not_eq_false] at c_4
    obtain ⟨r, -, hr, rfl⟩ := inB_r 0 7 (by decide) (by decide) c_4
    refine m_aload_n X dX3_register_7 rfl rfl (by first | rfl | exact isR_rf) ?_
    refine m_getf X fg_X3_29_X3 hM.1 rfl dX3_register_8 ?_
    refine m_iload_n X dX3_register_11 rfl rfl ?_
    refine s_lald X hM rfl rfl (by exact tin (by simp only [alen]; omega) rfl) dX3_register_12 ?_
    refine m_topl X (hT.reg (by omega)) ?_
    refine m_goto X dX3_register_13 (t := 17) (by decide) ?_
    exact m_lret X dX3_register_17 (by decide) (by decide) (by first | (rw [e]; exact ⟨rfl, rfl⟩) | (refine ⟨?_, rfl⟩; unfold apRegister; rw [if_pos c_4, tn_nI (by omega)]))
set_option maxHeartbeats 4000000 in
theorem c_X3_startOf {G : GX} {h : Nat} {ad : Nat → Nat} {F : Nat → Int32} {A : Nat → Nat → Int32} {B : Nat → Nat → Int64} {M : Mem} {ρ : RP} {N : Nat} (hM : MRep G h ad F A B M) (hQ : MQp ρ N F A) (s : Nat) (hs : s < 12) : Con G yX3_startOf wX3_startOf (rmm 0 0) [.ref h, .int (nI s)] M (pR M (some (.int (ρ.st s)))) nX := by
  refine Con.mk (by decide) rfl [(0, some (.ref h)), (1, some (.int (nI s)))] rfl fun x X hno => ?_
  have q := hQ.1 s hs
  refine m_aload_n X dX3_startOf_0 rfl rfl (by first | rfl | exact isR_rf) ?_
  refine m_getf X fg_X3_72_X3 hM.1 rfl dX3_startOf_1 ?_
  refine m_iload_n X dX3_startOf_4 rfl rfl ?_
  refine s_zald X hM rfl rfl (by exact tin (by simp only [alen]; omega) rfl) dX3_startOf_5 ?_
  refine m_topi X (congrArg (A 30) (nI_clamp (by omega))) ?_
  refine m_ifeq X dX3_startOf_6 (t := 18) (by decide) (fun c_6 => ?_) (fun c_6 => ?_)
  · skip
    try simp only [bI_0, Bool.not_eq_false] at c_6
    rw [if_pos c_6] at q
    refine m_iconst X dX3_startOf_18 (v := 1) (by decide) ?_
    exact m_iret X dX3_startOf_19 (by decide) (by decide) (by refine ⟨?_, rfl⟩; rw [q])
  · skip
    try simp only [bI_0, Bool.not_eq_false] at c_6
    rw [if_neg c_6] at q
    refine m_aload_n X dX3_startOf_9 rfl rfl (by first | rfl | exact isR_rf) ?_
    refine m_getf X fg_X3_69_X3 hM.1 rfl dX3_startOf_10 ?_
    refine m_iload_n X dX3_startOf_13 rfl rfl ?_
    refine s_iald X hM rfl rfl (by exact tin (by simp only [alen]; omega) rfl) dX3_startOf_14 ?_
    refine m_topi X (congrArg (A 29) (nI_clamp (by omega))) ?_
    refine m_goto X dX3_startOf_15 (t := 19) (by decide) ?_
    exact m_iret X dX3_startOf_19 (by decide) (by decide) (by refine ⟨?_, rfl⟩; rw [q])
theorem MF_given {Φ : FS} {F : Nat → Int32} {A : Nat → Nat → Int32} {B : Nat → Nat → Int64} {s : Nat} {w : Int32} (hI : MF Φ F A B) : MF (Φ.1, Φ.2.1, Φ.2.2.give s w) F (aset (aset A 29 s w) 30 s 1) B := by
  obtain ⟨h, h9⟩ := hI
  have e : ∀ k, k ≠ 29 → k ≠ 30 → aset (aset A 29 s w) 30 s 1 k = A k := fun k a b => (aset_n b).trans (aset_n a)
  refine ⟨?_, fun t ht => ?_, fun n hn => ?_⟩
  · obtain ⟨h1, h2, h3, h4, h5, h6, h7, h8⟩ := h
    exact ⟨h1.updA fun k hk => e k (by omega) (by omega), h2, h3, h4, h5, h6, h7, h8.to rfl fun k a b => e k (by omega) (by omega)⟩
  · have := h9.1 t ht
    rw [aset_k, aset_n (by decide), show aset (aset A 29 s w) 30 s 1 29 = upd (A 29) s w from (aset_n (by decide)).trans aset_k]
    show (if upd (A 30) s 1 t = 0 then 1 else upd (A 29) s w t) = upd Φ.2.2.st s w t
    unfold upd
    by_cases q : t = s
    · rw [if_pos q, if_pos q, if_pos q, if_neg (by decide)]
    · rw [if_neg q, if_neg q, if_neg q]; exact this
  · rw [e 31 (by decide) (by decide), e 32 (by decide) (by decide), e 33 (by decide) (by decide), e 34 (by decide) (by decide), e 35 (by decide) (by decide)]
    exact h9.2 n hn
set_option maxHeartbeats 4000000 in
theorem c_X3_given {G : GX} {h : Nat} {ad : Nat → Nat} {F : Nat → Int32} {A : Nat → Nat → Int32} {B : Nat → Nat → Int64} {M : Mem} {Φ : FS} (hM : MRep G h ad F A B M) (hI : MF Φ F A B) (hW : FW Φ) (s w : Int32) : Con G yX3_given wX3_given (rmm 2 42) [.ref h, .int s, .int w] M (pA G h ad (.int (apGiven s w Φ).1) (apGiven s w Φ).2) nX := by
  refine Con.mk (by decide) rfl [(0, some (.ref h)), (1, some (.int s)), (2, some (.int w))] rfl fun x X hno => ?_
  have hN := hW.1.1
  have hWF := hW.2.1
  have hb1 := hWF.1
  have hb2 := hWF.2.1
  have hR := hI.1
  have hT := hR.1
  have hMN := hR.2.2.2.2.2.2.2
  refine m_iload_n X dX3_given_0 rfl rfl ?_
  refine m_callS X cs_X3_124  (c_X3_isSlot _ _ _) rfl rfl (Nat.le_of_ble_eq_true rfl) dX3_given_1 ⟨by decide, by decide, by decide, by decide⟩ (fun v M hp => ?_) (fun _ _ _ _ h => h.elim)
  obtain ⟨rfl, rfl⟩ := hp
  refine m_sti ?_
  refine m_ifeq X dX3_given_4 (t := 19) (by decide) (fun c_4 => ?_) (fun c_4 => ?_)
  · skip
    try simp only [bI_0, Bool.not_eq_false] at c_4
    refine m_iconst X dX3_given_19 (v := (-1)) (by decide) ?_
    exact m_iret X dX3_given_20 (by decide) (by decide) (by exact pA_eq hM (q := (-1, Φ)) (if_neg (by rintro ⟨z1, z2⟩; first | exact absurd z1 (by rw [c_4]; decide) | exact z2 (Or.inl c_9) | exact z2 (Or.inr (Int32.not_le.mp c_16)))) rfl hI)
  · skip
    try simp only [bI_0, Bool.not_eq_false] at c_4
    refine m_iload_n X dX3_given_7 rfl rfl ?_
    refine m_iconst X dX3_given_8 (v := 1) (by decide) ?_
    refine m_icmplt X dX3_given_9 (t := 19) (by decide) (fun c_9 => ?_) (fun c_9 => ?_)
    · skip
      refine m_iconst X dX3_given_19 (v := (-1)) (by decide) ?_
      exact m_iret X dX3_given_20 (by decide) (by decide) (by exact pA_eq hM (q := (-1, Φ)) (if_neg (by rintro ⟨z1, z2⟩; first | exact absurd z1 (by rw [c_4]; decide) | exact z2 (Or.inl c_9) | exact z2 (Or.inr (Int32.not_le.mp c_16)))) rfl hI)
    · skip
      refine m_iload_n X dX3_given_12 rfl rfl ?_
      refine m_sipush X dX3_given_13 (v := 1023) (by decide) ?_
      refine m_icmple X dX3_given_16 (t := 21) (by decide) (fun c_16 => ?_) (fun c_16 => ?_)
      · skip
        obtain ⟨s, -, hs, rfl⟩ := inB_r 0 11 (by decide) (by decide) c_4
        have e : apGiven (nI s) w Φ = (Φ.2.2.st s, Φ.1, Φ.2.1, Φ.2.2.give s w) := by unfold apGiven; rw [if_pos ⟨c_4, fun z => z.elim c_9 (fun z => absurd c_16 (Int32.not_le.mpr z))⟩, tn_nI (by omega)]
        refine m_aload_n X dX3_given_21 rfl rfl (by first | rfl | exact isR_rf) ?_
        refine m_iload_n X dX3_given_22 rfl rfl ?_
        refine m_callV X cs_X3_272  (c_X3_startOf hM hI.2 s (by omega)) hM.1 rfl rfl rfl (Nat.le_of_ble_eq_true rfl) dX3_given_23 ⟨by decide, by decide, by decide, by decide⟩ (fun v M hp => ?_) (fun _ _ _ _ h => h.elim)
        obtain ⟨rfl, rfl⟩ := hp
        refine m_sti ?_
        refine m_istore_n X dX3_given_26 rfl rfl rfl ?_
        refine m_aload_n X dX3_given_27 rfl rfl (by first | rfl | exact isR_rf) ?_
        refine m_getf X fg_X3_69_X3 hM.1 rfl dX3_given_28 ?_
        refine m_iload_n X dX3_given_31 rfl rfl ?_
        refine m_iload_n X dX3_given_32 rfl rfl ?_
        refine s_iast X hM rfl rfl (by exact tin (by simp only [alen]; omega) rfl) dX3_given_33 (fun M hM => ?_)
        refine m_aload_n X dX3_given_34 rfl rfl (by first | rfl | exact isR_rf) ?_
        refine m_getf X fg_X3_72_X3 hM.1 rfl dX3_given_35 ?_
        refine m_iload_n X dX3_given_38 rfl rfl ?_
        refine m_iconst X dX3_given_39 (v := 1) (by decide) ?_
        refine s_zast X hM rfl rfl (by exact tin (by simp only [alen]; omega) rfl) (by first | rfl | exact bI_vp) dX3_given_40 (fun M hM => ?_)
        refine m_iload_n X dX3_given_41 rfl rfl ?_
        exact m_iret X dX3_given_42 (by decide) (by decide) (by rw [nI_clamp (by omega)] at hM; exact pA_eq hM e rfl (MF_given hI))
      · skip
        refine m_iconst X dX3_given_19 (v := (-1)) (by decide) ?_
        exact m_iret X dX3_given_20 (by decide) (by decide) (by exact pA_eq hM (q := (-1, Φ)) (if_neg (by rintro ⟨z1, z2⟩; first | exact absurd z1 (by rw [c_4]; decide) | exact z2 (Or.inl c_9) | exact z2 (Or.inr (Int32.not_le.mp c_16)))) rfl hI)
