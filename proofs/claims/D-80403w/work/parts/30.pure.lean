/-! PURE STATIC METHODS (printed by wip/D-80403w/tools/m30.py) -/
set_option maxRecDepth 100000
abbrev rmm (f l : Nat) : Room := { frames := f, cells := 0, slots := 0, locals := l }
def inB (v a b : Int32) : Bool := !decide (v < a) && !decide (b < v)
theorem inB_nI {v : Int32} {n : Nat} (hn : n < 2 ^ 31) : inB v 0 (nI n) = true ↔ ∃ j : Nat, j ≤ n ∧ v = nI j := by
  constructor
  · intro h
    simp only [inB, Bool.and_eq_true, Bool.not_eq_true', decide_eq_false_iff_not] at h
    obtain ⟨j, hj, rfl⟩ := nI_of h.1
    exact ⟨j, Nat.le_of_not_lt fun z => h.2 ((nI_ltI hn hj).mpr z), rfl⟩
  · rintro ⟨j, hj, rfl⟩
    simp only [inB, Bool.and_eq_true, Bool.not_eq_true', decide_eq_false_iff_not]
    exact ⟨nI_pos (by omega), fun h => by have := (nI_ltI hn (by omega)).mp h; omega⟩
set_option maxHeartbeats 4000000 in
theorem c_X3_in (G : GX) (M : Mem) (v a b : Int32) : Con G yX3_in wX3_in (rmm 0 0) [.int v, .int a, .int b] M (fun r M' => r = some (.int (bI (inB v a b))) ∧ M' = M) nX := by
  refine Con.mk (by decide) rfl [(0, some (.int v)), (1, some (.int a)), (2, some (.int b))] rfl fun x X hno => ?_
  refine m_iload_n X dX3_in_0 rfl rfl ?_
  refine m_iload_n X dX3_in_1 rfl rfl ?_
  refine m_icmplt X dX3_in_2 (t := 14) (by decide) (fun c_2 => ?_) (fun c_2 => ?_)
  · skip
    refine m_iconst X dX3_in_14 (v := 0) (by decide) ?_
    exact m_zret X dX3_in_15 (by first | rfl | exact bI_nar) (by decide) (by decide) (by refine ⟨?_, rfl⟩; simp [inB, bI, c_2])
  · skip
    refine m_iload_n X dX3_in_5 rfl rfl ?_
    refine m_iload_n X dX3_in_6 rfl rfl ?_
    refine m_icmpgt X dX3_in_7 (t := 14) (by decide) (fun c_7 => ?_) (fun c_7 => ?_)
    · skip
      refine m_iconst X dX3_in_14 (v := 0) (by decide) ?_
      exact m_zret X dX3_in_15 (by first | rfl | exact bI_nar) (by decide) (by decide) (by refine ⟨?_, rfl⟩; simp [inB, bI, c_2, c_7])
    · skip
      refine m_iconst X dX3_in_10 (v := 1) (by decide) ?_
      refine m_goto X dX3_in_11 (t := 15) (by decide) ?_
      exact m_zret X dX3_in_15 (by first | rfl | exact bI_nar) (by decide) (by decide) (by refine ⟨?_, rfl⟩; simp [inB, bI, c_2, c_7])
set_option maxHeartbeats 4000000 in
theorem c_X3_isSlot (G : GX) (M : Mem) (v : Int32) : Con G yX3_isSlot wX3_isSlot (rmm 1 22) [.int v] M (fun r M' => r = some (.int (bI (inB v 0 11))) ∧ M' = M) nX := by
  refine Con.mk (by decide) rfl [(0, some (.int v))] rfl fun x X hno => ?_
  refine m_iload_n X dX3_isSlot_0 rfl rfl ?_
  refine m_iconst X dX3_isSlot_1 (v := 0) (by decide) ?_
  refine m_bipush X dX3_isSlot_2 (v := 11) (by decide) ?_
  refine m_callS X cs_X3_103  (c_X3_in _ _ _ _ _) rfl rfl (Nat.le_of_ble_eq_true rfl) dX3_isSlot_4 ⟨by decide, by decide, by decide, by decide⟩ (fun v M hp => ?_) (fun _ _ _ _ h => h.elim)
  obtain ⟨rfl, rfl⟩ := hp
  refine m_sti ?_
  exact m_zret X dX3_isSlot_7 (by first | rfl | exact bI_nar) (by decide) (by decide) (by exact ⟨rfl, rfl⟩)
set_option maxHeartbeats 4000000 in
theorem c_X3_isRegister (G : GX) (M : Mem) (v : Int32) : Con G yX3_isRegister wX3_isRegister (rmm 1 22) [.int v] M (fun r M' => r = some (.int (bI (inB v 0 7))) ∧ M' = M) nX := by
  refine Con.mk (by decide) rfl [(0, some (.int v))] rfl fun x X hno => ?_
  refine m_iload_n X dX3_isRegister_0 rfl rfl ?_
  refine m_iconst X dX3_isRegister_1 (v := 0) (by decide) ?_
  refine m_bipush X dX3_isRegister_2 (v := 7) (by decide) ?_
  refine m_callS X cs_X3_103  (c_X3_in _ _ _ _ _) rfl rfl (Nat.le_of_ble_eq_true rfl) dX3_isRegister_4 ⟨by decide, by decide, by decide, by decide⟩ (fun v M hp => ?_) (fun _ _ _ _ h => h.elim)
  obtain ⟨rfl, rfl⟩ := hp
  refine m_sti ?_
  exact m_zret X dX3_isRegister_7 (by first | rfl | exact bI_nar) (by decide) (by decide) (by exact ⟨rfl, rfl⟩)
set_option maxHeartbeats 4000000 in
theorem c_X0_in (G : GX) (M : Mem) (v a b : Int32) : Con G yX0_in wX0_in (rmm 0 0) [.int v, .int a, .int b] M (fun r M' => r = some (.int (bI (inB v a b))) ∧ M' = M) nX := by
  refine Con.mk (by decide) rfl [(0, some (.int v)), (1, some (.int a)), (2, some (.int b))] rfl fun x X hno => ?_
  refine m_iload_n X dX0_in_0 rfl rfl ?_
  refine m_iload_n X dX0_in_1 rfl rfl ?_
  refine m_icmplt X dX0_in_2 (t := 14) (by decide) (fun c_2 => ?_) (fun c_2 => ?_)
  · skip
    refine m_iconst X dX0_in_14 (v := 0) (by decide) ?_
    exact m_zret X dX0_in_15 (by first | rfl | exact bI_nar) (by decide) (by decide) (by refine ⟨?_, rfl⟩; simp [inB, bI, c_2])
  · skip
    refine m_iload_n X dX0_in_5 rfl rfl ?_
    refine m_iload_n X dX0_in_6 rfl rfl ?_
    refine m_icmpgt X dX0_in_7 (t := 14) (by decide) (fun c_7 => ?_) (fun c_7 => ?_)
    · skip
      refine m_iconst X dX0_in_14 (v := 0) (by decide) ?_
      exact m_zret X dX0_in_15 (by first | rfl | exact bI_nar) (by decide) (by decide) (by refine ⟨?_, rfl⟩; simp [inB, bI, c_2, c_7])
    · skip
      refine m_iconst X dX0_in_10 (v := 1) (by decide) ?_
      refine m_goto X dX0_in_11 (t := 15) (by decide) ?_
      exact m_zret X dX0_in_15 (by first | rfl | exact bI_nar) (by decide) (by decide) (by refine ⟨?_, rfl⟩; simp [inB, bI, c_2, c_7])
set_option maxHeartbeats 4000000 in
theorem c_X0_isSlot (G : GX) (M : Mem) (v : Int32) : Con G yX0_isSlot wX0_isSlot (rmm 1 22) [.int v] M (fun r M' => r = some (.int (bI (inB v 0 11))) ∧ M' = M) nX := by
  refine Con.mk (by decide) rfl [(0, some (.int v))] rfl fun x X hno => ?_
  refine m_iload_n X dX0_isSlot_0 rfl rfl ?_
  refine m_iconst X dX0_isSlot_1 (v := 0) (by decide) ?_
  refine m_bipush X dX0_isSlot_2 (v := 11) (by decide) ?_
  refine m_callS X cs_X0_73  (c_X0_in _ _ _ _ _) rfl rfl (Nat.le_of_ble_eq_true rfl) dX0_isSlot_4 ⟨by decide, by decide, by decide, by decide⟩ (fun v M hp => ?_) (fun _ _ _ _ h => h.elim)
  obtain ⟨rfl, rfl⟩ := hp
  refine m_sti ?_
  exact m_zret X dX0_isSlot_7 (by first | rfl | exact bI_nar) (by decide) (by decide) (by exact ⟨rfl, rfl⟩)
set_option maxHeartbeats 4000000 in
theorem c_X0_isRegister (G : GX) (M : Mem) (v : Int32) : Con G yX0_isRegister wX0_isRegister (rmm 1 22) [.int v] M (fun r M' => r = some (.int (bI (inB v 0 7))) ∧ M' = M) nX := by
  refine Con.mk (by decide) rfl [(0, some (.int v))] rfl fun x X hno => ?_
  refine m_iload_n X dX0_isRegister_0 rfl rfl ?_
  refine m_iconst X dX0_isRegister_1 (v := 0) (by decide) ?_
  refine m_bipush X dX0_isRegister_2 (v := 7) (by decide) ?_
  refine m_callS X cs_X0_73  (c_X0_in _ _ _ _ _) rfl rfl (Nat.le_of_ble_eq_true rfl) dX0_isRegister_4 ⟨by decide, by decide, by decide, by decide⟩ (fun v M hp => ?_) (fun _ _ _ _ h => h.elim)
  obtain ⟨rfl, rfl⟩ := hp
  refine m_sti ?_
  exact m_zret X dX0_isRegister_7 (by first | rfl | exact bI_nar) (by decide) (by decide) (by exact ⟨rfl, rfl⟩)
def isActN (op : Nat) (a b c d : Int32) : Bool := match op with
  | 0 => inB a 0 11 && (inB b 1 7 && !decide (b = 5))
  | 1 => inB a 0 11
  | 2 => inB a 0 11
  | 3 => inB a 0 11
  | 4 => inB a 0 11 && (inB b 0 11 && inB c 0 9)
  | 5 => inB a 0 7 && (inB b 0 11 && inB c 1 4)
  | 6 => inB a 0 11 && (inB b 1 4 && inB d 0 7)
  | 7 => inB a 0 11 && (inB b 0 11 && inB c 5 7)
  | 8 => inB a 0 11 && (inB b 5 7 && inB d 0 11)
  | 9 => inB a 0 7 && (inB b 0 11 && inB c 1 7)
  | 10 => inB a 0 11 && inB b 0 11
  | 11 => inB a 0 7 && inB b 0 11
  | 12 => inB a 0 11 && inB c 0 11
  | 13 => inB a 0 7
  | 14 => inB a 0 7 && (inB b 0 7 && inB c 0 7)
  | 15 => inB a 0 7 && (inB b 0 7 && inB c 0 7)
  | 16 => inB a 0 7 && (inB b 0 7 && inB c 0 7)
  | 17 => true
  | _ => false
def isActB (op a b c d : Int32) : Bool := if op < 0 then false else isActN op.toNatClampNeg a b c d
theorem isActB_nI {j : Nat} (hj : j < 2 ^ 31) {a b c d : Int32} : isActB (nI j) a b c d = isActN j a b c d := by
  unfold isActB
  rw [if_neg (nI_pos hj), nI_clamp hj]
theorem isActB_out {op a b c d : Int32} (ho : op.toInt < 0 ∨ 16 < op.toInt) (h : ¬ op = 17) : isActB op a b c d = false := by
  unfold isActB
  split
  · rfl
  · next h0 =>
    obtain ⟨j, hj, rfl⟩ := nI_of h0
    rw [nI_clamp hj]
    rw [nI_toInt hj] at ho
    have h17 : j ≠ 17 := fun e => h (by rw [e]; rfl)
    have : 18 ≤ j := by omega
    unfold isActN
    split <;> first | omega | rfl
set_option maxHeartbeats 4000000 in
theorem c_X3_isAct (G : GX) (M : Mem) (op a b c d : Int32) : Con G yX3_isAct wX3_isAct (rmm 2 42) [.int op, .int a, .int b, .int c, .int d] M (fun r M' => r = some (.int (bI (isActB op a b c d))) ∧ M' = M) nX := by
  refine Con.mk (by decide) rfl [(0, some (.int op)), (1, some (.int a)), (2, some (.int b)), (3, some (.int c)), (4, some (.int d))] rfl fun x X hno => ?_
  refine m_iload_n X dX3_isAct_0 rfl rfl ?_
  refine m_tsw X dX3_isAct_1 (l0 := 0) (N := 17) (t := 389) (by decide) rfl (by decide) rfl (by decide) (by decide) (fun j_1 hj_1 ej_1 => ?_) (fun ho_1 => ?_)
  · skip
    have hk_1 : j_1 = 0 ∨ j_1 = 1 ∨ j_1 = 2 ∨ j_1 = 3 ∨ j_1 = 4 ∨ j_1 = 5 ∨ j_1 = 6 ∨ j_1 = 7 ∨ j_1 = 8 ∨ j_1 = 9 ∨ j_1 = 10 ∨ j_1 = 11 ∨ j_1 = 12 ∨ j_1 = 13 ∨ j_1 = 14 ∨ j_1 = 15 ∨ j_1 = 16 := by omega
    rcases hk_1 with rfl | rfl | rfl | rfl | rfl | rfl | rfl | rfl | rfl | rfl | rfl | rfl | rfl | rfl | rfl | rfl | rfl
    · skip
      subst ej_1
      rw [isActB_nI (by decide)]
      refine m_pc (pc' := 84) (by decide) ?_
      refine m_iload_n X dX3_isAct_84 rfl rfl ?_
      refine m_callS X cs_X3_124  (c_X3_isSlot _ _ _) rfl rfl (Nat.le_of_ble_eq_true rfl) dX3_isAct_85 ⟨by decide, by decide, by decide, by decide⟩ (fun v M hp => ?_) (fun _ _ _ _ h => h.elim)
      obtain ⟨rfl, rfl⟩ := hp
      refine m_sti ?_
      refine m_ifeq X dX3_isAct_88 (t := 110) (by decide) (fun c_88 => ?_) (fun c_88 => ?_)
      · skip
        try simp only [bI_0, Bool.not_eq_false] at c_88
        refine m_iconst X dX3_isAct_110 (v := 0) (by decide) ?_
        exact m_zret X dX3_isAct_111 (by first | rfl | exact bI_nar) (by decide) (by decide) (by refine ⟨?_, rfl⟩; simp [isActN, bI, c_88])
      · skip
        try simp only [bI_0, Bool.not_eq_false] at c_88
        refine m_iload_n X dX3_isAct_91 rfl rfl ?_
        refine m_iconst X dX3_isAct_92 (v := 1) (by decide) ?_
        refine m_bipush X dX3_isAct_93 (v := 7) (by decide) ?_
        refine m_callS X cs_X3_103  (c_X3_in _ _ _ _ _) rfl rfl (Nat.le_of_ble_eq_true rfl) dX3_isAct_95 ⟨by decide, by decide, by decide, by decide⟩ (fun v M hp => ?_) (fun _ _ _ _ h => h.elim)
        obtain ⟨rfl, rfl⟩ := hp
        refine m_sti ?_
        refine m_ifeq X dX3_isAct_98 (t := 110) (by decide) (fun c_98 => ?_) (fun c_98 => ?_)
        · skip
          try simp only [bI_0, Bool.not_eq_false] at c_98
          refine m_iconst X dX3_isAct_110 (v := 0) (by decide) ?_
          exact m_zret X dX3_isAct_111 (by first | rfl | exact bI_nar) (by decide) (by decide) (by refine ⟨?_, rfl⟩; simp [isActN, bI, c_88, c_98])
        · skip
          try simp only [bI_0, Bool.not_eq_false] at c_98
          refine m_iload_n X dX3_isAct_101 rfl rfl ?_
          refine m_iconst X dX3_isAct_102 (v := 5) (by decide) ?_
          refine m_icmpeq X dX3_isAct_103 (t := 110) (by decide) (fun c_103 => ?_) (fun c_103 => ?_)
          · skip
            refine m_iconst X dX3_isAct_110 (v := 0) (by decide) ?_
            exact m_zret X dX3_isAct_111 (by first | rfl | exact bI_nar) (by decide) (by decide) (by refine ⟨?_, rfl⟩; simp [isActN, bI, c_88, c_98, c_103])
          · skip
            refine m_iconst X dX3_isAct_106 (v := 1) (by decide) ?_
            refine m_goto X dX3_isAct_107 (t := 111) (by decide) ?_
            exact m_zret X dX3_isAct_111 (by first | rfl | exact bI_nar) (by decide) (by decide) (by refine ⟨?_, rfl⟩; simp [isActN, bI, c_88, c_98, c_103])
    · skip
      subst ej_1
      rw [isActB_nI (by decide)]
      refine m_pc (pc' := 112) (by decide) ?_
      refine m_iload_n X dX3_isAct_112 rfl rfl ?_
      refine m_callS X cs_X3_124  (c_X3_isSlot _ _ _) rfl rfl (Nat.le_of_ble_eq_true rfl) dX3_isAct_113 ⟨by decide, by decide, by decide, by decide⟩ (fun v M hp => ?_) (fun _ _ _ _ h => h.elim)
      obtain ⟨rfl, rfl⟩ := hp
      refine m_sti ?_
      exact m_zret X dX3_isAct_116 (by first | rfl | exact bI_nar) (by decide) (by decide) (by refine ⟨?_, rfl⟩; simp [isActN, bI])
    · skip
      subst ej_1
      rw [isActB_nI (by decide)]
      refine m_pc (pc' := 112) (by decide) ?_
      refine m_iload_n X dX3_isAct_112 rfl rfl ?_
      refine m_callS X cs_X3_124  (c_X3_isSlot _ _ _) rfl rfl (Nat.le_of_ble_eq_true rfl) dX3_isAct_113 ⟨by decide, by decide, by decide, by decide⟩ (fun v M hp => ?_) (fun _ _ _ _ h => h.elim)
      obtain ⟨rfl, rfl⟩ := hp
      refine m_sti ?_
      exact m_zret X dX3_isAct_116 (by first | rfl | exact bI_nar) (by decide) (by decide) (by refine ⟨?_, rfl⟩; simp [isActN, bI])
    · skip
      subst ej_1
      rw [isActB_nI (by decide)]
      refine m_pc (pc' := 112) (by decide) ?_
      refine m_iload_n X dX3_isAct_112 rfl rfl ?_
      refine m_callS X cs_X3_124  (c_X3_isSlot _ _ _) rfl rfl (Nat.le_of_ble_eq_true rfl) dX3_isAct_113 ⟨by decide, by decide, by decide, by decide⟩ (fun v M hp => ?_) (fun _ _ _ _ h => h.elim)
      obtain ⟨rfl, rfl⟩ := hp
      refine m_sti ?_
      exact m_zret X dX3_isAct_116 (by first | rfl | exact bI_nar) (by decide) (by decide) (by refine ⟨?_, rfl⟩; simp [isActN, bI])
    · skip
      subst ej_1
      rw [isActB_nI (by decide)]
      refine m_pc (pc' := 117) (by decide) ?_
      refine m_iload_n X dX3_isAct_117 rfl rfl ?_
      refine m_callS X cs_X3_124  (c_X3_isSlot _ _ _) rfl rfl (Nat.le_of_ble_eq_true rfl) dX3_isAct_118 ⟨by decide, by decide, by decide, by decide⟩ (fun v M hp => ?_) (fun _ _ _ _ h => h.elim)
      obtain ⟨rfl, rfl⟩ := hp
      refine m_sti ?_
      refine m_ifeq X dX3_isAct_121 (t := 145) (by decide) (fun c_121 => ?_) (fun c_121 => ?_)
      · skip
        try simp only [bI_0, Bool.not_eq_false] at c_121
        refine m_iconst X dX3_isAct_145 (v := 0) (by decide) ?_
        exact m_zret X dX3_isAct_146 (by first | rfl | exact bI_nar) (by decide) (by decide) (by refine ⟨?_, rfl⟩; simp [isActN, bI, c_121])
      · skip
        try simp only [bI_0, Bool.not_eq_false] at c_121
        refine m_iload_n X dX3_isAct_124 rfl rfl ?_
        refine m_callS X cs_X3_124  (c_X3_isSlot _ _ _) rfl rfl (Nat.le_of_ble_eq_true rfl) dX3_isAct_125 ⟨by decide, by decide, by decide, by decide⟩ (fun v M hp => ?_) (fun _ _ _ _ h => h.elim)
        obtain ⟨rfl, rfl⟩ := hp
        refine m_sti ?_
        refine m_ifeq X dX3_isAct_128 (t := 145) (by decide) (fun c_128 => ?_) (fun c_128 => ?_)
        · skip
          try simp only [bI_0, Bool.not_eq_false] at c_128
          refine m_iconst X dX3_isAct_145 (v := 0) (by decide) ?_
          exact m_zret X dX3_isAct_146 (by first | rfl | exact bI_nar) (by decide) (by decide) (by refine ⟨?_, rfl⟩; simp [isActN, bI, c_121, c_128])
        · skip
          try simp only [bI_0, Bool.not_eq_false] at c_128
          refine m_iload_n X dX3_isAct_131 rfl rfl ?_
          refine m_iconst X dX3_isAct_132 (v := 0) (by decide) ?_
          refine m_bipush X dX3_isAct_133 (v := 9) (by decide) ?_
          refine m_callS X cs_X3_103  (c_X3_in _ _ _ _ _) rfl rfl (Nat.le_of_ble_eq_true rfl) dX3_isAct_135 ⟨by decide, by decide, by decide, by decide⟩ (fun v M hp => ?_) (fun _ _ _ _ h => h.elim)
          obtain ⟨rfl, rfl⟩ := hp
          refine m_sti ?_
          refine m_ifeq X dX3_isAct_138 (t := 145) (by decide) (fun c_138 => ?_) (fun c_138 => ?_)
          · skip
            try simp only [bI_0, Bool.not_eq_false] at c_138
            refine m_iconst X dX3_isAct_145 (v := 0) (by decide) ?_
            exact m_zret X dX3_isAct_146 (by first | rfl | exact bI_nar) (by decide) (by decide) (by refine ⟨?_, rfl⟩; simp [isActN, bI, c_121, c_128, c_138])
          · skip
            try simp only [bI_0, Bool.not_eq_false] at c_138
            refine m_iconst X dX3_isAct_141 (v := 1) (by decide) ?_
            refine m_goto X dX3_isAct_142 (t := 146) (by decide) ?_
            exact m_zret X dX3_isAct_146 (by first | rfl | exact bI_nar) (by decide) (by decide) (by refine ⟨?_, rfl⟩; simp [isActN, bI, c_121, c_128, c_138])
    · skip
      subst ej_1
      rw [isActB_nI (by decide)]
      refine m_pc (pc' := 147) (by decide) ?_
      refine m_iload_n X dX3_isAct_147 rfl rfl ?_
      refine m_callS X cs_X3_128  (c_X3_isRegister _ _ _) rfl rfl (Nat.le_of_ble_eq_true rfl) dX3_isAct_148 ⟨by decide, by decide, by decide, by decide⟩ (fun v M hp => ?_) (fun _ _ _ _ h => h.elim)
      obtain ⟨rfl, rfl⟩ := hp
      refine m_sti ?_
      refine m_ifeq X dX3_isAct_151 (t := 174) (by decide) (fun c_151 => ?_) (fun c_151 => ?_)
      · skip
        try simp only [bI_0, Bool.not_eq_false] at c_151
        refine m_iconst X dX3_isAct_174 (v := 0) (by decide) ?_
        exact m_zret X dX3_isAct_175 (by first | rfl | exact bI_nar) (by decide) (by decide) (by refine ⟨?_, rfl⟩; simp [isActN, bI, c_151])
      · skip
        try simp only [bI_0, Bool.not_eq_false] at c_151
        refine m_iload_n X dX3_isAct_154 rfl rfl ?_
        refine m_callS X cs_X3_124  (c_X3_isSlot _ _ _) rfl rfl (Nat.le_of_ble_eq_true rfl) dX3_isAct_155 ⟨by decide, by decide, by decide, by decide⟩ (fun v M hp => ?_) (fun _ _ _ _ h => h.elim)
        obtain ⟨rfl, rfl⟩ := hp
        refine m_sti ?_
        refine m_ifeq X dX3_isAct_158 (t := 174) (by decide) (fun c_158 => ?_) (fun c_158 => ?_)
        · skip
          try simp only [bI_0, Bool.not_eq_false] at c_158
          refine m_iconst X dX3_isAct_174 (v := 0) (by decide) ?_
          exact m_zret X dX3_isAct_175 (by first | rfl | exact bI_nar) (by decide) (by decide) (by refine ⟨?_, rfl⟩; simp [isActN, bI, c_151, c_158])
        · skip
          try simp only [bI_0, Bool.not_eq_false] at c_158
          refine m_iload_n X dX3_isAct_161 rfl rfl ?_
          refine m_iconst X dX3_isAct_162 (v := 1) (by decide) ?_
          refine m_iconst X dX3_isAct_163 (v := 4) (by decide) ?_
          refine m_callS X cs_X3_103  (c_X3_in _ _ _ _ _) rfl rfl (Nat.le_of_ble_eq_true rfl) dX3_isAct_164 ⟨by decide, by decide, by decide, by decide⟩ (fun v M hp => ?_) (fun _ _ _ _ h => h.elim)
          obtain ⟨rfl, rfl⟩ := hp
          refine m_sti ?_
          refine m_ifeq X dX3_isAct_167 (t := 174) (by decide) (fun c_167 => ?_) (fun c_167 => ?_)
          · skip
            try simp only [bI_0, Bool.not_eq_false] at c_167
            refine m_iconst X dX3_isAct_174 (v := 0) (by decide) ?_
            exact m_zret X dX3_isAct_175 (by first | rfl | exact bI_nar) (by decide) (by decide) (by refine ⟨?_, rfl⟩; simp [isActN, bI, c_151, c_158, c_167])
          · skip
            try simp only [bI_0, Bool.not_eq_false] at c_167
            refine m_iconst X dX3_isAct_170 (v := 1) (by decide) ?_
            refine m_goto X dX3_isAct_171 (t := 175) (by decide) ?_
            exact m_zret X dX3_isAct_175 (by first | rfl | exact bI_nar) (by decide) (by decide) (by refine ⟨?_, rfl⟩; simp [isActN, bI, c_151, c_158, c_167])
    · skip
      subst ej_1
      rw [isActB_nI (by decide)]
      refine m_pc (pc' := 176) (by decide) ?_
      refine m_iload_n X dX3_isAct_176 rfl rfl ?_
      refine m_callS X cs_X3_124  (c_X3_isSlot _ _ _) rfl rfl (Nat.le_of_ble_eq_true rfl) dX3_isAct_177 ⟨by decide, by decide, by decide, by decide⟩ (fun v M hp => ?_) (fun _ _ _ _ h => h.elim)
      obtain ⟨rfl, rfl⟩ := hp
      refine m_sti ?_
      refine m_ifeq X dX3_isAct_180 (t := 204) (by decide) (fun c_180 => ?_) (fun c_180 => ?_)
      · skip
        try simp only [bI_0, Bool.not_eq_false] at c_180
        refine m_iconst X dX3_isAct_204 (v := 0) (by decide) ?_
        exact m_zret X dX3_isAct_205 (by first | rfl | exact bI_nar) (by decide) (by decide) (by refine ⟨?_, rfl⟩; simp [isActN, bI, c_180])
      · skip
        try simp only [bI_0, Bool.not_eq_false] at c_180
        refine m_iload_n X dX3_isAct_183 rfl rfl ?_
        refine m_iconst X dX3_isAct_184 (v := 1) (by decide) ?_
        refine m_iconst X dX3_isAct_185 (v := 4) (by decide) ?_
        refine m_callS X cs_X3_103  (c_X3_in _ _ _ _ _) rfl rfl (Nat.le_of_ble_eq_true rfl) dX3_isAct_186 ⟨by decide, by decide, by decide, by decide⟩ (fun v M hp => ?_) (fun _ _ _ _ h => h.elim)
        obtain ⟨rfl, rfl⟩ := hp
        refine m_sti ?_
        refine m_ifeq X dX3_isAct_189 (t := 204) (by decide) (fun c_189 => ?_) (fun c_189 => ?_)
        · skip
          try simp only [bI_0, Bool.not_eq_false] at c_189
          refine m_iconst X dX3_isAct_204 (v := 0) (by decide) ?_
          exact m_zret X dX3_isAct_205 (by first | rfl | exact bI_nar) (by decide) (by decide) (by refine ⟨?_, rfl⟩; simp [isActN, bI, c_180, c_189])
        · skip
          try simp only [bI_0, Bool.not_eq_false] at c_189
          refine m_iload X dX3_isAct_192 rfl ?_
          refine m_callS X cs_X3_128  (c_X3_isRegister _ _ _) rfl rfl (Nat.le_of_ble_eq_true rfl) dX3_isAct_194 ⟨by decide, by decide, by decide, by decide⟩ (fun v M hp => ?_) (fun _ _ _ _ h => h.elim)
          obtain ⟨rfl, rfl⟩ := hp
          refine m_sti ?_
          refine m_ifeq X dX3_isAct_197 (t := 204) (by decide) (fun c_197 => ?_) (fun c_197 => ?_)
          · skip
            try simp only [bI_0, Bool.not_eq_false] at c_197
            refine m_iconst X dX3_isAct_204 (v := 0) (by decide) ?_
            exact m_zret X dX3_isAct_205 (by first | rfl | exact bI_nar) (by decide) (by decide) (by refine ⟨?_, rfl⟩; simp [isActN, bI, c_180, c_189, c_197])
          · skip
            try simp only [bI_0, Bool.not_eq_false] at c_197
            refine m_iconst X dX3_isAct_200 (v := 1) (by decide) ?_
            refine m_goto X dX3_isAct_201 (t := 205) (by decide) ?_
            exact m_zret X dX3_isAct_205 (by first | rfl | exact bI_nar) (by decide) (by decide) (by refine ⟨?_, rfl⟩; simp [isActN, bI, c_180, c_189, c_197])
    · skip
      subst ej_1
      rw [isActB_nI (by decide)]
      refine m_pc (pc' := 206) (by decide) ?_
      refine m_iload_n X dX3_isAct_206 rfl rfl ?_
      refine m_callS X cs_X3_124  (c_X3_isSlot _ _ _) rfl rfl (Nat.le_of_ble_eq_true rfl) dX3_isAct_207 ⟨by decide, by decide, by decide, by decide⟩ (fun v M hp => ?_) (fun _ _ _ _ h => h.elim)
      obtain ⟨rfl, rfl⟩ := hp
      refine m_sti ?_
      refine m_ifeq X dX3_isAct_210 (t := 234) (by decide) (fun c_210 => ?_) (fun c_210 => ?_)
      · skip
        try simp only [bI_0, Bool.not_eq_false] at c_210
        refine m_iconst X dX3_isAct_234 (v := 0) (by decide) ?_
        exact m_zret X dX3_isAct_235 (by first | rfl | exact bI_nar) (by decide) (by decide) (by refine ⟨?_, rfl⟩; simp [isActN, bI, c_210])
      · skip
        try simp only [bI_0, Bool.not_eq_false] at c_210
        refine m_iload_n X dX3_isAct_213 rfl rfl ?_
        refine m_callS X cs_X3_124  (c_X3_isSlot _ _ _) rfl rfl (Nat.le_of_ble_eq_true rfl) dX3_isAct_214 ⟨by decide, by decide, by decide, by decide⟩ (fun v M hp => ?_) (fun _ _ _ _ h => h.elim)
        obtain ⟨rfl, rfl⟩ := hp
        refine m_sti ?_
        refine m_ifeq X dX3_isAct_217 (t := 234) (by decide) (fun c_217 => ?_) (fun c_217 => ?_)
        · skip
          try simp only [bI_0, Bool.not_eq_false] at c_217
          refine m_iconst X dX3_isAct_234 (v := 0) (by decide) ?_
          exact m_zret X dX3_isAct_235 (by first | rfl | exact bI_nar) (by decide) (by decide) (by refine ⟨?_, rfl⟩; simp [isActN, bI, c_210, c_217])
        · skip
          try simp only [bI_0, Bool.not_eq_false] at c_217
          refine m_iload_n X dX3_isAct_220 rfl rfl ?_
          refine m_iconst X dX3_isAct_221 (v := 5) (by decide) ?_
          refine m_bipush X dX3_isAct_222 (v := 7) (by decide) ?_
          refine m_callS X cs_X3_103  (c_X3_in _ _ _ _ _) rfl rfl (Nat.le_of_ble_eq_true rfl) dX3_isAct_224 ⟨by decide, by decide, by decide, by decide⟩ (fun v M hp => ?_) (fun _ _ _ _ h => h.elim)
          obtain ⟨rfl, rfl⟩ := hp
          refine m_sti ?_
          refine m_ifeq X dX3_isAct_227 (t := 234) (by decide) (fun c_227 => ?_) (fun c_227 => ?_)
          · skip
            try simp only [bI_0, Bool.not_eq_false] at c_227
            refine m_iconst X dX3_isAct_234 (v := 0) (by decide) ?_
            exact m_zret X dX3_isAct_235 (by first | rfl | exact bI_nar) (by decide) (by decide) (by refine ⟨?_, rfl⟩; simp [isActN, bI, c_210, c_217, c_227])
          · skip
            try simp only [bI_0, Bool.not_eq_false] at c_227
            refine m_iconst X dX3_isAct_230 (v := 1) (by decide) ?_
            refine m_goto X dX3_isAct_231 (t := 235) (by decide) ?_
            exact m_zret X dX3_isAct_235 (by first | rfl | exact bI_nar) (by decide) (by decide) (by refine ⟨?_, rfl⟩; simp [isActN, bI, c_210, c_217, c_227])
    · skip
      subst ej_1
      rw [isActB_nI (by decide)]
      refine m_pc (pc' := 236) (by decide) ?_
      refine m_iload_n X dX3_isAct_236 rfl rfl ?_
      refine m_callS X cs_X3_124  (c_X3_isSlot _ _ _) rfl rfl (Nat.le_of_ble_eq_true rfl) dX3_isAct_237 ⟨by decide, by decide, by decide, by decide⟩ (fun v M hp => ?_) (fun _ _ _ _ h => h.elim)
      obtain ⟨rfl, rfl⟩ := hp
      refine m_sti ?_
      refine m_ifeq X dX3_isAct_240 (t := 265) (by decide) (fun c_240 => ?_) (fun c_240 => ?_)
      · skip
        try simp only [bI_0, Bool.not_eq_false] at c_240
        refine m_iconst X dX3_isAct_265 (v := 0) (by decide) ?_
        exact m_zret X dX3_isAct_266 (by first | rfl | exact bI_nar) (by decide) (by decide) (by refine ⟨?_, rfl⟩; simp [isActN, bI, c_240])
      · skip
        try simp only [bI_0, Bool.not_eq_false] at c_240
        refine m_iload_n X dX3_isAct_243 rfl rfl ?_
        refine m_iconst X dX3_isAct_244 (v := 5) (by decide) ?_
        refine m_bipush X dX3_isAct_245 (v := 7) (by decide) ?_
        refine m_callS X cs_X3_103  (c_X3_in _ _ _ _ _) rfl rfl (Nat.le_of_ble_eq_true rfl) dX3_isAct_247 ⟨by decide, by decide, by decide, by decide⟩ (fun v M hp => ?_) (fun _ _ _ _ h => h.elim)
        obtain ⟨rfl, rfl⟩ := hp
        refine m_sti ?_
        refine m_ifeq X dX3_isAct_250 (t := 265) (by decide) (fun c_250 => ?_) (fun c_250 => ?_)
        · skip
          try simp only [bI_0, Bool.not_eq_false] at c_250
          refine m_iconst X dX3_isAct_265 (v := 0) (by decide) ?_
          exact m_zret X dX3_isAct_266 (by first | rfl | exact bI_nar) (by decide) (by decide) (by refine ⟨?_, rfl⟩; simp [isActN, bI, c_240, c_250])
        · skip
          try simp only [bI_0, Bool.not_eq_false] at c_250
          refine m_iload X dX3_isAct_253 rfl ?_
          refine m_callS X cs_X3_124  (c_X3_isSlot _ _ _) rfl rfl (Nat.le_of_ble_eq_true rfl) dX3_isAct_255 ⟨by decide, by decide, by decide, by decide⟩ (fun v M hp => ?_) (fun _ _ _ _ h => h.elim)
          obtain ⟨rfl, rfl⟩ := hp
          refine m_sti ?_
          refine m_ifeq X dX3_isAct_258 (t := 265) (by decide) (fun c_258 => ?_) (fun c_258 => ?_)
          · skip
            try simp only [bI_0, Bool.not_eq_false] at c_258
            refine m_iconst X dX3_isAct_265 (v := 0) (by decide) ?_
            exact m_zret X dX3_isAct_266 (by first | rfl | exact bI_nar) (by decide) (by decide) (by refine ⟨?_, rfl⟩; simp [isActN, bI, c_240, c_250, c_258])
          · skip
            try simp only [bI_0, Bool.not_eq_false] at c_258
            refine m_iconst X dX3_isAct_261 (v := 1) (by decide) ?_
            refine m_goto X dX3_isAct_262 (t := 266) (by decide) ?_
            exact m_zret X dX3_isAct_266 (by first | rfl | exact bI_nar) (by decide) (by decide) (by refine ⟨?_, rfl⟩; simp [isActN, bI, c_240, c_250, c_258])
    · skip
      subst ej_1
      rw [isActB_nI (by decide)]
      refine m_pc (pc' := 267) (by decide) ?_
      refine m_iload_n X dX3_isAct_267 rfl rfl ?_
      refine m_callS X cs_X3_128  (c_X3_isRegister _ _ _) rfl rfl (Nat.le_of_ble_eq_true rfl) dX3_isAct_268 ⟨by decide, by decide, by decide, by decide⟩ (fun v M hp => ?_) (fun _ _ _ _ h => h.elim)
      obtain ⟨rfl, rfl⟩ := hp
      refine m_sti ?_
      refine m_ifeq X dX3_isAct_271 (t := 295) (by decide) (fun c_271 => ?_) (fun c_271 => ?_)
      · skip
        try simp only [bI_0, Bool.not_eq_false] at c_271
        refine m_iconst X dX3_isAct_295 (v := 0) (by decide) ?_
        exact m_zret X dX3_isAct_296 (by first | rfl | exact bI_nar) (by decide) (by decide) (by refine ⟨?_, rfl⟩; simp [isActN, bI, c_271])
      · skip
        try simp only [bI_0, Bool.not_eq_false] at c_271
        refine m_iload_n X dX3_isAct_274 rfl rfl ?_
        refine m_callS X cs_X3_124  (c_X3_isSlot _ _ _) rfl rfl (Nat.le_of_ble_eq_true rfl) dX3_isAct_275 ⟨by decide, by decide, by decide, by decide⟩ (fun v M hp => ?_) (fun _ _ _ _ h => h.elim)
        obtain ⟨rfl, rfl⟩ := hp
        refine m_sti ?_
        refine m_ifeq X dX3_isAct_278 (t := 295) (by decide) (fun c_278 => ?_) (fun c_278 => ?_)
        · skip
          try simp only [bI_0, Bool.not_eq_false] at c_278
          refine m_iconst X dX3_isAct_295 (v := 0) (by decide) ?_
          exact m_zret X dX3_isAct_296 (by first | rfl | exact bI_nar) (by decide) (by decide) (by refine ⟨?_, rfl⟩; simp [isActN, bI, c_271, c_278])
        · skip
          try simp only [bI_0, Bool.not_eq_false] at c_278
          refine m_iload_n X dX3_isAct_281 rfl rfl ?_
          refine m_iconst X dX3_isAct_282 (v := 1) (by decide) ?_
          refine m_bipush X dX3_isAct_283 (v := 7) (by decide) ?_
          refine m_callS X cs_X3_103  (c_X3_in _ _ _ _ _) rfl rfl (Nat.le_of_ble_eq_true rfl) dX3_isAct_285 ⟨by decide, by decide, by decide, by decide⟩ (fun v M hp => ?_) (fun _ _ _ _ h => h.elim)
          obtain ⟨rfl, rfl⟩ := hp
          refine m_sti ?_
          refine m_ifeq X dX3_isAct_288 (t := 295) (by decide) (fun c_288 => ?_) (fun c_288 => ?_)
          · skip
            try simp only [bI_0, Bool.not_eq_false] at c_288
            refine m_iconst X dX3_isAct_295 (v := 0) (by decide) ?_
            exact m_zret X dX3_isAct_296 (by first | rfl | exact bI_nar) (by decide) (by decide) (by refine ⟨?_, rfl⟩; simp [isActN, bI, c_271, c_278, c_288])
          · skip
            try simp only [bI_0, Bool.not_eq_false] at c_288
            refine m_iconst X dX3_isAct_291 (v := 1) (by decide) ?_
            refine m_goto X dX3_isAct_292 (t := 296) (by decide) ?_
            exact m_zret X dX3_isAct_296 (by first | rfl | exact bI_nar) (by decide) (by decide) (by refine ⟨?_, rfl⟩; simp [isActN, bI, c_271, c_278, c_288])
    · skip
      subst ej_1
      rw [isActB_nI (by decide)]
      refine m_pc (pc' := 297) (by decide) ?_
      refine m_iload_n X dX3_isAct_297 rfl rfl ?_
      refine m_callS X cs_X3_124  (c_X3_isSlot _ _ _) rfl rfl (Nat.le_of_ble_eq_true rfl) dX3_isAct_298 ⟨by decide, by decide, by decide, by decide⟩ (fun v M hp => ?_) (fun _ _ _ _ h => h.elim)
      obtain ⟨rfl, rfl⟩ := hp
      refine m_sti ?_
      refine m_ifeq X dX3_isAct_301 (t := 315) (by decide) (fun c_301 => ?_) (fun c_301 => ?_)
      · skip
        try simp only [bI_0, Bool.not_eq_false] at c_301
        refine m_iconst X dX3_isAct_315 (v := 0) (by decide) ?_
        exact m_zret X dX3_isAct_316 (by first | rfl | exact bI_nar) (by decide) (by decide) (by refine ⟨?_, rfl⟩; simp [isActN, bI, c_301])
      · skip
        try simp only [bI_0, Bool.not_eq_false] at c_301
        refine m_iload_n X dX3_isAct_304 rfl rfl ?_
        refine m_callS X cs_X3_124  (c_X3_isSlot _ _ _) rfl rfl (Nat.le_of_ble_eq_true rfl) dX3_isAct_305 ⟨by decide, by decide, by decide, by decide⟩ (fun v M hp => ?_) (fun _ _ _ _ h => h.elim)
        obtain ⟨rfl, rfl⟩ := hp
        refine m_sti ?_
        refine m_ifeq X dX3_isAct_308 (t := 315) (by decide) (fun c_308 => ?_) (fun c_308 => ?_)
        · skip
          try simp only [bI_0, Bool.not_eq_false] at c_308
          refine m_iconst X dX3_isAct_315 (v := 0) (by decide) ?_
          exact m_zret X dX3_isAct_316 (by first | rfl | exact bI_nar) (by decide) (by decide) (by refine ⟨?_, rfl⟩; simp [isActN, bI, c_301, c_308])
        · skip
          try simp only [bI_0, Bool.not_eq_false] at c_308
          refine m_iconst X dX3_isAct_311 (v := 1) (by decide) ?_
          refine m_goto X dX3_isAct_312 (t := 316) (by decide) ?_
          exact m_zret X dX3_isAct_316 (by first | rfl | exact bI_nar) (by decide) (by decide) (by refine ⟨?_, rfl⟩; simp [isActN, bI, c_301, c_308])
    · skip
      subst ej_1
      rw [isActB_nI (by decide)]
      refine m_pc (pc' := 317) (by decide) ?_
      refine m_iload_n X dX3_isAct_317 rfl rfl ?_
      refine m_callS X cs_X3_128  (c_X3_isRegister _ _ _) rfl rfl (Nat.le_of_ble_eq_true rfl) dX3_isAct_318 ⟨by decide, by decide, by decide, by decide⟩ (fun v M hp => ?_) (fun _ _ _ _ h => h.elim)
      obtain ⟨rfl, rfl⟩ := hp
      refine m_sti ?_
      refine m_ifeq X dX3_isAct_321 (t := 335) (by decide) (fun c_321 => ?_) (fun c_321 => ?_)
      · skip
        try simp only [bI_0, Bool.not_eq_false] at c_321
        refine m_iconst X dX3_isAct_335 (v := 0) (by decide) ?_
        exact m_zret X dX3_isAct_336 (by first | rfl | exact bI_nar) (by decide) (by decide) (by refine ⟨?_, rfl⟩; simp [isActN, bI, c_321])
      · skip
        try simp only [bI_0, Bool.not_eq_false] at c_321
        refine m_iload_n X dX3_isAct_324 rfl rfl ?_
        refine m_callS X cs_X3_124  (c_X3_isSlot _ _ _) rfl rfl (Nat.le_of_ble_eq_true rfl) dX3_isAct_325 ⟨by decide, by decide, by decide, by decide⟩ (fun v M hp => ?_) (fun _ _ _ _ h => h.elim)
        obtain ⟨rfl, rfl⟩ := hp
        refine m_sti ?_
        refine m_ifeq X dX3_isAct_328 (t := 335) (by decide) (fun c_328 => ?_) (fun c_328 => ?_)
        · skip
          try simp only [bI_0, Bool.not_eq_false] at c_328
          refine m_iconst X dX3_isAct_335 (v := 0) (by decide) ?_
          exact m_zret X dX3_isAct_336 (by first | rfl | exact bI_nar) (by decide) (by decide) (by refine ⟨?_, rfl⟩; simp [isActN, bI, c_321, c_328])
        · skip
          try simp only [bI_0, Bool.not_eq_false] at c_328
          refine m_iconst X dX3_isAct_331 (v := 1) (by decide) ?_
          refine m_goto X dX3_isAct_332 (t := 336) (by decide) ?_
          exact m_zret X dX3_isAct_336 (by first | rfl | exact bI_nar) (by decide) (by decide) (by refine ⟨?_, rfl⟩; simp [isActN, bI, c_321, c_328])
    · skip
      subst ej_1
      rw [isActB_nI (by decide)]
      refine m_pc (pc' := 337) (by decide) ?_
      refine m_iload_n X dX3_isAct_337 rfl rfl ?_
      refine m_callS X cs_X3_124  (c_X3_isSlot _ _ _) rfl rfl (Nat.le_of_ble_eq_true rfl) dX3_isAct_338 ⟨by decide, by decide, by decide, by decide⟩ (fun v M hp => ?_) (fun _ _ _ _ h => h.elim)
      obtain ⟨rfl, rfl⟩ := hp
      refine m_sti ?_
      refine m_ifeq X dX3_isAct_341 (t := 355) (by decide) (fun c_341 => ?_) (fun c_341 => ?_)
      · skip
        try simp only [bI_0, Bool.not_eq_false] at c_341
        refine m_iconst X dX3_isAct_355 (v := 0) (by decide) ?_
        exact m_zret X dX3_isAct_356 (by first | rfl | exact bI_nar) (by decide) (by decide) (by refine ⟨?_, rfl⟩; simp [isActN, bI, c_341])
      · skip
        try simp only [bI_0, Bool.not_eq_false] at c_341
        refine m_iload_n X dX3_isAct_344 rfl rfl ?_
        refine m_callS X cs_X3_124  (c_X3_isSlot _ _ _) rfl rfl (Nat.le_of_ble_eq_true rfl) dX3_isAct_345 ⟨by decide, by decide, by decide, by decide⟩ (fun v M hp => ?_) (fun _ _ _ _ h => h.elim)
        obtain ⟨rfl, rfl⟩ := hp
        refine m_sti ?_
        refine m_ifeq X dX3_isAct_348 (t := 355) (by decide) (fun c_348 => ?_) (fun c_348 => ?_)
        · skip
          try simp only [bI_0, Bool.not_eq_false] at c_348
          refine m_iconst X dX3_isAct_355 (v := 0) (by decide) ?_
          exact m_zret X dX3_isAct_356 (by first | rfl | exact bI_nar) (by decide) (by decide) (by refine ⟨?_, rfl⟩; simp [isActN, bI, c_341, c_348])
        · skip
          try simp only [bI_0, Bool.not_eq_false] at c_348
          refine m_iconst X dX3_isAct_351 (v := 1) (by decide) ?_
          refine m_goto X dX3_isAct_352 (t := 356) (by decide) ?_
          exact m_zret X dX3_isAct_356 (by first | rfl | exact bI_nar) (by decide) (by decide) (by refine ⟨?_, rfl⟩; simp [isActN, bI, c_341, c_348])
    · skip
      subst ej_1
      rw [isActB_nI (by decide)]
      refine m_pc (pc' := 357) (by decide) ?_
      refine m_iload_n X dX3_isAct_357 rfl rfl ?_
      refine m_callS X cs_X3_128  (c_X3_isRegister _ _ _) rfl rfl (Nat.le_of_ble_eq_true rfl) dX3_isAct_358 ⟨by decide, by decide, by decide, by decide⟩ (fun v M hp => ?_) (fun _ _ _ _ h => h.elim)
      obtain ⟨rfl, rfl⟩ := hp
      refine m_sti ?_
      exact m_zret X dX3_isAct_361 (by first | rfl | exact bI_nar) (by decide) (by decide) (by refine ⟨?_, rfl⟩; simp [isActN, bI])
    · skip
      subst ej_1
      rw [isActB_nI (by decide)]
      refine m_pc (pc' := 362) (by decide) ?_
      refine m_iload_n X dX3_isAct_362 rfl rfl ?_
      refine m_callS X cs_X3_128  (c_X3_isRegister _ _ _) rfl rfl (Nat.le_of_ble_eq_true rfl) dX3_isAct_363 ⟨by decide, by decide, by decide, by decide⟩ (fun v M hp => ?_) (fun _ _ _ _ h => h.elim)
      obtain ⟨rfl, rfl⟩ := hp
      refine m_sti ?_
      refine m_ifeq X dX3_isAct_366 (t := 387) (by decide) (fun c_366 => ?_) (fun c_366 => ?_)
      · skip
        try simp only [bI_0, Bool.not_eq_false] at c_366
        refine m_iconst X dX3_isAct_387 (v := 0) (by decide) ?_
        exact m_zret X dX3_isAct_388 (by first | rfl | exact bI_nar) (by decide) (by decide) (by refine ⟨?_, rfl⟩; simp [isActN, bI, c_366])
      · skip
        try simp only [bI_0, Bool.not_eq_false] at c_366
        refine m_iload_n X dX3_isAct_369 rfl rfl ?_
        refine m_callS X cs_X3_128  (c_X3_isRegister _ _ _) rfl rfl (Nat.le_of_ble_eq_true rfl) dX3_isAct_370 ⟨by decide, by decide, by decide, by decide⟩ (fun v M hp => ?_) (fun _ _ _ _ h => h.elim)
        obtain ⟨rfl, rfl⟩ := hp
        refine m_sti ?_
        refine m_ifeq X dX3_isAct_373 (t := 387) (by decide) (fun c_373 => ?_) (fun c_373 => ?_)
        · skip
          try simp only [bI_0, Bool.not_eq_false] at c_373
          refine m_iconst X dX3_isAct_387 (v := 0) (by decide) ?_
          exact m_zret X dX3_isAct_388 (by first | rfl | exact bI_nar) (by decide) (by decide) (by refine ⟨?_, rfl⟩; simp [isActN, bI, c_366, c_373])
        · skip
          try simp only [bI_0, Bool.not_eq_false] at c_373
          refine m_iload_n X dX3_isAct_376 rfl rfl ?_
          refine m_callS X cs_X3_128  (c_X3_isRegister _ _ _) rfl rfl (Nat.le_of_ble_eq_true rfl) dX3_isAct_377 ⟨by decide, by decide, by decide, by decide⟩ (fun v M hp => ?_) (fun _ _ _ _ h => h.elim)
          obtain ⟨rfl, rfl⟩ := hp
          refine m_sti ?_
          refine m_ifeq X dX3_isAct_380 (t := 387) (by decide) (fun c_380 => ?_) (fun c_380 => ?_)
          · skip
            try simp only [bI_0, Bool.not_eq_false] at c_380
            refine m_iconst X dX3_isAct_387 (v := 0) (by decide) ?_
            exact m_zret X dX3_isAct_388 (by first | rfl | exact bI_nar) (by decide) (by decide) (by refine ⟨?_, rfl⟩; simp [isActN, bI, c_366, c_373, c_380])
          · skip
            try simp only [bI_0, Bool.not_eq_false] at c_380
            refine m_iconst X dX3_isAct_383 (v := 1) (by decide) ?_
            refine m_goto X dX3_isAct_384 (t := 388) (by decide) ?_
            exact m_zret X dX3_isAct_388 (by first | rfl | exact bI_nar) (by decide) (by decide) (by refine ⟨?_, rfl⟩; simp [isActN, bI, c_366, c_373, c_380])
    · skip
      subst ej_1
      rw [isActB_nI (by decide)]
      refine m_pc (pc' := 362) (by decide) ?_
      refine m_iload_n X dX3_isAct_362 rfl rfl ?_
      refine m_callS X cs_X3_128  (c_X3_isRegister _ _ _) rfl rfl (Nat.le_of_ble_eq_true rfl) dX3_isAct_363 ⟨by decide, by decide, by decide, by decide⟩ (fun v M hp => ?_) (fun _ _ _ _ h => h.elim)
      obtain ⟨rfl, rfl⟩ := hp
      refine m_sti ?_
      refine m_ifeq X dX3_isAct_366 (t := 387) (by decide) (fun c_366 => ?_) (fun c_366 => ?_)
      · skip
        try simp only [bI_0, Bool.not_eq_false] at c_366
        refine m_iconst X dX3_isAct_387 (v := 0) (by decide) ?_
        exact m_zret X dX3_isAct_388 (by first | rfl | exact bI_nar) (by decide) (by decide) (by refine ⟨?_, rfl⟩; simp [isActN, bI, c_366])
      · skip
        try simp only [bI_0, Bool.not_eq_false] at c_366
        refine m_iload_n X dX3_isAct_369 rfl rfl ?_
        refine m_callS X cs_X3_128  (c_X3_isRegister _ _ _) rfl rfl (Nat.le_of_ble_eq_true rfl) dX3_isAct_370 ⟨by decide, by decide, by decide, by decide⟩ (fun v M hp => ?_) (fun _ _ _ _ h => h.elim)
        obtain ⟨rfl, rfl⟩ := hp
        refine m_sti ?_
        refine m_ifeq X dX3_isAct_373 (t := 387) (by decide) (fun c_373 => ?_) (fun c_373 => ?_)
        · skip
          try simp only [bI_0, Bool.not_eq_false] at c_373
          refine m_iconst X dX3_isAct_387 (v := 0) (by decide) ?_
          exact m_zret X dX3_isAct_388 (by first | rfl | exact bI_nar) (by decide) (by decide) (by refine ⟨?_, rfl⟩; simp [isActN, bI, c_366, c_373])
        · skip
          try simp only [bI_0, Bool.not_eq_false] at c_373
          refine m_iload_n X dX3_isAct_376 rfl rfl ?_
          refine m_callS X cs_X3_128  (c_X3_isRegister _ _ _) rfl rfl (Nat.le_of_ble_eq_true rfl) dX3_isAct_377 ⟨by decide, by decide, by decide, by decide⟩ (fun v M hp => ?_) (fun _ _ _ _ h => h.elim)
          obtain ⟨rfl, rfl⟩ := hp
          refine m_sti ?_
          refine m_ifeq X dX3_isAct_380 (t := 387) (by decide) (fun c_380 => ?_) (fun c_380 => ?_)
          · skip
            try simp only [bI_0, Bool.not_eq_false] at c_380
            refine m_iconst X dX3_isAct_387 (v := 0) (by decide) ?_
            exact m_zret X dX3_isAct_388 (by first | rfl | exact bI_nar) (by decide) (by decide) (by refine ⟨?_, rfl⟩; simp [isActN, bI, c_366, c_373, c_380])
          · skip
            try simp only [bI_0, Bool.not_eq_false] at c_380
            refine m_iconst X dX3_isAct_383 (v := 1) (by decide) ?_
            refine m_goto X dX3_isAct_384 (t := 388) (by decide) ?_
            exact m_zret X dX3_isAct_388 (by first | rfl | exact bI_nar) (by decide) (by decide) (by refine ⟨?_, rfl⟩; simp [isActN, bI, c_366, c_373, c_380])
    · skip
      subst ej_1
      rw [isActB_nI (by decide)]
      refine m_pc (pc' := 362) (by decide) ?_
      refine m_iload_n X dX3_isAct_362 rfl rfl ?_
      refine m_callS X cs_X3_128  (c_X3_isRegister _ _ _) rfl rfl (Nat.le_of_ble_eq_true rfl) dX3_isAct_363 ⟨by decide, by decide, by decide, by decide⟩ (fun v M hp => ?_) (fun _ _ _ _ h => h.elim)
      obtain ⟨rfl, rfl⟩ := hp
      refine m_sti ?_
      refine m_ifeq X dX3_isAct_366 (t := 387) (by decide) (fun c_366 => ?_) (fun c_366 => ?_)
      · skip
        try simp only [bI_0, Bool.not_eq_false] at c_366
        refine m_iconst X dX3_isAct_387 (v := 0) (by decide) ?_
        exact m_zret X dX3_isAct_388 (by first | rfl | exact bI_nar) (by decide) (by decide) (by refine ⟨?_, rfl⟩; simp [isActN, bI, c_366])
      · skip
        try simp only [bI_0, Bool.not_eq_false] at c_366
        refine m_iload_n X dX3_isAct_369 rfl rfl ?_
        refine m_callS X cs_X3_128  (c_X3_isRegister _ _ _) rfl rfl (Nat.le_of_ble_eq_true rfl) dX3_isAct_370 ⟨by decide, by decide, by decide, by decide⟩ (fun v M hp => ?_) (fun _ _ _ _ h => h.elim)
        obtain ⟨rfl, rfl⟩ := hp
        refine m_sti ?_
        refine m_ifeq X dX3_isAct_373 (t := 387) (by decide) (fun c_373 => ?_) (fun c_373 => ?_)
        · skip
          try simp only [bI_0, Bool.not_eq_false] at c_373
          refine m_iconst X dX3_isAct_387 (v := 0) (by decide) ?_
          exact m_zret X dX3_isAct_388 (by first | rfl | exact bI_nar) (by decide) (by decide) (by refine ⟨?_, rfl⟩; simp [isActN, bI, c_366, c_373])
        · skip
          try simp only [bI_0, Bool.not_eq_false] at c_373
          refine m_iload_n X dX3_isAct_376 rfl rfl ?_
          refine m_callS X cs_X3_128  (c_X3_isRegister _ _ _) rfl rfl (Nat.le_of_ble_eq_true rfl) dX3_isAct_377 ⟨by decide, by decide, by decide, by decide⟩ (fun v M hp => ?_) (fun _ _ _ _ h => h.elim)
          obtain ⟨rfl, rfl⟩ := hp
          refine m_sti ?_
          refine m_ifeq X dX3_isAct_380 (t := 387) (by decide) (fun c_380 => ?_) (fun c_380 => ?_)
          · skip
            try simp only [bI_0, Bool.not_eq_false] at c_380
            refine m_iconst X dX3_isAct_387 (v := 0) (by decide) ?_
            exact m_zret X dX3_isAct_388 (by first | rfl | exact bI_nar) (by decide) (by decide) (by refine ⟨?_, rfl⟩; simp [isActN, bI, c_366, c_373, c_380])
          · skip
            try simp only [bI_0, Bool.not_eq_false] at c_380
            refine m_iconst X dX3_isAct_383 (v := 1) (by decide) ?_
            refine m_goto X dX3_isAct_384 (t := 388) (by decide) ?_
            exact m_zret X dX3_isAct_388 (by first | rfl | exact bI_nar) (by decide) (by decide) (by refine ⟨?_, rfl⟩; simp [isActN, bI, c_366, c_373, c_380])
  · skip
    refine m_iload_n X dX3_isAct_389 rfl rfl ?_
    refine m_bipush X dX3_isAct_390 (v := 17) (by decide) ?_
    refine m_icmpne X dX3_isAct_392 (t := 399) (by decide) (fun c_392 => ?_) (fun c_392 => ?_)
    · skip
      refine m_iconst X dX3_isAct_399 (v := 0) (by decide) ?_
      exact m_zret X dX3_isAct_400 (by first | rfl | exact bI_nar) (by decide) (by decide) (by refine ⟨?_, rfl⟩; first | (rw [isActB_out ho_1 c_392]; rfl) | (rw [c_392]; rfl))
    · skip
      refine m_iconst X dX3_isAct_395 (v := 1) (by decide) ?_
      refine m_goto X dX3_isAct_396 (t := 400) (by decide) ?_
      exact m_zret X dX3_isAct_400 (by first | rfl | exact bI_nar) (by decide) (by decide) (by refine ⟨?_, rfl⟩; first | (rw [isActB_out ho_1 c_392]; rfl) | (rw [c_392]; rfl))
set_option maxHeartbeats 4000000 in
theorem c_X0_isAct (G : GX) (M : Mem) (op a b c d : Int32) : Con G yX0_isAct wX0_isAct (rmm 2 42) [.int op, .int a, .int b, .int c, .int d] M (fun r M' => r = some (.int (bI (isActB op a b c d))) ∧ M' = M) nX := by
  refine Con.mk (by decide) rfl [(0, some (.int op)), (1, some (.int a)), (2, some (.int b)), (3, some (.int c)), (4, some (.int d))] rfl fun x X hno => ?_
  refine m_iload_n X dX0_isAct_0 rfl rfl ?_
  refine m_tsw X dX0_isAct_1 (l0 := 0) (N := 17) (t := 389) (by decide) rfl (by decide) rfl (by decide) (by decide) (fun j_1 hj_1 ej_1 => ?_) (fun ho_1 => ?_)
  · skip
    have hk_1 : j_1 = 0 ∨ j_1 = 1 ∨ j_1 = 2 ∨ j_1 = 3 ∨ j_1 = 4 ∨ j_1 = 5 ∨ j_1 = 6 ∨ j_1 = 7 ∨ j_1 = 8 ∨ j_1 = 9 ∨ j_1 = 10 ∨ j_1 = 11 ∨ j_1 = 12 ∨ j_1 = 13 ∨ j_1 = 14 ∨ j_1 = 15 ∨ j_1 = 16 := by omega
    rcases hk_1 with rfl | rfl | rfl | rfl | rfl | rfl | rfl | rfl | rfl | rfl | rfl | rfl | rfl | rfl | rfl | rfl | rfl
    · skip
      subst ej_1
      rw [isActB_nI (by decide)]
      refine m_pc (pc' := 84) (by decide) ?_
      refine m_iload_n X dX0_isAct_84 rfl rfl ?_
      refine m_callS X cs_X0_80  (c_X0_isSlot _ _ _) rfl rfl (Nat.le_of_ble_eq_true rfl) dX0_isAct_85 ⟨by decide, by decide, by decide, by decide⟩ (fun v M hp => ?_) (fun _ _ _ _ h => h.elim)
      obtain ⟨rfl, rfl⟩ := hp
      refine m_sti ?_
      refine m_ifeq X dX0_isAct_88 (t := 110) (by decide) (fun c_88 => ?_) (fun c_88 => ?_)
      · skip
        try simp only [bI_0, Bool.not_eq_false] at c_88
        refine m_iconst X dX0_isAct_110 (v := 0) (by decide) ?_
        exact m_zret X dX0_isAct_111 (by first | rfl | exact bI_nar) (by decide) (by decide) (by refine ⟨?_, rfl⟩; simp [isActN, bI, c_88])
      · skip
        try simp only [bI_0, Bool.not_eq_false] at c_88
        refine m_iload_n X dX0_isAct_91 rfl rfl ?_
        refine m_iconst X dX0_isAct_92 (v := 1) (by decide) ?_
        refine m_bipush X dX0_isAct_93 (v := 7) (by decide) ?_
        refine m_callS X cs_X0_73  (c_X0_in _ _ _ _ _) rfl rfl (Nat.le_of_ble_eq_true rfl) dX0_isAct_95 ⟨by decide, by decide, by decide, by decide⟩ (fun v M hp => ?_) (fun _ _ _ _ h => h.elim)
        obtain ⟨rfl, rfl⟩ := hp
        refine m_sti ?_
        refine m_ifeq X dX0_isAct_98 (t := 110) (by decide) (fun c_98 => ?_) (fun c_98 => ?_)
        · skip
          try simp only [bI_0, Bool.not_eq_false] at c_98
          refine m_iconst X dX0_isAct_110 (v := 0) (by decide) ?_
          exact m_zret X dX0_isAct_111 (by first | rfl | exact bI_nar) (by decide) (by decide) (by refine ⟨?_, rfl⟩; simp [isActN, bI, c_88, c_98])
        · skip
          try simp only [bI_0, Bool.not_eq_false] at c_98
          refine m_iload_n X dX0_isAct_101 rfl rfl ?_
          refine m_iconst X dX0_isAct_102 (v := 5) (by decide) ?_
          refine m_icmpeq X dX0_isAct_103 (t := 110) (by decide) (fun c_103 => ?_) (fun c_103 => ?_)
          · skip
            refine m_iconst X dX0_isAct_110 (v := 0) (by decide) ?_
            exact m_zret X dX0_isAct_111 (by first | rfl | exact bI_nar) (by decide) (by decide) (by refine ⟨?_, rfl⟩; simp [isActN, bI, c_88, c_98, c_103])
          · skip
            refine m_iconst X dX0_isAct_106 (v := 1) (by decide) ?_
            refine m_goto X dX0_isAct_107 (t := 111) (by decide) ?_
            exact m_zret X dX0_isAct_111 (by first | rfl | exact bI_nar) (by decide) (by decide) (by refine ⟨?_, rfl⟩; simp [isActN, bI, c_88, c_98, c_103])
    · skip
      subst ej_1
      rw [isActB_nI (by decide)]
      refine m_pc (pc' := 112) (by decide) ?_
      refine m_iload_n X dX0_isAct_112 rfl rfl ?_
      refine m_callS X cs_X0_80  (c_X0_isSlot _ _ _) rfl rfl (Nat.le_of_ble_eq_true rfl) dX0_isAct_113 ⟨by decide, by decide, by decide, by decide⟩ (fun v M hp => ?_) (fun _ _ _ _ h => h.elim)
      obtain ⟨rfl, rfl⟩ := hp
      refine m_sti ?_
      exact m_zret X dX0_isAct_116 (by first | rfl | exact bI_nar) (by decide) (by decide) (by refine ⟨?_, rfl⟩; simp [isActN, bI])
    · skip
      subst ej_1
      rw [isActB_nI (by decide)]
      refine m_pc (pc' := 112) (by decide) ?_
      refine m_iload_n X dX0_isAct_112 rfl rfl ?_
      refine m_callS X cs_X0_80  (c_X0_isSlot _ _ _) rfl rfl (Nat.le_of_ble_eq_true rfl) dX0_isAct_113 ⟨by decide, by decide, by decide, by decide⟩ (fun v M hp => ?_) (fun _ _ _ _ h => h.elim)
      obtain ⟨rfl, rfl⟩ := hp
      refine m_sti ?_
      exact m_zret X dX0_isAct_116 (by first | rfl | exact bI_nar) (by decide) (by decide) (by refine ⟨?_, rfl⟩; simp [isActN, bI])
    · skip
      subst ej_1
      rw [isActB_nI (by decide)]
      refine m_pc (pc' := 112) (by decide) ?_
      refine m_iload_n X dX0_isAct_112 rfl rfl ?_
      refine m_callS X cs_X0_80  (c_X0_isSlot _ _ _) rfl rfl (Nat.le_of_ble_eq_true rfl) dX0_isAct_113 ⟨by decide, by decide, by decide, by decide⟩ (fun v M hp => ?_) (fun _ _ _ _ h => h.elim)
      obtain ⟨rfl, rfl⟩ := hp
      refine m_sti ?_
      exact m_zret X dX0_isAct_116 (by first | rfl | exact bI_nar) (by decide) (by decide) (by refine ⟨?_, rfl⟩; simp [isActN, bI])
    · skip
      subst ej_1
      rw [isActB_nI (by decide)]
      refine m_pc (pc' := 117) (by decide) ?_
      refine m_iload_n X dX0_isAct_117 rfl rfl ?_
      refine m_callS X cs_X0_80  (c_X0_isSlot _ _ _) rfl rfl (Nat.le_of_ble_eq_true rfl) dX0_isAct_118 ⟨by decide, by decide, by decide, by decide⟩ (fun v M hp => ?_) (fun _ _ _ _ h => h.elim)
      obtain ⟨rfl, rfl⟩ := hp
      refine m_sti ?_
      refine m_ifeq X dX0_isAct_121 (t := 145) (by decide) (fun c_121 => ?_) (fun c_121 => ?_)
      · skip
        try simp only [bI_0, Bool.not_eq_false] at c_121
        refine m_iconst X dX0_isAct_145 (v := 0) (by decide) ?_
        exact m_zret X dX0_isAct_146 (by first | rfl | exact bI_nar) (by decide) (by decide) (by refine ⟨?_, rfl⟩; simp [isActN, bI, c_121])
      · skip
        try simp only [bI_0, Bool.not_eq_false] at c_121
        refine m_iload_n X dX0_isAct_124 rfl rfl ?_
        refine m_callS X cs_X0_80  (c_X0_isSlot _ _ _) rfl rfl (Nat.le_of_ble_eq_true rfl) dX0_isAct_125 ⟨by decide, by decide, by decide, by decide⟩ (fun v M hp => ?_) (fun _ _ _ _ h => h.elim)
        obtain ⟨rfl, rfl⟩ := hp
        refine m_sti ?_
        refine m_ifeq X dX0_isAct_128 (t := 145) (by decide) (fun c_128 => ?_) (fun c_128 => ?_)
        · skip
          try simp only [bI_0, Bool.not_eq_false] at c_128
          refine m_iconst X dX0_isAct_145 (v := 0) (by decide) ?_
          exact m_zret X dX0_isAct_146 (by first | rfl | exact bI_nar) (by decide) (by decide) (by refine ⟨?_, rfl⟩; simp [isActN, bI, c_121, c_128])
        · skip
          try simp only [bI_0, Bool.not_eq_false] at c_128
          refine m_iload_n X dX0_isAct_131 rfl rfl ?_
          refine m_iconst X dX0_isAct_132 (v := 0) (by decide) ?_
          refine m_bipush X dX0_isAct_133 (v := 9) (by decide) ?_
          refine m_callS X cs_X0_73  (c_X0_in _ _ _ _ _) rfl rfl (Nat.le_of_ble_eq_true rfl) dX0_isAct_135 ⟨by decide, by decide, by decide, by decide⟩ (fun v M hp => ?_) (fun _ _ _ _ h => h.elim)
          obtain ⟨rfl, rfl⟩ := hp
          refine m_sti ?_
          refine m_ifeq X dX0_isAct_138 (t := 145) (by decide) (fun c_138 => ?_) (fun c_138 => ?_)
          · skip
            try simp only [bI_0, Bool.not_eq_false] at c_138
            refine m_iconst X dX0_isAct_145 (v := 0) (by decide) ?_
            exact m_zret X dX0_isAct_146 (by first | rfl | exact bI_nar) (by decide) (by decide) (by refine ⟨?_, rfl⟩; simp [isActN, bI, c_121, c_128, c_138])
          · skip
            try simp only [bI_0, Bool.not_eq_false] at c_138
            refine m_iconst X dX0_isAct_141 (v := 1) (by decide) ?_
            refine m_goto X dX0_isAct_142 (t := 146) (by decide) ?_
            exact m_zret X dX0_isAct_146 (by first | rfl | exact bI_nar) (by decide) (by decide) (by refine ⟨?_, rfl⟩; simp [isActN, bI, c_121, c_128, c_138])
    · skip
      subst ej_1
      rw [isActB_nI (by decide)]
      refine m_pc (pc' := 147) (by decide) ?_
      refine m_iload_n X dX0_isAct_147 rfl rfl ?_
      refine m_callS X cs_X0_84  (c_X0_isRegister _ _ _) rfl rfl (Nat.le_of_ble_eq_true rfl) dX0_isAct_148 ⟨by decide, by decide, by decide, by decide⟩ (fun v M hp => ?_) (fun _ _ _ _ h => h.elim)
      obtain ⟨rfl, rfl⟩ := hp
      refine m_sti ?_
      refine m_ifeq X dX0_isAct_151 (t := 174) (by decide) (fun c_151 => ?_) (fun c_151 => ?_)
      · skip
        try simp only [bI_0, Bool.not_eq_false] at c_151
        refine m_iconst X dX0_isAct_174 (v := 0) (by decide) ?_
        exact m_zret X dX0_isAct_175 (by first | rfl | exact bI_nar) (by decide) (by decide) (by refine ⟨?_, rfl⟩; simp [isActN, bI, c_151])
      · skip
        try simp only [bI_0, Bool.not_eq_false] at c_151
        refine m_iload_n X dX0_isAct_154 rfl rfl ?_
        refine m_callS X cs_X0_80  (c_X0_isSlot _ _ _) rfl rfl (Nat.le_of_ble_eq_true rfl) dX0_isAct_155 ⟨by decide, by decide, by decide, by decide⟩ (fun v M hp => ?_) (fun _ _ _ _ h => h.elim)
        obtain ⟨rfl, rfl⟩ := hp
        refine m_sti ?_
        refine m_ifeq X dX0_isAct_158 (t := 174) (by decide) (fun c_158 => ?_) (fun c_158 => ?_)
        · skip
          try simp only [bI_0, Bool.not_eq_false] at c_158
          refine m_iconst X dX0_isAct_174 (v := 0) (by decide) ?_
          exact m_zret X dX0_isAct_175 (by first | rfl | exact bI_nar) (by decide) (by decide) (by refine ⟨?_, rfl⟩; simp [isActN, bI, c_151, c_158])
        · skip
          try simp only [bI_0, Bool.not_eq_false] at c_158
          refine m_iload_n X dX0_isAct_161 rfl rfl ?_
          refine m_iconst X dX0_isAct_162 (v := 1) (by decide) ?_
          refine m_iconst X dX0_isAct_163 (v := 4) (by decide) ?_
          refine m_callS X cs_X0_73  (c_X0_in _ _ _ _ _) rfl rfl (Nat.le_of_ble_eq_true rfl) dX0_isAct_164 ⟨by decide, by decide, by decide, by decide⟩ (fun v M hp => ?_) (fun _ _ _ _ h => h.elim)
          obtain ⟨rfl, rfl⟩ := hp
          refine m_sti ?_
          refine m_ifeq X dX0_isAct_167 (t := 174) (by decide) (fun c_167 => ?_) (fun c_167 => ?_)
          · skip
            try simp only [bI_0, Bool.not_eq_false] at c_167
            refine m_iconst X dX0_isAct_174 (v := 0) (by decide) ?_
            exact m_zret X dX0_isAct_175 (by first | rfl | exact bI_nar) (by decide) (by decide) (by refine ⟨?_, rfl⟩; simp [isActN, bI, c_151, c_158, c_167])
          · skip
            try simp only [bI_0, Bool.not_eq_false] at c_167
            refine m_iconst X dX0_isAct_170 (v := 1) (by decide) ?_
            refine m_goto X dX0_isAct_171 (t := 175) (by decide) ?_
            exact m_zret X dX0_isAct_175 (by first | rfl | exact bI_nar) (by decide) (by decide) (by refine ⟨?_, rfl⟩; simp [isActN, bI, c_151, c_158, c_167])
    · skip
      subst ej_1
      rw [isActB_nI (by decide)]
      refine m_pc (pc' := 176) (by decide) ?_
      refine m_iload_n X dX0_isAct_176 rfl rfl ?_
      refine m_callS X cs_X0_80  (c_X0_isSlot _ _ _) rfl rfl (Nat.le_of_ble_eq_true rfl) dX0_isAct_177 ⟨by decide, by decide, by decide, by decide⟩ (fun v M hp => ?_) (fun _ _ _ _ h => h.elim)
      obtain ⟨rfl, rfl⟩ := hp
      refine m_sti ?_
      refine m_ifeq X dX0_isAct_180 (t := 204) (by decide) (fun c_180 => ?_) (fun c_180 => ?_)
      · skip
        try simp only [bI_0, Bool.not_eq_false] at c_180
        refine m_iconst X dX0_isAct_204 (v := 0) (by decide) ?_
        exact m_zret X dX0_isAct_205 (by first | rfl | exact bI_nar) (by decide) (by decide) (by refine ⟨?_, rfl⟩; simp [isActN, bI, c_180])
      · skip
        try simp only [bI_0, Bool.not_eq_false] at c_180
        refine m_iload_n X dX0_isAct_183 rfl rfl ?_
        refine m_iconst X dX0_isAct_184 (v := 1) (by decide) ?_
        refine m_iconst X dX0_isAct_185 (v := 4) (by decide) ?_
        refine m_callS X cs_X0_73  (c_X0_in _ _ _ _ _) rfl rfl (Nat.le_of_ble_eq_true rfl) dX0_isAct_186 ⟨by decide, by decide, by decide, by decide⟩ (fun v M hp => ?_) (fun _ _ _ _ h => h.elim)
        obtain ⟨rfl, rfl⟩ := hp
        refine m_sti ?_
        refine m_ifeq X dX0_isAct_189 (t := 204) (by decide) (fun c_189 => ?_) (fun c_189 => ?_)
        · skip
          try simp only [bI_0, Bool.not_eq_false] at c_189
          refine m_iconst X dX0_isAct_204 (v := 0) (by decide) ?_
          exact m_zret X dX0_isAct_205 (by first | rfl | exact bI_nar) (by decide) (by decide) (by refine ⟨?_, rfl⟩; simp [isActN, bI, c_180, c_189])
        · skip
          try simp only [bI_0, Bool.not_eq_false] at c_189
          refine m_iload X dX0_isAct_192 rfl ?_
          refine m_callS X cs_X0_84  (c_X0_isRegister _ _ _) rfl rfl (Nat.le_of_ble_eq_true rfl) dX0_isAct_194 ⟨by decide, by decide, by decide, by decide⟩ (fun v M hp => ?_) (fun _ _ _ _ h => h.elim)
          obtain ⟨rfl, rfl⟩ := hp
          refine m_sti ?_
          refine m_ifeq X dX0_isAct_197 (t := 204) (by decide) (fun c_197 => ?_) (fun c_197 => ?_)
          · skip
            try simp only [bI_0, Bool.not_eq_false] at c_197
            refine m_iconst X dX0_isAct_204 (v := 0) (by decide) ?_
            exact m_zret X dX0_isAct_205 (by first | rfl | exact bI_nar) (by decide) (by decide) (by refine ⟨?_, rfl⟩; simp [isActN, bI, c_180, c_189, c_197])
          · skip
            try simp only [bI_0, Bool.not_eq_false] at c_197
            refine m_iconst X dX0_isAct_200 (v := 1) (by decide) ?_
            refine m_goto X dX0_isAct_201 (t := 205) (by decide) ?_
            exact m_zret X dX0_isAct_205 (by first | rfl | exact bI_nar) (by decide) (by decide) (by refine ⟨?_, rfl⟩; simp [isActN, bI, c_180, c_189, c_197])
    · skip
      subst ej_1
      rw [isActB_nI (by decide)]
      refine m_pc (pc' := 206) (by decide) ?_
      refine m_iload_n X dX0_isAct_206 rfl rfl ?_
      refine m_callS X cs_X0_80  (c_X0_isSlot _ _ _) rfl rfl (Nat.le_of_ble_eq_true rfl) dX0_isAct_207 ⟨by decide, by decide, by decide, by decide⟩ (fun v M hp => ?_) (fun _ _ _ _ h => h.elim)
      obtain ⟨rfl, rfl⟩ := hp
      refine m_sti ?_
      refine m_ifeq X dX0_isAct_210 (t := 234) (by decide) (fun c_210 => ?_) (fun c_210 => ?_)
      · skip
        try simp only [bI_0, Bool.not_eq_false] at c_210
        refine m_iconst X dX0_isAct_234 (v := 0) (by decide) ?_
        exact m_zret X dX0_isAct_235 (by first | rfl | exact bI_nar) (by decide) (by decide) (by refine ⟨?_, rfl⟩; simp [isActN, bI, c_210])
      · skip
        try simp only [bI_0, Bool.not_eq_false] at c_210
        refine m_iload_n X dX0_isAct_213 rfl rfl ?_
        refine m_callS X cs_X0_80  (c_X0_isSlot _ _ _) rfl rfl (Nat.le_of_ble_eq_true rfl) dX0_isAct_214 ⟨by decide, by decide, by decide, by decide⟩ (fun v M hp => ?_) (fun _ _ _ _ h => h.elim)
        obtain ⟨rfl, rfl⟩ := hp
        refine m_sti ?_
        refine m_ifeq X dX0_isAct_217 (t := 234) (by decide) (fun c_217 => ?_) (fun c_217 => ?_)
        · skip
          try simp only [bI_0, Bool.not_eq_false] at c_217
          refine m_iconst X dX0_isAct_234 (v := 0) (by decide) ?_
          exact m_zret X dX0_isAct_235 (by first | rfl | exact bI_nar) (by decide) (by decide) (by refine ⟨?_, rfl⟩; simp [isActN, bI, c_210, c_217])
        · skip
          try simp only [bI_0, Bool.not_eq_false] at c_217
          refine m_iload_n X dX0_isAct_220 rfl rfl ?_
          refine m_iconst X dX0_isAct_221 (v := 5) (by decide) ?_
          refine m_bipush X dX0_isAct_222 (v := 7) (by decide) ?_
          refine m_callS X cs_X0_73  (c_X0_in _ _ _ _ _) rfl rfl (Nat.le_of_ble_eq_true rfl) dX0_isAct_224 ⟨by decide, by decide, by decide, by decide⟩ (fun v M hp => ?_) (fun _ _ _ _ h => h.elim)
          obtain ⟨rfl, rfl⟩ := hp
          refine m_sti ?_
          refine m_ifeq X dX0_isAct_227 (t := 234) (by decide) (fun c_227 => ?_) (fun c_227 => ?_)
          · skip
            try simp only [bI_0, Bool.not_eq_false] at c_227
            refine m_iconst X dX0_isAct_234 (v := 0) (by decide) ?_
            exact m_zret X dX0_isAct_235 (by first | rfl | exact bI_nar) (by decide) (by decide) (by refine ⟨?_, rfl⟩; simp [isActN, bI, c_210, c_217, c_227])
          · skip
            try simp only [bI_0, Bool.not_eq_false] at c_227
            refine m_iconst X dX0_isAct_230 (v := 1) (by decide) ?_
            refine m_goto X dX0_isAct_231 (t := 235) (by decide) ?_
            exact m_zret X dX0_isAct_235 (by first | rfl | exact bI_nar) (by decide) (by decide) (by refine ⟨?_, rfl⟩; simp [isActN, bI, c_210, c_217, c_227])
    · skip
      subst ej_1
      rw [isActB_nI (by decide)]
      refine m_pc (pc' := 236) (by decide) ?_
      refine m_iload_n X dX0_isAct_236 rfl rfl ?_
      refine m_callS X cs_X0_80  (c_X0_isSlot _ _ _) rfl rfl (Nat.le_of_ble_eq_true rfl) dX0_isAct_237 ⟨by decide, by decide, by decide, by decide⟩ (fun v M hp => ?_) (fun _ _ _ _ h => h.elim)
      obtain ⟨rfl, rfl⟩ := hp
      refine m_sti ?_
      refine m_ifeq X dX0_isAct_240 (t := 265) (by decide) (fun c_240 => ?_) (fun c_240 => ?_)
      · skip
        try simp only [bI_0, Bool.not_eq_false] at c_240
        refine m_iconst X dX0_isAct_265 (v := 0) (by decide) ?_
        exact m_zret X dX0_isAct_266 (by first | rfl | exact bI_nar) (by decide) (by decide) (by refine ⟨?_, rfl⟩; simp [isActN, bI, c_240])
      · skip
        try simp only [bI_0, Bool.not_eq_false] at c_240
        refine m_iload_n X dX0_isAct_243 rfl rfl ?_
        refine m_iconst X dX0_isAct_244 (v := 5) (by decide) ?_
        refine m_bipush X dX0_isAct_245 (v := 7) (by decide) ?_
        refine m_callS X cs_X0_73  (c_X0_in _ _ _ _ _) rfl rfl (Nat.le_of_ble_eq_true rfl) dX0_isAct_247 ⟨by decide, by decide, by decide, by decide⟩ (fun v M hp => ?_) (fun _ _ _ _ h => h.elim)
        obtain ⟨rfl, rfl⟩ := hp
        refine m_sti ?_
        refine m_ifeq X dX0_isAct_250 (t := 265) (by decide) (fun c_250 => ?_) (fun c_250 => ?_)
        · skip
          try simp only [bI_0, Bool.not_eq_false] at c_250
          refine m_iconst X dX0_isAct_265 (v := 0) (by decide) ?_
          exact m_zret X dX0_isAct_266 (by first | rfl | exact bI_nar) (by decide) (by decide) (by refine ⟨?_, rfl⟩; simp [isActN, bI, c_240, c_250])
        · skip
          try simp only [bI_0, Bool.not_eq_false] at c_250
          refine m_iload X dX0_isAct_253 rfl ?_
          refine m_callS X cs_X0_80  (c_X0_isSlot _ _ _) rfl rfl (Nat.le_of_ble_eq_true rfl) dX0_isAct_255 ⟨by decide, by decide, by decide, by decide⟩ (fun v M hp => ?_) (fun _ _ _ _ h => h.elim)
          obtain ⟨rfl, rfl⟩ := hp
          refine m_sti ?_
          refine m_ifeq X dX0_isAct_258 (t := 265) (by decide) (fun c_258 => ?_) (fun c_258 => ?_)
          · skip
            try simp only [bI_0, Bool.not_eq_false] at c_258
            refine m_iconst X dX0_isAct_265 (v := 0) (by decide) ?_
            exact m_zret X dX0_isAct_266 (by first | rfl | exact bI_nar) (by decide) (by decide) (by refine ⟨?_, rfl⟩; simp [isActN, bI, c_240, c_250, c_258])
          · skip
            try simp only [bI_0, Bool.not_eq_false] at c_258
            refine m_iconst X dX0_isAct_261 (v := 1) (by decide) ?_
            refine m_goto X dX0_isAct_262 (t := 266) (by decide) ?_
            exact m_zret X dX0_isAct_266 (by first | rfl | exact bI_nar) (by decide) (by decide) (by refine ⟨?_, rfl⟩; simp [isActN, bI, c_240, c_250, c_258])
    · skip
      subst ej_1
      rw [isActB_nI (by decide)]
      refine m_pc (pc' := 267) (by decide) ?_
      refine m_iload_n X dX0_isAct_267 rfl rfl ?_
      refine m_callS X cs_X0_84  (c_X0_isRegister _ _ _) rfl rfl (Nat.le_of_ble_eq_true rfl) dX0_isAct_268 ⟨by decide, by decide, by decide, by decide⟩ (fun v M hp => ?_) (fun _ _ _ _ h => h.elim)
      obtain ⟨rfl, rfl⟩ := hp
      refine m_sti ?_
      refine m_ifeq X dX0_isAct_271 (t := 295) (by decide) (fun c_271 => ?_) (fun c_271 => ?_)
      · skip
        try simp only [bI_0, Bool.not_eq_false] at c_271
        refine m_iconst X dX0_isAct_295 (v := 0) (by decide) ?_
        exact m_zret X dX0_isAct_296 (by first | rfl | exact bI_nar) (by decide) (by decide) (by refine ⟨?_, rfl⟩; simp [isActN, bI, c_271])
      · skip
        try simp only [bI_0, Bool.not_eq_false] at c_271
        refine m_iload_n X dX0_isAct_274 rfl rfl ?_
        refine m_callS X cs_X0_80  (c_X0_isSlot _ _ _) rfl rfl (Nat.le_of_ble_eq_true rfl) dX0_isAct_275 ⟨by decide, by decide, by decide, by decide⟩ (fun v M hp => ?_) (fun _ _ _ _ h => h.elim)
        obtain ⟨rfl, rfl⟩ := hp
        refine m_sti ?_
        refine m_ifeq X dX0_isAct_278 (t := 295) (by decide) (fun c_278 => ?_) (fun c_278 => ?_)
        · skip
          try simp only [bI_0, Bool.not_eq_false] at c_278
          refine m_iconst X dX0_isAct_295 (v := 0) (by decide) ?_
          exact m_zret X dX0_isAct_296 (by first | rfl | exact bI_nar) (by decide) (by decide) (by refine ⟨?_, rfl⟩; simp [isActN, bI, c_271, c_278])
        · skip
          try simp only [bI_0, Bool.not_eq_false] at c_278
          refine m_iload_n X dX0_isAct_281 rfl rfl ?_
          refine m_iconst X dX0_isAct_282 (v := 1) (by decide) ?_
          refine m_bipush X dX0_isAct_283 (v := 7) (by decide) ?_
          refine m_callS X cs_X0_73  (c_X0_in _ _ _ _ _) rfl rfl (Nat.le_of_ble_eq_true rfl) dX0_isAct_285 ⟨by decide, by decide, by decide, by decide⟩ (fun v M hp => ?_) (fun _ _ _ _ h => h.elim)
          obtain ⟨rfl, rfl⟩ := hp
          refine m_sti ?_
          refine m_ifeq X dX0_isAct_288 (t := 295) (by decide) (fun c_288 => ?_) (fun c_288 => ?_)
          · skip
            try simp only [bI_0, Bool.not_eq_false] at c_288
            refine m_iconst X dX0_isAct_295 (v := 0) (by decide) ?_
            exact m_zret X dX0_isAct_296 (by first | rfl | exact bI_nar) (by decide) (by decide) (by refine ⟨?_, rfl⟩; simp [isActN, bI, c_271, c_278, c_288])
          · skip
            try simp only [bI_0, Bool.not_eq_false] at c_288
            refine m_iconst X dX0_isAct_291 (v := 1) (by decide) ?_
            refine m_goto X dX0_isAct_292 (t := 296) (by decide) ?_
            exact m_zret X dX0_isAct_296 (by first | rfl | exact bI_nar) (by decide) (by decide) (by refine ⟨?_, rfl⟩; simp [isActN, bI, c_271, c_278, c_288])
    · skip
      subst ej_1
      rw [isActB_nI (by decide)]
      refine m_pc (pc' := 297) (by decide) ?_
      refine m_iload_n X dX0_isAct_297 rfl rfl ?_
      refine m_callS X cs_X0_80  (c_X0_isSlot _ _ _) rfl rfl (Nat.le_of_ble_eq_true rfl) dX0_isAct_298 ⟨by decide, by decide, by decide, by decide⟩ (fun v M hp => ?_) (fun _ _ _ _ h => h.elim)
      obtain ⟨rfl, rfl⟩ := hp
      refine m_sti ?_
      refine m_ifeq X dX0_isAct_301 (t := 315) (by decide) (fun c_301 => ?_) (fun c_301 => ?_)
      · skip
        try simp only [bI_0, Bool.not_eq_false] at c_301
        refine m_iconst X dX0_isAct_315 (v := 0) (by decide) ?_
        exact m_zret X dX0_isAct_316 (by first | rfl | exact bI_nar) (by decide) (by decide) (by refine ⟨?_, rfl⟩; simp [isActN, bI, c_301])
      · skip
        try simp only [bI_0, Bool.not_eq_false] at c_301
        refine m_iload_n X dX0_isAct_304 rfl rfl ?_
        refine m_callS X cs_X0_80  (c_X0_isSlot _ _ _) rfl rfl (Nat.le_of_ble_eq_true rfl) dX0_isAct_305 ⟨by decide, by decide, by decide, by decide⟩ (fun v M hp => ?_) (fun _ _ _ _ h => h.elim)
        obtain ⟨rfl, rfl⟩ := hp
        refine m_sti ?_
        refine m_ifeq X dX0_isAct_308 (t := 315) (by decide) (fun c_308 => ?_) (fun c_308 => ?_)
        · skip
          try simp only [bI_0, Bool.not_eq_false] at c_308
          refine m_iconst X dX0_isAct_315 (v := 0) (by decide) ?_
          exact m_zret X dX0_isAct_316 (by first | rfl | exact bI_nar) (by decide) (by decide) (by refine ⟨?_, rfl⟩; simp [isActN, bI, c_301, c_308])
        · skip
          try simp only [bI_0, Bool.not_eq_false] at c_308
          refine m_iconst X dX0_isAct_311 (v := 1) (by decide) ?_
          refine m_goto X dX0_isAct_312 (t := 316) (by decide) ?_
          exact m_zret X dX0_isAct_316 (by first | rfl | exact bI_nar) (by decide) (by decide) (by refine ⟨?_, rfl⟩; simp [isActN, bI, c_301, c_308])
    · skip
      subst ej_1
      rw [isActB_nI (by decide)]
      refine m_pc (pc' := 317) (by decide) ?_
      refine m_iload_n X dX0_isAct_317 rfl rfl ?_
      refine m_callS X cs_X0_84  (c_X0_isRegister _ _ _) rfl rfl (Nat.le_of_ble_eq_true rfl) dX0_isAct_318 ⟨by decide, by decide, by decide, by decide⟩ (fun v M hp => ?_) (fun _ _ _ _ h => h.elim)
      obtain ⟨rfl, rfl⟩ := hp
      refine m_sti ?_
      refine m_ifeq X dX0_isAct_321 (t := 335) (by decide) (fun c_321 => ?_) (fun c_321 => ?_)
      · skip
        try simp only [bI_0, Bool.not_eq_false] at c_321
        refine m_iconst X dX0_isAct_335 (v := 0) (by decide) ?_
        exact m_zret X dX0_isAct_336 (by first | rfl | exact bI_nar) (by decide) (by decide) (by refine ⟨?_, rfl⟩; simp [isActN, bI, c_321])
      · skip
        try simp only [bI_0, Bool.not_eq_false] at c_321
        refine m_iload_n X dX0_isAct_324 rfl rfl ?_
        refine m_callS X cs_X0_80  (c_X0_isSlot _ _ _) rfl rfl (Nat.le_of_ble_eq_true rfl) dX0_isAct_325 ⟨by decide, by decide, by decide, by decide⟩ (fun v M hp => ?_) (fun _ _ _ _ h => h.elim)
        obtain ⟨rfl, rfl⟩ := hp
        refine m_sti ?_
        refine m_ifeq X dX0_isAct_328 (t := 335) (by decide) (fun c_328 => ?_) (fun c_328 => ?_)
        · skip
          try simp only [bI_0, Bool.not_eq_false] at c_328
          refine m_iconst X dX0_isAct_335 (v := 0) (by decide) ?_
          exact m_zret X dX0_isAct_336 (by first | rfl | exact bI_nar) (by decide) (by decide) (by refine ⟨?_, rfl⟩; simp [isActN, bI, c_321, c_328])
        · skip
          try simp only [bI_0, Bool.not_eq_false] at c_328
          refine m_iconst X dX0_isAct_331 (v := 1) (by decide) ?_
          refine m_goto X dX0_isAct_332 (t := 336) (by decide) ?_
          exact m_zret X dX0_isAct_336 (by first | rfl | exact bI_nar) (by decide) (by decide) (by refine ⟨?_, rfl⟩; simp [isActN, bI, c_321, c_328])
    · skip
      subst ej_1
      rw [isActB_nI (by decide)]
      refine m_pc (pc' := 337) (by decide) ?_
      refine m_iload_n X dX0_isAct_337 rfl rfl ?_
      refine m_callS X cs_X0_80  (c_X0_isSlot _ _ _) rfl rfl (Nat.le_of_ble_eq_true rfl) dX0_isAct_338 ⟨by decide, by decide, by decide, by decide⟩ (fun v M hp => ?_) (fun _ _ _ _ h => h.elim)
      obtain ⟨rfl, rfl⟩ := hp
      refine m_sti ?_
      refine m_ifeq X dX0_isAct_341 (t := 355) (by decide) (fun c_341 => ?_) (fun c_341 => ?_)
      · skip
        try simp only [bI_0, Bool.not_eq_false] at c_341
        refine m_iconst X dX0_isAct_355 (v := 0) (by decide) ?_
        exact m_zret X dX0_isAct_356 (by first | rfl | exact bI_nar) (by decide) (by decide) (by refine ⟨?_, rfl⟩; simp [isActN, bI, c_341])
      · skip
        try simp only [bI_0, Bool.not_eq_false] at c_341
        refine m_iload_n X dX0_isAct_344 rfl rfl ?_
        refine m_callS X cs_X0_80  (c_X0_isSlot _ _ _) rfl rfl (Nat.le_of_ble_eq_true rfl) dX0_isAct_345 ⟨by decide, by decide, by decide, by decide⟩ (fun v M hp => ?_) (fun _ _ _ _ h => h.elim)
        obtain ⟨rfl, rfl⟩ := hp
        refine m_sti ?_
        refine m_ifeq X dX0_isAct_348 (t := 355) (by decide) (fun c_348 => ?_) (fun c_348 => ?_)
        · skip
          try simp only [bI_0, Bool.not_eq_false] at c_348
          refine m_iconst X dX0_isAct_355 (v := 0) (by decide) ?_
          exact m_zret X dX0_isAct_356 (by first | rfl | exact bI_nar) (by decide) (by decide) (by refine ⟨?_, rfl⟩; simp [isActN, bI, c_341, c_348])
        · skip
          try simp only [bI_0, Bool.not_eq_false] at c_348
          refine m_iconst X dX0_isAct_351 (v := 1) (by decide) ?_
          refine m_goto X dX0_isAct_352 (t := 356) (by decide) ?_
          exact m_zret X dX0_isAct_356 (by first | rfl | exact bI_nar) (by decide) (by decide) (by refine ⟨?_, rfl⟩; simp [isActN, bI, c_341, c_348])
    · skip
      subst ej_1
      rw [isActB_nI (by decide)]
      refine m_pc (pc' := 357) (by decide) ?_
      refine m_iload_n X dX0_isAct_357 rfl rfl ?_
      refine m_callS X cs_X0_84  (c_X0_isRegister _ _ _) rfl rfl (Nat.le_of_ble_eq_true rfl) dX0_isAct_358 ⟨by decide, by decide, by decide, by decide⟩ (fun v M hp => ?_) (fun _ _ _ _ h => h.elim)
      obtain ⟨rfl, rfl⟩ := hp
      refine m_sti ?_
      exact m_zret X dX0_isAct_361 (by first | rfl | exact bI_nar) (by decide) (by decide) (by refine ⟨?_, rfl⟩; simp [isActN, bI])
    · skip
      subst ej_1
      rw [isActB_nI (by decide)]
      refine m_pc (pc' := 362) (by decide) ?_
      refine m_iload_n X dX0_isAct_362 rfl rfl ?_
      refine m_callS X cs_X0_84  (c_X0_isRegister _ _ _) rfl rfl (Nat.le_of_ble_eq_true rfl) dX0_isAct_363 ⟨by decide, by decide, by decide, by decide⟩ (fun v M hp => ?_) (fun _ _ _ _ h => h.elim)
      obtain ⟨rfl, rfl⟩ := hp
      refine m_sti ?_
      refine m_ifeq X dX0_isAct_366 (t := 387) (by decide) (fun c_366 => ?_) (fun c_366 => ?_)
      · skip
        try simp only [bI_0, Bool.not_eq_false] at c_366
        refine m_iconst X dX0_isAct_387 (v := 0) (by decide) ?_
        exact m_zret X dX0_isAct_388 (by first | rfl | exact bI_nar) (by decide) (by decide) (by refine ⟨?_, rfl⟩; simp [isActN, bI, c_366])
      · skip
        try simp only [bI_0, Bool.not_eq_false] at c_366
        refine m_iload_n X dX0_isAct_369 rfl rfl ?_
        refine m_callS X cs_X0_84  (c_X0_isRegister _ _ _) rfl rfl (Nat.le_of_ble_eq_true rfl) dX0_isAct_370 ⟨by decide, by decide, by decide, by decide⟩ (fun v M hp => ?_) (fun _ _ _ _ h => h.elim)
        obtain ⟨rfl, rfl⟩ := hp
        refine m_sti ?_
        refine m_ifeq X dX0_isAct_373 (t := 387) (by decide) (fun c_373 => ?_) (fun c_373 => ?_)
        · skip
          try simp only [bI_0, Bool.not_eq_false] at c_373
          refine m_iconst X dX0_isAct_387 (v := 0) (by decide) ?_
          exact m_zret X dX0_isAct_388 (by first | rfl | exact bI_nar) (by decide) (by decide) (by refine ⟨?_, rfl⟩; simp [isActN, bI, c_366, c_373])
        · skip
          try simp only [bI_0, Bool.not_eq_false] at c_373
          refine m_iload_n X dX0_isAct_376 rfl rfl ?_
          refine m_callS X cs_X0_84  (c_X0_isRegister _ _ _) rfl rfl (Nat.le_of_ble_eq_true rfl) dX0_isAct_377 ⟨by decide, by decide, by decide, by decide⟩ (fun v M hp => ?_) (fun _ _ _ _ h => h.elim)
          obtain ⟨rfl, rfl⟩ := hp
          refine m_sti ?_
          refine m_ifeq X dX0_isAct_380 (t := 387) (by decide) (fun c_380 => ?_) (fun c_380 => ?_)
          · skip
            try simp only [bI_0, Bool.not_eq_false] at c_380
            refine m_iconst X dX0_isAct_387 (v := 0) (by decide) ?_
            exact m_zret X dX0_isAct_388 (by first | rfl | exact bI_nar) (by decide) (by decide) (by refine ⟨?_, rfl⟩; simp [isActN, bI, c_366, c_373, c_380])
          · skip
            try simp only [bI_0, Bool.not_eq_false] at c_380
            refine m_iconst X dX0_isAct_383 (v := 1) (by decide) ?_
            refine m_goto X dX0_isAct_384 (t := 388) (by decide) ?_
            exact m_zret X dX0_isAct_388 (by first | rfl | exact bI_nar) (by decide) (by decide) (by refine ⟨?_, rfl⟩; simp [isActN, bI, c_366, c_373, c_380])
    · skip
      subst ej_1
      rw [isActB_nI (by decide)]
      refine m_pc (pc' := 362) (by decide) ?_
      refine m_iload_n X dX0_isAct_362 rfl rfl ?_
      refine m_callS X cs_X0_84  (c_X0_isRegister _ _ _) rfl rfl (Nat.le_of_ble_eq_true rfl) dX0_isAct_363 ⟨by decide, by decide, by decide, by decide⟩ (fun v M hp => ?_) (fun _ _ _ _ h => h.elim)
      obtain ⟨rfl, rfl⟩ := hp
      refine m_sti ?_
      refine m_ifeq X dX0_isAct_366 (t := 387) (by decide) (fun c_366 => ?_) (fun c_366 => ?_)
      · skip
        try simp only [bI_0, Bool.not_eq_false] at c_366
        refine m_iconst X dX0_isAct_387 (v := 0) (by decide) ?_
        exact m_zret X dX0_isAct_388 (by first | rfl | exact bI_nar) (by decide) (by decide) (by refine ⟨?_, rfl⟩; simp [isActN, bI, c_366])
      · skip
        try simp only [bI_0, Bool.not_eq_false] at c_366
        refine m_iload_n X dX0_isAct_369 rfl rfl ?_
        refine m_callS X cs_X0_84  (c_X0_isRegister _ _ _) rfl rfl (Nat.le_of_ble_eq_true rfl) dX0_isAct_370 ⟨by decide, by decide, by decide, by decide⟩ (fun v M hp => ?_) (fun _ _ _ _ h => h.elim)
        obtain ⟨rfl, rfl⟩ := hp
        refine m_sti ?_
        refine m_ifeq X dX0_isAct_373 (t := 387) (by decide) (fun c_373 => ?_) (fun c_373 => ?_)
        · skip
          try simp only [bI_0, Bool.not_eq_false] at c_373
          refine m_iconst X dX0_isAct_387 (v := 0) (by decide) ?_
          exact m_zret X dX0_isAct_388 (by first | rfl | exact bI_nar) (by decide) (by decide) (by refine ⟨?_, rfl⟩; simp [isActN, bI, c_366, c_373])
        · skip
          try simp only [bI_0, Bool.not_eq_false] at c_373
          refine m_iload_n X dX0_isAct_376 rfl rfl ?_
          refine m_callS X cs_X0_84  (c_X0_isRegister _ _ _) rfl rfl (Nat.le_of_ble_eq_true rfl) dX0_isAct_377 ⟨by decide, by decide, by decide, by decide⟩ (fun v M hp => ?_) (fun _ _ _ _ h => h.elim)
          obtain ⟨rfl, rfl⟩ := hp
          refine m_sti ?_
          refine m_ifeq X dX0_isAct_380 (t := 387) (by decide) (fun c_380 => ?_) (fun c_380 => ?_)
          · skip
            try simp only [bI_0, Bool.not_eq_false] at c_380
            refine m_iconst X dX0_isAct_387 (v := 0) (by decide) ?_
            exact m_zret X dX0_isAct_388 (by first | rfl | exact bI_nar) (by decide) (by decide) (by refine ⟨?_, rfl⟩; simp [isActN, bI, c_366, c_373, c_380])
          · skip
            try simp only [bI_0, Bool.not_eq_false] at c_380
            refine m_iconst X dX0_isAct_383 (v := 1) (by decide) ?_
            refine m_goto X dX0_isAct_384 (t := 388) (by decide) ?_
            exact m_zret X dX0_isAct_388 (by first | rfl | exact bI_nar) (by decide) (by decide) (by refine ⟨?_, rfl⟩; simp [isActN, bI, c_366, c_373, c_380])
    · skip
      subst ej_1
      rw [isActB_nI (by decide)]
      refine m_pc (pc' := 362) (by decide) ?_
      refine m_iload_n X dX0_isAct_362 rfl rfl ?_
      refine m_callS X cs_X0_84  (c_X0_isRegister _ _ _) rfl rfl (Nat.le_of_ble_eq_true rfl) dX0_isAct_363 ⟨by decide, by decide, by decide, by decide⟩ (fun v M hp => ?_) (fun _ _ _ _ h => h.elim)
      obtain ⟨rfl, rfl⟩ := hp
      refine m_sti ?_
      refine m_ifeq X dX0_isAct_366 (t := 387) (by decide) (fun c_366 => ?_) (fun c_366 => ?_)
      · skip
        try simp only [bI_0, Bool.not_eq_false] at c_366
        refine m_iconst X dX0_isAct_387 (v := 0) (by decide) ?_
        exact m_zret X dX0_isAct_388 (by first | rfl | exact bI_nar) (by decide) (by decide) (by refine ⟨?_, rfl⟩; simp [isActN, bI, c_366])
      · skip
        try simp only [bI_0, Bool.not_eq_false] at c_366
        refine m_iload_n X dX0_isAct_369 rfl rfl ?_
        refine m_callS X cs_X0_84  (c_X0_isRegister _ _ _) rfl rfl (Nat.le_of_ble_eq_true rfl) dX0_isAct_370 ⟨by decide, by decide, by decide, by decide⟩ (fun v M hp => ?_) (fun _ _ _ _ h => h.elim)
        obtain ⟨rfl, rfl⟩ := hp
        refine m_sti ?_
        refine m_ifeq X dX0_isAct_373 (t := 387) (by decide) (fun c_373 => ?_) (fun c_373 => ?_)
        · skip
          try simp only [bI_0, Bool.not_eq_false] at c_373
          refine m_iconst X dX0_isAct_387 (v := 0) (by decide) ?_
          exact m_zret X dX0_isAct_388 (by first | rfl | exact bI_nar) (by decide) (by decide) (by refine ⟨?_, rfl⟩; simp [isActN, bI, c_366, c_373])
        · skip
          try simp only [bI_0, Bool.not_eq_false] at c_373
          refine m_iload_n X dX0_isAct_376 rfl rfl ?_
          refine m_callS X cs_X0_84  (c_X0_isRegister _ _ _) rfl rfl (Nat.le_of_ble_eq_true rfl) dX0_isAct_377 ⟨by decide, by decide, by decide, by decide⟩ (fun v M hp => ?_) (fun _ _ _ _ h => h.elim)
          obtain ⟨rfl, rfl⟩ := hp
          refine m_sti ?_
          refine m_ifeq X dX0_isAct_380 (t := 387) (by decide) (fun c_380 => ?_) (fun c_380 => ?_)
          · skip
            try simp only [bI_0, Bool.not_eq_false] at c_380
            refine m_iconst X dX0_isAct_387 (v := 0) (by decide) ?_
            exact m_zret X dX0_isAct_388 (by first | rfl | exact bI_nar) (by decide) (by decide) (by refine ⟨?_, rfl⟩; simp [isActN, bI, c_366, c_373, c_380])
          · skip
            try simp only [bI_0, Bool.not_eq_false] at c_380
            refine m_iconst X dX0_isAct_383 (v := 1) (by decide) ?_
            refine m_goto X dX0_isAct_384 (t := 388) (by decide) ?_
            exact m_zret X dX0_isAct_388 (by first | rfl | exact bI_nar) (by decide) (by decide) (by refine ⟨?_, rfl⟩; simp [isActN, bI, c_366, c_373, c_380])
  · skip
    refine m_iload_n X dX0_isAct_389 rfl rfl ?_
    refine m_bipush X dX0_isAct_390 (v := 17) (by decide) ?_
    refine m_icmpne X dX0_isAct_392 (t := 399) (by decide) (fun c_392 => ?_) (fun c_392 => ?_)
    · skip
      refine m_iconst X dX0_isAct_399 (v := 0) (by decide) ?_
      exact m_zret X dX0_isAct_400 (by first | rfl | exact bI_nar) (by decide) (by decide) (by refine ⟨?_, rfl⟩; first | (rw [isActB_out ho_1 c_392]; rfl) | (rw [c_392]; rfl))
    · skip
      refine m_iconst X dX0_isAct_395 (v := 1) (by decide) ?_
      refine m_goto X dX0_isAct_396 (t := 400) (by decide) ?_
      exact m_zret X dX0_isAct_400 (by first | rfl | exact bI_nar) (by decide) (by decide) (by refine ⟨?_, rfl⟩; first | (rw [isActB_out ho_1 c_392]; rfl) | (rw [c_392]; rfl))
