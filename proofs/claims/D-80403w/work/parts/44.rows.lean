/-! REPORTS: rows of sets, and an act's questions (printed by wip/D-80403w/tools/m44.py) -/
set_option maxRecDepth 100000
theorem alen_lt (k : Nat) : Nat.blt (alen k) 100000 = true := by unfold alen; split <;> rfl
theorem tinl {t k : Nat} (h : t < alen k) : vp_in (nI t) (alen k) := tin h (alen_lt k)
theorem alen_31 (k : Nat) : alen k < 100000 := by have := alen_lt k; simpa using this
/-- n sets of the row j, from f on, come to those of the row k from t on -/
def joinA (A : Nat → Nat → Int32) (j f k t n : Nat) : Nat → Nat → Int32 := fun q l => if q = k ∧ t ≤ l ∧ l < t + n then A k l ||| A j (f + (l - t)) else A q l
def layA2 (A : Nat → Nat → Int32) (j f k t n : Nat) : Nat → Nat → Int32 := fun q l => if q = k ∧ t ≤ l ∧ l < t + n then A j (f + (l - t)) else A q l
def wipeA (A : Nat → Nat → Int32) (k f n : Nat) : Nat → Nat → Int32 := fun q l => if q = k ∧ f ≤ l ∧ l < f + n then 0 else A q l
theorem joinA_0 {A : Nat → Nat → Int32} {j f k t : Nat} : joinA A j f k t 0 = A := by
  funext q l
  unfold joinA
  rw [if_neg (by omega)]
theorem layA2_0 {A : Nat → Nat → Int32} {j f k t : Nat} : layA2 A j f k t 0 = A := by
  funext q l
  unfold layA2
  rw [if_neg (by omega)]
theorem wipeA_0 {A : Nat → Nat → Int32} {k f : Nat} : wipeA A k f 0 = A := by
  funext q l
  unfold wipeA
  rw [if_neg (by omega)]
theorem joinA_s {A : Nat → Nat → Int32} {j f k t i : Nat} (hd : j ≠ k ∨ f + 12 ≤ t ∨ t + 12 ≤ f) (hi : i < 12) : aset (joinA A j f k t i) k (t + i) (joinA A j f k t i k (t + i) ||| joinA A j f k t i j (f + i)) = joinA A j f k t (i + 1) := by
  funext q l
  by_cases hq : q = k
  · subst hq
    rw [aset_k]
    unfold upd
    by_cases hl : l = t + i
    · subst hl
      rw [if_pos rfl]
      unfold joinA
      rw [if_neg (by omega), if_neg (by omega), if_pos ⟨rfl, by omega, by omega⟩, Nat.add_sub_cancel_left]
    · rw [if_neg hl]
      unfold joinA
      by_cases h2 : t ≤ l ∧ l < t + i
      · rw [if_pos ⟨rfl, h2⟩, if_pos ⟨rfl, by omega, by omega⟩]
      · rw [if_neg (fun z => h2 z.2), if_neg (by omega)]
  · rw [aset_n hq]
    unfold joinA
    rw [if_neg (fun z => hq z.1), if_neg (fun z => hq z.1)]
theorem layA2_s {A : Nat → Nat → Int32} {j f k t i : Nat} (hd : j ≠ k ∨ f + 12 ≤ t ∨ t + 12 ≤ f) (hi : i < 12) : aset (layA2 A j f k t i) k (t + i) (layA2 A j f k t i j (f + i)) = layA2 A j f k t (i + 1) := by
  funext q l
  by_cases hq : q = k
  · subst hq
    rw [aset_k]
    unfold upd
    by_cases hl : l = t + i
    · subst hl
      rw [if_pos rfl]
      unfold layA2
      rw [if_neg (by omega), if_pos ⟨rfl, by omega, by omega⟩, Nat.add_sub_cancel_left]
    · rw [if_neg hl]
      unfold layA2
      by_cases h2 : t ≤ l ∧ l < t + i
      · rw [if_pos ⟨rfl, h2⟩, if_pos ⟨rfl, by omega, by omega⟩]
      · rw [if_neg (fun z => h2 z.2), if_neg (by omega)]
  · rw [aset_n hq]
    unfold layA2
    rw [if_neg (fun z => hq z.1), if_neg (fun z => hq z.1)]
theorem wipeA_s {A : Nat → Nat → Int32} {k f i : Nat} : aset (wipeA A k f i) k (f + i) 0 = wipeA A k f (i + 1) := by
  funext q l
  by_cases hq : q = k
  · subst hq
    rw [aset_k]
    unfold upd
    by_cases hl : l = f + i
    · subst hl
      rw [if_pos rfl]
      unfold wipeA
      rw [if_pos ⟨rfl, by omega, by omega⟩]
    · rw [if_neg hl]
      unfold wipeA
      by_cases h2 : f ≤ l ∧ l < f + i
      · rw [if_pos ⟨rfl, h2⟩, if_pos ⟨rfl, by omega, by omega⟩]
      · rw [if_neg (fun z => h2 z.2), if_neg (by omega)]
  · rw [aset_n hq]
    unfold wipeA
    rw [if_neg (fun z => hq z.1), if_neg (fun z => hq z.1)]
set_option maxHeartbeats 4000000 in
theorem c_X3_join {G : GX} {h : Nat} {ad : Nat → Nat} {F : Nat → Int32} {A : Nat → Nat → Int32} {B : Nat → Nat → Int64} {M : Mem} (hM : MRep G h ad F A B M) (j f k t : Nat) (hj : ikd j = true) (hk : ikd k = true) (hf : f + 12 ≤ alen j) (ht : t + 12 ≤ alen k) (hd : j ≠ k ∨ f + 12 ≤ t ∨ t + 12 ≤ f) : Con G yX3_join wX3_join (rmm 0 0) [.ref (ad j), .int (nI f), .ref (ad k), .int (nI t)] M (pS G h ad none F (joinA A j f k t 12) B) nX := by
  refine Con.mk (by decide) rfl [(0, some (.ref (ad j))), (1, some (.int (nI f))), (2, some (.ref (ad k))), (3, some (.int (nI t)))] rfl fun x X hno => ?_
  have hj1 := alen_31 j
  have hk1 := alen_31 k
  have loop : ∀ (d i : Nat) (M' : Mem), i + d = 12 → MRep G h ad F (joinA A j f k t i) B M' → WM G x 5 (QM G x (pS G h ad none F (joinA A j f k t 12) B) nX (rmm 0 0)) 0 0 M' 3 [(4, some (.int (nI i))), (0, some (.ref (ad j))), (1, some (.int (nI f))), (2, some (.ref (ad k))), (3, some (.int (nI t)))] [] := by
    intro d
    induction d with
    | zero =>
      intro i M' hi hM
      refine m_iload X dX3_join_3 rfl ?_
      refine m_bipush X dX3_join_5 (v := 12) (by decide) ?_
      refine m_icmpge X dX3_join_7 (t := 31) (by decide) (fun c_7 => ?_) (fun c_7 => absurd ((nI_leI (a := 12) (by decide) (by omega)).mpr (by omega)) c_7)
      exact m_vret X dX3_join_31 (by decide) (by decide) (by exact ⟨rfl, by rw [show 12 = i by omega]; exact hM⟩)
    | succ d ih =>
      intro i M' hi hM
      refine m_iload X dX3_join_3 rfl ?_
      refine m_bipush X dX3_join_5 (v := 12) (by decide) ?_
      refine m_icmpge X dX3_join_7 (t := 31) (by decide) (fun c_7 => absurd ((nI_leI (a := 12) (by decide) (by omega)).mp c_7) (by omega)) (fun c_7 => ?_)
      refine m_aload_n X dX3_join_10 rfl rfl (by first | rfl | exact isR_rf) ?_
      refine m_iload_n X dX3_join_11 rfl rfl ?_
      refine m_iload X dX3_join_12 rfl ?_
      refine m_iadd X dX3_join_14 ?_
      refine m_topi X (nI_add _ _) ?_
      refine m_dup2 X dX3_join_15 rfl rfl ?_
      refine s_iald X hM hk rfl (by exact tinl (by omega)) dX3_join_16 ?_
      refine m_topi X (congrArg _ (nI_clamp (by omega))) ?_
      refine m_aload_n X dX3_join_17 rfl rfl (by first | rfl | exact isR_rf) ?_
      refine m_iload_n X dX3_join_18 rfl rfl ?_
      refine m_iload X dX3_join_19 rfl ?_
      refine m_iadd X dX3_join_21 ?_
      refine m_topi X (nI_add _ _) ?_
      refine s_iald X hM hj rfl (by exact tinl (by omega)) dX3_join_22 ?_
      refine m_topi X (congrArg _ (nI_clamp (by omega))) ?_
      refine m_ior X dX3_join_23 ?_
      refine s_iast X hM hk rfl (by exact tinl (by omega)) dX3_join_24 (fun M hM => ?_)
      rw [nI_clamp (by omega), joinA_s hd (by omega)] at hM
      refine m_iinc X dX3_join_25 rfl (w := 1) (by decide) rfl ?_
      refine m_goto X dX3_join_28 (t := 3) (by decide) ?_
      exact m_loc [(4, some (.int (nI (i + 1)))), (0, some (.ref (ad j))), (1, some (.int (nI f))), (2, some (.ref (ad k))), (3, some (.int (nI t)))] ⟨by rw [nI_succ i]; rfl, rfl, rfl, rfl, rfl, trivial⟩ (ih (i + 1) _ (by omega) hM)
  refine m_iconst X dX3_join_0 (v := 0) (by decide) ?_
  refine m_istore X dX3_join_1 rfl rfl ?_
  exact m_loc [(4, some (.int (nI 0))), (0, some (.ref (ad j))), (1, some (.int (nI f))), (2, some (.ref (ad k))), (3, some (.int (nI t)))] ⟨rfl, rfl, rfl, rfl, rfl, trivial⟩ (loop 12 0 _ rfl (by rw [joinA_0]; exact hM))
set_option maxHeartbeats 4000000 in
theorem c_X3_lay_2 {G : GX} {h : Nat} {ad : Nat → Nat} {F : Nat → Int32} {A : Nat → Nat → Int32} {B : Nat → Nat → Int64} {M : Mem} (hM : MRep G h ad F A B M) (j f k t : Nat) (hj : ikd j = true) (hk : ikd k = true) (hf : f + 12 ≤ alen j) (ht : t + 12 ≤ alen k) (hd : j ≠ k ∨ f + 12 ≤ t ∨ t + 12 ≤ f) : Con G yX3_lay_2 wX3_lay_2 (rmm 0 0) [.ref (ad j), .int (nI f), .ref (ad k), .int (nI t)] M (pS G h ad none F (layA2 A j f k t 12) B) nX := by
  refine Con.mk (by decide) rfl [(0, some (.ref (ad j))), (1, some (.int (nI f))), (2, some (.ref (ad k))), (3, some (.int (nI t)))] rfl fun x X hno => ?_
  have hj1 := alen_31 j
  have hk1 := alen_31 k
  have loop : ∀ (d i : Nat) (M' : Mem), i + d = 12 → MRep G h ad F (layA2 A j f k t i) B M' → WM G x 5 (QM G x (pS G h ad none F (layA2 A j f k t 12) B) nX (rmm 0 0)) 0 0 M' 3 [(4, some (.int (nI i))), (0, some (.ref (ad j))), (1, some (.int (nI f))), (2, some (.ref (ad k))), (3, some (.int (nI t)))] [] := by
    intro d
    induction d with
    | zero =>
      intro i M' hi hM
      refine m_iload X dX3_lay_2_3 rfl ?_
      refine m_bipush X dX3_lay_2_5 (v := 12) (by decide) ?_
      refine m_icmpge X dX3_lay_2_7 (t := 28) (by decide) (fun c_7 => ?_) (fun c_7 => absurd ((nI_leI (a := 12) (by decide) (by omega)).mpr (by omega)) c_7)
      exact m_vret X dX3_lay_2_28 (by decide) (by decide) (by exact ⟨rfl, by rw [show 12 = i by omega]; exact hM⟩)
    | succ d ih =>
      intro i M' hi hM
      refine m_iload X dX3_lay_2_3 rfl ?_
      refine m_bipush X dX3_lay_2_5 (v := 12) (by decide) ?_
      refine m_icmpge X dX3_lay_2_7 (t := 28) (by decide) (fun c_7 => absurd ((nI_leI (a := 12) (by decide) (by omega)).mp c_7) (by omega)) (fun c_7 => ?_)
      refine m_aload_n X dX3_lay_2_10 rfl rfl (by first | rfl | exact isR_rf) ?_
      refine m_iload_n X dX3_lay_2_11 rfl rfl ?_
      refine m_iload X dX3_lay_2_12 rfl ?_
      refine m_iadd X dX3_lay_2_14 ?_
      refine m_topi X (nI_add _ _) ?_
      refine m_aload_n X dX3_lay_2_15 rfl rfl (by first | rfl | exact isR_rf) ?_
      refine m_iload_n X dX3_lay_2_16 rfl rfl ?_
      refine m_iload X dX3_lay_2_17 rfl ?_
      refine m_iadd X dX3_lay_2_19 ?_
      refine m_topi X (nI_add _ _) ?_
      refine s_iald X hM hj rfl (by exact tinl (by omega)) dX3_lay_2_20 ?_
      refine m_topi X (congrArg _ (nI_clamp (by omega))) ?_
      refine s_iast X hM hk rfl (by exact tinl (by omega)) dX3_lay_2_21 (fun M hM => ?_)
      rw [nI_clamp (by omega), layA2_s hd (by omega)] at hM
      refine m_iinc X dX3_lay_2_22 rfl (w := 1) (by decide) rfl ?_
      refine m_goto X dX3_lay_2_25 (t := 3) (by decide) ?_
      exact m_loc [(4, some (.int (nI (i + 1)))), (0, some (.ref (ad j))), (1, some (.int (nI f))), (2, some (.ref (ad k))), (3, some (.int (nI t)))] ⟨by rw [nI_succ i]; rfl, rfl, rfl, rfl, rfl, trivial⟩ (ih (i + 1) _ (by omega) hM)
  refine m_iconst X dX3_lay_2_0 (v := 0) (by decide) ?_
  refine m_istore X dX3_lay_2_1 rfl rfl ?_
  exact m_loc [(4, some (.int (nI 0))), (0, some (.ref (ad j))), (1, some (.int (nI f))), (2, some (.ref (ad k))), (3, some (.int (nI t)))] ⟨rfl, rfl, rfl, rfl, rfl, trivial⟩ (loop 12 0 _ rfl (by rw [layA2_0]; exact hM))
set_option maxHeartbeats 4000000 in
theorem c_X3_wipe {G : GX} {h : Nat} {ad : Nat → Nat} {F : Nat → Int32} {A : Nat → Nat → Int32} {B : Nat → Nat → Int64} {M : Mem} (hM : MRep G h ad F A B M) (k f n : Nat) (hk : ikd k = true) (hf : f + n ≤ alen k) : Con G yX3_wipe wX3_wipe (rmm 0 0) [.ref (ad k), .int (nI f), .int (nI n)] M (pS G h ad none F (wipeA A k f n) B) nX := by
  refine Con.mk (by decide) rfl [(0, some (.ref (ad k))), (1, some (.int (nI f))), (2, some (.int (nI n)))] rfl fun x X hno => ?_
  have hk1 := alen_31 k
  have loop : ∀ (d i : Nat) (M' : Mem), i + d = n → MRep G h ad F (wipeA A k f i) B M' → WM G x 4 (QM G x (pS G h ad none F (wipeA A k f n) B) nX (rmm 0 0)) 0 0 M' 2 [(3, some (.int (nI (f + i)))), (0, some (.ref (ad k))), (1, some (.int (nI f))), (2, some (.int (nI n)))] [] := by
    intro d
    induction d with
    | zero =>
      intro i M' hi hM
      refine m_iload_n X dX3_wipe_2 rfl rfl ?_
      refine m_iload_n X dX3_wipe_3 rfl rfl ?_
      refine m_iload_n X dX3_wipe_4 rfl rfl ?_
      refine m_iadd X dX3_wipe_5 ?_
      refine m_topi X (nI_add _ _) ?_
      refine m_icmpge X dX3_wipe_6 (t := 19) (by decide) (fun c_6 => ?_) (fun c_6 => absurd ((nI_leI (by omega) (by omega)).mpr (by omega)) c_6)
      exact m_vret X dX3_wipe_19 (by decide) (by decide) (by exact ⟨rfl, by rw [show n = i by omega]; exact hM⟩)
    | succ d ih =>
      intro i M' hi hM
      refine m_iload_n X dX3_wipe_2 rfl rfl ?_
      refine m_iload_n X dX3_wipe_3 rfl rfl ?_
      refine m_iload_n X dX3_wipe_4 rfl rfl ?_
      refine m_iadd X dX3_wipe_5 ?_
      refine m_topi X (nI_add _ _) ?_
      refine m_icmpge X dX3_wipe_6 (t := 19) (by decide) (fun c_6 => absurd ((nI_leI (by omega) (by omega)).mp c_6) (by omega)) (fun c_6 => ?_)
      refine m_aload_n X dX3_wipe_9 rfl rfl (by first | rfl | exact isR_rf) ?_
      refine m_iload_n X dX3_wipe_10 rfl rfl ?_
      refine m_iconst X dX3_wipe_11 (v := 0) (by decide) ?_
      refine s_iast X hM hk rfl (by exact tinl (by omega)) dX3_wipe_12 (fun M hM => ?_)
      rw [nI_clamp (by omega), wipeA_s] at hM
      refine m_iinc X dX3_wipe_13 rfl (w := 1) (by decide) rfl ?_
      refine m_goto X dX3_wipe_16 (t := 2) (by decide) ?_
      exact m_loc [(3, some (.int (nI (f + (i + 1))))), (0, some (.ref (ad k))), (1, some (.int (nI f))), (2, some (.int (nI n)))] ⟨by rw [← Nat.add_assoc, nI_succ (f + i)]; rfl, rfl, rfl, rfl, trivial⟩ (ih (i + 1) _ (by omega) hM)
  refine m_iload_n X dX3_wipe_0 rfl rfl ?_
  refine m_istore_n X dX3_wipe_1 rfl rfl rfl ?_
  exact m_loc [(3, some (.int (nI (f + 0)))), (0, some (.ref (ad k))), (1, some (.int (nI f))), (2, some (.int (nI n)))] ⟨rfl, rfl, rfl, rfl, trivial⟩ (loop n 0 _ (Nat.zero_add _) (by rw [wipeA_0]; exact hM))
