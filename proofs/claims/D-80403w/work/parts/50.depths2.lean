/-! REPORTS of the model: behind bodies and last parts (printed by wip/D-80403w/tools/m50.py) -/
set_option maxRecDepth 100000
theorem ex_eq {α : Type} {P : α → Prop} {a : α} (h : P a) : ∃ z, z = a ∧ P z := ⟨a, rfl, h⟩
theorem wyW_0 {b : Int32} {v w : Wy} : wyW b v w 0 = w := by
  funext g u
  unfold wyW
  rw [if_neg (by omega)]
theorem tkW_y {b : Int32} {v : Wy} {f : Nat} (h : bq b (nI f) = true) : tkW b v (f + 1) = fun u => tkW b v f u ||| v f u := if_pos h
theorem tkW_n {b : Int32} {v : Wy} {f : Nat} (h : bq b (nI f) = false) : tkW b v (f + 1) = tkW b v f := if_neg (by rw [h]; decide)
theorem wyW_y {b : Int32} {v w : Wy} {f : Nat} (h : bq b (nI f) = true) : wyW b v w (f + 1) = wyW b v w f := by
  funext g u
  unfold wyW
  by_cases e : g = f
  · subst e
    rw [if_neg (fun z => by rw [h] at z; cases z.2), if_neg (by omega)]
  · by_cases e2 : g < f ∧ bq b (nI g) = false
    · rw [if_pos ⟨by omega, e2.2⟩, if_pos e2]
    · rw [if_neg (fun z => e2 ⟨by omega, z.2⟩), if_neg e2]
theorem wyW_n {b : Int32} {v w : Wy} {f d : Nat} {A : Nat → Nat → Int32} (h : bq b (nI f) = false) (hf : f < 9) (hW : RW 37 d A (wyW b v w f)) (hv : RW 36 (d + 1) A v) : RW 37 d (joinA A 36 (108 * d + 108 + 12 * f) 37 (108 * d + 12 * f) 12) (wyW b v w (f + 1)) := by
  intro g s hg hs
  by_cases e : g = f
  · subst e
    rw [joinA_on hs, hW g s hg hs, show 108 * d + 108 + 12 * g + s = 108 * (d + 1) + 12 * g + s by omega, hv g s hg hs]
    unfold wyW
    rw [if_neg (by omega), if_pos ⟨by omega, h⟩]
  · rw [joinA_off (by omega), hW g s hg hs]
    unfold wyW
    by_cases e2 : g < f ∧ bq b (nI g) = false
    · rw [if_pos e2, if_pos ⟨by omega, e2.2⟩]
    · rw [if_neg e2, if_neg (fun z => e2 ⟨by omega, z.2⟩)]
theorem IR_tk {b : Int32} {v : Wy} {f d : Nat} {A : Nat → Nat → Int32} (h : bq b (nI f) = true) (hf : f < 9) (hI : IR (d + 1) A (tkW b v f)) (hv : RW 36 (d + 1) A v) : IR (d + 1) (joinA A 36 (108 * d + 108 + 12 * f) 38 (12 * d + 12) 12) (tkW b v (f + 1)) := by
  intro u hu
  rw [show 12 * (d + 1) + u = 12 * d + 12 + u by omega, joinA_on hu, show 108 * d + 108 + 12 * f + u = 108 * (d + 1) + 12 * f + u by omega, hv f u hf hu, show 12 * d + 12 + u = 12 * (d + 1) + u by omega, hI u hu, tkW_y h]
def lastW (w v : Wy) (f : Nat) : Wy := putW (orAt w f (v 0)) v 1 9
theorem RW_orAt {w v : Wy} {d f : Nat} {A : Nat → Nat → Int32} (hf : f < 9) (hW : RW 36 d A w) (hv : RW 36 (d + 1) A v) : RW 36 d (joinA A 36 (108 * d + 108) 36 (108 * d + 12 * f) 12) (orAt w f (v 0)) := by
  intro g s hg hs
  by_cases e : g = f
  · subst e
    rw [joinA_on hs, hW g s hg hs, show 108 * d + 108 + s = 108 * (d + 1) + 12 * 0 + s by omega, hv 0 s (by decide) hs]
    unfold orAt
    rw [if_pos rfl]
  · rw [joinA_off (by omega), hW g s hg hs]
    unfold orAt
    rw [if_neg e]
set_option maxHeartbeats 4000000 in
theorem c_X3_part {G : GX} {h : Nat} {ad : Nat → Nat} {F : Nat → Int32} {A0 : Nat → Nat → Int32} {B : Nat → Nat → Int64} {M : Mem} (hM : MRep G h ad F A0 B M) {ρ : RP} {v w : Wy} {b : Int32} (n d : Nat) (hn : n < 80) (hd : d < 81) (hb : A0 13 n = b) (hv : RW 36 (d + 1) A0 v) (hW : RW 37 d A0 w) (hR : RR ρ A0) : Con G yX3_part wX3_part (rmm 1 24) [.ref h, .int (nI n), .int (nI d)] M (pW G h ad F B fun A => RR (ρ.boOr n (bitsN v 9)) A ∧ IR (d + 1) A (tkW b v 9) ∧ RW 37 d A (wyW b v w 9) ∧ Ch (fun k l => (k = 34 ∧ l = n) ∨ (k = 38 ∧ 12 * d + 12 ≤ l ∧ l < 12 * d + 24) ∨ (k = 37 ∧ 108 * d ≤ l ∧ l < 108 * d + 108)) A0 A) nX := by
  refine Con.mk (by decide) rfl [(0, some (.ref h)), (1, some (.int (nI n))), (2, some (.int (nI d)))] rfl fun x X hno => ?_
  have loop : ∀ (m f : Nat) (A : Nat → Nat → Int32) (M' : Mem), f + m = 9 → MRep G h ad F A B M' → A 34 n = ρ.bo n ||| bitsN v f → IR (d + 1) A (tkW b v f) → RW 37 d A (wyW b v w f) → Ch (fun k l => (k = 34 ∧ l = n) ∨ (k = 38 ∧ 12 * d + 12 ≤ l ∧ l < 12 * d + 24) ∨ (k = 37 ∧ 108 * d ≤ l ∧ l < 108 * d + 108)) A0 A → WM G x 5 (QM G x (pW G h ad F B fun A => RR (ρ.boOr n (bitsN v 9)) A ∧ IR (d + 1) A (tkW b v 9) ∧ RW 37 d A (wyW b v w 9) ∧ Ch (fun k l => (k = 34 ∧ l = n) ∨ (k = 38 ∧ 12 * d + 12 ≤ l ∧ l < 12 * d + 24) ∨ (k = 37 ∧ 108 * d ≤ l ∧ l < 108 * d + 108)) A0 A) nX (rmm 1 24)) 0 0 M' 27 [(4, some (.int (nI f))), (3, some (.int (nI (108 * d + 108)))), (0, some (.ref h)), (1, some (.int (nI n))), (2, some (.int (nI d)))] [] := by
    intro m
    induction m with
    | zero =>
      intro f A M' hf hM h34 hI hW hC
      have hf9 : f = 9 := by omega
      subst hf9
      refine m_iload X dX3_part_27 rfl ?_
      refine m_bipush X dX3_part_29 (v := 9) (by decide) ?_
      refine m_icmpge X dX3_part_31 (t := 143) (by decide) (fun c_31 => ?_) (fun c_31 => absurd (by decide) c_31)
      exact m_vret X dX3_part_143 (by decide) (by decide) (by exact ⟨rfl, A, hM, hR.boOr hC (by intro k l h1 h2 h3; omega) h34, hI, hW, hC⟩)
    | succ m ih =>
      intro f A M' hf hM h34 hI hW hC
      have hv1 := hv.ch hC (by intro l h1 h2; omega)
      have hw := hv1.z (i := f) (by omega) (by omega)
      rw [show 108 * (d + 1) + 12 * f = 108 * d + 108 + 12 * f by omega] at hw
      have hb1 : A 13 n = b := (hC _ _ (by omega)).trans hb
      refine m_iload X dX3_part_27 rfl ?_
      refine m_bipush X dX3_part_29 (v := 9) (by decide) ?_
      refine m_icmpge X dX3_part_31 (t := 143) (by decide) (fun c_31 => absurd ((nI_leI (a := 9) (by decide) (by omega)).mp c_31) (by omega)) (fun c_31 => ?_)
      refine m_aload_n X dX3_part_34 rfl rfl (by first | rfl | exact isR_rf) ?_
      refine m_getf X fg_X3_85_X3 hM.1 rfl dX3_part_35 ?_
      refine m_iload_n X dX3_part_38 rfl rfl ?_
      refine m_dup2 X dX3_part_39 rfl rfl ?_
      refine s_iald X hM rfl rfl (by exact tin (by simp only [alen]; omega) rfl) dX3_part_40 ?_
      refine m_topi X ((congrArg (A 34) (nI_clamp (by omega))).trans h34) ?_
      refine m_aload_n X dX3_part_41 rfl rfl (by first | rfl | exact isR_rf) ?_
      refine m_getf X fg_X3_91_X3 hM.1 rfl dX3_part_42 ?_
      refine m_iload_n X dX3_part_45 rfl rfl ?_
      refine m_bipush X dX3_part_46 (v := 12) (by decide) ?_
      refine m_iload X dX3_part_48 rfl ?_
      refine m_imul X dX3_part_50 ?_
      refine m_topi X (pk_mul 12 f) ?_
      refine m_iadd X dX3_part_51 ?_
      refine m_topi X (nI_add _ _) ?_
      refine s_iald X hM rfl rfl (by exact tin (by simp only [alen]; omega) rfl) dX3_part_52 ?_
      refine m_topi X (hw) ?_
      refine m_ifeq X dX3_part_53 (t := 63) (by decide) (fun c_53 => ?_) (fun c_53 => ?_)
      · skip
        try simp only [bI_0, Bool.not_eq_false] at c_53
        refine m_iconst X dX3_part_63 (v := 0) (by decide) ?_
        refine m_ior X dX3_part_64 ?_
        refine s_iast X hM rfl rfl (by exact tin (by simp only [alen]; omega) rfl) dX3_part_65 (fun M hM => ?_)
        rw [nI_clamp (by omega)] at hM
        obtain ⟨A1, eA1, hM⟩ := ex_eq (P := fun z => MRep G h ad F z B M) hM
        have hb2 : A1 13 n = b := by rw [eA1, aset_off (by omega)]; exact hb1
        refine m_aload_n X dX3_part_66 rfl rfl (by first | rfl | exact isR_rf) ?_
        refine m_getf X fg_X3_41_X3 hM.1 rfl dX3_part_67 ?_
        refine m_iload_n X dX3_part_70 rfl rfl ?_
        refine s_iald X hM rfl rfl (by exact tin (by simp only [alen]; omega) rfl) dX3_part_71 ?_
        refine m_topi X ((congrArg (A1 13) (nI_clamp (by omega))).trans hb2) ?_
        refine m_iload X dX3_part_72 rfl ?_
        refine m_ishr X dX3_part_74 ?_
        refine m_iconst X dX3_part_75 (v := 1) (by decide) ?_
        refine m_iand X dX3_part_76 ?_
        refine m_iconst X dX3_part_77 (v := 1) (by decide) ?_
        refine m_icmpne X dX3_part_78 (t := 109) (by decide) (fun c_78 => ?_) (fun c_78 => ?_)
        · skip
          refine m_aload_n X dX3_part_109 rfl rfl (by first | rfl | exact isR_rf) ?_
          refine m_getf X fg_X3_91_X3 hM.1 rfl dX3_part_110 ?_
          refine m_iload_n X dX3_part_113 rfl rfl ?_
          refine m_bipush X dX3_part_114 (v := 12) (by decide) ?_
          refine m_iload X dX3_part_116 rfl ?_
          refine m_imul X dX3_part_118 ?_
          refine m_topi X (pk_mul 12 f) ?_
          refine m_iadd X dX3_part_119 ?_
          refine m_topi X (nI_add _ _) ?_
          refine m_aload_n X dX3_part_120 rfl rfl (by first | rfl | exact isR_rf) ?_
          refine m_getf X fg_X3_94_X3 hM.1 rfl dX3_part_121 ?_
          refine m_bipush X dX3_part_124 (v := 108) (by decide) ?_
          refine m_iload_n X dX3_part_126 rfl rfl ?_
          refine m_imul X dX3_part_127 ?_
          refine m_topi X (pk_mul 108 d) ?_
          refine m_bipush X dX3_part_128 (v := 12) (by decide) ?_
          refine m_iload X dX3_part_130 rfl ?_
          refine m_imul X dX3_part_132 ?_
          refine m_topi X (pk_mul 12 f) ?_
          refine m_iadd X dX3_part_133 ?_
          refine m_topi X (nI_add _ _) ?_
          refine m_callS X cs_X3_275  (c_X3_join hM 36 (108 * d + 108 + 12 * f) 37 (108 * d + 12 * f) rfl rfl (by simp only [alen]; omega) (by simp only [alen]; omega) (Or.inl (by decide))) rfl rfl (Nat.le_of_ble_eq_true rfl) dX3_part_134 ⟨by decide, by decide, by decide, by decide⟩ (fun v M hp => ?_) (fun _ _ _ _ h => h.elim)
          obtain ⟨rfl, hM⟩ := hp
          refine m_stn ?_
          refine m_iinc X dX3_part_137 rfl (w := 1) (by decide) rfl ?_
          refine m_goto X dX3_part_140 (t := 27) (by decide) ?_
          have q34 : A1 34 n = ρ.bo n ||| bitsN v (f + 1) := by rw [eA1]; rw [aset_on, ← bits_s]; first | rw [if_pos c_53] | rw [if_neg (fun z => z c_53)]
          have hI1 : IR (d + 1) A1 (tkW b v f) := by rw [eA1]; exact hI.ch aset_ch (by intro l h1 h2; omega)
          have hW1 : RW 37 d A1 (wyW b v w f) := by rw [eA1]; exact hW.ch aset_ch (by intro l h1 h2; omega)
          have hv2 : RW 36 (d + 1) A1 v := by rw [eA1]; exact hv1.ch aset_ch (by intro l h1 h2; omega)
          have hC1 : Ch (fun k l => (k = 34 ∧ l = n) ∨ (k = 38 ∧ 12 * d + 12 ≤ l ∧ l < 12 * d + 24) ∨ (k = 37 ∧ 108 * d ≤ l ∧ l < 108 * d + 108)) A0 A1 := by rw [eA1]; exact hC.tr aset_ch (by intro k l hu; omega)
          have hbq := bq0 c_78
          exact m_loc [(4, some (.int (nI (f + 1)))), (3, some (.int (nI (108 * d + 108)))), (0, some (.ref h)), (1, some (.int (nI n))), (2, some (.int (nI d)))] ⟨by rw [nI_succ f]; rfl, rfl, rfl, rfl, rfl, trivial⟩ (ih (f + 1) _ _ (by omega) hM (by rw [joinA_off (by omega)]; exact q34) (by rw [tkW_n hbq]; exact hI1.ch joinA_ch (by intro l h1 h2; omega)) (wyW_n hbq (by omega) hW1 hv2) (hC1.tr joinA_ch (by intro k l hu; omega)))
        · skip
          refine m_aload_n X dX3_part_81 rfl rfl (by first | rfl | exact isR_rf) ?_
          refine m_getf X fg_X3_91_X3 hM.1 rfl dX3_part_82 ?_
          refine m_iload_n X dX3_part_85 rfl rfl ?_
          refine m_bipush X dX3_part_86 (v := 12) (by decide) ?_
          refine m_iload X dX3_part_88 rfl ?_
          refine m_imul X dX3_part_90 ?_
          refine m_topi X (pk_mul 12 f) ?_
          refine m_iadd X dX3_part_91 ?_
          refine m_topi X (nI_add _ _) ?_
          refine m_aload_n X dX3_part_92 rfl rfl (by first | rfl | exact isR_rf) ?_
          refine m_getf X fg_X3_97_X3 hM.1 rfl dX3_part_93 ?_
          refine m_bipush X dX3_part_96 (v := 12) (by decide) ?_
          refine m_iload_n X dX3_part_98 rfl rfl ?_
          refine m_imul X dX3_part_99 ?_
          refine m_topi X (pk_mul 12 d) ?_
          refine m_bipush X dX3_part_100 (v := 12) (by decide) ?_
          refine m_iadd X dX3_part_102 ?_
          refine m_topi X (nI_add _ 12) ?_
          refine m_callS X cs_X3_275  (c_X3_join hM 36 (108 * d + 108 + 12 * f) 38 (12 * d + 12) rfl rfl (by simp only [alen]; omega) (by simp only [alen]; omega) (Or.inl (by decide))) rfl rfl (Nat.le_of_ble_eq_true rfl) dX3_part_103 ⟨by decide, by decide, by decide, by decide⟩ (fun v M hp => ?_) (fun _ _ _ _ h => h.elim)
          obtain ⟨rfl, hM⟩ := hp
          refine m_stn ?_
          refine m_goto X dX3_part_106 (t := 137) (by decide) ?_
          refine m_iinc X dX3_part_137 rfl (w := 1) (by decide) rfl ?_
          refine m_goto X dX3_part_140 (t := 27) (by decide) ?_
          have q34 : A1 34 n = ρ.bo n ||| bitsN v (f + 1) := by rw [eA1]; rw [aset_on, ← bits_s]; first | rw [if_pos c_53] | rw [if_neg (fun z => z c_53)]
          have hI1 : IR (d + 1) A1 (tkW b v f) := by rw [eA1]; exact hI.ch aset_ch (by intro l h1 h2; omega)
          have hW1 : RW 37 d A1 (wyW b v w f) := by rw [eA1]; exact hW.ch aset_ch (by intro l h1 h2; omega)
          have hv2 : RW 36 (d + 1) A1 v := by rw [eA1]; exact hv1.ch aset_ch (by intro l h1 h2; omega)
          have hC1 : Ch (fun k l => (k = 34 ∧ l = n) ∨ (k = 38 ∧ 12 * d + 12 ≤ l ∧ l < 12 * d + 24) ∨ (k = 37 ∧ 108 * d ≤ l ∧ l < 108 * d + 108)) A0 A1 := by rw [eA1]; exact hC.tr aset_ch (by intro k l hu; omega)
          have hbq := bq1 c_78
          exact m_loc [(4, some (.int (nI (f + 1)))), (3, some (.int (nI (108 * d + 108)))), (0, some (.ref h)), (1, some (.int (nI n))), (2, some (.int (nI d)))] ⟨by rw [nI_succ f]; rfl, rfl, rfl, rfl, rfl, trivial⟩ (ih (f + 1) _ _ (by omega) hM (by rw [joinA_off (by omega)]; exact q34) (IR_tk hbq (by omega) hI1 hv2) (by rw [wyW_y hbq]; exact hW1.ch joinA_ch (by intro l h1 h2; omega)) (hC1.tr joinA_ch (by intro k l hu; omega)))
      · skip
        try simp only [bI_0, Bool.not_eq_false] at c_53
        refine m_iconst X dX3_part_56 (v := 1) (by decide) ?_
        refine m_iload X dX3_part_57 rfl ?_
        refine m_ishl X dX3_part_59 ?_
        refine m_goto X dX3_part_60 (t := 64) (by decide) ?_
        refine m_ior X dX3_part_64 ?_
        refine s_iast X hM rfl rfl (by exact tin (by simp only [alen]; omega) rfl) dX3_part_65 (fun M hM => ?_)
        rw [nI_clamp (by omega)] at hM
        obtain ⟨A1, eA1, hM⟩ := ex_eq (P := fun z => MRep G h ad F z B M) hM
        have hb2 : A1 13 n = b := by rw [eA1, aset_off (by omega)]; exact hb1
        refine m_aload_n X dX3_part_66 rfl rfl (by first | rfl | exact isR_rf) ?_
        refine m_getf X fg_X3_41_X3 hM.1 rfl dX3_part_67 ?_
        refine m_iload_n X dX3_part_70 rfl rfl ?_
        refine s_iald X hM rfl rfl (by exact tin (by simp only [alen]; omega) rfl) dX3_part_71 ?_
        refine m_topi X ((congrArg (A1 13) (nI_clamp (by omega))).trans hb2) ?_
        refine m_iload X dX3_part_72 rfl ?_
        refine m_ishr X dX3_part_74 ?_
        refine m_iconst X dX3_part_75 (v := 1) (by decide) ?_
        refine m_iand X dX3_part_76 ?_
        refine m_iconst X dX3_part_77 (v := 1) (by decide) ?_
        refine m_icmpne X dX3_part_78 (t := 109) (by decide) (fun c_78 => ?_) (fun c_78 => ?_)
        · skip
          refine m_aload_n X dX3_part_109 rfl rfl (by first | rfl | exact isR_rf) ?_
          refine m_getf X fg_X3_91_X3 hM.1 rfl dX3_part_110 ?_
          refine m_iload_n X dX3_part_113 rfl rfl ?_
          refine m_bipush X dX3_part_114 (v := 12) (by decide) ?_
          refine m_iload X dX3_part_116 rfl ?_
          refine m_imul X dX3_part_118 ?_
          refine m_topi X (pk_mul 12 f) ?_
          refine m_iadd X dX3_part_119 ?_
          refine m_topi X (nI_add _ _) ?_
          refine m_aload_n X dX3_part_120 rfl rfl (by first | rfl | exact isR_rf) ?_
          refine m_getf X fg_X3_94_X3 hM.1 rfl dX3_part_121 ?_
          refine m_bipush X dX3_part_124 (v := 108) (by decide) ?_
          refine m_iload_n X dX3_part_126 rfl rfl ?_
          refine m_imul X dX3_part_127 ?_
          refine m_topi X (pk_mul 108 d) ?_
          refine m_bipush X dX3_part_128 (v := 12) (by decide) ?_
          refine m_iload X dX3_part_130 rfl ?_
          refine m_imul X dX3_part_132 ?_
          refine m_topi X (pk_mul 12 f) ?_
          refine m_iadd X dX3_part_133 ?_
          refine m_topi X (nI_add _ _) ?_
          refine m_callS X cs_X3_275  (c_X3_join hM 36 (108 * d + 108 + 12 * f) 37 (108 * d + 12 * f) rfl rfl (by simp only [alen]; omega) (by simp only [alen]; omega) (Or.inl (by decide))) rfl rfl (Nat.le_of_ble_eq_true rfl) dX3_part_134 ⟨by decide, by decide, by decide, by decide⟩ (fun v M hp => ?_) (fun _ _ _ _ h => h.elim)
          obtain ⟨rfl, hM⟩ := hp
          refine m_stn ?_
          refine m_iinc X dX3_part_137 rfl (w := 1) (by decide) rfl ?_
          refine m_goto X dX3_part_140 (t := 27) (by decide) ?_
          have q34 : A1 34 n = ρ.bo n ||| bitsN v (f + 1) := by rw [eA1]; rw [aset_on, ← bits_s]; first | rw [if_pos c_53] | rw [if_neg (fun z => z c_53)]
          have hI1 : IR (d + 1) A1 (tkW b v f) := by rw [eA1]; exact hI.ch aset_ch (by intro l h1 h2; omega)
          have hW1 : RW 37 d A1 (wyW b v w f) := by rw [eA1]; exact hW.ch aset_ch (by intro l h1 h2; omega)
          have hv2 : RW 36 (d + 1) A1 v := by rw [eA1]; exact hv1.ch aset_ch (by intro l h1 h2; omega)
          have hC1 : Ch (fun k l => (k = 34 ∧ l = n) ∨ (k = 38 ∧ 12 * d + 12 ≤ l ∧ l < 12 * d + 24) ∨ (k = 37 ∧ 108 * d ≤ l ∧ l < 108 * d + 108)) A0 A1 := by rw [eA1]; exact hC.tr aset_ch (by intro k l hu; omega)
          have hbq := bq0 c_78
          exact m_loc [(4, some (.int (nI (f + 1)))), (3, some (.int (nI (108 * d + 108)))), (0, some (.ref h)), (1, some (.int (nI n))), (2, some (.int (nI d)))] ⟨by rw [nI_succ f]; rfl, rfl, rfl, rfl, rfl, trivial⟩ (ih (f + 1) _ _ (by omega) hM (by rw [joinA_off (by omega)]; exact q34) (by rw [tkW_n hbq]; exact hI1.ch joinA_ch (by intro l h1 h2; omega)) (wyW_n hbq (by omega) hW1 hv2) (hC1.tr joinA_ch (by intro k l hu; omega)))
        · skip
          refine m_aload_n X dX3_part_81 rfl rfl (by first | rfl | exact isR_rf) ?_
          refine m_getf X fg_X3_91_X3 hM.1 rfl dX3_part_82 ?_
          refine m_iload_n X dX3_part_85 rfl rfl ?_
          refine m_bipush X dX3_part_86 (v := 12) (by decide) ?_
          refine m_iload X dX3_part_88 rfl ?_
          refine m_imul X dX3_part_90 ?_
          refine m_topi X (pk_mul 12 f) ?_
          refine m_iadd X dX3_part_91 ?_
          refine m_topi X (nI_add _ _) ?_
          refine m_aload_n X dX3_part_92 rfl rfl (by first | rfl | exact isR_rf) ?_
          refine m_getf X fg_X3_97_X3 hM.1 rfl dX3_part_93 ?_
          refine m_bipush X dX3_part_96 (v := 12) (by decide) ?_
          refine m_iload_n X dX3_part_98 rfl rfl ?_
          refine m_imul X dX3_part_99 ?_
          refine m_topi X (pk_mul 12 d) ?_
          refine m_bipush X dX3_part_100 (v := 12) (by decide) ?_
          refine m_iadd X dX3_part_102 ?_
          refine m_topi X (nI_add _ 12) ?_
          refine m_callS X cs_X3_275  (c_X3_join hM 36 (108 * d + 108 + 12 * f) 38 (12 * d + 12) rfl rfl (by simp only [alen]; omega) (by simp only [alen]; omega) (Or.inl (by decide))) rfl rfl (Nat.le_of_ble_eq_true rfl) dX3_part_103 ⟨by decide, by decide, by decide, by decide⟩ (fun v M hp => ?_) (fun _ _ _ _ h => h.elim)
          obtain ⟨rfl, hM⟩ := hp
          refine m_stn ?_
          refine m_goto X dX3_part_106 (t := 137) (by decide) ?_
          refine m_iinc X dX3_part_137 rfl (w := 1) (by decide) rfl ?_
          refine m_goto X dX3_part_140 (t := 27) (by decide) ?_
          have q34 : A1 34 n = ρ.bo n ||| bitsN v (f + 1) := by rw [eA1]; rw [aset_on, ← bits_s]; first | rw [if_pos c_53] | rw [if_neg (fun z => z c_53)]
          have hI1 : IR (d + 1) A1 (tkW b v f) := by rw [eA1]; exact hI.ch aset_ch (by intro l h1 h2; omega)
          have hW1 : RW 37 d A1 (wyW b v w f) := by rw [eA1]; exact hW.ch aset_ch (by intro l h1 h2; omega)
          have hv2 : RW 36 (d + 1) A1 v := by rw [eA1]; exact hv1.ch aset_ch (by intro l h1 h2; omega)
          have hC1 : Ch (fun k l => (k = 34 ∧ l = n) ∨ (k = 38 ∧ 12 * d + 12 ≤ l ∧ l < 12 * d + 24) ∨ (k = 37 ∧ 108 * d ≤ l ∧ l < 108 * d + 108)) A0 A1 := by rw [eA1]; exact hC.tr aset_ch (by intro k l hu; omega)
          have hbq := bq1 c_78
          exact m_loc [(4, some (.int (nI (f + 1)))), (3, some (.int (nI (108 * d + 108)))), (0, some (.ref h)), (1, some (.int (nI n))), (2, some (.int (nI d)))] ⟨by rw [nI_succ f]; rfl, rfl, rfl, rfl, rfl, trivial⟩ (ih (f + 1) _ _ (by omega) hM (by rw [joinA_off (by omega)]; exact q34) (IR_tk hbq (by omega) hI1 hv2) (by rw [wyW_y hbq]; exact hW1.ch joinA_ch (by intro l h1 h2; omega)) (hC1.tr joinA_ch (by intro k l hu; omega)))
  refine m_bipush X dX3_part_0 (v := 108) (by decide) ?_
  refine m_iload_n X dX3_part_2 rfl rfl ?_
  refine m_imul X dX3_part_3 ?_
  refine m_topi X (pk_mul 108 d) ?_
  refine m_bipush X dX3_part_4 (v := 108) (by decide) ?_
  refine m_iadd X dX3_part_6 ?_
  refine m_topi X (nI_add _ 108) ?_
  refine m_istore_n X dX3_part_7 rfl rfl rfl ?_
  refine m_aload_n X dX3_part_8 rfl rfl (by first | rfl | exact isR_rf) ?_
  refine m_getf X fg_X3_97_X3 hM.1 rfl dX3_part_9 ?_
  refine m_bipush X dX3_part_12 (v := 12) (by decide) ?_
  refine m_iload_n X dX3_part_14 rfl rfl ?_
  refine m_imul X dX3_part_15 ?_
  refine m_topi X (pk_mul 12 d) ?_
  refine m_bipush X dX3_part_16 (v := 12) (by decide) ?_
  refine m_iadd X dX3_part_18 ?_
  refine m_topi X (nI_add _ 12) ?_
  refine m_bipush X dX3_part_19 (v := 12) (by decide) ?_
  refine m_callS X cs_X3_309  (c_X3_wipe hM 38 (12 * d + 12) 12 rfl (by simp only [alen]; omega)) rfl rfl (Nat.le_of_ble_eq_true rfl) dX3_part_21 ⟨by decide, by decide, by decide, by decide⟩ (fun v M hp => ?_) (fun _ _ _ _ h => h.elim)
  obtain ⟨rfl, hM⟩ := hp
  refine m_stn ?_
  refine m_iconst X dX3_part_24 (v := 0) (by decide) ?_
  refine m_istore X dX3_part_25 rfl rfl ?_
  exact m_loc [(4, some (.int (nI 0))), (3, some (.int (nI (108 * d + 108)))), (0, some (.ref h)), (1, some (.int (nI n))), (2, some (.int (nI d)))] ⟨rfl, rfl, rfl, rfl, rfl, trivial⟩ (loop 9 0 _ _ rfl hM (by rw [wipeA_off (by omega), (hR n hn).2.2.2.1]; exact Int32.or_zero.symm) (fun u hu => wipeA_on (by omega)) (by rw [wyW_0]; exact hW.ch wipeA_ch (by intro l h1 h2; omega)) (Ch.le wipeA_ch (by intro k l hu; omega)))
set_option maxHeartbeats 4000000 in
theorem c_X3_last {G : GX} {h : Nat} {ad : Nat → Nat} {F : Nat → Int32} {A0 : Nat → Nat → Int32} {B : Nat → Nat → Int64} {M : Mem} (hM : MRep G h ad F A0 B M) {ρ : RP} {v w : Wy} (n d f : Nat) (hn : n < 80) (hd : d < 81) (hf : f < 9) (hW : RW 36 d A0 w) (hv : RW 36 (d + 1) A0 v) (hR : RR ρ A0) : Con G yX3_last wX3_last (rmm 2 47) [.ref h, .int (nI n), .int (nI d), .int (nI f)] M (pW G h ad F B fun A => RW 36 d A (lastW w v f) ∧ RR (ρ.loOr n (if anyN v 8 = true ∧ f ≠ 0 then (1 : Int32) <<< (nI f &&& 31) else 0)) A ∧ Ch (fun k l => (k = 35 ∧ l = n) ∨ (k = 36 ∧ 108 * d ≤ l ∧ l < 108 * d + 108)) A0 A) nX := by
  refine Con.mk (by decide) rfl [(0, some (.ref h)), (1, some (.int (nI n))), (2, some (.int (nI d))), (3, some (.int (nI f)))] rfl fun x X hno => ?_
  refine m_bipush X dX3_last_0 (v := 108) (by decide) ?_
  refine m_iload_n X dX3_last_2 rfl rfl ?_
  refine m_imul X dX3_last_3 ?_
  refine m_topi X (pk_mul 108 d) ?_
  refine m_bipush X dX3_last_4 (v := 108) (by decide) ?_
  refine m_iadd X dX3_last_6 ?_
  refine m_topi X (nI_add _ 108) ?_
  refine m_istore X dX3_last_7 rfl rfl ?_
  refine m_aload_n X dX3_last_9 rfl rfl (by first | rfl | exact isR_rf) ?_
  refine m_getf X fg_X3_91_X3 hM.1 rfl dX3_last_10 ?_
  refine m_iload X dX3_last_13 rfl ?_
  refine m_aload_n X dX3_last_15 rfl rfl (by first | rfl | exact isR_rf) ?_
  refine m_getf X fg_X3_91_X3 hM.1 rfl dX3_last_16 ?_
  refine m_bipush X dX3_last_19 (v := 108) (by decide) ?_
  refine m_iload_n X dX3_last_21 rfl rfl ?_
  refine m_imul X dX3_last_22 ?_
  refine m_topi X (pk_mul 108 d) ?_
  refine m_bipush X dX3_last_23 (v := 12) (by decide) ?_
  refine m_iload_n X dX3_last_25 rfl rfl ?_
  refine m_imul X dX3_last_26 ?_
  refine m_topi X (pk_mul 12 f) ?_
  refine m_iadd X dX3_last_27 ?_
  refine m_topi X (nI_add _ _) ?_
  refine m_callS X cs_X3_275  (c_X3_join hM 36 (108 * d + 108) 36 (108 * d + 12 * f) rfl rfl (by simp only [alen]; omega) (by simp only [alen]; omega) (Or.inr (Or.inr (by omega)))) rfl rfl (Nat.le_of_ble_eq_true rfl) dX3_last_28 ⟨by decide, by decide, by decide, by decide⟩ (fun v M hp => ?_) (fun _ _ _ _ h => h.elim)
  obtain ⟨rfl, hM⟩ := hp
  refine m_stn ?_
  refine m_aload_n X dX3_last_31 rfl rfl (by first | rfl | exact isR_rf) ?_
  refine m_iload_n X dX3_last_32 rfl rfl ?_
  refine m_iconst X dX3_last_33 (v := 1) (by decide) ?_
  refine m_callV X cs_X3_324  (c_X3_put hM d 1 hd (by decide) (RW_orAt hf hW hv) (hv.ch joinA_ch (by intro l h1 h2; omega))) hM.1 rfl rfl rfl (Nat.le_of_ble_eq_true rfl) dX3_last_34 ⟨by decide, by decide, by decide, by decide⟩ (fun v M hp => ?_) (fun _ _ _ _ h => h.elim)
  obtain ⟨rfl, A, hM, hE⟩ := hp
  refine m_stn ?_
  have hv2 := (hv.ch (joinA_ch (A := A0) (j := 36) (f := 108 * d + 108) (k := 36) (t := 108 * d + 12 * f) (n := 12)) (by intro l h1 h2; omega)).ch hE.2 (by intro l h1 h2; omega)
  have hC2 : Ch (fun k l => (k = 35 ∧ l = n) ∨ (k = 36 ∧ 108 * d ≤ l ∧ l < 108 * d + 108)) A0 A := Ch.tr (joinA_ch (A := A0) (j := 36) (f := 108 * d + 108) (k := 36) (t := 108 * d + 12 * f) (n := 12)) hE.2 (by intro k l hu; omega)
  have hR2 := (hR.ch (joinA_ch (A := A0) (j := 36) (f := 108 * d + 108) (k := 36) (t := 108 * d + 12 * f) (n := 12)) (by intro k l h1 h2; omega)).ch hE.2 (by intro k l h1 h2; omega)
  refine m_iconst X dX3_last_37 (v := 0) (by decide) ?_
  refine m_istore X dX3_last_38 rfl rfl ?_
  have loop : ∀ (m i : Nat), i + m = 8 → WM G x 7 (QM G x (pW G h ad F B fun A => RW 36 d A (lastW w v f) ∧ RR (ρ.loOr n (if anyN v 8 = true ∧ f ≠ 0 then (1 : Int32) <<< (nI f &&& 31) else 0)) A ∧ Ch (fun k l => (k = 35 ∧ l = n) ∨ (k = 36 ∧ 108 * d ≤ l ∧ l < 108 * d + 108)) A0 A) nX (rmm 2 47)) 0 0 M 43 [(6, some (.int (nI (i + 1)))), (5, some (.int (bI (anyN v i)))), (4, some (.int (nI (108 * d + 108)))), (0, some (.ref h)), (1, some (.int (nI n))), (2, some (.int (nI d))), (3, some (.int (nI f)))] [] := by
    intro m
    induction m with
    | zero =>
      intro i hi
      have hi8 : i = 8 := by omega
      subst hi8
      refine m_iload X dX3_last_43 rfl ?_
      refine m_bipush X dX3_last_45 (v := 9) (by decide) ?_
      refine m_icmpge X dX3_last_47 (t := 82) (by decide) (fun c_47 => ?_) (fun c_47 => absurd (by decide) c_47)
      refine m_aload_n X dX3_last_82 rfl rfl (by first | rfl | exact isR_rf) ?_
      refine m_getf X fg_X3_88_X3 hM.1 rfl dX3_last_83 ?_
      refine m_iload_n X dX3_last_86 rfl rfl ?_
      refine m_dup2 X dX3_last_87 rfl rfl ?_
      refine s_iald X hM rfl rfl (by exact tin (by simp only [alen]; omega) rfl) dX3_last_88 ?_
      refine m_topi X (congrArg (A 35) (nI_clamp (by omega))) ?_
      refine m_iload X dX3_last_89 rfl ?_
      refine m_ifeq X dX3_last_91 (t := 104) (by decide) (fun c_91 => ?_) (fun c_91 => ?_)
      · skip
        try simp only [bI_0, Bool.not_eq_false] at c_91
        refine m_iconst X dX3_last_104 (v := 0) (by decide) ?_
        refine m_ior X dX3_last_105 ?_
        refine s_iast X hM rfl rfl (by exact tin (by simp only [alen]; omega) rfl) dX3_last_106 (fun M hM => ?_)
        rw [nI_clamp (by omega)] at hM
        exact m_vret X dX3_last_107 (by decide) (by decide) (by exact ⟨rfl, _, hM, hE.1.ch aset_ch (by intro l h1 h2; omega), hR2.loOr (T := fun k l => k = 35 ∧ l = n) aset_ch (by intro k l h1 h2 h3; omega) (by rw [aset_on, (hR2 n hn).2.2.2.2, if_neg (fun z => by rw [c_91] at z; cases z.1)]), hC2.tr aset_ch (by intro k l hu; omega)⟩)
      · skip
        try simp only [bI_0, Bool.not_eq_false] at c_91
        refine m_iload_n X dX3_last_94 rfl rfl ?_
        refine m_ifle X dX3_last_95 (t := 104) (by decide) (fun c_95 => ?_) (fun c_95 => ?_)
        · skip
          try simp only [bI_0, Bool.not_eq_false] at c_95
          refine m_iconst X dX3_last_104 (v := 0) (by decide) ?_
          refine m_ior X dX3_last_105 ?_
          refine s_iast X hM rfl rfl (by exact tin (by simp only [alen]; omega) rfl) dX3_last_106 (fun M hM => ?_)
          rw [nI_clamp (by omega)] at hM
          exact m_vret X dX3_last_107 (by decide) (by decide) (by exact ⟨rfl, _, hM, hE.1.ch aset_ch (by intro l h1 h2; omega), hR2.loOr (T := fun k l => k = 35 ∧ l = n) aset_ch (by intro k l h1 h2 h3; omega) (by rw [aset_on, (hR2 n hn).2.2.2.2, if_neg (fun z => z.2 (Nat.le_zero.mp ((nI_leI (b := 0) (by omega) (by decide)).mp c_95)))]), hC2.tr aset_ch (by intro k l hu; omega)⟩)
        · skip
          try simp only [bI_0, Bool.not_eq_false] at c_95
          refine m_iconst X dX3_last_98 (v := 1) (by decide) ?_
          refine m_iload_n X dX3_last_99 rfl rfl ?_
          refine m_ishl X dX3_last_100 ?_
          refine m_goto X dX3_last_101 (t := 105) (by decide) ?_
          refine m_ior X dX3_last_105 ?_
          refine s_iast X hM rfl rfl (by exact tin (by simp only [alen]; omega) rfl) dX3_last_106 (fun M hM => ?_)
          rw [nI_clamp (by omega)] at hM
          exact m_vret X dX3_last_107 (by decide) (by decide) (by exact ⟨rfl, _, hM, hE.1.ch aset_ch (by intro l h1 h2; omega), hR2.loOr (T := fun k l => k = 35 ∧ l = n) aset_ch (by intro k l h1 h2 h3; omega) (by rw [aset_on, (hR2 n hn).2.2.2.2, if_pos ⟨c_91, fun z => c_95 (by rw [z]; decide)⟩]), hC2.tr aset_ch (by intro k l hu; omega)⟩)
    | succ m ih =>
      intro i hi
      have hw := hv2.z (i := i + 1) (by omega) (by omega)
      rw [show 108 * (d + 1) + 12 * (i + 1) = 108 * d + 108 + 12 * (i + 1) by omega] at hw
      refine m_iload X dX3_last_43 rfl ?_
      refine m_bipush X dX3_last_45 (v := 9) (by decide) ?_
      refine m_icmpge X dX3_last_47 (t := 82) (by decide) (fun c_47 => absurd ((nI_leI (a := 9) (by decide) (by omega)).mp c_47) (by omega)) (fun c_47 => ?_)
      refine m_iload X dX3_last_50 rfl ?_
      refine m_aload_n X dX3_last_52 rfl rfl (by first | rfl | exact isR_rf) ?_
      refine m_getf X fg_X3_91_X3 hM.1 rfl dX3_last_53 ?_
      refine m_iload X dX3_last_56 rfl ?_
      refine m_bipush X dX3_last_58 (v := 12) (by decide) ?_
      refine m_iload X dX3_last_60 rfl ?_
      refine m_imul X dX3_last_62 ?_
      refine m_topi X (pk_mul 12 (i + 1)) ?_
      refine m_iadd X dX3_last_63 ?_
      refine m_topi X (nI_add _ _) ?_
      refine s_iald X hM rfl rfl (by exact tin (by simp only [alen]; omega) rfl) dX3_last_64 ?_
      refine m_topi X (hw) ?_
      refine m_ifeq X dX3_last_65 (t := 72) (by decide) (fun c_65 => ?_) (fun c_65 => ?_)
      · skip
        try simp only [bI_0, Bool.not_eq_false] at c_65
        refine m_iconst X dX3_last_72 (v := 0) (by decide) ?_
        refine m_ior X dX3_last_73 ?_
        refine m_istore X dX3_last_74 rfl rfl ?_
        refine m_iinc X dX3_last_76 rfl (w := 1) (by decide) rfl ?_
        refine m_goto X dX3_last_79 (t := 43) (by decide) ?_
        exact m_loc [(6, some (.int (nI ((i + 1) + 1)))), (5, some (.int (bI (anyN v (i + 1))))), (4, some (.int (nI (108 * d + 108)))), (0, some (.ref h)), (1, some (.int (nI n))), (2, some (.int (nI d))), (3, some (.int (nI f)))] ⟨by rw [nI_succ (i + 1)]; rfl, by rw [show anyN v (i + 1) = (anyN v i || decide (v (i + 1) 0 ≠ 0)) from rfl, decide_eq_false (fun z => z c_65), ← bI_or0]; rfl, rfl, rfl, rfl, rfl, rfl, trivial⟩ (ih (i + 1) (by omega))
      · skip
        try simp only [bI_0, Bool.not_eq_false] at c_65
        refine m_iconst X dX3_last_68 (v := 1) (by decide) ?_
        refine m_goto X dX3_last_69 (t := 73) (by decide) ?_
        refine m_ior X dX3_last_73 ?_
        refine m_istore X dX3_last_74 rfl rfl ?_
        refine m_iinc X dX3_last_76 rfl (w := 1) (by decide) rfl ?_
        refine m_goto X dX3_last_79 (t := 43) (by decide) ?_
        exact m_loc [(6, some (.int (nI ((i + 1) + 1)))), (5, some (.int (bI (anyN v (i + 1))))), (4, some (.int (nI (108 * d + 108)))), (0, some (.ref h)), (1, some (.int (nI n))), (2, some (.int (nI d))), (3, some (.int (nI f)))] ⟨by rw [nI_succ (i + 1)]; rfl, by rw [show anyN v (i + 1) = (anyN v i || decide (v (i + 1) 0 ≠ 0)) from rfl, decide_eq_true c_65, ← bI_or1]; rfl, rfl, rfl, rfl, rfl, rfl, trivial⟩ (ih (i + 1) (by omega))
  refine m_iconst X dX3_last_40 (v := 1) (by decide) ?_
  refine m_istore X dX3_last_41 rfl rfl ?_
  exact m_loc [(6, some (.int (nI (0 + 1)))), (5, some (.int (bI (anyN v 0)))), (4, some (.int (nI (108 * d + 108)))), (0, some (.ref h)), (1, some (.int (nI n))), (2, some (.int (nI d))), (3, some (.int (nI f)))] ⟨rfl, rfl, rfl, rfl, rfl, rfl, rfl, trivial⟩ (loop 8 0 rfl)
