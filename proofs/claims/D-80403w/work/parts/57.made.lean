/-! THE MODEL MADE (printed by wip/D-80403w/tools/m57.py) -/
set_option maxRecDepth 100000
/-- the model's object while it is made: the fields of D are filled -/
def flD (ad : Nat → Nat) (D : Nat → Bool) (F : Nat → Int32) : List Value := (List.range 40).map fun k => if akd k = true then (if D k = true then .ref (ad k) else .null) else .int (F k)
def zeroE (G : GX) (k : Nat) : va_E := if ikd k = true then .inl (G.dA 0, alen k, .inl fun _ => 0) else if zkd k = true then .inl (G.dA 10, alen k, .inl fun _ => 0) else .inl (G.dA 2, alen k, .inr (.inl fun _ => 0))
def MI (G : GX) (h : Nat) (ad : Nat → Nat) (D : Nat → Bool) (F : Nat → Int32) (M : Mem) : Prop := M h = some (.inr (3, flD ad D F)) ∧ (∀ k, D k = true → M (ad k) = some (zeroE G k)) ∧ (∀ j k, D j = true → D k = true → ad j = ad k → j = k) ∧ ∀ k, D k = true → ad k ≠ h
theorem map_set {g : Nat → Value} {k : Nat} {v : Value} {n : Nat} : ((List.range n).map g).set k v = (List.range n).map fun j => if j = k then v else g j := by
  refine List.ext_getElem (by simp) fun i h1 h2 => ?_
  simp only [List.length_set, List.length_map, List.length_range] at h1
  rw [List.getElem_set, List.getElem_map, List.getElem_map, List.getElem_range]
  by_cases e : k = i
  · rw [if_pos e, if_pos e.symm]
  · rw [if_neg e, if_neg (fun z => e z.symm)]
theorem MI.step {G : GX} {h : Nat} {ad : Nat → Nat} {D : Nat → Bool} {F : Nat → Int32} {M : Mem} (hM : MI G h ad D F M) {k a : Nat} (hk : akd k = true) (hD : D k = false) (ha : M a = none) : MI G h (updN ad k a) (updB D k true) F (mup (mup M a (zeroE G k)) h (.inr (3, (flD ad D F).set k (.ref a)))) := by
  obtain ⟨h1, h2, h3, h4⟩ := hM
  have hah : a ≠ h := fun z => by rw [z, h1] at ha; cases ha
  have hj : ∀ j, D j = true → ad j ≠ a := fun j hj z => by rw [← z, h2 j hj] at ha; cases ha
  have hne : ∀ j, updB D k true j = true → j ≠ k → D j = true := fun j q e => by
    unfold updB at q
    rw [if_neg e] at q
    exact q
  refine ⟨?_, fun j q => ?_, fun i j qi qj z => ?_, fun j q => ?_⟩
  · rw [mup_s]
    unfold flD
    rw [map_set]
    refine congrArg (fun z => some (Sum.inr (3, z))) (List.map_congr_left fun j _ => ?_)
    by_cases e : j = k
    · subst e
      rw [if_pos rfl, if_pos hk, show updB D j true j = true from if_pos rfl, if_pos rfl, updN_s]
    · rw [if_neg e, show updB D k true j = D j from if_neg e, updN_n e]
  · by_cases e : j = k
    · subst e
      rw [updN_s, mup_n hah, mup_s]
    · rw [updN_n e, mup_n (h4 j (hne j q e)), mup_n (hj j (hne j q e))]
      exact h2 j (hne j q e)
  · by_cases ei : i = k
    · by_cases ej : j = k
      · rw [ei, ej]
      · rw [ei, updN_s, updN_n ej] at z
        exact absurd z.symm (hj j (hne j qj ej))
    · by_cases ej : j = k
      · rw [ej, updN_s, updN_n ei] at z
        exact absurd z (hj i (hne i qi ei))
      · rw [updN_n ei, updN_n ej] at z
        exact h3 i j (hne i qi ei) (hne j qj ej) z
  · by_cases e : j = k
    · rw [e, updN_s]; exact hah
    · rw [updN_n e]; exact h4 j (hne j q e)
theorem MI.done {G : GX} {h : Nat} {ad : Nat → Nat} {D : Nat → Bool} {F : Nat → Int32} {M : Mem} (hM : MI G h ad D F M) (hD : ∀ k, akd k = true → D k = true) : MRep G h ad F (fun _ _ => 0) (fun _ _ => 0) M := by
  obtain ⟨h1, h2, h3, h4⟩ := hM
  refine ⟨h1.trans (congrArg (fun z => some (Sum.inr (3, z))) ?_), fun k hk => ?_, fun k hk => ?_, fun k hk => ?_, fun j k a b => h3 j k (hD j a) (hD k b), fun k a => h4 k (hD k a)⟩
  · have e : flD ad D F = (List.range 40).map fun k => if akd k = true then .ref (ad k) else .int (F k) := List.map_congr_left fun k _ => by
      by_cases q : akd k = true
      · rw [if_pos q, if_pos q, if_pos (hD k q)]
      · rw [if_neg q, if_neg q]
    rw [e]
    rfl
  · rw [h2 k (hD k (ikd_akd hk))]
    unfold zeroE
    rw [if_pos hk]
  · rw [h2 k (hD k (zkd_akd hk))]
    unfold zeroE
    rw [if_neg (fun z => by rw [(kd_ap.1 z).1] at hk; cases hk), if_pos hk]
  · rw [h2 k (hD k (lkd_akd hk))]
    unfold zeroE
    rw [if_neg (fun z => by rw [(kd_ap.1 z).2] at hk; cases hk), if_neg (fun z => by rw [kd_ap.2 z] at hk; cases hk)]
theorem i_gen {G : GX} {h : Nat} {ad : Nat → Nat} {D : Nat → Bool} {F : Nat → Int32} {M : Mem} {P : Mem → Prop} (hM : MI G h ad D F M) {k a : Nat} (hk : akd k = true) (hD : D k = false) (ha : M a = none) {E : va_E} (hE : E = zeroE G k) (K : ∀ (ad' : Nat → Nat) (M1 : Mem), MI G h ad' (updB D k true) F M1 → P M1) : P (mup (mup M a E) h (.inr (3, (flD ad D F).set k (.ref a)))) := by
  subst hE
  exact K _ _ (hM.step hk hD ha)
theorem i_put {G : GX} {h : Nat} {ad : Nat → Nat} {D : Nat → Bool} {F : Nat → Int32} {M : Mem} {P : Mem → Prop} (hM : MI G h ad D F M) {k : Nat} {v : Int32} (hk : akd k = false) (K : ∀ M1 : Mem, MI G h ad D (upd F k v) M1 → P M1) : P (mup M h (.inr (3, (flD ad D F).set k (.int v)))) := by
  refine K _ ⟨?_, fun j q => (mup_n (hM.2.2.2 j q)).trans (hM.2.1 j q), hM.2.2.1, hM.2.2.2⟩
  rw [mup_s]
  unfold flD
  rw [map_set]
  refine congrArg (fun z => some (Sum.inr (3, z))) (List.map_congr_left fun j _ => ?_)
  by_cases e : j = k
  · subst e
    rw [if_pos rfl, if_neg (by rw [hk]; decide)]
    unfold upd
    rw [if_pos rfl]
  · rw [if_neg e]
    unfold upd
    rw [if_neg e]
theorem akd_lt {k : Nat} (h : akd k = true) : k < 40 := by
  simp [akd, ikd, zkd, lkd] at h
  omega
theorem dall {D : Nat → Bool} (h : (List.range 40).all (fun k => !akd k || D k) = true) (k : Nat) (hk : akd k = true) : D k = true := by
  have := List.all_eq_true.mp h k (List.mem_range.mpr (akd_lt hk))
  rw [hk] at this
  simpa using this
set_option maxHeartbeats 4000000 in
theorem c_X3_init {G : GX} {h : Nat} {M : Mem} (hM : MI G h (fun _ => 0) (fun _ => false) (fun _ => 0) M) : Con G yX3_init wX3_init ({ frames := 1, cells := 29, slots := 27642, locals := 40 } : Room) [.ref h] M (fun v M' => v = none ∧ ∃ ad : Nat → Nat, MRep G h ad (upd (fun _ => 0) 22 (-1)) (fun _ _ => 0) (fun _ _ => 0) M') nX := by
  refine Con.mk (by decide) rfl [(0, some (.ref h))] rfl fun x X hno => ?_
  refine m_aload_n X dX3_init_0 rfl rfl (by first | rfl | exact isR_rf) ?_
  refine m_objInit X q937 q128 q129 dX3_init_1 (by decide) (by decide) ?_
  refine m_aload_n X dX3_init_4 rfl rfl (by first | rfl | exact isR_rf) ?_
  refine m_sipush X dX3_init_5 (v := 201) (by decide) ?_
  refine m_newa X (t := 0) (atype := .int) (ty := .int) q147 rfl rfl (N := 201) (a0 := (201, .inl fun _ => 0)) (fun _ => rfl) (by decide) (by decide) (by decide) (Nat.le_of_ble_eq_true rfl) (Nat.le_of_ble_eq_true rfl) dX3_init_8 (fun a ha => ?_)
  refine m_putf X fp_X3_7_X3 (fun _ => rfl) ((mup_n (fun z => by rw [← z, hM.1] at ha; cases ha)).trans hM.1) rfl rfl rfl dX3_init_10 ?_
  refine i_gen (P := fun z => WM G x 1 _ _ _ z _ _ _) hM (k := 2) rfl rfl ha rfl (fun ad M hM => ?_)
  refine m_aload_n X dX3_init_13 rfl rfl (by first | rfl | exact isR_rf) ?_
  refine m_sipush X dX3_init_14 (v := 201) (by decide) ?_
  refine m_newa X (t := 0) (atype := .int) (ty := .int) q147 rfl rfl (N := 201) (a0 := (201, .inl fun _ => 0)) (fun _ => rfl) (by decide) (by decide) (by decide) (Nat.le_of_ble_eq_true rfl) (Nat.le_of_ble_eq_true rfl) dX3_init_17 (fun a ha => ?_)
  refine m_putf X fp_X3_13_X3 (fun _ => rfl) ((mup_n (fun z => by rw [← z, hM.1] at ha; cases ha)).trans hM.1) rfl rfl rfl dX3_init_19 ?_
  refine i_gen (P := fun z => WM G x 1 _ _ _ z _ _ _) hM (k := 3) rfl rfl ha rfl (fun ad M hM => ?_)
  refine m_aload_n X dX3_init_22 rfl rfl (by first | rfl | exact isR_rf) ?_
  refine m_sipush X dX3_init_23 (v := 201) (by decide) ?_
  refine m_newa X (t := 0) (atype := .int) (ty := .int) q147 rfl rfl (N := 201) (a0 := (201, .inl fun _ => 0)) (fun _ => rfl) (by decide) (by decide) (by decide) (Nat.le_of_ble_eq_true rfl) (Nat.le_of_ble_eq_true rfl) dX3_init_26 (fun a ha => ?_)
  refine m_putf X fp_X3_16_X3 (fun _ => rfl) ((mup_n (fun z => by rw [← z, hM.1] at ha; cases ha)).trans hM.1) rfl rfl rfl dX3_init_28 ?_
  refine i_gen (P := fun z => WM G x 1 _ _ _ z _ _ _) hM (k := 4) rfl rfl ha rfl (fun ad M hM => ?_)
  refine m_aload_n X dX3_init_31 rfl rfl (by first | rfl | exact isR_rf) ?_
  refine m_sipush X dX3_init_32 (v := 201) (by decide) ?_
  refine m_newa X (t := 0) (atype := .int) (ty := .int) q147 rfl rfl (N := 201) (a0 := (201, .inl fun _ => 0)) (fun _ => rfl) (by decide) (by decide) (by decide) (Nat.le_of_ble_eq_true rfl) (Nat.le_of_ble_eq_true rfl) dX3_init_35 (fun a ha => ?_)
  refine m_putf X fp_X3_19_X3 (fun _ => rfl) ((mup_n (fun z => by rw [← z, hM.1] at ha; cases ha)).trans hM.1) rfl rfl rfl dX3_init_37 ?_
  refine i_gen (P := fun z => WM G x 1 _ _ _ z _ _ _) hM (k := 5) rfl rfl ha rfl (fun ad M hM => ?_)
  refine m_aload_n X dX3_init_40 rfl rfl (by first | rfl | exact isR_rf) ?_
  refine m_sipush X dX3_init_41 (v := 3000) (by decide) ?_
  refine m_newa X (t := 2) (atype := .long) (ty := .long) q146 rfl rfl (N := 3000) (a0 := (3000, .inr (.inl fun _ => 0))) (fun _ => rfl) (by decide) (by decide) (by decide) (Nat.le_of_ble_eq_true rfl) (Nat.le_of_ble_eq_true rfl) dX3_init_44 (fun a ha => ?_)
  refine m_putf X fp_X3_22_X3 (fun _ => rfl) ((mup_n (fun z => by rw [← z, hM.1] at ha; cases ha)).trans hM.1) rfl rfl rfl dX3_init_46 ?_
  refine i_gen (P := fun z => WM G x 1 _ _ _ z _ _ _) hM (k := 6) rfl rfl ha rfl (fun ad M hM => ?_)
  refine m_aload_n X dX3_init_49 rfl rfl (by first | rfl | exact isR_rf) ?_
  refine m_bipush X dX3_init_50 (v := 12) (by decide) ?_
  refine m_newa X (t := 0) (atype := .int) (ty := .int) q147 rfl rfl (N := 12) (a0 := (12, .inl fun _ => 0)) (fun _ => rfl) (by decide) (by decide) (by decide) (Nat.le_of_ble_eq_true rfl) (Nat.le_of_ble_eq_true rfl) dX3_init_52 (fun a ha => ?_)
  refine m_putf X fp_X3_26_X3 (fun _ => rfl) ((mup_n (fun z => by rw [← z, hM.1] at ha; cases ha)).trans hM.1) rfl rfl rfl dX3_init_54 ?_
  refine i_gen (P := fun z => WM G x 1 _ _ _ z _ _ _) hM (k := 7) rfl rfl ha rfl (fun ad M hM => ?_)
  refine m_aload_n X dX3_init_57 rfl rfl (by first | rfl | exact isR_rf) ?_
  refine m_bipush X dX3_init_58 (v := 8) (by decide) ?_
  refine m_newa X (t := 2) (atype := .long) (ty := .long) q146 rfl rfl (N := 8) (a0 := (8, .inr (.inl fun _ => 0))) (fun _ => rfl) (by decide) (by decide) (by decide) (Nat.le_of_ble_eq_true rfl) (Nat.le_of_ble_eq_true rfl) dX3_init_60 (fun a ha => ?_)
  refine m_putf X fp_X3_29_X3 (fun _ => rfl) ((mup_n (fun z => by rw [← z, hM.1] at ha; cases ha)).trans hM.1) rfl rfl rfl dX3_init_62 ?_
  refine i_gen (P := fun z => WM G x 1 _ _ _ z _ _ _) hM (k := 8) rfl rfl ha rfl (fun ad M hM => ?_)
  refine m_aload_n X dX3_init_65 rfl rfl (by first | rfl | exact isR_rf) ?_
  refine m_bipush X dX3_init_66 (v := 80) (by decide) ?_
  refine m_newa X (t := 0) (atype := .int) (ty := .int) q147 rfl rfl (N := 80) (a0 := (80, .inl fun _ => 0)) (fun _ => rfl) (by decide) (by decide) (by decide) (Nat.le_of_ble_eq_true rfl) (Nat.le_of_ble_eq_true rfl) dX3_init_68 (fun a ha => ?_)
  refine m_putf X fp_X3_32_X3 (fun _ => rfl) ((mup_n (fun z => by rw [← z, hM.1] at ha; cases ha)).trans hM.1) rfl rfl rfl dX3_init_70 ?_
  refine i_gen (P := fun z => WM G x 1 _ _ _ z _ _ _) hM (k := 10) rfl rfl ha rfl (fun ad M hM => ?_)
  refine m_aload_n X dX3_init_73 rfl rfl (by first | rfl | exact isR_rf) ?_
  refine m_bipush X dX3_init_74 (v := 80) (by decide) ?_
  refine m_newa X (t := 0) (atype := .int) (ty := .int) q147 rfl rfl (N := 80) (a0 := (80, .inl fun _ => 0)) (fun _ => rfl) (by decide) (by decide) (by decide) (Nat.le_of_ble_eq_true rfl) (Nat.le_of_ble_eq_true rfl) dX3_init_76 (fun a ha => ?_)
  refine m_putf X fp_X3_35_X3 (fun _ => rfl) ((mup_n (fun z => by rw [← z, hM.1] at ha; cases ha)).trans hM.1) rfl rfl rfl dX3_init_78 ?_
  refine i_gen (P := fun z => WM G x 1 _ _ _ z _ _ _) hM (k := 11) rfl rfl ha rfl (fun ad M hM => ?_)
  refine m_aload_n X dX3_init_81 rfl rfl (by first | rfl | exact isR_rf) ?_
  refine m_bipush X dX3_init_82 (v := 80) (by decide) ?_
  refine m_newa X (t := 0) (atype := .int) (ty := .int) q147 rfl rfl (N := 80) (a0 := (80, .inl fun _ => 0)) (fun _ => rfl) (by decide) (by decide) (by decide) (Nat.le_of_ble_eq_true rfl) (Nat.le_of_ble_eq_true rfl) dX3_init_84 (fun a ha => ?_)
  refine m_putf X fp_X3_38_X3 (fun _ => rfl) ((mup_n (fun z => by rw [← z, hM.1] at ha; cases ha)).trans hM.1) rfl rfl rfl dX3_init_86 ?_
  refine i_gen (P := fun z => WM G x 1 _ _ _ z _ _ _) hM (k := 12) rfl rfl ha rfl (fun ad M hM => ?_)
  refine m_aload_n X dX3_init_89 rfl rfl (by first | rfl | exact isR_rf) ?_
  refine m_bipush X dX3_init_90 (v := 80) (by decide) ?_
  refine m_newa X (t := 0) (atype := .int) (ty := .int) q147 rfl rfl (N := 80) (a0 := (80, .inl fun _ => 0)) (fun _ => rfl) (by decide) (by decide) (by decide) (Nat.le_of_ble_eq_true rfl) (Nat.le_of_ble_eq_true rfl) dX3_init_92 (fun a ha => ?_)
  refine m_putf X fp_X3_41_X3 (fun _ => rfl) ((mup_n (fun z => by rw [← z, hM.1] at ha; cases ha)).trans hM.1) rfl rfl rfl dX3_init_94 ?_
  refine i_gen (P := fun z => WM G x 1 _ _ _ z _ _ _) hM (k := 13) rfl rfl ha rfl (fun ad M hM => ?_)
  refine m_aload_n X dX3_init_97 rfl rfl (by first | rfl | exact isR_rf) ?_
  refine m_bipush X dX3_init_98 (v := 80) (by decide) ?_
  refine m_newa X (t := 0) (atype := .int) (ty := .int) q147 rfl rfl (N := 80) (a0 := (80, .inl fun _ => 0)) (fun _ => rfl) (by decide) (by decide) (by decide) (Nat.le_of_ble_eq_true rfl) (Nat.le_of_ble_eq_true rfl) dX3_init_100 (fun a ha => ?_)
  refine m_putf X fp_X3_44_X3 (fun _ => rfl) ((mup_n (fun z => by rw [← z, hM.1] at ha; cases ha)).trans hM.1) rfl rfl rfl dX3_init_102 ?_
  refine i_gen (P := fun z => WM G x 1 _ _ _ z _ _ _) hM (k := 14) rfl rfl ha rfl (fun ad M hM => ?_)
  refine m_aload_n X dX3_init_105 rfl rfl (by first | rfl | exact isR_rf) ?_
  refine m_bipush X dX3_init_106 (v := 80) (by decide) ?_
  refine m_newa X (t := 0) (atype := .int) (ty := .int) q147 rfl rfl (N := 80) (a0 := (80, .inl fun _ => 0)) (fun _ => rfl) (by decide) (by decide) (by decide) (Nat.le_of_ble_eq_true rfl) (Nat.le_of_ble_eq_true rfl) dX3_init_108 (fun a ha => ?_)
  refine m_putf X fp_X3_47_X3 (fun _ => rfl) ((mup_n (fun z => by rw [← z, hM.1] at ha; cases ha)).trans hM.1) rfl rfl rfl dX3_init_110 ?_
  refine i_gen (P := fun z => WM G x 1 _ _ _ z _ _ _) hM (k := 15) rfl rfl ha rfl (fun ad M hM => ?_)
  refine m_aload_n X dX3_init_113 rfl rfl (by first | rfl | exact isR_rf) ?_
  refine m_bipush X dX3_init_114 (v := 80) (by decide) ?_
  refine m_newa X (t := 0) (atype := .int) (ty := .int) q147 rfl rfl (N := 80) (a0 := (80, .inl fun _ => 0)) (fun _ => rfl) (by decide) (by decide) (by decide) (Nat.le_of_ble_eq_true rfl) (Nat.le_of_ble_eq_true rfl) dX3_init_116 (fun a ha => ?_)
  refine m_putf X fp_X3_50_X3 (fun _ => rfl) ((mup_n (fun z => by rw [← z, hM.1] at ha; cases ha)).trans hM.1) rfl rfl rfl dX3_init_118 ?_
  refine i_gen (P := fun z => WM G x 1 _ _ _ z _ _ _) hM (k := 16) rfl rfl ha rfl (fun ad M hM => ?_)
  refine m_aload_n X dX3_init_121 rfl rfl (by first | rfl | exact isR_rf) ?_
  refine m_iconst X dX3_init_122 (v := -1) (by decide) ?_
  refine m_putf X fp_X3_53_X3 (fun h => nomatch h) hM.1 rfl rfl rfl dX3_init_123 ?_
  refine i_put (P := fun z => WM G x 1 _ _ _ z _ _ _) hM (k := 22) rfl (fun M hM => ?_)
  refine m_aload_n X dX3_init_126 rfl rfl (by first | rfl | exact isR_rf) ?_
  refine m_sipush X dX3_init_127 (v := 3000) (by decide) ?_
  refine m_newa X (t := 2) (atype := .long) (ty := .long) q146 rfl rfl (N := 3000) (a0 := (3000, .inr (.inl fun _ => 0))) (fun _ => rfl) (by decide) (by decide) (by decide) (Nat.le_of_ble_eq_true rfl) (Nat.le_of_ble_eq_true rfl) dX3_init_130 (fun a ha => ?_)
  refine m_putf X fp_X3_57_X3 (fun _ => rfl) ((mup_n (fun z => by rw [← z, hM.1] at ha; cases ha)).trans hM.1) rfl rfl rfl dX3_init_132 ?_
  refine i_gen (P := fun z => WM G x 1 _ _ _ z _ _ _) hM (k := 23) rfl rfl ha rfl (fun ad M hM => ?_)
  refine m_aload_n X dX3_init_135 rfl rfl (by first | rfl | exact isR_rf) ?_
  refine m_bipush X dX3_init_136 (v := 82) (by decide) ?_
  refine m_newa X (t := 0) (atype := .int) (ty := .int) q147 rfl rfl (N := 82) (a0 := (82, .inl fun _ => 0)) (fun _ => rfl) (by decide) (by decide) (by decide) (Nat.le_of_ble_eq_true rfl) (Nat.le_of_ble_eq_true rfl) dX3_init_138 (fun a ha => ?_)
  refine m_putf X fp_X3_60_X3 (fun _ => rfl) ((mup_n (fun z => by rw [← z, hM.1] at ha; cases ha)).trans hM.1) rfl rfl rfl dX3_init_140 ?_
  refine i_gen (P := fun z => WM G x 1 _ _ _ z _ _ _) hM (k := 24) rfl rfl ha rfl (fun ad M hM => ?_)
  refine m_aload_n X dX3_init_143 rfl rfl (by first | rfl | exact isR_rf) ?_
  refine m_bipush X dX3_init_144 (v := 82) (by decide) ?_
  refine m_newa X (t := 0) (atype := .int) (ty := .int) q147 rfl rfl (N := 82) (a0 := (82, .inl fun _ => 0)) (fun _ => rfl) (by decide) (by decide) (by decide) (Nat.le_of_ble_eq_true rfl) (Nat.le_of_ble_eq_true rfl) dX3_init_146 (fun a ha => ?_)
  refine m_putf X fp_X3_63_X3 (fun _ => rfl) ((mup_n (fun z => by rw [← z, hM.1] at ha; cases ha)).trans hM.1) rfl rfl rfl dX3_init_148 ?_
  refine i_gen (P := fun z => WM G x 1 _ _ _ z _ _ _) hM (k := 25) rfl rfl ha rfl (fun ad M hM => ?_)
  refine m_aload_n X dX3_init_151 rfl rfl (by first | rfl | exact isR_rf) ?_
  refine m_bipush X dX3_init_152 (v := 82) (by decide) ?_
  refine m_newa X (t := 0) (atype := .int) (ty := .int) q147 rfl rfl (N := 82) (a0 := (82, .inl fun _ => 0)) (fun _ => rfl) (by decide) (by decide) (by decide) (Nat.le_of_ble_eq_true rfl) (Nat.le_of_ble_eq_true rfl) dX3_init_154 (fun a ha => ?_)
  refine m_putf X fp_X3_66_X3 (fun _ => rfl) ((mup_n (fun z => by rw [← z, hM.1] at ha; cases ha)).trans hM.1) rfl rfl rfl dX3_init_156 ?_
  refine i_gen (P := fun z => WM G x 1 _ _ _ z _ _ _) hM (k := 26) rfl rfl ha rfl (fun ad M hM => ?_)
  refine m_aload_n X dX3_init_159 rfl rfl (by first | rfl | exact isR_rf) ?_
  refine m_bipush X dX3_init_160 (v := 12) (by decide) ?_
  refine m_newa X (t := 0) (atype := .int) (ty := .int) q147 rfl rfl (N := 12) (a0 := (12, .inl fun _ => 0)) (fun _ => rfl) (by decide) (by decide) (by decide) (Nat.le_of_ble_eq_true rfl) (Nat.le_of_ble_eq_true rfl) dX3_init_162 (fun a ha => ?_)
  refine m_putf X fp_X3_69_X3 (fun _ => rfl) ((mup_n (fun z => by rw [← z, hM.1] at ha; cases ha)).trans hM.1) rfl rfl rfl dX3_init_164 ?_
  refine i_gen (P := fun z => WM G x 1 _ _ _ z _ _ _) hM (k := 29) rfl rfl ha rfl (fun ad M hM => ?_)
  refine m_aload_n X dX3_init_167 rfl rfl (by first | rfl | exact isR_rf) ?_
  refine m_bipush X dX3_init_168 (v := 12) (by decide) ?_
  refine m_newa X (t := 10) (atype := .boolean) (ty := .boolean) q1059 rfl rfl (N := 12) (a0 := (12, .inl fun _ => 0)) (fun _ => rfl) (by decide) (by decide) (by decide) (Nat.le_of_ble_eq_true rfl) (Nat.le_of_ble_eq_true rfl) dX3_init_170 (fun a ha => ?_)
  refine m_putf X fp_X3_72_X3 (fun _ => rfl) ((mup_n (fun z => by rw [← z, hM.1] at ha; cases ha)).trans hM.1) rfl rfl rfl dX3_init_172 ?_
  refine i_gen (P := fun z => WM G x 1 _ _ _ z _ _ _) hM (k := 30) rfl rfl ha rfl (fun ad M hM => ?_)
  refine m_aload_n X dX3_init_175 rfl rfl (by first | rfl | exact isR_rf) ?_
  refine m_bipush X dX3_init_176 (v := 80) (by decide) ?_
  refine m_newa X (t := 10) (atype := .boolean) (ty := .boolean) q1059 rfl rfl (N := 80) (a0 := (80, .inl fun _ => 0)) (fun _ => rfl) (by decide) (by decide) (by decide) (Nat.le_of_ble_eq_true rfl) (Nat.le_of_ble_eq_true rfl) dX3_init_178 (fun a ha => ?_)
  refine m_putf X fp_X3_76_X3 (fun _ => rfl) ((mup_n (fun z => by rw [← z, hM.1] at ha; cases ha)).trans hM.1) rfl rfl rfl dX3_init_180 ?_
  refine i_gen (P := fun z => WM G x 1 _ _ _ z _ _ _) hM (k := 31) rfl rfl ha rfl (fun ad M hM => ?_)
  refine m_aload_n X dX3_init_183 rfl rfl (by first | rfl | exact isR_rf) ?_
  refine m_bipush X dX3_init_184 (v := 80) (by decide) ?_
  refine m_newa X (t := 0) (atype := .int) (ty := .int) q147 rfl rfl (N := 80) (a0 := (80, .inl fun _ => 0)) (fun _ => rfl) (by decide) (by decide) (by decide) (Nat.le_of_ble_eq_true rfl) (Nat.le_of_ble_eq_true rfl) dX3_init_186 (fun a ha => ?_)
  refine m_putf X fp_X3_79_X3 (fun _ => rfl) ((mup_n (fun z => by rw [← z, hM.1] at ha; cases ha)).trans hM.1) rfl rfl rfl dX3_init_188 ?_
  refine i_gen (P := fun z => WM G x 1 _ _ _ z _ _ _) hM (k := 32) rfl rfl ha rfl (fun ad M hM => ?_)
  refine m_aload_n X dX3_init_191 rfl rfl (by first | rfl | exact isR_rf) ?_
  refine m_sipush X dX3_init_192 (v := 960) (by decide) ?_
  refine m_newa X (t := 0) (atype := .int) (ty := .int) q147 rfl rfl (N := 960) (a0 := (960, .inl fun _ => 0)) (fun _ => rfl) (by decide) (by decide) (by decide) (Nat.le_of_ble_eq_true rfl) (Nat.le_of_ble_eq_true rfl) dX3_init_195 (fun a ha => ?_)
  refine m_putf X fp_X3_82_X3 (fun _ => rfl) ((mup_n (fun z => by rw [← z, hM.1] at ha; cases ha)).trans hM.1) rfl rfl rfl dX3_init_197 ?_
  refine i_gen (P := fun z => WM G x 1 _ _ _ z _ _ _) hM (k := 33) rfl rfl ha rfl (fun ad M hM => ?_)
  refine m_aload_n X dX3_init_200 rfl rfl (by first | rfl | exact isR_rf) ?_
  refine m_bipush X dX3_init_201 (v := 80) (by decide) ?_
  refine m_newa X (t := 0) (atype := .int) (ty := .int) q147 rfl rfl (N := 80) (a0 := (80, .inl fun _ => 0)) (fun _ => rfl) (by decide) (by decide) (by decide) (Nat.le_of_ble_eq_true rfl) (Nat.le_of_ble_eq_true rfl) dX3_init_203 (fun a ha => ?_)
  refine m_putf X fp_X3_85_X3 (fun _ => rfl) ((mup_n (fun z => by rw [← z, hM.1] at ha; cases ha)).trans hM.1) rfl rfl rfl dX3_init_205 ?_
  refine i_gen (P := fun z => WM G x 1 _ _ _ z _ _ _) hM (k := 34) rfl rfl ha rfl (fun ad M hM => ?_)
  refine m_aload_n X dX3_init_208 rfl rfl (by first | rfl | exact isR_rf) ?_
  refine m_bipush X dX3_init_209 (v := 80) (by decide) ?_
  refine m_newa X (t := 0) (atype := .int) (ty := .int) q147 rfl rfl (N := 80) (a0 := (80, .inl fun _ => 0)) (fun _ => rfl) (by decide) (by decide) (by decide) (Nat.le_of_ble_eq_true rfl) (Nat.le_of_ble_eq_true rfl) dX3_init_211 (fun a ha => ?_)
  refine m_putf X fp_X3_88_X3 (fun _ => rfl) ((mup_n (fun z => by rw [← z, hM.1] at ha; cases ha)).trans hM.1) rfl rfl rfl dX3_init_213 ?_
  refine i_gen (P := fun z => WM G x 1 _ _ _ z _ _ _) hM (k := 35) rfl rfl ha rfl (fun ad M hM => ?_)
  refine m_aload_n X dX3_init_216 rfl rfl (by first | rfl | exact isR_rf) ?_
  refine m_sipush X dX3_init_217 (v := 8856) (by decide) ?_
  refine m_newa X (t := 0) (atype := .int) (ty := .int) q147 rfl rfl (N := 8856) (a0 := (8856, .inl fun _ => 0)) (fun _ => rfl) (by decide) (by decide) (by decide) (Nat.le_of_ble_eq_true rfl) (Nat.le_of_ble_eq_true rfl) dX3_init_220 (fun a ha => ?_)
  refine m_putf X fp_X3_91_X3 (fun _ => rfl) ((mup_n (fun z => by rw [← z, hM.1] at ha; cases ha)).trans hM.1) rfl rfl rfl dX3_init_222 ?_
  refine i_gen (P := fun z => WM G x 1 _ _ _ z _ _ _) hM (k := 36) rfl rfl ha rfl (fun ad M hM => ?_)
  refine m_aload_n X dX3_init_225 rfl rfl (by first | rfl | exact isR_rf) ?_
  refine m_sipush X dX3_init_226 (v := 8856) (by decide) ?_
  refine m_newa X (t := 0) (atype := .int) (ty := .int) q147 rfl rfl (N := 8856) (a0 := (8856, .inl fun _ => 0)) (fun _ => rfl) (by decide) (by decide) (by decide) (Nat.le_of_ble_eq_true rfl) (Nat.le_of_ble_eq_true rfl) dX3_init_229 (fun a ha => ?_)
  refine m_putf X fp_X3_94_X3 (fun _ => rfl) ((mup_n (fun z => by rw [← z, hM.1] at ha; cases ha)).trans hM.1) rfl rfl rfl dX3_init_231 ?_
  refine i_gen (P := fun z => WM G x 1 _ _ _ z _ _ _) hM (k := 37) rfl rfl ha rfl (fun ad M hM => ?_)
  refine m_aload_n X dX3_init_234 rfl rfl (by first | rfl | exact isR_rf) ?_
  refine m_sipush X dX3_init_235 (v := 984) (by decide) ?_
  refine m_newa X (t := 0) (atype := .int) (ty := .int) q147 rfl rfl (N := 984) (a0 := (984, .inl fun _ => 0)) (fun _ => rfl) (by decide) (by decide) (by decide) (Nat.le_of_ble_eq_true rfl) (Nat.le_of_ble_eq_true rfl) dX3_init_238 (fun a ha => ?_)
  refine m_putf X fp_X3_97_X3 (fun _ => rfl) ((mup_n (fun z => by rw [← z, hM.1] at ha; cases ha)).trans hM.1) rfl rfl rfl dX3_init_240 ?_
  refine i_gen (P := fun z => WM G x 1 _ _ _ z _ _ _) hM (k := 38) rfl rfl ha rfl (fun ad M hM => ?_)
  refine m_aload_n X dX3_init_243 rfl rfl (by first | rfl | exact isR_rf) ?_
  refine m_bipush X dX3_init_244 (v := 12) (by decide) ?_
  refine m_newa X (t := 0) (atype := .int) (ty := .int) q147 rfl rfl (N := 12) (a0 := (12, .inl fun _ => 0)) (fun _ => rfl) (by decide) (by decide) (by decide) (Nat.le_of_ble_eq_true rfl) (Nat.le_of_ble_eq_true rfl) dX3_init_246 (fun a ha => ?_)
  refine m_putf X fp_X3_100_X3 (fun _ => rfl) ((mup_n (fun z => by rw [← z, hM.1] at ha; cases ha)).trans hM.1) rfl rfl rfl dX3_init_248 ?_
  refine i_gen (P := fun z => WM G x 1 _ _ _ z _ _ _) hM (k := 39) rfl rfl ha rfl (fun ad M hM => ?_)
  exact m_vret X dX3_init_251 (by decide) (by decide) ⟨rfl, _, hM.done fun k hk => dall (by decide) k hk⟩
