/-! A REPORT of the model, whole (printed by wip/D-80403w/tools/m56.py) -/
set_option maxRecDepth 100000
def RP.blank (ρ : RP) : RP := (ρ.st, (fun _ => false), (fun _ => 0), (fun _ _ => 0), (fun _ => 0), fun _ => 0)
def apReport (v : Int32) (Φ : FS) : Int32 × FS := if isN Φ.1 v = true then ((thru Φ.1 81 (tn v) Φ.2.2.st Φ.2.2.blank).2.may (tn v), Φ.1, Φ.2.1, (thru Φ.1 81 (tn v) Φ.2.2.st Φ.2.2.blank).2) else (-1, Φ)
theorem thru_st {ν : NS} : ∀ (f n : Nat) (s : Nat → Int32) (ρ : RP), (thru ν f n s ρ).2.st = ρ.st := by
  intro f
  induction f with
  | zero => intro n s ρ; rfl
  | succ f ih =>
    intro n s ρ
    have hch : ∀ (i a : Nat) (v : Int32) (s : Nat → Int32) (p : Wy × RP), (chT (thru ν f i) a v s p).2.st = p.2.st := by
      intro i a v s p
      unfold chT
      split
      · exact ih _ _ _
      · rfl
    have hla : ∀ (i : Nat) (y : Wy) (m g : Nat) (p : Wy × RP), (lastF (thru ν f i) n y m g p).2.st = p.2.st := by
      intro i y m
      induction m with
      | zero => intro g p; rfl
      | succ m ihm =>
        intro g p
        show (lastF (thru ν f i) n y m (g + 1) (lastS (thru ν f i) n y g p)).2.st = _
        rw [ihm]
        unfold lastS
        split
        · exact ih _ _ _
        · rfl
    unfold thru
    split
    · rfl
    · split
      · split
        · exact (ih _ _ _).trans (ih _ _ _)
        · exact ih _ _ _
      · split
        · exact (hch _ _ _ _ _).trans (hch _ _ _ _ _)
        · have hha : ∀ c : Wy × RP, (handT (fun v => thru ν f (tn v)) ν n c).2.st = c.2.st := by
            intro c
            unfold handT
            split
            · exact ih _ _ _
            · rfl
          unfold endT
          split
          · exact (hha _).trans (ih _ _ _)
          · exact (hla _ _ _ _ _).trans ((hha _).trans (ih _ _ _))
/-- the end of through -/
def pTh (G : GX) (h : Nat) (ad : Nat → Nat) (B : Nat → Nat → Int64) (ρ' : RP) (F : Nat → Int32) (A : Nat → Nat → Int32) : Option Value → Mem → Prop := fun v M' => v = none ∧ ∃ (F' : Nat → Int32) (A' : Nat → Nat → Int32), MRep G h ad F' A' B M' ∧ (∀ k, k ≠ 27 → F' k = F k) ∧ RR ρ' A' ∧ Ch (TU 0) A A'
theorem pushA_ch0 {A : Nat → Nat → Int32} {v : Int32} : Ch (TU 0) A (pushA A 0 v) := by
  intro k l hu
  unfold TU at hu
  unfold pushA
  rw [aset_off (by omega), aset_off (by omega), aset_off (by omega)]
theorem pushA_ch1 {A : Nat → Nat → Int32} {v : Int32} : Ch (fun k _ => k = 24 ∨ k = 25 ∨ k = 26) A (pushA A 0 v) := by
  intro k l hu
  unfold pushA
  rw [aset_off (by omega), aset_off (by omega), aset_off (by omega)]
set_option maxHeartbeats 4000000 in
theorem c_X3_through {G : GX} {h : Nat} {ad : Nat → Nat} {F : Nat → Int32} {A : Nat → Nat → Int32} {B : Nat → Nat → Int64} {M : Mem} (hM : MRep G h ad F A B M) {ν : NS} {ρ : RP} {s : Nat → Int32} (hN : MN ν F A) (hV : VN ν) (hR : RR ρ A) (hs : IR 0 A s) (n : Nat) (hn : n < ν.N) : Con G yX3_through wX3_through (rmm 7 171) [.ref h, .int (nI n)] M (pTh G h ad B (thru ν 81 n s ρ).2 F A) nX := by
  refine Con.mk (by decide) rfl [(0, some (.ref h)), (1, some (.int (nI n)))] rfl fun x X hno => ?_
  refine m_aload_n X dX3_through_0 rfl rfl (by first | rfl | exact isR_rf) ?_
  refine m_iconst X dX3_through_1 (v := (-1)) (by decide) ?_
  refine s_put X hM fp_X3_228_X3 rfl rfl rfl rfl dX3_through_2 (fun M hM => ?_)
  refine m_aload_n X dX3_through_5 rfl rfl (by first | rfl | exact isR_rf) ?_
  refine m_iload_n X dX3_through_6 rfl rfl ?_
  refine m_callV X cs_X3_231  (c_X3_push hM 0 (nI n) (by rw [pk_us]; rfl) (by decide)) hM.1 rfl rfl rfl (Nat.le_of_ble_eq_true rfl) dX3_through_7 ⟨by decide, by decide, by decide, by decide⟩ (fun v M hp => ?_) (fun _ _ _ _ h => h.elim)
  obtain ⟨rfl, hM⟩ := hp
  refine m_stn ?_
  refine m_loc [(0, some (.ref h)), (1, some (.int (nI n)))] ⟨rfl, rfl, trivial⟩ ?_
  refine thru_run X hV 81 0 n s ρ _ _ _ hM (hN.ch (fun k hk => by rw [pk_un hk, pk_un hk]) pushA_ch0) (hR.ch (pushA_ch1) (by intro k l h1 h2; omega)) (by have := hV.1; omega) hn (by have := hV.1; omega) pk_us (pushA_24.trans (if_pos rfl)) (pushA_25.trans (if_pos rfl)) (pushA_26.trans (if_pos rfl)) (hs.ch pushA_ch1 (by intro l h1 h2; omega)) fun F' A' M' hM' g2 h27 w2 r2 c2 => ?_
  have g12 : ∀ k, k ≠ 27 → F' k = F k := fun k hk => (g2 k hk).trans (by rw [pk_un hk, pk_un hk])
  refine m_aload_n X dX3_through_10 rfl rfl (by first | rfl | exact isR_rf) ?_
  refine m_getf X fg_X3_228_X3 hM'.1 rfl dX3_through_11 ?_
  refine m_iflt X dX3_through_14 (t := 104) (by decide) (fun c_14 => ?_) (fun c_14 => absurd (by rw [h27]; decide) c_14)
  exact m_vret X dX3_through_104 (by decide) (by decide) (by exact ⟨rfl, F', A', hM', g12, r2, TU_tr pushA_ch0 c2⟩)
theorem RI.to2 {ν : NS} {s : ES} {F F' : Nat → Int32} {A A' : Nat → Nat → Int32} {B : Nat → Nat → Int64} (h : RI ν s F A B) (hF : ∀ k, k ≠ 27 → k ≠ 28 → F' k = F k) (hA : ∀ k, k < 24 → A' k = A k) : RI ν s F' A' B := by
  obtain ⟨h1, h2, h3, h4, h5, h6, h7, h8⟩ := h
  have h1' : MT s.1 F' A B := ⟨(hF 0 (by decide) (by decide)).trans h1.1, (hF 1 (by decide) (by decide)).trans h1.2.1, (hF 19 (by decide) (by decide)).trans h1.2.2.1, h1.2.2.2⟩
  exact ⟨h1'.updA fun k hk => hA k (by omega), h2, (hF 17 (by decide) (by decide)).trans h3, (hF 18 (by decide) (by decide)).trans h4, (hF 20 (by decide) (by decide)).trans h5, (hF 21 (by decide) (by decide)).trans h6, (hF 22 (by decide) (by decide)).trans h7, h8.to (hF 9 (by decide) (by decide)) fun k a b => hA k (by omega)⟩
theorem RR.blank {ρ : RP} {A : Nat → Nat → Int32} (h : ∀ n, n < 80 → A 31 n = 0 ∧ A 32 n = 0 ∧ A 34 n = 0 ∧ A 35 n = 0) (h3 : ∀ l, l < 960 → A 33 l = 0) : RR ρ.blank A := fun n hn => ⟨(h n hn).1, (h n hn).2.1, fun s hs => h3 _ (by omega), (h n hn).2.2.1, (h n hn).2.2.2⟩
set_option maxHeartbeats 600000 in
theorem c_X3_report {G : GX} {h : Nat} {ad : Nat → Nat} {F : Nat → Int32} {A : Nat → Nat → Int32} {B : Nat → Nat → Int64} {M : Mem} {Φ : FS} (hM : MRep G h ad F A B M) (hI : MF Φ F A B) (hW : FW Φ) (v : Int32) : Con G yX3_report wX3_report (rmm 8 193) [.ref h, .int v] M (pA G h ad (.int (apReport v Φ).1) (apReport v Φ).2) nX := by
  refine Con.mk (by decide) rfl [(0, some (.ref h)), (1, some (.int v))] rfl fun x X hno => ?_
  have hN := hW.1.1
  have hWF := hW.2.1
  have hb1 := hWF.1
  have hb2 := hWF.2.1
  have hR := hI.1
  have hT := hR.1
  have hMN := hR.2.2.2.2.2.2.2
  refine m_aload_n X dX3_report_0 rfl rfl (by first | rfl | exact isR_rf) ?_
  refine m_iload_n X dX3_report_1 rfl rfl ?_
  refine m_callV X cs_X3_139  (c_X3_isNode hM hMN.1 hN v) hM.1 rfl rfl rfl (Nat.le_of_ble_eq_true rfl) dX3_report_2 ⟨by decide, by decide, by decide, by decide⟩ (fun v M hp => ?_) (fun _ _ _ _ h => h.elim)
  obtain ⟨rfl, rfl⟩ := hp
  refine m_sti ?_
  refine m_ifne X dX3_report_5 (t := 10) (by decide) (fun c_5 => ?_) (fun c_5 => ?_)
  · skip
    try simp only [bI_0, Bool.not_eq_false] at c_5
    have hv := c_5
    obtain ⟨n, hn, rfl⟩ := isN_nI hN c_5
    obtain ⟨ρ', eρ⟩ : ∃ z, z = (thru Φ.1 81 n Φ.2.2.st Φ.2.2.blank).2 := ⟨_, rfl⟩
    have est : ρ'.st = Φ.2.2.st := by rw [eρ]; exact thru_st 81 n Φ.2.2.st Φ.2.2.blank
    have e : apReport (nI n) Φ = (ρ'.may n, Φ.1, Φ.2.1, ρ') := by unfold apReport; rw [if_pos hv, tn_nI (by omega), ← eρ]
    have loop2 : ∀ (m i : Nat) (A1 : Nat → Nat → Int32) (M1 : Mem), i + m = 12 → MRep G h ad F A1 B M1 → (∀ n, n < 80 → A1 31 n = 0 ∧ A1 32 n = 0 ∧ A1 34 n = 0 ∧ A1 35 n = 0) → (∀ l, l < 960 → A1 33 l = 0) → (∀ s, s < i → A1 38 s = Φ.2.2.st s) → Ch (fun k l => (31 ≤ k ∧ k ≤ 35) ∨ k = 38) A A1 → WM G x 3 (QM G x (pA G h ad (.int (apReport (nI n) Φ).1) (apReport (nI n) Φ).2) nX (rmm 8 193)) 0 0 M1 65 [(2, some (.int (nI i))), (0, some (.ref h)), (1, some (.int (nI n)))] [] := by
      clear hM
      intro m
      induction m with
      | zero =>
        intro i A1 M hi hM hz h33 h38 hC
        have hi12 : i = 12 := by omega
        subst hi12
        refine m_iload_n X dX3_report_65 rfl rfl ?_
        refine m_bipush X dX3_report_66 (v := 12) (by decide) ?_
        refine m_icmpge X dX3_report_68 (t := 88) (by decide) (fun c_68 => ?_) (fun c_68 => absurd (by decide) c_68)
        refine m_aload_n X dX3_report_88 rfl rfl (by first | rfl | exact isR_rf) ?_
        refine m_iconst X dX3_report_89 (v := 1) (by decide) ?_
        refine s_put X hM fp_X3_142_X3 rfl rfl rfl rfl dX3_report_90 (fun M hM => ?_)
        refine m_aload_n X dX3_report_93 rfl rfl (by first | rfl | exact isR_rf) ?_
        refine m_iload_n X dX3_report_94 rfl rfl ?_
        refine m_callV X cs_X3_346  (c_X3_through hM (s := Φ.2.2.st) (ρ := Φ.2.2.blank) ((hMN.to (pk_un (by decide)) fun k a b => hC.fn fun l => by omega) : MN Φ.1 _ _) hW.1 (RR.blank hz h33) (fun u hu => by rw [Nat.mul_zero, Nat.zero_add]; exact h38 u hu) n hn) hM.1 rfl rfl rfl (Nat.le_of_ble_eq_true rfl) dX3_report_95 ⟨by decide, by decide, by decide, by decide⟩ (fun v M hp => ?_) (fun _ _ _ _ h => h.elim)
        obtain ⟨rfl, F', A', hM, gF, rF, cF⟩ := hp
        rw [← eρ] at rF
        refine m_stn ?_
        refine m_aload_n X dX3_report_98 rfl rfl (by first | rfl | exact isR_rf) ?_
        refine m_getf X fg_X3_79_X3 hM.1 rfl dX3_report_99 ?_
        refine m_iload_n X dX3_report_102 rfl rfl ?_
        refine s_iald X hM rfl rfl (by exact tin (by simp only [alen]; omega) rfl) dX3_report_103 ?_
        refine m_topi X ((congrArg (A' 32) (nI_clamp (by omega))).trans (rF n (by omega)).2.1) ?_
        exact m_iret X dX3_report_104 (by decide) (by decide) (by rw [e]; refine ⟨rfl, F', A', B, hM, hR.to2 (fun k k1 k2 => (gF k k1).trans (pk_un k2)) (fun k hk => (cF.fn fun l => by unfold TU; omega).trans (hC.fn fun l => by omega)), fun s hs => ?_, fun n (hn : n < Φ.1.N) => ⟨?_, fun hr => ?_⟩⟩; (have e30 : A' 30 = A 30 := (cF.fn fun l => by unfold TU; omega).trans (hC.fn fun l => by omega)); (have e29 : A' 29 = A 29 := (cF.fn fun l => by unfold TU; omega).trans (hC.fn fun l => by omega)); (rw [e30, e29]); exact (hI.2.1 s hs).trans (congrFun est s).symm; (rw [(rF n (by omega)).1, (gF 28 (by decide)).trans pk_us]); exact ⟨fun z => ⟨by decide, fun q => by rw [z] at q; cases q⟩, fun z => by rcases hh : ρ'.rch n with _ | _; exact absurd (by rw [hh]; rfl) z.2; rfl⟩; exact ⟨(rF n (by omega)).2.1, fun s hs => (rF n (by omega)).2.2.1 s hs, (rF n (by omega)).2.2.2.1, (rF n (by omega)).2.2.2.2⟩)
      | succ m ih =>
        intro i A1 M hi hM hz h33 h38 hC
        have e30 : A1 30 = A 30 := hC.fn fun l => by omega
        have e29 : A1 29 = A 29 := hC.fn fun l => by omega
        have hq1 : MQp Φ.2.2 0 F A1 := ⟨fun s hs => by rw [e30, e29]; exact hI.2.1 s hs, fun n hn => absurd hn (Nat.not_lt_zero _)⟩
        refine m_iload_n X dX3_report_65 rfl rfl ?_
        refine m_bipush X dX3_report_66 (v := 12) (by decide) ?_
        refine m_icmpge X dX3_report_68 (t := 88) (by decide) (fun c_68 => absurd ((nI_leI (a := 12) (by decide) (by omega)).mp c_68) (by omega)) (fun c_68 => ?_)
        refine m_aload_n X dX3_report_71 rfl rfl (by first | rfl | exact isR_rf) ?_
        refine m_getf X fg_X3_97_X3 hM.1 rfl dX3_report_72 ?_
        refine m_iload_n X dX3_report_75 rfl rfl ?_
        refine m_aload_n X dX3_report_76 rfl rfl (by first | rfl | exact isR_rf) ?_
        refine m_iload_n X dX3_report_77 rfl rfl ?_
        refine m_callV X cs_X3_272  (c_X3_startOf hM hq1 i (by omega)) hM.1 rfl rfl rfl (Nat.le_of_ble_eq_true rfl) dX3_report_78 ⟨by decide, by decide, by decide, by decide⟩ (fun v M hp => ?_) (fun _ _ _ _ h => h.elim)
        obtain ⟨rfl, rfl⟩ := hp
        refine m_sti ?_
        refine s_iast X hM rfl rfl (by exact tin (by simp only [alen]; omega) rfl) dX3_report_81 (fun M hM => ?_)
        rw [nI_clamp (by omega)] at hM
        refine m_iinc X dX3_report_82 rfl (w := 1) (by decide) rfl ?_
        refine m_goto X dX3_report_85 (t := 65) (by decide) ?_
        exact m_loc [(2, some (.int (nI (i + 1)))), (0, some (.ref h)), (1, some (.int (nI n)))] ⟨by rw [nI_succ i]; rfl, rfl, rfl, trivial⟩ (ih (i + 1) _ _ (by omega) hM (fun n hn => by rw [aset_off (by omega), aset_off (by omega), aset_off (by omega), aset_off (by omega)]; exact hz n hn) (fun l hl => by rw [aset_off (by omega)]; exact h33 l hl) (fun s hs => by
          by_cases q : s = i
          · subst q
            exact aset_on
          · rw [aset_off (by omega)]; exact h38 s (by omega)) (Ch.tr (U := (fun k l => (31 ≤ k ∧ k ≤ 35) ∨ k = 38)) hC aset_ch (by intro k l hu; omega)))
    have loop1 : ∀ (m i : Nat) (A1 : Nat → Nat → Int32) (M1 : Mem), i + m = 80 → MRep G h ad F A1 B M1 → (∀ n, n < i → A1 31 n = 0 ∧ A1 32 n = 0 ∧ A1 34 n = 0 ∧ A1 35 n = 0) → Ch (fun k _ => k = 31 ∨ k = 32 ∨ k = 34 ∨ k = 35) A A1 → WM G x 3 (QM G x (pA G h ad (.int (apReport (nI n) Φ).1) (apReport (nI n) Φ).2) nX (rmm 8 193)) 0 0 M1 12 [(2, some (.int (nI i))), (0, some (.ref h)), (1, some (.int (nI n)))] [] := by
      clear hM
      intro m
      induction m with
      | zero =>
        intro i A1 M hi hM hz hC
        have hi80 : i = 80 := by omega
        subst hi80
        refine m_iload_n X dX3_report_12 rfl rfl ?_
        refine m_bipush X dX3_report_13 (v := 80) (by decide) ?_
        refine m_icmpge X dX3_report_15 (t := 52) (by decide) (fun c_15 => ?_) (fun c_15 => absurd (by decide) c_15)
        refine m_aload_n X dX3_report_52 rfl rfl (by first | rfl | exact isR_rf) ?_
        refine m_getf X fg_X3_82_X3 hM.1 rfl dX3_report_53 ?_
        refine m_iconst X dX3_report_56 (v := 0) (by decide) ?_
        refine m_sipush X dX3_report_57 (v := 960) (by decide) ?_
        refine m_callS X cs_X3_309  (c_X3_wipe hM 33 0 960 rfl (by simp only [alen]; omega)) rfl rfl (Nat.le_of_ble_eq_true rfl) dX3_report_60 ⟨by decide, by decide, by decide, by decide⟩ (fun v M hp => ?_) (fun _ _ _ _ h => h.elim)
        obtain ⟨rfl, hM⟩ := hp
        refine m_stn ?_
        refine m_iconst X dX3_report_63 (v := 0) (by decide) ?_
        refine m_istore_n X dX3_report_64 rfl rfl rfl ?_
        exact m_loc [(2, some (.int (nI 0))), (0, some (.ref h)), (1, some (.int (nI n)))] ⟨rfl, rfl, rfl, trivial⟩ (loop2 12 0 _ _ rfl hM (fun n hn => by rw [wipeA_off (by omega), wipeA_off (by omega), wipeA_off (by omega), wipeA_off (by omega)]; exact hz n hn) (fun l hl => wipeA_on (by omega)) (fun s hs => absurd hs (Nat.not_lt_zero _)) (Ch.tr (U := (fun k l => (31 ≤ k ∧ k ≤ 35) ∨ k = 38)) hC wipeA_ch (by intro k l hu; omega)))
      | succ m ih =>
        intro i A1 M hi hM hz hC
        refine m_iload_n X dX3_report_12 rfl rfl ?_
        refine m_bipush X dX3_report_13 (v := 80) (by decide) ?_
        refine m_icmpge X dX3_report_15 (t := 52) (by decide) (fun c_15 => absurd ((nI_leI (a := 80) (by decide) (by omega)).mp c_15) (by omega)) (fun c_15 => ?_)
        refine m_aload_n X dX3_report_18 rfl rfl (by first | rfl | exact isR_rf) ?_
        refine m_getf X fg_X3_76_X3 hM.1 rfl dX3_report_19 ?_
        refine m_iload_n X dX3_report_22 rfl rfl ?_
        refine m_iconst X dX3_report_23 (v := 0) (by decide) ?_
        refine s_zast X hM rfl rfl (by exact tin (by simp only [alen]; omega) rfl) (by first | rfl | exact bI_vp) dX3_report_24 (fun M hM => ?_)
        rw [nI_clamp (by omega)] at hM
        refine m_aload_n X dX3_report_25 rfl rfl (by first | rfl | exact isR_rf) ?_
        refine m_getf X fg_X3_79_X3 hM.1 rfl dX3_report_26 ?_
        refine m_iload_n X dX3_report_29 rfl rfl ?_
        refine m_iconst X dX3_report_30 (v := 0) (by decide) ?_
        refine s_iast X hM rfl rfl (by exact tin (by simp only [alen]; omega) rfl) dX3_report_31 (fun M hM => ?_)
        rw [nI_clamp (by omega)] at hM
        refine m_aload_n X dX3_report_32 rfl rfl (by first | rfl | exact isR_rf) ?_
        refine m_getf X fg_X3_85_X3 hM.1 rfl dX3_report_33 ?_
        refine m_iload_n X dX3_report_36 rfl rfl ?_
        refine m_iconst X dX3_report_37 (v := 0) (by decide) ?_
        refine s_iast X hM rfl rfl (by exact tin (by simp only [alen]; omega) rfl) dX3_report_38 (fun M hM => ?_)
        rw [nI_clamp (by omega)] at hM
        refine m_aload_n X dX3_report_39 rfl rfl (by first | rfl | exact isR_rf) ?_
        refine m_getf X fg_X3_88_X3 hM.1 rfl dX3_report_40 ?_
        refine m_iload_n X dX3_report_43 rfl rfl ?_
        refine m_iconst X dX3_report_44 (v := 0) (by decide) ?_
        refine s_iast X hM rfl rfl (by exact tin (by simp only [alen]; omega) rfl) dX3_report_45 (fun M hM => ?_)
        rw [nI_clamp (by omega)] at hM
        refine m_iinc X dX3_report_46 rfl (w := 1) (by decide) rfl ?_
        refine m_goto X dX3_report_49 (t := 12) (by decide) ?_
        exact m_loc [(2, some (.int (nI (i + 1)))), (0, some (.ref h)), (1, some (.int (nI n)))] ⟨by rw [nI_succ i]; rfl, rfl, rfl, trivial⟩ (ih (i + 1) _ _ (by omega) hM (fun n hn => by
          by_cases q : n = i
          · subst q
            exact ⟨by rw [aset_off (by omega), aset_off (by omega), aset_off (by omega), aset_on], by rw [aset_off (by omega), aset_off (by omega), aset_on], by rw [aset_off (by omega), aset_on], aset_on⟩
          · repeat rw [aset_off (by omega)]
            exact hz n (by omega)) (Ch.tr (U := (fun k _ => k = 31 ∨ k = 32 ∨ k = 34 ∨ k = 35)) (Ch.tr (U := (fun k _ => k = 31 ∨ k = 32 ∨ k = 34 ∨ k = 35)) (Ch.tr (U := (fun k _ => k = 31 ∨ k = 32 ∨ k = 34 ∨ k = 35)) (Ch.tr (U := (fun k _ => k = 31 ∨ k = 32 ∨ k = 34 ∨ k = 35)) hC aset_ch (by intro k l hu; omega)) aset_ch (by intro k l hu; omega)) aset_ch (by intro k l hu; omega)) aset_ch (by intro k l hu; omega)))
    refine m_iconst X dX3_report_10 (v := 0) (by decide) ?_
    refine m_istore_n X dX3_report_11 rfl rfl rfl ?_
    exact m_loc [(2, some (.int (nI 0))), (0, some (.ref h)), (1, some (.int (nI n)))] ⟨rfl, rfl, rfl, trivial⟩ (loop1 80 0 _ _ rfl hM (fun n hn => absurd hn (Nat.not_lt_zero _)) Ch.rf)
  · skip
    try simp only [bI_0, Bool.not_eq_false] at c_5
    refine m_iconst X dX3_report_8 (v := (-1)) (by decide) ?_
    exact m_iret X dX3_report_9 (by decide) (by decide) (by refine ⟨?_, F, A, B, hM, ?_⟩ <;> (unfold apReport; rw [if_neg (by rw [c_5]; decide)]); exact hI)
