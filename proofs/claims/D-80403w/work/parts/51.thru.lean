/-! WHAT A REPORT COMES TO; the model goes through acts and pairs (printed by wip/D-80403w/tools/m51.py) -/
set_option maxRecDepth 100000
def actQ (ν : NS) (n : Nat) (s : Nat → Int32) : Bool × QS := qAct (ν.op n) (ν.na n) (ν.nb n) (ν.nc n) (ν.nd n) (s, w0)
def actW (ν : NS) (n : Nat) (s : Nat → Int32) : Wy := if (actQ ν n s).1 = true then (qOr (actQ ν n s).2 0 (actQ ν n s).2.1).2 else (actQ ν n s).2.2
def lvW (n : Nat) (w : Wy) (ρ : RP) : Wy × RP := (w, ρ.mayOr n (bitsN w 9))
def chT (E : (Nat → Int32) → RP → Wy × RP) (a : Nat) (v : Int32) (s : Nat → Int32) (p : Wy × RP) : Wy × RP := if v ≠ 0 then (putW p.1 (E (upd s a v) p.2).1 0 9, (E (upd s a v) p.2).2) else p
def itsM (b : Int32) : Int32 := if b = 0 then 1 else maskI b
/-- behind the handler: the ways, ahead of the last part -/
def handT (E : Int32 → (Nat → Int32) → RP → Wy × RP) (ν : NS) (n : Nat) (c : Wy × RP) : Wy × RP :=
  if tkW (ν.nb n) c.1 9 0 ≠ 0 ∧ ¬ ν.nc n < 0 then (putW (wyW (ν.nb n) c.1 w0 9) (E (ν.nc n) (tkW (ν.nb n) c.1 9) (c.2.boOr n (bitsN c.1 9))).1 0 9, (E (ν.nc n) (tkW (ν.nb n) c.1 9) (c.2.boOr n (bitsN c.1 9))).2)
  else (orAt (wyW (ν.nb n) c.1 w0 9) 0 (tkW (ν.nb n) c.1 9), c.2.boOr n (bitsN c.1 9))
def loB (v : Wy) (f : Nat) : Int32 := if anyN v 8 = true ∧ f ≠ 0 then (1 : Int32) <<< (nI f &&& 31) else 0
def lastS (E : (Nat → Int32) → RP → Wy × RP) (n : Nat) (y : Wy) (g : Nat) (p : Wy × RP) : Wy × RP := if y g 0 ≠ 0 then (lastW p.1 (E (y g) p.2).1 g, (E (y g) p.2).2.loOr n (loB (E (y g) p.2).1 g)) else p
def lastF (E : (Nat → Int32) → RP → Wy × RP) (n : Nat) (y : Wy) : Nat → Nat → Wy × RP → Wy × RP
  | 0, _, p => p
  | m + 1, g, p => lastF E n y m (g + 1) (lastS E n y g p)
def endT (E : Int32 → (Nat → Int32) → RP → Wy × RP) (ν : NS) (n : Nat) (p : Wy × RP) : Wy × RP := if ν.nd n < 0 then lvW n (putW w0 p.1 0 9) p.2 else lvW n (lastF (E (ν.nd n)) n p.1 9 0 (w0, p.2)).1 (lastF (E (ν.nd n)) n p.1 9 0 (w0, p.2)).2
/-- what comes out of the node n, with the state s coming in; and what is told of nodes behind it -/
def thru (ν : NS) : Nat → Nat → (Nat → Int32) → RP → Wy × RP
  | 0, _, _, ρ => (w0, ρ)
  | f + 1, n, s, ρ =>
    if ν.so n = 0 then lvW n (actW ν n s) (ρ.enter n s)
    else if ν.so n = 1 then
      (if (thru ν f (tn (ν.na n)) s (ρ.enter n s)).1 0 0 ≠ 0 then lvW n (putW (putW w0 (thru ν f (tn (ν.na n)) s (ρ.enter n s)).1 1 9) (thru ν f (tn (ν.nb n)) ((thru ν f (tn (ν.na n)) s (ρ.enter n s)).1 0) (thru ν f (tn (ν.na n)) s (ρ.enter n s)).2).1 0 9) (thru ν f (tn (ν.nb n)) ((thru ν f (tn (ν.na n)) s (ρ.enter n s)).1 0) (thru ν f (tn (ν.na n)) s (ρ.enter n s)).2).2
      else lvW n (putW w0 (thru ν f (tn (ν.na n)) s (ρ.enter n s)).1 1 9) (thru ν f (tn (ν.na n)) s (ρ.enter n s)).2)
    else if ν.so n = 2 then
      lvW n (chT (thru ν f (tn (ν.nd n))) (tn (ν.na n)) (s (tn (ν.na n)) &&& (itsM (ν.nb n) ^^^ (-1))) s (chT (thru ν f (tn (ν.nc n))) (tn (ν.na n)) (s (tn (ν.na n)) &&& itsM (ν.nb n)) s (w0, ρ.enter n s))).1 (chT (thru ν f (tn (ν.nd n))) (tn (ν.na n)) (s (tn (ν.na n)) &&& (itsM (ν.nb n) ^^^ (-1))) s (chT (thru ν f (tn (ν.nc n))) (tn (ν.na n)) (s (tn (ν.na n)) &&& itsM (ν.nb n)) s (w0, ρ.enter n s))).2
    else endT (fun v => thru ν f (tn v)) ν n (handT (fun v => thru ν f (tn v)) ν n (thru ν f (tn (ν.na n)) s (ρ.enter n s)))
/-- what a step through may change, at the depth d -/
def TT (d : Nat) (k l : Nat) : Prop := (31 ≤ k ∧ k ≤ 35) ∨ ((k = 36 ∨ k = 37) ∧ 108 * d ≤ l ∧ l < 108 * d + 108) ∨ (k = 38 ∧ 12 * d + 12 ≤ l ∧ l < 12 * d + 24) ∨ (24 ≤ k ∧ k ≤ 26 ∧ l = d + 1) ∨ ((k = 25 ∨ k = 26) ∧ l = d) ∨ k = 39
def pV (G : GX) (h : Nat) (ad : Nat → Nat) (B : Nat → Nat → Int64) (Ψ : (Nat → Int32) → (Nat → Nat → Int32) → Prop) : Option Value → Mem → Prop := fun v M' => v = none ∧ ∃ (F' : Nat → Int32) (A' : Nat → Nat → Int32), MRep G h ad F' A' B M' ∧ Ψ F' A'
def LVp (d n : Nat) (F : Nat → Int32) (ρ : RP) (w : Wy) (F' : Nat → Int32) (A' : Nat → Nat → Int32) : Prop := F' = upd F 27 (F 27 - 1) ∧ RW 36 d A' w ∧ RR (ρ.mayOr n (bitsN w 9)) A'
def STp (d : Nat) (F : Nat → Int32) (m : Int32) (s : Nat → Int32) (p : Int32) (F' : Nat → Int32) (A' : Nat → Nat → Int32) : Prop := F' = upd F 27 (nI (d + 1)) ∧ A' 24 (d + 1) = m ∧ A' 25 (d + 1) = 0 ∧ A' 26 (d + 1) = 0 ∧ A' 25 d = p ∧ IR (d + 1) A' s
theorem stp_ch {A : Nat → Nat → Int32} {d : Nat} {p v : Int32} : Ch (fun k l => (24 ≤ k ∧ k ≤ 26 ∧ l = d + 1) ∨ (k = 25 ∧ l = d)) A (pushA (aset A 25 d p) (d + 1) v) := by
  intro k l h
  unfold pushA
  rw [aset_off (by omega), aset_off (by omega), aset_off (by omega), aset_off (by omega)]
theorem stp_mk {A : Nat → Nat → Int32} {F : Nat → Int32} {d : Nat} {p m : Int32} {s : Nat → Int32} (hI : IR (d + 1) A s) : STp d F m s p (upd F 27 (nI (d + 1))) (pushA (aset A 25 d p) (d + 1) m) := by
  refine ⟨rfl, pushA_24.trans (if_pos rfl), pushA_25.trans (if_pos rfl), pushA_26.trans (if_pos rfl), ?_, hI.ch stp_ch (by intro l h1 h2; omega)⟩
  rw [pushA_25, if_neg (by omega), aset_on]
theorem lay_ins {A : Nat → Nat → Int32} {d : Nat} {s : Nat → Int32} (h : IR d A s) : IR (d + 1) (layA2 A 38 (12 * d) 38 (12 * d + 12) 12) s := fun u hu => by rw [show 12 * (d + 1) + u = 12 * d + 12 + u by omega, layA2_on hu, h u hu]
theorem lay_way {A : Nat → Nat → Int32} {k d i : Nat} {w : Wy} (h : RW k d A w) (hi : i < 9) {t : Nat} : ∀ u, u < 12 → layA2 A k (108 * d + 12 * i) 38 t 12 38 (t + u) = w i u := fun u hu => by rw [layA2_on hu, h i u hi hu]
theorem KQ.ch {e : Nat} {A A' : Nat → Nat → Int32} (h : KQ e A A') : Ch (fun k l => k = 39 ∨ (k = 36 ∧ 108 * e ≤ l ∧ l < 108 * e + 108)) A A' := by
  intro k l hu
  by_cases h36 : k = 36
  · subst h36
    exact h.2 l (by omega)
  · exact congrFun (h.1 k h36 (by omega)) l
set_option maxHeartbeats 4000000 in
theorem c_X3_throughAct {G : GX} {h : Nat} {ad : Nat → Nat} {F : Nat → Int32} {A0 : Nat → Nat → Int32} {B : Nat → Nat → Int64} {M : Mem} (hM : MRep G h ad F A0 B M) {ρ : RP} {ν : NS} {s : Nat → Int32} (n d : Nat) (hn : n < 80) (hd : d < 81) (h11 : A0 11 n = nI (ν.op n)) (h12 : A0 12 n = ν.na n) (h13 : A0 13 n = ν.nb n) (h14 : A0 14 n = ν.nc n) (h15 : A0 15 n = ν.nd n) (hop : ν.op n < 18) (hv : isActN (ν.op n) (ν.na n) (ν.nb n) (ν.nc n) (ν.nd n) = true) (hs : IR d A0 s) (hR : RR ρ A0) : Con G yX3_throughAct wX3_throughAct (rmm 6 149) [.ref h, .int (nI n), .int (nI d)] M (pV G h ad B fun F' A => LVp d n F (ρ.enter n s) (actW ν n s) F' A ∧ Ch (TT d) A0 A) nX := by
  refine Con.mk (by decide) rfl [(0, some (.ref h)), (1, some (.int (nI n))), (2, some (.int (nI d)))] rfl fun x X hno => ?_
  refine m_aload_n X dX3_throughAct_0 rfl rfl (by first | rfl | exact isR_rf) ?_
  refine m_iload_n X dX3_throughAct_1 rfl rfl ?_
  refine m_iload_n X dX3_throughAct_2 rfl rfl ?_
  refine m_callV X cs_X3_313  (c_X3_enter hM n d hn hd hs hR) hM.1 rfl rfl rfl (Nat.le_of_ble_eq_true rfl) dX3_throughAct_3 ⟨by decide, by decide, by decide, by decide⟩ (fun v M hp => ?_) (fun _ _ _ _ h => h.elim)
  obtain ⟨rfl, A, hM, hE⟩ := hp
  have hC := hE.2.2
  refine m_stn ?_
  refine m_aload_n X dX3_throughAct_6 rfl rfl (by first | rfl | exact isR_rf) ?_
  refine m_getf X fg_X3_97_X3 hM.1 rfl dX3_throughAct_7 ?_
  refine m_bipush X dX3_throughAct_10 (v := 12) (by decide) ?_
  refine m_iload_n X dX3_throughAct_12 rfl rfl ?_
  refine m_imul X dX3_throughAct_13 ?_
  refine m_topi X (pk_mul 12 d) ?_
  refine m_aload_n X dX3_throughAct_14 rfl rfl (by first | rfl | exact isR_rf) ?_
  refine m_getf X fg_X3_100_X3 hM.1 rfl dX3_throughAct_15 ?_
  refine m_iconst X dX3_throughAct_18 (v := 0) (by decide) ?_
  refine m_topi X (nI_0.symm) ?_
  refine m_callS X cs_X3_316  (c_X3_lay_2 hM 38 (12 * d) 39 0 rfl rfl (by simp only [alen]; omega) (by simp only [alen]; omega) (Or.inl (by decide))) rfl rfl (Nat.le_of_ble_eq_true rfl) dX3_throughAct_19 ⟨by decide, by decide, by decide, by decide⟩ (fun v M hp => ?_) (fun _ _ _ _ h => h.elim)
  obtain ⟨rfl, hM⟩ := hp
  have hQ : QR d (layA2 A 38 (12 * d) 39 0 12) (s, w0) := ⟨fun u hu => by have := layA2_on (A := A) (j := 38) (f := 12 * d) (k := 39) (t := 0) (n := 12) hu; rw [Nat.zero_add] at this; rw [this, hC _ _ (by omega)]; exact hs u hu, fun f u hf hu => by rw [layA2_off (by omega)]; exact hE.1 f u hf hu⟩
  have g : ∀ k v, 10 ≤ k → k ≤ 16 → A0 k n = v → layA2 A 38 (12 * d) 39 0 12 k n = v := fun k v k1 k2 hk => by rw [layA2_off (by omega), hC _ _ (by omega)]; exact hk
  refine m_stn ?_
  refine m_aload_n X dX3_throughAct_22 rfl rfl (by first | rfl | exact isR_rf) ?_
  refine m_iload_n X dX3_throughAct_23 rfl rfl ?_
  refine m_iload_n X dX3_throughAct_24 rfl rfl ?_
  refine m_callV X cs_X3_318  (c_X3_mayAct hM hQ KQ.rf hd n (ν.op n) (ν.na n) (ν.nb n) (ν.nc n) (ν.nd n) hn (g 11 _ (by decide) (by decide) h11) (g 12 _ (by decide) (by decide) h12) (g 13 _ (by decide) (by decide) h13) (g 14 _ (by decide) (by decide) h14) (g 15 _ (by decide) (by decide) h15) hop hv) hM.1 rfl rfl rfl (Nat.le_of_ble_eq_true rfl) dX3_throughAct_25 ⟨by decide, by decide, by decide, by decide⟩ (fun v M hp => ?_) (fun _ _ _ _ h => h.elim)
  obtain ⟨rfl, A8, hM, hQ, hK⟩ := hp
  refine m_sti ?_
  refine m_ifeq X dX3_throughAct_28 (t := 47) (by decide) (fun c_28 => ?_) (fun c_28 => ?_)
  · skip
    try simp only [bI_0, Bool.not_eq_false] at c_28
    have ew : actW ν n s = (actQ ν n s).2.2 := if_neg (fun z => by rw [show (actQ ν n s).1 = false from c_28] at z; cases z)
    refine m_aload_n X dX3_throughAct_47 rfl rfl (by first | rfl | exact isR_rf) ?_
    refine m_iload_n X dX3_throughAct_48 rfl rfl ?_
    refine m_iload_n X dX3_throughAct_49 rfl rfl ?_
    refine m_callV X cs_X3_321  (c_X3_leave hM n d hn hd (w := actW ν n s) (by rw [ew]; exact hQ.2) ((hE.2.1.ch layA2_ch (by intro k l h1 h2; omega)).ch hK.ch (by intro k l h1 h2; omega))) hM.1 rfl rfl rfl (Nat.le_of_ble_eq_true rfl) dX3_throughAct_50 ⟨by decide, by decide, by decide, by decide⟩ (fun v M hp => ?_) (fun _ _ _ _ h => h.elim)
    obtain ⟨rfl, A9, hM, hE9⟩ := hp
    have hC9 : Ch (TT d) A0 A9 := Ch.tr (Ch.tr (hC.tr layA2_ch (U := TT d) (by intro k l hu; first | (unfold TT at hu ⊢; omega) | (unfold TT at hu; omega))) hK.ch (U := TT d) (by intro k l hu; first | (unfold TT at hu ⊢; omega) | (unfold TT at hu; omega))) hE9.2 (by intro k l hu; first | (unfold TT at hu ⊢; omega) | (unfold TT at hu; omega))
    have hW9 : RW 36 d A9 (actW ν n s) := RW.ch (by rw [ew]; exact hQ.2) hE9.2 (by intro l h1 h2; omega)
    refine m_stn ?_
    exact m_vret X dX3_throughAct_53 (by decide) (by decide) (by exact ⟨rfl, _, A9, hM, ⟨rfl, hW9, hE9.1⟩, hC9⟩)
  · skip
    try simp only [bI_0, Bool.not_eq_false] at c_28
    have ew : actW ν n s = (qOr (actQ ν n s).2 0 (actQ ν n s).2.1).2 := if_pos c_28
    refine m_aload_n X dX3_throughAct_31 rfl rfl (by first | rfl | exact isR_rf) ?_
    refine m_getf X fg_X3_100_X3 hM.1 rfl dX3_throughAct_32 ?_
    refine m_iconst X dX3_throughAct_35 (v := 0) (by decide) ?_
    refine m_topi X (nI_0.symm) ?_
    refine m_aload_n X dX3_throughAct_36 rfl rfl (by first | rfl | exact isR_rf) ?_
    refine m_getf X fg_X3_91_X3 hM.1 rfl dX3_throughAct_37 ?_
    refine m_bipush X dX3_throughAct_40 (v := 108) (by decide) ?_
    refine m_iload_n X dX3_throughAct_42 rfl rfl ?_
    refine m_imul X dX3_throughAct_43 ?_
    refine m_topi X (pk_mul 108 d) ?_
    refine m_callS X cs_X3_275  (c_X3_join hM 39 0 36 (108 * d + 12 * 0) rfl rfl (by simp only [alen]; omega) (by simp only [alen]; omega) (Or.inl (by decide))) rfl rfl (Nat.le_of_ble_eq_true rfl) dX3_throughAct_44 ⟨by decide, by decide, by decide, by decide⟩ (fun v M hp => ?_) (fun _ _ _ _ h => h.elim)
    obtain ⟨rfl, hM⟩ := hp
    have hQ := hQ.join (f := 0)
    refine m_stn ?_
    refine m_aload_n X dX3_throughAct_47 rfl rfl (by first | rfl | exact isR_rf) ?_
    refine m_iload_n X dX3_throughAct_48 rfl rfl ?_
    refine m_iload_n X dX3_throughAct_49 rfl rfl ?_
    refine m_callV X cs_X3_321  (c_X3_leave hM n d hn hd (w := actW ν n s) (by rw [ew]; exact hQ.2) (((hE.2.1.ch layA2_ch (by intro k l h1 h2; omega)).ch hK.ch (by intro k l h1 h2; omega)).ch joinA_ch (by intro k l h1 h2; omega))) hM.1 rfl rfl rfl (Nat.le_of_ble_eq_true rfl) dX3_throughAct_50 ⟨by decide, by decide, by decide, by decide⟩ (fun v M hp => ?_) (fun _ _ _ _ h => h.elim)
    obtain ⟨rfl, A9, hM, hE9⟩ := hp
    have hC9 : Ch (TT d) A0 A9 := Ch.tr (Ch.tr (Ch.tr (hC.tr layA2_ch (U := TT d) (by intro k l hu; first | (unfold TT at hu ⊢; omega) | (unfold TT at hu; omega))) hK.ch (U := TT d) (by intro k l hu; first | (unfold TT at hu ⊢; omega) | (unfold TT at hu; omega))) joinA_ch (U := TT d) (by intro k l hu; first | (unfold TT at hu ⊢; omega) | (unfold TT at hu; omega))) hE9.2 (by intro k l hu; first | (unfold TT at hu ⊢; omega) | (unfold TT at hu; omega))
    have hW9 : RW 36 d A9 (actW ν n s) := RW.ch (by rw [ew]; exact hQ.2) hE9.2 (by intro l h1 h2; omega)
    refine m_stn ?_
    exact m_vret X dX3_throughAct_53 (by decide) (by decide) (by exact ⟨rfl, _, A9, hM, ⟨rfl, hW9, hE9.1⟩, hC9⟩)
set_option maxHeartbeats 4000000 in
theorem c_X3_both0 {G : GX} {h : Nat} {ad : Nat → Nat} {F : Nat → Int32} {A0 : Nat → Nat → Int32} {B : Nat → Nat → Int64} {M : Mem} (hM : MRep G h ad F A0 B M) {ρ : RP} (n d : Nat) (hn : n < 80) (hd : d < 81) (hF : F 27 = nI d) {a : Int32} {s : Nat → Int32} (h25 : A0 25 d = 0) (h12 : A0 12 n = a) (hs : IR d A0 s) (hR : RR ρ A0) : Con G yX3_throughBoth wX3_throughBoth (rmm 2 47) [.ref h, .int (nI n), .int (nI d)] M (pV G h ad B fun F' A => STp d F a s 1 F' A ∧ RW 36 d A w0 ∧ RR (ρ.enter n s) A ∧ Ch (TT d) A0 A) nX := by
  refine Con.mk (by decide) rfl [(0, some (.ref h)), (1, some (.int (nI n))), (2, some (.int (nI d)))] rfl fun x X hno => ?_
  refine m_aload_n X dX3_throughBoth_0 rfl rfl (by first | rfl | exact isR_rf) ?_
  refine m_getf X fg_X3_63_X3 hM.1 rfl dX3_throughBoth_1 ?_
  refine m_aload_n X dX3_throughBoth_4 rfl rfl (by first | rfl | exact isR_rf) ?_
  refine m_getf X fg_X3_228_X3 hM.1 rfl dX3_throughBoth_5 ?_
  refine m_topi X (hF) ?_
  refine s_iald X hM rfl rfl (by exact tin (by simp only [alen]; omega) rfl) dX3_throughBoth_8 ?_
  refine m_topi X ((congrArg (A0 25) (nI_clamp (by omega))).trans h25) ?_
  refine m_istore_n X dX3_throughBoth_9 rfl rfl rfl ?_
  refine m_bipush X dX3_throughBoth_10 (v := 108) (by decide) ?_
  refine m_iload_n X dX3_throughBoth_12 rfl rfl ?_
  refine m_imul X dX3_throughBoth_13 ?_
  refine m_topi X (pk_mul 108 d) ?_
  refine m_bipush X dX3_throughBoth_14 (v := 108) (by decide) ?_
  refine m_iadd X dX3_throughBoth_16 ?_
  refine m_topi X (nI_add _ 108) ?_
  refine m_istore X dX3_throughBoth_17 rfl rfl ?_
  refine m_iload_n X dX3_throughBoth_19 rfl rfl ?_
  refine m_ifne X dX3_throughBoth_20 (t := 63) (by decide) (fun c_20 => absurd rfl c_20) (fun c_20 => ?_)
  refine m_aload_n X dX3_throughBoth_23 rfl rfl (by first | rfl | exact isR_rf) ?_
  refine m_iload_n X dX3_throughBoth_24 rfl rfl ?_
  refine m_iload_n X dX3_throughBoth_25 rfl rfl ?_
  refine m_callV X cs_X3_313  (c_X3_enter hM n d hn hd hs hR) hM.1 rfl rfl rfl (Nat.le_of_ble_eq_true rfl) dX3_throughBoth_26 ⟨by decide, by decide, by decide, by decide⟩ (fun v M hp => ?_) (fun _ _ _ _ h => h.elim)
  obtain ⟨rfl, A, hM, hE⟩ := hp
  have hC := hE.2.2
  refine m_stn ?_
  refine m_aload_n X dX3_throughBoth_29 rfl rfl (by first | rfl | exact isR_rf) ?_
  refine m_getf X fg_X3_97_X3 hM.1 rfl dX3_throughBoth_30 ?_
  refine m_bipush X dX3_throughBoth_33 (v := 12) (by decide) ?_
  refine m_iload_n X dX3_throughBoth_35 rfl rfl ?_
  refine m_imul X dX3_throughBoth_36 ?_
  refine m_topi X (pk_mul 12 d) ?_
  refine m_aload_n X dX3_throughBoth_37 rfl rfl (by first | rfl | exact isR_rf) ?_
  refine m_getf X fg_X3_97_X3 hM.1 rfl dX3_throughBoth_38 ?_
  refine m_bipush X dX3_throughBoth_41 (v := 12) (by decide) ?_
  refine m_iload_n X dX3_throughBoth_43 rfl rfl ?_
  refine m_imul X dX3_throughBoth_44 ?_
  refine m_topi X (pk_mul 12 d) ?_
  refine m_bipush X dX3_throughBoth_45 (v := 12) (by decide) ?_
  refine m_iadd X dX3_throughBoth_47 ?_
  refine m_topi X (nI_add _ 12) ?_
  refine m_callS X cs_X3_316  (c_X3_lay_2 hM 38 (12 * d) 38 (12 * d + 12) rfl rfl (by simp only [alen]; omega) (by simp only [alen]; omega) (Or.inr (Or.inl (by omega)))) rfl rfl (Nat.le_of_ble_eq_true rfl) dX3_throughBoth_48 ⟨by decide, by decide, by decide, by decide⟩ (fun v M hp => ?_) (fun _ _ _ _ h => h.elim)
  obtain ⟨rfl, hM⟩ := hp
  refine m_stn ?_
  refine m_aload_n X dX3_throughBoth_51 rfl rfl (by first | rfl | exact isR_rf) ?_
  refine m_iconst X dX3_throughBoth_52 (v := 1) (by decide) ?_
  refine m_aload_n X dX3_throughBoth_53 rfl rfl (by first | rfl | exact isR_rf) ?_
  refine m_getf X fg_X3_38_X3 hM.1 rfl dX3_throughBoth_54 ?_
  refine m_iload_n X dX3_throughBoth_57 rfl rfl ?_
  refine s_iald X hM rfl rfl (by exact tin (by simp only [alen]; omega) rfl) dX3_throughBoth_58 ?_
  refine m_topi X ((congrArg _ (nI_clamp (by omega))).trans ((layA2_off (by omega)).trans ((hC 12 n (by omega)).trans h12))) ?_
  refine m_callV X cs_X3_244  (c_X3_step hM d 1 a hF (by omega)) hM.1 rfl rfl rfl (Nat.le_of_ble_eq_true rfl) dX3_throughBoth_59 ⟨by decide, by decide, by decide, by decide⟩ (fun v M hp => ?_) (fun _ _ _ _ h => h.elim)
  obtain ⟨rfl, hM⟩ := hp
  refine m_stn ?_
  exact m_vret X dX3_throughBoth_62 (by decide) (by decide) (by exact ⟨rfl, _, _, hM, stp_mk (lay_ins (hs.ch hC (by intro l h1 h2; omega))), (hE.1.ch layA2_ch (by intro l h1 h2; omega)).ch stp_ch (by intro l h1 h2; omega), (hE.2.1.ch layA2_ch (by intro k l h1 h2; omega)).ch stp_ch (by intro k l h1 h2; omega), Ch.tr (hC.tr layA2_ch (U := TT d) (by intro k l hu; first | (unfold TT at hu ⊢; omega) | (unfold TT at hu; omega))) stp_ch (by intro k l hu; first | (unfold TT at hu ⊢; omega) | (unfold TT at hu; omega))⟩)
set_option maxHeartbeats 4000000 in
theorem c_X3_both1e {G : GX} {h : Nat} {ad : Nat → Nat} {F : Nat → Int32} {A0 : Nat → Nat → Int32} {B : Nat → Nat → Int64} {M : Mem} (hM : MRep G h ad F A0 B M) {ρ : RP} (n d : Nat) (hn : n < 80) (hd : d < 81) (hF : F 27 = nI d) {w v : Wy} (h25 : A0 25 d = 1) (hW : RW 36 d A0 w) (hv : RW 36 (d + 1) A0 v) (hR : RR ρ A0) (hz0 : v 0 0 = 0) : Con G yX3_throughBoth wX3_throughBoth (rmm 2 47) [.ref h, .int (nI n), .int (nI d)] M (pV G h ad B fun F' A => LVp d n F ρ (putW w v 1 9) F' A ∧ Ch (TT d) A0 A) nX := by
  refine Con.mk (by decide) rfl [(0, some (.ref h)), (1, some (.int (nI n))), (2, some (.int (nI d)))] rfl fun x X hno => ?_
  refine m_aload_n X dX3_throughBoth_0 rfl rfl (by first | rfl | exact isR_rf) ?_
  refine m_getf X fg_X3_63_X3 hM.1 rfl dX3_throughBoth_1 ?_
  refine m_aload_n X dX3_throughBoth_4 rfl rfl (by first | rfl | exact isR_rf) ?_
  refine m_getf X fg_X3_228_X3 hM.1 rfl dX3_throughBoth_5 ?_
  refine m_topi X (hF) ?_
  refine s_iald X hM rfl rfl (by exact tin (by simp only [alen]; omega) rfl) dX3_throughBoth_8 ?_
  refine m_topi X ((congrArg (A0 25) (nI_clamp (by omega))).trans h25) ?_
  refine m_istore_n X dX3_throughBoth_9 rfl rfl rfl ?_
  refine m_bipush X dX3_throughBoth_10 (v := 108) (by decide) ?_
  refine m_iload_n X dX3_throughBoth_12 rfl rfl ?_
  refine m_imul X dX3_throughBoth_13 ?_
  refine m_topi X (pk_mul 108 d) ?_
  refine m_bipush X dX3_throughBoth_14 (v := 108) (by decide) ?_
  refine m_iadd X dX3_throughBoth_16 ?_
  refine m_topi X (nI_add _ 108) ?_
  refine m_istore X dX3_throughBoth_17 rfl rfl ?_
  refine m_iload_n X dX3_throughBoth_19 rfl rfl ?_
  refine m_ifne X dX3_throughBoth_20 (t := 63) (by decide) (fun c_20 => ?_) (fun c_20 => absurd c_20 (by decide))
  refine m_aload_n X dX3_throughBoth_63 rfl rfl (by first | rfl | exact isR_rf) ?_
  refine m_iload_n X dX3_throughBoth_64 rfl rfl ?_
  refine m_iload_n X dX3_throughBoth_65 rfl rfl ?_
  refine m_iconst X dX3_throughBoth_66 (v := 1) (by decide) ?_
  refine m_icmpne X dX3_throughBoth_67 (t := 74) (by decide) (fun c_67 => absurd rfl c_67) (fun c_67 => ?_)
  refine m_iconst X dX3_throughBoth_70 (v := 1) (by decide) ?_
  refine m_goto X dX3_throughBoth_71 (t := 75) (by decide) ?_
  refine m_callV X cs_X3_324  (c_X3_put hM d 1 hd (by decide) hW hv) hM.1 rfl rfl rfl (Nat.le_of_ble_eq_true rfl) dX3_throughBoth_75 ⟨by decide, by decide, by decide, by decide⟩ (fun v M hp => ?_) (fun _ _ _ _ h => h.elim)
  obtain ⟨rfl, A, hM, hE⟩ := hp
  have hC := hE.2
  have hv1 := hv.ch hC (by intro l h1 h2; omega)
  have hR1 := hR.ch hC (by intro k l h1 h2; omega)
  refine m_stn ?_
  have hz := hv1.z (i := 0) (by decide) (by omega)
  rw [show 108 * (d + 1) + 12 * 0 = 108 * d + 108 by omega] at hz
  refine m_iload_n X dX3_throughBoth_78 rfl rfl ?_
  refine m_iconst X dX3_throughBoth_79 (v := 1) (by decide) ?_
  refine m_icmpne X dX3_throughBoth_80 (t := 127) (by decide) (fun c_80 => absurd rfl c_80) (fun c_80 => ?_)
  refine m_aload_n X dX3_throughBoth_83 rfl rfl (by first | rfl | exact isR_rf) ?_
  refine m_getf X fg_X3_91_X3 hM.1 rfl dX3_throughBoth_84 ?_
  refine m_iload X dX3_throughBoth_87 rfl ?_
  refine s_iald X hM rfl rfl (by exact tin (by simp only [alen]; omega) rfl) dX3_throughBoth_89 ?_
  refine m_topi X (hz) ?_
  refine m_ifeq X dX3_throughBoth_90 (t := 127) (by decide) (fun c_90 => ?_) (fun c_90 => absurd hz0 c_90)
  refine m_aload_n X dX3_throughBoth_127 rfl rfl (by first | rfl | exact isR_rf) ?_
  refine m_iload_n X dX3_throughBoth_128 rfl rfl ?_
  refine m_iload_n X dX3_throughBoth_129 rfl rfl ?_
  refine m_callV X cs_X3_321  (c_X3_leave hM n d hn hd hE.1 hR1) hM.1 rfl rfl rfl (Nat.le_of_ble_eq_true rfl) dX3_throughBoth_130 ⟨by decide, by decide, by decide, by decide⟩ (fun v M hp => ?_) (fun _ _ _ _ h => h.elim)
  obtain ⟨rfl, A9, hM, hE9⟩ := hp
  refine m_stn ?_
  exact m_vret X dX3_throughBoth_133 (by decide) (by decide) (by exact ⟨rfl, _, A9, hM, ⟨rfl, hE.1.ch hE9.2 (by intro l h1 h2; omega), hE9.1⟩, Ch.tr hC hE9.2 (by intro k l hu; first | (unfold TT at hu ⊢; omega) | (unfold TT at hu; omega))⟩)
set_option maxHeartbeats 4000000 in
theorem c_X3_both1 {G : GX} {h : Nat} {ad : Nat → Nat} {F : Nat → Int32} {A0 : Nat → Nat → Int32} {B : Nat → Nat → Int64} {M : Mem} (hM : MRep G h ad F A0 B M) {ρ : RP} (n d : Nat) (hn : n < 80) (hd : d < 81) (hF : F 27 = nI d) {w v : Wy} {b : Int32} (h25 : A0 25 d = 1) (h13 : A0 13 n = b) (hW : RW 36 d A0 w) (hv : RW 36 (d + 1) A0 v) (hR : RR ρ A0) (hz0 : ¬ v 0 0 = 0) : Con G yX3_throughBoth wX3_throughBoth (rmm 2 47) [.ref h, .int (nI n), .int (nI d)] M (pV G h ad B fun F' A => STp d F b (v 0) 2 F' A ∧ RW 36 d A (putW w v 1 9) ∧ RR ρ A ∧ Ch (TT d) A0 A) nX := by
  refine Con.mk (by decide) rfl [(0, some (.ref h)), (1, some (.int (nI n))), (2, some (.int (nI d)))] rfl fun x X hno => ?_
  refine m_aload_n X dX3_throughBoth_0 rfl rfl (by first | rfl | exact isR_rf) ?_
  refine m_getf X fg_X3_63_X3 hM.1 rfl dX3_throughBoth_1 ?_
  refine m_aload_n X dX3_throughBoth_4 rfl rfl (by first | rfl | exact isR_rf) ?_
  refine m_getf X fg_X3_228_X3 hM.1 rfl dX3_throughBoth_5 ?_
  refine m_topi X (hF) ?_
  refine s_iald X hM rfl rfl (by exact tin (by simp only [alen]; omega) rfl) dX3_throughBoth_8 ?_
  refine m_topi X ((congrArg (A0 25) (nI_clamp (by omega))).trans h25) ?_
  refine m_istore_n X dX3_throughBoth_9 rfl rfl rfl ?_
  refine m_bipush X dX3_throughBoth_10 (v := 108) (by decide) ?_
  refine m_iload_n X dX3_throughBoth_12 rfl rfl ?_
  refine m_imul X dX3_throughBoth_13 ?_
  refine m_topi X (pk_mul 108 d) ?_
  refine m_bipush X dX3_throughBoth_14 (v := 108) (by decide) ?_
  refine m_iadd X dX3_throughBoth_16 ?_
  refine m_topi X (nI_add _ 108) ?_
  refine m_istore X dX3_throughBoth_17 rfl rfl ?_
  refine m_iload_n X dX3_throughBoth_19 rfl rfl ?_
  refine m_ifne X dX3_throughBoth_20 (t := 63) (by decide) (fun c_20 => ?_) (fun c_20 => absurd c_20 (by decide))
  refine m_aload_n X dX3_throughBoth_63 rfl rfl (by first | rfl | exact isR_rf) ?_
  refine m_iload_n X dX3_throughBoth_64 rfl rfl ?_
  refine m_iload_n X dX3_throughBoth_65 rfl rfl ?_
  refine m_iconst X dX3_throughBoth_66 (v := 1) (by decide) ?_
  refine m_icmpne X dX3_throughBoth_67 (t := 74) (by decide) (fun c_67 => absurd rfl c_67) (fun c_67 => ?_)
  refine m_iconst X dX3_throughBoth_70 (v := 1) (by decide) ?_
  refine m_goto X dX3_throughBoth_71 (t := 75) (by decide) ?_
  refine m_callV X cs_X3_324  (c_X3_put hM d 1 hd (by decide) hW hv) hM.1 rfl rfl rfl (Nat.le_of_ble_eq_true rfl) dX3_throughBoth_75 ⟨by decide, by decide, by decide, by decide⟩ (fun v M hp => ?_) (fun _ _ _ _ h => h.elim)
  obtain ⟨rfl, A, hM, hE⟩ := hp
  have hC := hE.2
  have hv1 := hv.ch hC (by intro l h1 h2; omega)
  have hR1 := hR.ch hC (by intro k l h1 h2; omega)
  refine m_stn ?_
  have hz := hv1.z (i := 0) (by decide) (by omega)
  rw [show 108 * (d + 1) + 12 * 0 = 108 * d + 108 by omega] at hz
  refine m_iload_n X dX3_throughBoth_78 rfl rfl ?_
  refine m_iconst X dX3_throughBoth_79 (v := 1) (by decide) ?_
  refine m_icmpne X dX3_throughBoth_80 (t := 127) (by decide) (fun c_80 => absurd rfl c_80) (fun c_80 => ?_)
  refine m_aload_n X dX3_throughBoth_83 rfl rfl (by first | rfl | exact isR_rf) ?_
  refine m_getf X fg_X3_91_X3 hM.1 rfl dX3_throughBoth_84 ?_
  refine m_iload X dX3_throughBoth_87 rfl ?_
  refine s_iald X hM rfl rfl (by exact tin (by simp only [alen]; omega) rfl) dX3_throughBoth_89 ?_
  refine m_topi X (hz) ?_
  refine m_ifeq X dX3_throughBoth_90 (t := 127) (by decide) (fun c_90 => absurd c_90 hz0) (fun c_90 => ?_)
  refine m_aload_n X dX3_throughBoth_93 rfl rfl (by first | rfl | exact isR_rf) ?_
  refine m_getf X fg_X3_91_X3 hM.1 rfl dX3_throughBoth_94 ?_
  refine m_iload X dX3_throughBoth_97 rfl ?_
  refine m_aload_n X dX3_throughBoth_99 rfl rfl (by first | rfl | exact isR_rf) ?_
  refine m_getf X fg_X3_97_X3 hM.1 rfl dX3_throughBoth_100 ?_
  refine m_bipush X dX3_throughBoth_103 (v := 12) (by decide) ?_
  refine m_iload_n X dX3_throughBoth_105 rfl rfl ?_
  refine m_imul X dX3_throughBoth_106 ?_
  refine m_topi X (pk_mul 12 d) ?_
  refine m_bipush X dX3_throughBoth_107 (v := 12) (by decide) ?_
  refine m_iadd X dX3_throughBoth_109 ?_
  refine m_topi X (nI_add _ 12) ?_
  refine m_callS X cs_X3_316  (c_X3_lay_2 hM 36 (108 * d + 108) 38 (12 * d + 12) rfl rfl (by simp only [alen]; omega) (by simp only [alen]; omega) (Or.inl (by decide))) rfl rfl (Nat.le_of_ble_eq_true rfl) dX3_throughBoth_110 ⟨by decide, by decide, by decide, by decide⟩ (fun v M hp => ?_) (fun _ _ _ _ h => h.elim)
  obtain ⟨rfl, hM⟩ := hp
  refine m_stn ?_
  refine m_aload_n X dX3_throughBoth_113 rfl rfl (by first | rfl | exact isR_rf) ?_
  refine m_iconst X dX3_throughBoth_114 (v := 2) (by decide) ?_
  refine m_aload_n X dX3_throughBoth_115 rfl rfl (by first | rfl | exact isR_rf) ?_
  refine m_getf X fg_X3_41_X3 hM.1 rfl dX3_throughBoth_116 ?_
  refine m_iload_n X dX3_throughBoth_119 rfl rfl ?_
  refine s_iald X hM rfl rfl (by exact tin (by simp only [alen]; omega) rfl) dX3_throughBoth_120 ?_
  refine m_topi X ((congrArg _ (nI_clamp (by omega))).trans ((layA2_off (by omega)).trans ((hC 13 n (by omega)).trans h13))) ?_
  refine m_callV X cs_X3_244  (c_X3_step hM d 2 b hF (by omega)) hM.1 rfl rfl rfl (Nat.le_of_ble_eq_true rfl) dX3_throughBoth_121 ⟨by decide, by decide, by decide, by decide⟩ (fun v M hp => ?_) (fun _ _ _ _ h => h.elim)
  obtain ⟨rfl, hM⟩ := hp
  refine m_stn ?_
  refine m_goto X dX3_throughBoth_124 (t := 133) (by decide) ?_
  exact m_vret X dX3_throughBoth_133 (by decide) (by decide) (by exact ⟨rfl, _, _, hM, stp_mk (fun u hu => by have := lay_way hv1 (i := 0) (by decide) (t := 12 * d + 12) u hu; rw [show 108 * (d + 1) + 12 * 0 = 108 * d + 108 by omega] at this; rw [show 12 * (d + 1) + u = 12 * d + 12 + u by omega]; exact this), (hE.1.ch layA2_ch (by intro l h1 h2; omega)).ch stp_ch (by intro l h1 h2; omega), (hR1.ch layA2_ch (by intro k l h1 h2; omega)).ch stp_ch (by intro k l h1 h2; omega), Ch.tr (hC.tr layA2_ch (U := TT d) (by intro k l hu; first | (unfold TT at hu ⊢; omega) | (unfold TT at hu; omega))) stp_ch (by intro k l hu; first | (unfold TT at hu ⊢; omega) | (unfold TT at hu; omega))⟩)
set_option maxHeartbeats 4000000 in
theorem c_X3_both2 {G : GX} {h : Nat} {ad : Nat → Nat} {F : Nat → Int32} {A0 : Nat → Nat → Int32} {B : Nat → Nat → Int64} {M : Mem} (hM : MRep G h ad F A0 B M) {ρ : RP} (n d : Nat) (hn : n < 80) (hd : d < 81) (hF : F 27 = nI d) {w v : Wy} (h25 : A0 25 d = 2) (hW : RW 36 d A0 w) (hv : RW 36 (d + 1) A0 v) (hR : RR ρ A0) : Con G yX3_throughBoth wX3_throughBoth (rmm 2 47) [.ref h, .int (nI n), .int (nI d)] M (pV G h ad B fun F' A => LVp d n F ρ (putW w v 0 9) F' A ∧ Ch (TT d) A0 A) nX := by
  refine Con.mk (by decide) rfl [(0, some (.ref h)), (1, some (.int (nI n))), (2, some (.int (nI d)))] rfl fun x X hno => ?_
  refine m_aload_n X dX3_throughBoth_0 rfl rfl (by first | rfl | exact isR_rf) ?_
  refine m_getf X fg_X3_63_X3 hM.1 rfl dX3_throughBoth_1 ?_
  refine m_aload_n X dX3_throughBoth_4 rfl rfl (by first | rfl | exact isR_rf) ?_
  refine m_getf X fg_X3_228_X3 hM.1 rfl dX3_throughBoth_5 ?_
  refine m_topi X (hF) ?_
  refine s_iald X hM rfl rfl (by exact tin (by simp only [alen]; omega) rfl) dX3_throughBoth_8 ?_
  refine m_topi X ((congrArg (A0 25) (nI_clamp (by omega))).trans h25) ?_
  refine m_istore_n X dX3_throughBoth_9 rfl rfl rfl ?_
  refine m_bipush X dX3_throughBoth_10 (v := 108) (by decide) ?_
  refine m_iload_n X dX3_throughBoth_12 rfl rfl ?_
  refine m_imul X dX3_throughBoth_13 ?_
  refine m_topi X (pk_mul 108 d) ?_
  refine m_bipush X dX3_throughBoth_14 (v := 108) (by decide) ?_
  refine m_iadd X dX3_throughBoth_16 ?_
  refine m_topi X (nI_add _ 108) ?_
  refine m_istore X dX3_throughBoth_17 rfl rfl ?_
  refine m_iload_n X dX3_throughBoth_19 rfl rfl ?_
  refine m_ifne X dX3_throughBoth_20 (t := 63) (by decide) (fun c_20 => ?_) (fun c_20 => absurd c_20 (by decide))
  refine m_aload_n X dX3_throughBoth_63 rfl rfl (by first | rfl | exact isR_rf) ?_
  refine m_iload_n X dX3_throughBoth_64 rfl rfl ?_
  refine m_iload_n X dX3_throughBoth_65 rfl rfl ?_
  refine m_iconst X dX3_throughBoth_66 (v := 1) (by decide) ?_
  refine m_icmpne X dX3_throughBoth_67 (t := 74) (by decide) (fun c_67 => ?_) (fun c_67 => absurd c_67 (by decide))
  refine m_iconst X dX3_throughBoth_74 (v := 0) (by decide) ?_
  refine m_callV X cs_X3_324  (c_X3_put hM d 0 hd (by decide) hW hv) hM.1 rfl rfl rfl (Nat.le_of_ble_eq_true rfl) dX3_throughBoth_75 ⟨by decide, by decide, by decide, by decide⟩ (fun v M hp => ?_) (fun _ _ _ _ h => h.elim)
  obtain ⟨rfl, A, hM, hE⟩ := hp
  have hC := hE.2
  have hv1 := hv.ch hC (by intro l h1 h2; omega)
  have hR1 := hR.ch hC (by intro k l h1 h2; omega)
  refine m_stn ?_
  refine m_iload_n X dX3_throughBoth_78 rfl rfl ?_
  refine m_iconst X dX3_throughBoth_79 (v := 1) (by decide) ?_
  refine m_icmpne X dX3_throughBoth_80 (t := 127) (by decide) (fun c_80 => ?_) (fun c_80 => absurd c_80 (by decide))
  refine m_aload_n X dX3_throughBoth_127 rfl rfl (by first | rfl | exact isR_rf) ?_
  refine m_iload_n X dX3_throughBoth_128 rfl rfl ?_
  refine m_iload_n X dX3_throughBoth_129 rfl rfl ?_
  refine m_callV X cs_X3_321  (c_X3_leave hM n d hn hd hE.1 hR1) hM.1 rfl rfl rfl (Nat.le_of_ble_eq_true rfl) dX3_throughBoth_130 ⟨by decide, by decide, by decide, by decide⟩ (fun v M hp => ?_) (fun _ _ _ _ h => h.elim)
  obtain ⟨rfl, A9, hM, hE9⟩ := hp
  refine m_stn ?_
  exact m_vret X dX3_throughBoth_133 (by decide) (by decide) (by exact ⟨rfl, _, A9, hM, ⟨rfl, hE.1.ch hE9.2 (by intro l h1 h2; omega), hE9.1⟩, Ch.tr hC hE9.2 (by intro k l hu; first | (unfold TT at hu ⊢; omega) | (unfold TT at hu; omega))⟩)
