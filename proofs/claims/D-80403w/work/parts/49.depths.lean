/-! REPORTS of the model: rows by depths (printed by wip/D-80403w/tools/m49.py) -/
set_option maxRecDepth 100000
/-- what comes out, by ways: 0 ended, others failures; of each 12 sets -/
abbrev Wy : Type := Nat → Nat → Int32
def RW (k d : Nat) (A : Nat → Nat → Int32) (w : Wy) : Prop := ∀ f s, f < 9 → s < 12 → A k (108 * d + 12 * f + s) = w f s
def IR (d : Nat) (A : Nat → Nat → Int32) (s : Nat → Int32) : Prop := ∀ u, u < 12 → A 38 (12 * d + u) = s u
def RR (ρ : RP) (A : Nat → Nat → Int32) : Prop := ∀ n, n < 80 → A 31 n = bI (ρ.rch n) ∧ A 32 n = ρ.may n ∧ (∀ s, s < 12 → A 33 (12 * n + s) = ρ.ah n s) ∧ A 34 n = ρ.bo n ∧ A 35 n = ρ.lo n
/-- but T nothing has changed -/
def Ch (T : Nat → Nat → Prop) (A A' : Nat → Nat → Int32) : Prop := ∀ k l, ¬ T k l → A' k l = A k l
theorem Ch.rf {T : Nat → Nat → Prop} {A : Nat → Nat → Int32} : Ch T A A := fun _ _ _ => rfl
theorem Ch.tr {S T U : Nat → Nat → Prop} {A A' A'' : Nat → Nat → Int32} (h : Ch S A A') (h' : Ch T A' A'') (hs : ∀ k l, ¬ U k l → ¬ S k l ∧ ¬ T k l) : Ch U A A'' := fun k l hu => (h' k l (hs k l hu).2).trans (h k l (hs k l hu).1)
theorem Ch.le {S T : Nat → Nat → Prop} {A A' : Nat → Nat → Int32} (h : Ch S A A') (hs : ∀ k l, ¬ T k l → ¬ S k l) : Ch T A A' := fun k l hu => h k l (hs k l hu)
theorem Ch.fn {T : Nat → Nat → Prop} {A A' : Nat → Nat → Int32} (h : Ch T A A') {k : Nat} (hk : ∀ l, ¬ T k l) : A' k = A k := funext fun l => h k l (hk l)
theorem RW.ch {k d : Nat} {A A' : Nat → Nat → Int32} {w : Wy} {T : Nat → Nat → Prop} (h : RW k d A w) (hC : Ch T A A') (hT : ∀ l, 108 * d ≤ l → l < 108 * d + 108 → ¬ T k l) : RW k d A' w := fun f s hf hs => (hC _ _ (hT _ (by omega) (by omega))).trans (h f s hf hs)
theorem IR.ch {d : Nat} {A A' : Nat → Nat → Int32} {s : Nat → Int32} {T : Nat → Nat → Prop} (h : IR d A s) (hC : Ch T A A') (hT : ∀ l, 12 * d ≤ l → l < 12 * d + 12 → ¬ T 38 l) : IR d A' s := fun u hu => (hC _ _ (hT _ (by omega) (by omega))).trans (h u hu)
theorem RR.ch {ρ : RP} {A A' : Nat → Nat → Int32} {T : Nat → Nat → Prop} (h : RR ρ A) (hC : Ch T A A') (hT : ∀ k l, 31 ≤ k → k ≤ 35 → ¬ T k l) : RR ρ A' := fun n hn => by
  obtain ⟨a, b, c, d, e⟩ := h n hn
  exact ⟨(hC _ _ (hT _ _ (by decide) (by decide))).trans a, (hC _ _ (hT _ _ (by decide) (by decide))).trans b, fun s hs => (hC _ _ (hT _ _ (by decide) (by decide))).trans (c s hs), (hC _ _ (hT _ _ (by decide) (by decide))).trans d, (hC _ _ (hT _ _ (by decide) (by decide))).trans e⟩
theorem joinA_on {A : Nat → Nat → Int32} {j f k t n u : Nat} (hu : u < n) : joinA A j f k t n k (t + u) = A k (t + u) ||| A j (f + u) := by
  unfold joinA
  rw [if_pos ⟨rfl, by omega, by omega⟩, Nat.add_sub_cancel_left]
theorem joinA_off {A : Nat → Nat → Int32} {j f k t n q l : Nat} (h : ¬ (q = k ∧ t ≤ l ∧ l < t + n)) : joinA A j f k t n q l = A q l := if_neg h
theorem layA2_on {A : Nat → Nat → Int32} {j f k t n u : Nat} (hu : u < n) : layA2 A j f k t n k (t + u) = A j (f + u) := by
  unfold layA2
  rw [if_pos ⟨rfl, by omega, by omega⟩, Nat.add_sub_cancel_left]
theorem layA2_off {A : Nat → Nat → Int32} {j f k t n q l : Nat} (h : ¬ (q = k ∧ t ≤ l ∧ l < t + n)) : layA2 A j f k t n q l = A q l := if_neg h
theorem wipeA_on {A : Nat → Nat → Int32} {k f n l : Nat} (h : f ≤ l ∧ l < f + n) : wipeA A k f n k l = 0 := if_pos ⟨rfl, h⟩
theorem wipeA_off {A : Nat → Nat → Int32} {k f n q l : Nat} (h : ¬ (q = k ∧ f ≤ l ∧ l < f + n)) : wipeA A k f n q l = A q l := if_neg h
theorem aset_on {A : Nat → Nat → Int32} {k i : Nat} {v : Int32} : aset A k i v k i = v := by
  unfold aset
  rw [if_pos rfl, if_pos rfl]
theorem aset_off {A : Nat → Nat → Int32} {k i q l : Nat} {v : Int32} (h : ¬ (q = k ∧ l = i)) : aset A k i v q l = A q l := by
  unfold aset
  split
  · next e => rw [if_neg (fun z => h ⟨e, z⟩)]
  · rfl
theorem joinA_ch {A : Nat → Nat → Int32} {j f k t n : Nat} : Ch (fun q l => q = k ∧ t ≤ l ∧ l < t + n) A (joinA A j f k t n) := fun _ _ h => joinA_off h
theorem layA2_ch {A : Nat → Nat → Int32} {j f k t n : Nat} : Ch (fun q l => q = k ∧ t ≤ l ∧ l < t + n) A (layA2 A j f k t n) := fun _ _ h => layA2_off h
theorem wipeA_ch {A : Nat → Nat → Int32} {k f n : Nat} : Ch (fun q l => q = k ∧ f ≤ l ∧ l < f + n) A (wipeA A k f n) := fun _ _ h => wipeA_off h
theorem aset_ch {A : Nat → Nat → Int32} {k i : Nat} {v : Int32} : Ch (fun q l => q = k ∧ l = i) A (aset A k i v) := fun _ _ h => aset_off h
/-- the end of a part of reports -/
def pW (G : GX) (h : Nat) (ad : Nat → Nat) (F : Nat → Int32) (B : Nat → Nat → Int64) (Ψ : (Nat → Nat → Int32) → Prop) : Option Value → Mem → Prop := fun v M' => v = none ∧ ∃ A' : Nat → Nat → Int32, MRep G h ad F A' B M' ∧ Ψ A'
def w0 : Wy := fun _ _ => 0
def putW (w v : Wy) (a f : Nat) : Wy := fun g s => if a ≤ g ∧ g < f then w g s ||| v g s else w g s
def orAt (w : Wy) (f : Nat) (s : Nat → Int32) : Wy := fun g u => if g = f then w g u ||| s u else w g u
def bitsN (w : Wy) : Nat → Int32
  | 0 => 0
  | f + 1 => bitsN w f ||| (if w f 0 ≠ 0 then (1 : Int32) <<< (nI f &&& 31) else 0)
def anyN (w : Wy) : Nat → Bool
  | 0 => false
  | i + 1 => anyN w i || decide (w (i + 1) 0 ≠ 0)
def tkW (b : Int32) (v : Wy) : Nat → Nat → Int32
  | 0 => fun _ => 0
  | f + 1 => if bq b (nI f) = true then fun u => tkW b v f u ||| v f u else tkW b v f
def wyW (b : Int32) (v w : Wy) (f : Nat) : Wy := fun g u => if g < f ∧ bq b (nI g) = false then w g u ||| v g u else w g u
theorem putW_s {d f a : Nat} {A : Nat → Nat → Int32} {w v : Wy} (h : RW 36 d A (putW w v a f)) (hv : RW 36 (d + 1) A v) (ha : a ≤ f) (hf : f < 9) : RW 36 d (joinA A 36 (108 * d + 108 + 12 * f) 36 (108 * d + 12 * f) 12) (putW w v a (f + 1)) := by
  intro g s hg hs
  by_cases e : g = f
  · subst e
    rw [joinA_on hs, h g s hg hs, show 108 * d + 108 + 12 * g + s = 108 * (d + 1) + 12 * g + s by omega, hv g s hg hs]
    unfold putW
    rw [if_neg (by omega), if_pos (by omega)]
  · rw [joinA_off (by omega), h g s hg hs]
    unfold putW
    by_cases e2 : a ≤ g ∧ g < f
    · rw [if_pos e2, if_pos (by omega)]
    · rw [if_neg e2, if_neg (by omega)]
theorem putW_n {w v : Wy} {a : Nat} : putW w v a a = w := by
  funext g s
  unfold putW
  rw [if_neg (by omega)]
theorem RW.at0 {k d i : Nat} {A : Nat → Nat → Int32} {w : Wy} (h : RW k d A w) (hi : i < 9) : A k (nI (108 * d + 12 * i)).toNatClampNeg = w i 0 ∨ 100000 < d := by
  by_cases hd : 100000 < d
  · exact Or.inr hd
  · rw [nI_clamp (by omega)]
    exact Or.inl (h i 0 hi (by decide))
theorem RW.z {k d i : Nat} {A : Nat → Nat → Int32} {w : Wy} (h : RW k d A w) (hi : i < 9) (hd : d < 82) : A k (nI (108 * d + 12 * i)).toNatClampNeg = w i 0 := by
  rw [nI_clamp (by omega)]
  exact h i 0 hi (by decide)
theorem bits_s {w : Wy} {f : Nat} {m : Int32} : (m ||| bitsN w f) ||| (if w f 0 ≠ 0 then (1 : Int32) <<< (nI f &&& 31) else 0) = m ||| bitsN w (f + 1) := Int32.or_assoc _ _ _
set_option maxHeartbeats 4000000 in
theorem c_X3_put {G : GX} {h : Nat} {ad : Nat → Nat} {F : Nat → Int32} {A0 : Nat → Nat → Int32} {B : Nat → Nat → Int64} {M : Mem} (hM : MRep G h ad F A0 B M) (d a : Nat) {w v : Wy} (hd : d < 81) (ha : a ≤ 9) (hW : RW 36 d A0 w) (hv : RW 36 (d + 1) A0 v) : Con G yX3_put wX3_put (rmm 1 24) [.ref h, .int (nI d), .int (nI a)] M (pW G h ad F B fun A => RW 36 d A (putW w v a 9) ∧ Ch (fun k l => k = 36 ∧ 108 * d ≤ l ∧ l < 108 * d + 108) A0 A) nX := by
  refine Con.mk (by decide) rfl [(0, some (.ref h)), (1, some (.int (nI d))), (2, some (.int (nI a)))] rfl fun x X hno => ?_
  have loop : ∀ (m f : Nat) (A : Nat → Nat → Int32) (M' : Mem), f + m = 9 → a ≤ f → MRep G h ad F A B M' → RW 36 d A (putW w v a f) → RW 36 (d + 1) A v → Ch (fun k l => k = 36 ∧ 108 * d ≤ l ∧ l < 108 * d + 108) A0 A → WM G x 4 (QM G x (pW G h ad F B fun A => RW 36 d A (putW w v a 9) ∧ Ch (fun k l => k = 36 ∧ 108 * d ≤ l ∧ l < 108 * d + 108) A0 A) nX (rmm 1 24)) 0 0 M' 2 [(3, some (.int (nI f))), (0, some (.ref h)), (1, some (.int (nI d))), (2, some (.int (nI a)))] [] := by
    intro m
    induction m with
    | zero =>
      intro f A M' hf haf hM hW hv hC
      have hf9 : f = 9 := by omega
      subst hf9
      refine m_iload_n X dX3_put_2 rfl rfl ?_
      refine m_bipush X dX3_put_3 (v := 9) (by decide) ?_
      refine m_icmpge X dX3_put_5 (t := 46) (by decide) (fun c_5 => ?_) (fun c_5 => absurd (by decide) c_5)
      exact m_vret X dX3_put_46 (by decide) (by decide) (by exact ⟨rfl, A, hM, hW, hC⟩)
    | succ m ih =>
      intro f A M' hf haf hM hW hv hC
      refine m_iload_n X dX3_put_2 rfl rfl ?_
      refine m_bipush X dX3_put_3 (v := 9) (by decide) ?_
      refine m_icmpge X dX3_put_5 (t := 46) (by decide) (fun c_5 => absurd ((nI_leI (a := 9) (by decide) (by omega)).mp c_5) (by omega)) (fun c_5 => ?_)
      refine m_aload_n X dX3_put_8 rfl rfl (by first | rfl | exact isR_rf) ?_
      refine m_getf X fg_X3_91_X3 hM.1 rfl dX3_put_9 ?_
      refine m_bipush X dX3_put_12 (v := 108) (by decide) ?_
      refine m_iload_n X dX3_put_14 rfl rfl ?_
      refine m_imul X dX3_put_15 ?_
      refine m_topi X (pk_mul 108 d) ?_
      refine m_bipush X dX3_put_16 (v := 108) (by decide) ?_
      refine m_iadd X dX3_put_18 ?_
      refine m_topi X (nI_add _ 108) ?_
      refine m_bipush X dX3_put_19 (v := 12) (by decide) ?_
      refine m_iload_n X dX3_put_21 rfl rfl ?_
      refine m_imul X dX3_put_22 ?_
      refine m_topi X (pk_mul 12 f) ?_
      refine m_iadd X dX3_put_23 ?_
      refine m_topi X (nI_add _ _) ?_
      refine m_aload_n X dX3_put_24 rfl rfl (by first | rfl | exact isR_rf) ?_
      refine m_getf X fg_X3_91_X3 hM.1 rfl dX3_put_25 ?_
      refine m_bipush X dX3_put_28 (v := 108) (by decide) ?_
      refine m_iload_n X dX3_put_30 rfl rfl ?_
      refine m_imul X dX3_put_31 ?_
      refine m_topi X (pk_mul 108 d) ?_
      refine m_bipush X dX3_put_32 (v := 12) (by decide) ?_
      refine m_iload_n X dX3_put_34 rfl rfl ?_
      refine m_imul X dX3_put_35 ?_
      refine m_topi X (pk_mul 12 f) ?_
      refine m_iadd X dX3_put_36 ?_
      refine m_topi X (nI_add _ _) ?_
      refine m_callS X cs_X3_275  (c_X3_join hM 36 (108 * d + 108 + 12 * f) 36 (108 * d + 12 * f) rfl rfl (by simp only [alen]; omega) (by simp only [alen]; omega) (Or.inr (Or.inr (by omega)))) rfl rfl (Nat.le_of_ble_eq_true rfl) dX3_put_37 ⟨by decide, by decide, by decide, by decide⟩ (fun v M hp => ?_) (fun _ _ _ _ h => h.elim)
      obtain ⟨rfl, hM⟩ := hp
      refine m_stn ?_
      refine m_iinc X dX3_put_40 rfl (w := 1) (by decide) rfl ?_
      refine m_goto X dX3_put_43 (t := 2) (by decide) ?_
      exact m_loc [(3, some (.int (nI (f + 1)))), (0, some (.ref h)), (1, some (.int (nI d))), (2, some (.int (nI a)))] ⟨by rw [nI_succ f]; rfl, rfl, rfl, rfl, trivial⟩ (ih (f + 1) _ _ (by omega) (by omega) hM (putW_s hW hv haf (by omega)) (hv.ch joinA_ch (by intro l h1 h2; omega)) (hC.tr joinA_ch (by intro k l hu; omega)))
  refine m_iload_n X dX3_put_0 rfl rfl ?_
  refine m_istore_n X dX3_put_1 rfl rfl rfl ?_
  exact m_loc [(3, some (.int (nI a))), (0, some (.ref h)), (1, some (.int (nI d))), (2, some (.int (nI a)))] ⟨rfl, rfl, rfl, rfl, trivial⟩ (loop (9 - a) a _ _ (by omega) (Nat.le_refl _) hM (by rw [putW_n]; exact hW) hv Ch.rf)
def RP.enter (ρ : RP) (n : Nat) (s : Nat → Int32) : RP := (ρ.st, updB ρ.rch n true, ρ.may, (fun m u => if m = n then ρ.ah m u ||| s u else ρ.ah m u), ρ.bo, ρ.lo)
def RP.mayOr (ρ : RP) (n : Nat) (v : Int32) : RP := (ρ.st, ρ.rch, upd ρ.may n (ρ.may n ||| v), ρ.ah, ρ.bo, ρ.lo)
def RP.boOr (ρ : RP) (n : Nat) (v : Int32) : RP := (ρ.st, ρ.rch, ρ.may, ρ.ah, upd ρ.bo n (ρ.bo n ||| v), ρ.lo)
def RP.loOr (ρ : RP) (n : Nat) (v : Int32) : RP := (ρ.st, ρ.rch, ρ.may, ρ.ah, ρ.bo, upd ρ.lo n (ρ.lo n ||| v))
theorem RR.enter {ρ : RP} {A : Nat → Nat → Int32} {n d : Nat} {s : Nat → Int32} (h : RR ρ A) (hs : IR d A s) : RR (ρ.enter n s) (joinA (aset (wipeA A 36 (108 * d) 108) 31 n 1) 38 (12 * d) 33 (12 * n) 12) := by
  intro m hm
  obtain ⟨a, b, c, e, f⟩ := h m hm
  refine ⟨?_, ?_, fun u hu => ?_, ?_, ?_⟩
  · rw [joinA_off (by omega)]
    show _ = bI (if m = n then true else ρ.rch m)
    by_cases q : m = n
    · subst q
      rw [aset_on, if_pos rfl]
      rfl
    · rw [aset_off (by omega), wipeA_off (by omega), if_neg q, a]
  · rw [joinA_off (by omega), aset_off (by omega), wipeA_off (by omega), b]; rfl
  · show _ = if m = n then ρ.ah m u ||| s u else ρ.ah m u
    by_cases q : m = n
    · subst q
      rw [joinA_on hu, aset_off (by omega), wipeA_off (by omega), c u hu, aset_off (by omega), wipeA_off (by omega), hs u hu, if_pos rfl]
    · rw [joinA_off (by omega), aset_off (by omega), wipeA_off (by omega), c u hu, if_neg q]
  · rw [joinA_off (by omega), aset_off (by omega), wipeA_off (by omega), e]; rfl
  · rw [joinA_off (by omega), aset_off (by omega), wipeA_off (by omega), f]; rfl
theorem RR.mayOr {ρ : RP} {A A' : Nat → Nat → Int32} {n : Nat} {v : Int32} (h : RR ρ A) (hC : Ch (fun k l => k = 32 ∧ l = n) A A') (hv : A' 32 n = ρ.may n ||| v) : RR (ρ.mayOr n v) A' := by
  intro m hm
  obtain ⟨a, b, c, e, f⟩ := h m hm
  refine ⟨(hC _ _ (by omega)).trans a, ?_, fun u hu => (hC _ _ (by omega)).trans (c u hu), (hC _ _ (by omega)).trans e, (hC _ _ (by omega)).trans f⟩
  show _ = upd ρ.may n (ρ.may n ||| v) m
  unfold upd
  by_cases q : m = n
  · rw [if_pos q, q, hv]
  · rw [if_neg q, hC _ _ (by omega), b]
theorem RR.boOr {ρ : RP} {A A' : Nat → Nat → Int32} {n : Nat} {v : Int32} {T : Nat → Nat → Prop} (h : RR ρ A) (hC : Ch T A A') (hT : ∀ k l, 31 ≤ k → k ≤ 35 → ¬ (k = 34 ∧ l = n) → ¬ T k l) (hv : A' 34 n = ρ.bo n ||| v) : RR (ρ.boOr n v) A' := by
  intro m hm
  obtain ⟨a, b, c, e, f⟩ := h m hm
  refine ⟨(hC _ _ (hT _ _ (by omega) (by omega) (by omega))).trans a, (hC _ _ (hT _ _ (by omega) (by omega) (by omega))).trans b, fun u hu => (hC _ _ (hT _ _ (by omega) (by omega) (by omega))).trans (c u hu), ?_, (hC _ _ (hT _ _ (by omega) (by omega) (by omega))).trans f⟩
  show _ = upd ρ.bo n (ρ.bo n ||| v) m
  unfold upd
  by_cases q : m = n
  · rw [if_pos q, q, hv]
  · rw [if_neg q, hC _ _ (hT _ _ (by omega) (by omega) (by omega)), e]
theorem RR.loOr {ρ : RP} {A A' : Nat → Nat → Int32} {n : Nat} {v : Int32} {T : Nat → Nat → Prop} (h : RR ρ A) (hC : Ch T A A') (hT : ∀ k l, 31 ≤ k → k ≤ 35 → ¬ (k = 35 ∧ l = n) → ¬ T k l) (hv : A' 35 n = ρ.lo n ||| v) : RR (ρ.loOr n v) A' := by
  intro m hm
  obtain ⟨a, b, c, e, f⟩ := h m hm
  refine ⟨(hC _ _ (hT _ _ (by omega) (by omega) (by omega))).trans a, (hC _ _ (hT _ _ (by omega) (by omega) (by omega))).trans b, fun u hu => (hC _ _ (hT _ _ (by omega) (by omega) (by omega))).trans (c u hu), (hC _ _ (hT _ _ (by omega) (by omega) (by omega))).trans e, ?_⟩
  show _ = upd ρ.lo n (ρ.lo n ||| v) m
  unfold upd
  by_cases q : m = n
  · rw [if_pos q, q, hv]
  · rw [if_neg q, hC _ _ (hT _ _ (by omega) (by omega) (by omega)), f]
set_option maxHeartbeats 4000000 in
theorem c_X3_enter {G : GX} {h : Nat} {ad : Nat → Nat} {F : Nat → Int32} {A0 : Nat → Nat → Int32} {B : Nat → Nat → Int64} {M : Mem} (hM : MRep G h ad F A0 B M) {ρ : RP} {s : Nat → Int32} (n d : Nat) (hn : n < 80) (hd : d < 81) (hs : IR d A0 s) (hR : RR ρ A0) : Con G yX3_enter wX3_enter (rmm 1 24) [.ref h, .int (nI n), .int (nI d)] M (pW G h ad F B fun A => RW 36 d A w0 ∧ RR (ρ.enter n s) A ∧ Ch (fun k l => (31 ≤ k ∧ k ≤ 35) ∨ (k = 36 ∧ 108 * d ≤ l ∧ l < 108 * d + 108)) A0 A) nX := by
  refine Con.mk (by decide) rfl [(0, some (.ref h)), (1, some (.int (nI n))), (2, some (.int (nI d)))] rfl fun x X hno => ?_
  refine m_aload_n X dX3_enter_0 rfl rfl (by first | rfl | exact isR_rf) ?_
  refine m_getf X fg_X3_91_X3 hM.1 rfl dX3_enter_1 ?_
  refine m_bipush X dX3_enter_4 (v := 108) (by decide) ?_
  refine m_iload_n X dX3_enter_6 rfl rfl ?_
  refine m_imul X dX3_enter_7 ?_
  refine m_topi X (pk_mul 108 d) ?_
  refine m_bipush X dX3_enter_8 (v := 108) (by decide) ?_
  refine m_callS X cs_X3_309  (c_X3_wipe hM 36 (108 * d) 108 rfl (by simp only [alen]; omega)) rfl rfl (Nat.le_of_ble_eq_true rfl) dX3_enter_10 ⟨by decide, by decide, by decide, by decide⟩ (fun v M hp => ?_) (fun _ _ _ _ h => h.elim)
  obtain ⟨rfl, hM⟩ := hp
  refine m_stn ?_
  refine m_aload_n X dX3_enter_13 rfl rfl (by first | rfl | exact isR_rf) ?_
  refine m_getf X fg_X3_76_X3 hM.1 rfl dX3_enter_14 ?_
  refine m_iload_n X dX3_enter_17 rfl rfl ?_
  refine m_iconst X dX3_enter_18 (v := 1) (by decide) ?_
  refine s_zast X hM rfl rfl (by exact tin (by simp only [alen]; omega) rfl) (by first | rfl | exact bI_vp) dX3_enter_19 (fun M hM => ?_)
  rw [nI_clamp (by omega)] at hM
  refine m_aload_n X dX3_enter_20 rfl rfl (by first | rfl | exact isR_rf) ?_
  refine m_getf X fg_X3_97_X3 hM.1 rfl dX3_enter_21 ?_
  refine m_bipush X dX3_enter_24 (v := 12) (by decide) ?_
  refine m_iload_n X dX3_enter_26 rfl rfl ?_
  refine m_imul X dX3_enter_27 ?_
  refine m_topi X (pk_mul 12 d) ?_
  refine m_aload_n X dX3_enter_28 rfl rfl (by first | rfl | exact isR_rf) ?_
  refine m_getf X fg_X3_82_X3 hM.1 rfl dX3_enter_29 ?_
  refine m_bipush X dX3_enter_32 (v := 12) (by decide) ?_
  refine m_iload_n X dX3_enter_34 rfl rfl ?_
  refine m_imul X dX3_enter_35 ?_
  refine m_topi X (pk_mul 12 n) ?_
  refine m_callS X cs_X3_275  (c_X3_join hM 38 (12 * d) 33 (12 * n) rfl rfl (by simp only [alen]; omega) (by simp only [alen]; omega) (Or.inl (by decide))) rfl rfl (Nat.le_of_ble_eq_true rfl) dX3_enter_36 ⟨by decide, by decide, by decide, by decide⟩ (fun v M hp => ?_) (fun _ _ _ _ h => h.elim)
  obtain ⟨rfl, hM⟩ := hp
  refine m_stn ?_
  exact m_vret X dX3_enter_39 (by decide) (by decide) (by exact ⟨rfl, _, hM, fun f u hf hu => by rw [joinA_off (by omega), aset_off (by omega), wipeA_on (by omega)]; rfl, hR.enter hs, fun k l hu => by rw [joinA_off (by omega), aset_off (by omega), wipeA_off (by omega)]⟩)
set_option maxHeartbeats 4000000 in
theorem c_X3_leave {G : GX} {h : Nat} {ad : Nat → Nat} {F : Nat → Int32} {A0 : Nat → Nat → Int32} {B : Nat → Nat → Int64} {M : Mem} (hM : MRep G h ad F A0 B M) {ρ : RP} {w : Wy} (n d : Nat) (hn : n < 80) (hd : d < 81) (hW : RW 36 d A0 w) (hR : RR ρ A0) : Con G yX3_leave wX3_leave (rmm 0 0) [.ref h, .int (nI n), .int (nI d)] M (pW G h ad (upd F 27 (F 27 - 1)) B fun A => RR (ρ.mayOr n (bitsN w 9)) A ∧ Ch (fun k l => k = 32 ∧ l = n) A0 A) nX := by
  refine Con.mk (by decide) rfl [(0, some (.ref h)), (1, some (.int (nI n))), (2, some (.int (nI d)))] rfl fun x X hno => ?_
  have loop : ∀ (m f : Nat) (A : Nat → Nat → Int32) (M' : Mem), f + m = 9 → MRep G h ad F A B M' → A 32 n = ρ.may n ||| bitsN w f → Ch (fun k l => k = 32 ∧ l = n) A0 A → WM G x 4 (QM G x (pW G h ad (upd F 27 (F 27 - 1)) B fun A => RR (ρ.mayOr n (bitsN w 9)) A ∧ Ch (fun k l => k = 32 ∧ l = n) A0 A) nX (rmm 0 0)) 0 0 M' 2 [(3, some (.int (nI f))), (0, some (.ref h)), (1, some (.int (nI n))), (2, some (.int (nI d)))] [] := by
    intro m
    induction m with
    | zero =>
      intro f A M' hf hM h32 hC
      have hf9 : f = 9 := by omega
      subst hf9
      refine m_iload_n X dX3_leave_2 rfl rfl ?_
      refine m_bipush X dX3_leave_3 (v := 9) (by decide) ?_
      refine m_icmpge X dX3_leave_5 (t := 47) (by decide) (fun c_5 => ?_) (fun c_5 => absurd (by decide) c_5)
      refine m_aload_n X dX3_leave_47 rfl rfl (by first | rfl | exact isR_rf) ?_
      refine m_dup X dX3_leave_48 rfl ?_
      refine m_getf X fg_X3_228_X3 hM.1 rfl dX3_leave_49 ?_
      refine m_iconst X dX3_leave_52 (v := 1) (by decide) ?_
      refine m_isub X dX3_leave_53 ?_
      refine s_put X hM fp_X3_228_X3 rfl rfl rfl rfl dX3_leave_54 (fun M hM => ?_)
      exact m_vret X dX3_leave_57 (by decide) (by decide) (by exact ⟨rfl, A, hM, hR.mayOr hC h32, hC⟩)
    | succ m ih =>
      intro f A M' hf hM h32 hC
      have hw := (hW.ch hC (by intro l h1 h2; omega)).z (i := f) (by omega) (by omega)
      refine m_iload_n X dX3_leave_2 rfl rfl ?_
      refine m_bipush X dX3_leave_3 (v := 9) (by decide) ?_
      refine m_icmpge X dX3_leave_5 (t := 47) (by decide) (fun c_5 => absurd ((nI_leI (a := 9) (by decide) (by omega)).mp c_5) (by omega)) (fun c_5 => ?_)
      refine m_aload_n X dX3_leave_8 rfl rfl (by first | rfl | exact isR_rf) ?_
      refine m_getf X fg_X3_79_X3 hM.1 rfl dX3_leave_9 ?_
      refine m_iload_n X dX3_leave_12 rfl rfl ?_
      refine m_dup2 X dX3_leave_13 rfl rfl ?_
      refine s_iald X hM rfl rfl (by exact tin (by simp only [alen]; omega) rfl) dX3_leave_14 ?_
      refine m_topi X ((congrArg (A 32) (nI_clamp (by omega))).trans h32) ?_
      refine m_aload_n X dX3_leave_15 rfl rfl (by first | rfl | exact isR_rf) ?_
      refine m_getf X fg_X3_91_X3 hM.1 rfl dX3_leave_16 ?_
      refine m_bipush X dX3_leave_19 (v := 108) (by decide) ?_
      refine m_iload_n X dX3_leave_21 rfl rfl ?_
      refine m_imul X dX3_leave_22 ?_
      refine m_topi X (pk_mul 108 d) ?_
      refine m_bipush X dX3_leave_23 (v := 12) (by decide) ?_
      refine m_iload_n X dX3_leave_25 rfl rfl ?_
      refine m_imul X dX3_leave_26 ?_
      refine m_topi X (pk_mul 12 f) ?_
      refine m_iadd X dX3_leave_27 ?_
      refine m_topi X (nI_add _ _) ?_
      refine s_iald X hM rfl rfl (by exact tin (by simp only [alen]; omega) rfl) dX3_leave_28 ?_
      refine m_topi X (hw) ?_
      refine m_ifeq X dX3_leave_29 (t := 38) (by decide) (fun c_29 => ?_) (fun c_29 => ?_)
      · skip
        try simp only [bI_0, Bool.not_eq_false] at c_29
        refine m_iconst X dX3_leave_38 (v := 0) (by decide) ?_
        refine m_ior X dX3_leave_39 ?_
        refine s_iast X hM rfl rfl (by exact tin (by simp only [alen]; omega) rfl) dX3_leave_40 (fun M hM => ?_)
        rw [nI_clamp (by omega)] at hM
        refine m_iinc X dX3_leave_41 rfl (w := 1) (by decide) rfl ?_
        refine m_goto X dX3_leave_44 (t := 2) (by decide) ?_
        refine m_loc [(3, some (.int (nI (f + 1)))), (0, some (.ref h)), (1, some (.int (nI n))), (2, some (.int (nI d)))] ⟨by rw [nI_succ f]; rfl, rfl, rfl, rfl, trivial⟩ (ih (f + 1) _ _ (by omega) hM ?_ (hC.tr aset_ch (by intro k l hu; omega)))
        rw [aset_on, ← bits_s]
        first | rw [if_pos c_29] | rw [if_neg (fun z => z c_29)]
      · skip
        try simp only [bI_0, Bool.not_eq_false] at c_29
        refine m_iconst X dX3_leave_32 (v := 1) (by decide) ?_
        refine m_iload_n X dX3_leave_33 rfl rfl ?_
        refine m_ishl X dX3_leave_34 ?_
        refine m_goto X dX3_leave_35 (t := 39) (by decide) ?_
        refine m_ior X dX3_leave_39 ?_
        refine s_iast X hM rfl rfl (by exact tin (by simp only [alen]; omega) rfl) dX3_leave_40 (fun M hM => ?_)
        rw [nI_clamp (by omega)] at hM
        refine m_iinc X dX3_leave_41 rfl (w := 1) (by decide) rfl ?_
        refine m_goto X dX3_leave_44 (t := 2) (by decide) ?_
        refine m_loc [(3, some (.int (nI (f + 1)))), (0, some (.ref h)), (1, some (.int (nI n))), (2, some (.int (nI d)))] ⟨by rw [nI_succ f]; rfl, rfl, rfl, rfl, trivial⟩ (ih (f + 1) _ _ (by omega) hM ?_ (hC.tr aset_ch (by intro k l hu; omega)))
        rw [aset_on, ← bits_s]
        first | rw [if_pos c_29] | rw [if_neg (fun z => z c_29)]
  refine m_iconst X dX3_leave_0 (v := 0) (by decide) ?_
  refine m_istore_n X dX3_leave_1 rfl rfl rfl ?_
  exact m_loc [(3, some (.int (nI 0))), (0, some (.ref h)), (1, some (.int (nI n))), (2, some (.int (nI d)))] ⟨rfl, rfl, rfl, rfl, trivial⟩ (loop 9 0 _ _ rfl hM (by rw [(hR n hn).2.1]; exact Int32.or_zero.symm) Ch.rf)
