/-! THE MODEL'S OBJECT AS A STORE: scalars F, arrays of ints (and booleans) A, arrays of longs B, by the numbers of the fields (printed by wip/D-80403w/tools/mk20.py) -/
set_option maxRecDepth 100000
def ikd : Nat → Bool := fun k => [2, 3, 4, 5, 7, 10, 11, 12, 13, 14, 15, 16, 24, 25, 26, 29, 32, 33, 34, 35, 36, 37, 38, 39].contains k
def zkd : Nat → Bool := fun k => [30, 31].contains k
def lkd : Nat → Bool := fun k => [6, 8, 23].contains k
def akd (k : Nat) : Bool := ikd k || zkd k || lkd k
def alen : Nat → Nat
  | 2 => 201
  | 3 => 201
  | 4 => 201
  | 5 => 201
  | 6 => 3000
  | 7 => 12
  | 8 => 8
  | 10 => 80
  | 11 => 80
  | 12 => 80
  | 13 => 80
  | 14 => 80
  | 15 => 80
  | 16 => 80
  | 23 => 3000
  | 24 => 82
  | 25 => 82
  | 26 => 82
  | 29 => 12
  | 30 => 12
  | 31 => 80
  | 32 => 80
  | 33 => 960
  | 34 => 80
  | 35 => 80
  | 36 => 8856
  | 37 => 8856
  | 38 => 984
  | 39 => 12
  | _ => 0
def mfl (ad : Nat → Nat) (F : Nat → Int32) : List Value := [.int (F 0), .int (F 1), .ref (ad 2), .ref (ad 3), .ref (ad 4), .ref (ad 5), .ref (ad 6), .ref (ad 7), .ref (ad 8), .int (F 9), .ref (ad 10), .ref (ad 11), .ref (ad 12), .ref (ad 13), .ref (ad 14), .ref (ad 15), .ref (ad 16), .int (F 17), .int (F 18), .int (F 19), .int (F 20), .int (F 21), .int (F 22), .ref (ad 23), .ref (ad 24), .ref (ad 25), .ref (ad 26), .int (F 27), .int (F 28), .ref (ad 29), .ref (ad 30), .ref (ad 31), .ref (ad 32), .ref (ad 33), .ref (ad 34), .ref (ad 35), .ref (ad 36), .ref (ad 37), .ref (ad 38), .ref (ad 39)]
def MRep (G : GX) (h : Nat) (ad : Nat → Nat) (F : Nat → Int32) (A : Nat → Nat → Int32) (B : Nat → Nat → Int64) (M : Mem) : Prop :=
  M h = some (.inr (3, mfl ad F)) ∧ (∀ k, ikd k = true → M (ad k) = some (.inl (G.dA 0, alen k, .inl (A k)))) ∧ (∀ k, zkd k = true → M (ad k) = some (.inl (G.dA 10, alen k, .inl (A k)))) ∧ (∀ k, lkd k = true → M (ad k) = some (.inl (G.dA 2, alen k, .inr (.inl (B k))))) ∧ (∀ j k, akd j = true → akd k = true → ad j = ad k → j = k) ∧ ∀ k, akd k = true → ad k ≠ h
def aset (A : Nat → Nat → Int32) (k i : Nat) (v : Int32) : Nat → Nat → Int32 := fun j l => if j = k then (if l = i then v else A j l) else A j l
def bset (B : Nat → Nat → Int64) (k i : Nat) (v : Int64) : Nat → Nat → Int64 := fun j l => if j = k then (if l = i then v else B j l) else B j l
theorem aset_k {A : Nat → Nat → Int32} {k i : Nat} {v : Int32} : aset A k i v k = upd (A k) i v := by
  funext l
  simp only [aset, upd, if_true]
theorem aset_n {A : Nat → Nat → Int32} {k i j : Nat} {v : Int32} (h : j ≠ k) : aset A k i v j = A j := by
  funext l
  simp only [aset, if_neg h]
theorem bset_k {B : Nat → Nat → Int64} {k i : Nat} {v : Int64} : bset B k i v k = vp_updL (B k) i v := by
  funext l
  simp only [bset, vp_updL, if_true]
theorem bset_n {B : Nat → Nat → Int64} {k i j : Nat} {v : Int64} (h : j ≠ k) : bset B k i v j = B j := by
  funext l
  simp only [bset, if_neg h]
theorem ikd_akd {k : Nat} (h : ikd k = true) : akd k = true := by simp [akd, h]
theorem zkd_akd {k : Nat} (h : zkd k = true) : akd k = true := by simp [akd, h]
theorem lkd_akd {k : Nat} (h : lkd k = true) : akd k = true := by simp [akd, h]
theorem kd_ap1 : ∀ k ∈ [2, 3, 4, 5, 7, 10, 11, 12, 13, 14, 15, 16, 24, 25, 26, 29, 32, 33, 34, 35, 36, 37, 38, 39], zkd k = false ∧ lkd k = false := by decide
theorem kd_ap2 : ∀ k ∈ [30, 31], lkd k = false := by decide
theorem kd_ap {k : Nat} : (ikd k = true → zkd k = false ∧ lkd k = false) ∧ (zkd k = true → lkd k = false) := ⟨fun h => kd_ap1 k (by simpa [ikd] using h), fun h => kd_ap2 k (by simpa [zkd] using h)⟩
section MS
variable {G : GX} {x : MX} {y : MethodName} {cc : ByteArray} {nL : Nat} {ret : Option FieldType} {rm : Room} {Q : State → Prop} {k n : Nat} {M : Mem} {pc : Nat} {L : LL} {st : List Value}
variable {h : Nat} {ad : Nat → Nat} {F : Nat → Int32} {A : Nat → Nat → Int32} {B : Nat → Nat → Int64}
theorem MRep.setF {F' : Nat → Int32} (hM : MRep G h ad F A B M) : MRep G h ad F' A B (mup M h (.inr (3, mfl ad F'))) := by
  obtain ⟨h1, h2, h3, h4, h5, h6⟩ := hM
  exact ⟨mup_s, fun k hk => by rw [mup_n (h6 k (ikd_akd hk))]; exact h2 k hk, fun k hk => by rw [mup_n (h6 k (zkd_akd hk))]; exact h3 k hk, fun k hk => by rw [mup_n (h6 k (lkd_akd hk))]; exact h4 k hk, h5, h6⟩
theorem MRep.setA {j i : Nat} {v : Int32} (hM : MRep G h ad F A B M) (hj : ikd j = true) : MRep G h ad F (aset A j i v) B (mup M (ad j) (.inl (G.dA 0, alen j, .inl (upd (A j) i v)))) := by
  obtain ⟨h1, h2, h3, h4, h5, h6⟩ := hM
  refine ⟨by rw [mup_n (h6 j (ikd_akd hj)).symm]; exact h1, fun k hk => ?_, fun k hk => ?_, fun k hk => ?_, h5, h6⟩
  · by_cases e : k = j
    · subst e; rw [mup_s, aset_k]
    · rw [mup_n (fun z => e (h5 k j (ikd_akd hk) (ikd_akd hj) z)), aset_n e]; exact h2 k hk
  · have e : k ≠ j := fun e => by subst e; have := (kd_ap.1 hj).1; rw [hk] at this; cases this
    rw [mup_n (fun z => e (h5 k j (zkd_akd hk) (ikd_akd hj) z)), aset_n e]; exact h3 k hk
  · have e : k ≠ j := fun e => by subst e; have := (kd_ap.1 hj).2; rw [hk] at this; cases this
    rw [mup_n (fun z => e (h5 k j (lkd_akd hk) (ikd_akd hj) z))]; exact h4 k hk
theorem MRep.setZ {j i : Nat} {v : Int32} (hM : MRep G h ad F A B M) (hj : zkd j = true) : MRep G h ad F (aset A j i v) B (mup M (ad j) (.inl (G.dA 10, alen j, .inl (upd (A j) i v)))) := by
  obtain ⟨h1, h2, h3, h4, h5, h6⟩ := hM
  refine ⟨by rw [mup_n (h6 j (zkd_akd hj)).symm]; exact h1, fun k hk => ?_, fun k hk => ?_, fun k hk => ?_, h5, h6⟩
  · have e : k ≠ j := fun e => by subst e; have := (kd_ap.1 hk).1; rw [hj] at this; cases this
    rw [mup_n (fun z => e (h5 k j (ikd_akd hk) (zkd_akd hj) z)), aset_n e]; exact h2 k hk
  · by_cases e : k = j
    · subst e; rw [mup_s, aset_k]
    · rw [mup_n (fun z => e (h5 k j (zkd_akd hk) (zkd_akd hj) z)), aset_n e]; exact h3 k hk
  · have e : k ≠ j := fun e => by subst e; have := kd_ap.2 hj; rw [hk] at this; cases this
    rw [mup_n (fun z => e (h5 k j (lkd_akd hk) (zkd_akd hj) z))]; exact h4 k hk
theorem MRep.setB {j i : Nat} {v : Int64} (hM : MRep G h ad F A B M) (hj : lkd j = true) : MRep G h ad F A (bset B j i v) (mup M (ad j) (.inl (G.dA 2, alen j, .inr (.inl (vp_updL (B j) i v))))) := by
  obtain ⟨h1, h2, h3, h4, h5, h6⟩ := hM
  refine ⟨by rw [mup_n (h6 j (lkd_akd hj)).symm]; exact h1, fun k hk => ?_, fun k hk => ?_, fun k hk => ?_, h5, h6⟩
  · have e : k ≠ j := fun e => by subst e; have := (kd_ap.1 hk).2; rw [hj] at this; cases this
    rw [mup_n (fun z => e (h5 k j (ikd_akd hk) (lkd_akd hj) z))]; exact h2 k hk
  · have e : k ≠ j := fun e => by subst e; have := kd_ap.2 hk; rw [hj] at this; cases this
    rw [mup_n (fun z => e (h5 k j (zkd_akd hk) (lkd_akd hj) z))]; exact h3 k hk
  · by_cases e : k = j
    · subst e; rw [mup_s, bset_k]
    · rw [mup_n (fun z => e (h5 k j (lkd_akd hk) (lkd_akd hj) z)), bset_n e]; exact h4 k hk
theorem s_put (X : Cx G x y cc nL ret rm) (hM : MRep G h ad F A B M) {kf i : Nat} {v : Int32} {ty : FieldType} (f : FP y.cls i 3 kf ty false) (hset : (mfl ad F).set kf (.int v) = mfl ad (upd F kf v)) (hn : narrow ty (.int v) = .int v) (hfit : fits ty (.int v) = true) (hlen : Nat.blt kf 40 = true) (d : decode cc pc = .ok (.putfield i, 3)) (kk : ∀ M' : Mem, MRep G h ad (upd F kf v) A B M' → WM G x nL Q k n M' (pc + 3) L st) : WM G x nL Q k n M pc L (.int v :: .ref h :: st) :=
  m_putf X f (fun h => nomatch h) hM.1 hn hfit hlen d (by rw [hset]; exact kk _ hM.setF)
theorem s_iald (X : Cx G x y cc nL ret rm) (hM : MRep G h ad F A B M) {j N : Nat} {i : Int32} (hj : ikd j = true) (hN : alen j = N) (hin : vp_in i N) (d : decode cc pc = .ok (.iaload, 1)) (kk : WM G x nL Q k n M (pc + 1) L (.int (A j i.toNatClampNeg) :: st)) : WM G x nL Q k n M pc L (.int i :: .ref (ad j) :: st) := m_iald X (hM.2.1 j hj) (by rw [hN]; exact hin) d kk
theorem s_zald (X : Cx G x y cc nL ret rm) (hM : MRep G h ad F A B M) {j N : Nat} {i : Int32} (hj : zkd j = true) (hN : alen j = N) (hin : vp_in i N) (d : decode cc pc = .ok (.baload, 1)) (kk : WM G x nL Q k n M (pc + 1) L (.int (A j i.toNatClampNeg) :: st)) : WM G x nL Q k n M pc L (.int i :: .ref (ad j) :: st) := m_zald X (hM.2.2.1 j hj) (by rw [hN]; exact hin) d kk
theorem s_lald (X : Cx G x y cc nL ret rm) (hM : MRep G h ad F A B M) {j N : Nat} {i : Int32} (hj : lkd j = true) (hN : alen j = N) (hin : vp_in i N) (d : decode cc pc = .ok (.laload, 1)) (kk : WM G x nL Q k n M (pc + 1) L (.long (B j i.toNatClampNeg) :: st)) : WM G x nL Q k n M pc L (.int i :: .ref (ad j) :: st) := m_lald X (hM.2.2.2.1 j hj) (by rw [hN]; exact hin) d kk
theorem s_iast (X : Cx G x y cc nL ret rm) (hM : MRep G h ad F A B M) {j N : Nat} {i v : Int32} (hj : ikd j = true) (hN : alen j = N) (hin : vp_in i N) (d : decode cc pc = .ok (.iastore, 1)) (kk : ∀ M' : Mem, MRep G h ad F (aset A j i.toNatClampNeg v) B M' → WM G x nL Q k n M' (pc + 1) L st) : WM G x nL Q k n M pc L (.int v :: .int i :: .ref (ad j) :: st) := m_iast X (hM.2.1 j hj) (by rw [hN]; exact hin) d (kk _ (hM.setA hj))
theorem s_zast (X : Cx G x y cc nL ret rm) (hM : MRep G h ad F A B M) {j N : Nat} {i v : Int32} (hj : zkd j = true) (hN : alen j = N) (hin : vp_in i N) (hv : vp_nar .boolean v = v) (d : decode cc pc = .ok (.bastore, 1)) (kk : ∀ M' : Mem, MRep G h ad F (aset A j i.toNatClampNeg v) B M' → WM G x nL Q k n M' (pc + 1) L st) : WM G x nL Q k n M pc L (.int v :: .int i :: .ref (ad j) :: st) := m_zast X (hM.2.2.1 j hj) (by rw [hN]; exact hin) d (by rw [hv]; exact kk _ (hM.setZ hj))
theorem s_last (X : Cx G x y cc nL ret rm) (hM : MRep G h ad F A B M) {j N : Nat} {i : Int32} {v : Int64} (hj : lkd j = true) (hN : alen j = N) (hin : vp_in i N) (d : decode cc pc = .ok (.lastore, 1)) (kk : ∀ M' : Mem, MRep G h ad F A (bset B j i.toNatClampNeg v) M' → WM G x nL Q k n M' (pc + 1) L st) : WM G x nL Q k n M pc L (.long v :: .int i :: .ref (ad j) :: st) := m_last X (hM.2.2.2.1 j hj) (by rw [hN]; exact hin) d (kk _ (hM.setB hj))
end MS
/-- a boolean as the machine has it -/
def bI (b : Bool) : Int32 := bif b then 1 else 0
theorem bI_0 {b : Bool} : bI b = 0 ↔ b = false := by cases b <;> decide
theorem bI_n0 {b : Bool} : ¬ bI b = 0 ↔ b = true := by cases b <;> decide
theorem bI_t : bI true = 1 := rfl
theorem bI_f : bI false = 0 := rfl
theorem bI_nar {b : Bool} : narrow .boolean (.int (bI b)) = .int (bI b) := by cases b <;> rfl
theorem bI_vp {b : Bool} : vp_nar .boolean (bI b) = bI b := by cases b <;> rfl
