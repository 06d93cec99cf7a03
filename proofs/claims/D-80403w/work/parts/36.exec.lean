/-! NODES, AND WHAT A RUN COMES TO -/
set_option maxRecDepth 100000
/-- nodes: how many; of each its sort, its operation, its four numbers, its cost -/
abbrev NS : Type := Nat × (Nat → Nat) × (Nat → Nat) × (Nat → Int32) × (Nat → Int32) × (Nat → Int32) × (Nat → Int32) × (Nat → Nat)
abbrev NS.N (ν : NS) : Nat := ν.1
abbrev NS.so (ν : NS) : Nat → Nat := ν.2.1
abbrev NS.op (ν : NS) : Nat → Nat := ν.2.2.1
abbrev NS.na (ν : NS) : Nat → Int32 := ν.2.2.2.1
abbrev NS.nb (ν : NS) : Nat → Int32 := ν.2.2.2.2.1
abbrev NS.nc (ν : NS) : Nat → Int32 := ν.2.2.2.2.2.1
abbrev NS.nd (ν : NS) : Nat → Int32 := ν.2.2.2.2.2.2.1
abbrev NS.co (ν : NS) : Nat → Nat := ν.2.2.2.2.2.2.2
/-- a node that may not be there: -1 -/
def opt (n : Nat) (v : Int32) : Prop := v = -1 ∨ ∃ j : Nat, j < n ∧ v = nI j
def costO (c : Nat → Nat) (v : Int32) : Nat := if v < 0 then 0 else c v.toInt.toNat
/-- a node in order -/
def okN (ν : NS) (n : Nat) : Prop :=
  (ν.so n = 0 ∧ ν.op n < 18 ∧ isActN (ν.op n) (ν.na n) (ν.nb n) (ν.nc n) (ν.nd n) = true ∧ ν.co n = 1) ∨
  (ν.so n = 1 ∧ ∃ i j : Nat, i < n ∧ j < n ∧ ν.na n = nI i ∧ ν.nb n = nI j ∧ ν.co n = 1 + ν.co i + ν.co j) ∨
  (ν.so n = 2 ∧ ∃ s k i j : Nat, s < 12 ∧ k < 10 ∧ i < n ∧ j < n ∧ ν.na n = nI s ∧ ν.nb n = nI k ∧ ν.nc n = nI i ∧ ν.nd n = nI j ∧ ν.co n = 1 + ν.co i + ν.co j) ∨
  (ν.so n = 3 ∧ ∃ (i : Nat) (w : Int32), i < n ∧ ν.na n = nI i ∧ ν.nb n = w &&& 510 ∧ opt n (ν.nc n) ∧ opt n (ν.nd n) ∧ ν.co n = 1 + ν.co i + costO ν.co (ν.nc n) + 9 * costO ν.co (ν.nd n))
def VN (ν : NS) : Prop := ν.N ≤ 80 ∧ ∀ n, n < ν.N → okN ν n ∧ ν.co n ≤ 100
/-- a run's state: the things; how many acts were begun, how many failed, last parts, what was lost, the latest act that failed -/
abbrev ES : Type := AS × Int32 × Int32 × Int32 × Int32 × Int32
def bitT (v : Int32) (r : Nat) : Bool := decide ((v >>> (nI r &&& 31)) &&& 1 = 1)
def chooses (σ : AS) (s k : Nat) : Bool := if k = 0 then decide (σ.sl s = 0) else decide (σ.sl s ≠ 0) && isK (σ.kd (σ.sl s)) k
abbrev tn (v : Int32) : Nat := v.toInt.toNat
def exAct (ν : NS) (n : Nat) (s : ES) : Nat × ES := ((doAct (ν.op n) (ν.na n) (ν.nb n) (ν.nc n) (ν.nd n) s.1).1, (doAct (ν.op n) (ν.na n) (ν.nb n) (ν.nc n) (ν.nd n) s.1).2, s.2.1 + 1, s.2.2.1 + (if (doAct (ν.op n) (ν.na n) (ν.nb n) (ν.nc n) (ν.nd n) s.1).1 = 0 then 0 else 1), s.2.2.2.1, s.2.2.2.2.1, if (doAct (ν.op n) (ν.na n) (ν.nb n) (ν.nc n) (ν.nd n) s.1).1 = 0 then s.2.2.2.2.2 else nI n)
def exLast (s : ES) : ES := (s.1, s.2.1, s.2.2.1, s.2.2.2.1 + 1, s.2.2.2.2.1, s.2.2.2.2.2)
def exLost (s : ES) (b : Bool) : ES := (s.1, s.2.1, s.2.2.1, s.2.2.2.1, s.2.2.2.2.1 + (if b = true then 1 else 0), s.2.2.2.2.2)
/-- what the handler leaves -/
def exHand (E : Nat → ES → Nat × ES) (ν : NS) (n : Nat) (b : Nat × ES) : Nat × ES := if b.1 ≠ 0 ∧ bitT (ν.nb n) b.1 = true then (if ν.nc n < 0 then (0, b.2) else E (tn (ν.nc n)) b.2) else b
def exEnd (E : Nat → ES → Nat × ES) (ν : NS) (n : Nat) (p : Nat × ES) : Nat × ES := if ν.nd n < 0 then p else (if (E (tn (ν.nd n)) (exLast p.2)).1 = 0 then p.1 else (E (tn (ν.nd n)) (exLast p.2)).1, exLost (E (tn (ν.nd n)) (exLast p.2)).2 (decide ((E (tn (ν.nd n)) (exLast p.2)).1 ≠ 0) && decide (p.1 ≠ 0)))
/-- what the node n comes to: 0, or the number of its failure; and the state behind -/
def exec (ν : NS) : Nat → Nat → ES → Nat × ES
  | 0, _, s => (0, s)
  | f + 1, n, s =>
    if ν.so n = 0 then exAct ν n s
    else if ν.so n = 1 then (if (exec ν f (tn (ν.na n)) s).1 = 0 then exec ν f (tn (ν.nb n)) (exec ν f (tn (ν.na n)) s).2 else exec ν f (tn (ν.na n)) s)
    else if ν.so n = 2 then exec ν f (if chooses s.1 (tn (ν.na n)) (tn (ν.nb n)) = true then tn (ν.nc n) else tn (ν.nd n)) s
    else exEnd (exec ν f) ν n (exHand (exec ν f) ν n (exec ν f (tn (ν.na n)) s))
theorem tn_nI {n : Nat} (h : n < 2 ^ 31) : tn (nI n) = n := nI_toNat h
/-- the model's store holds the nodes -/
def MN (ν : NS) (F : Nat → Int32) (A : Nat → Nat → Int32) : Prop := F 9 = nI ν.N ∧ ∀ n, n < ν.N → A 10 n = nI (ν.so n) ∧ A 11 n = nI (ν.op n) ∧ A 12 n = ν.na n ∧ A 13 n = ν.nb n ∧ A 14 n = ν.nc n ∧ A 15 n = ν.nd n ∧ A 16 n = nI (ν.co n)
/-- .. and a run's state -/
def RI (ν : NS) (s : ES) (F : Nat → Int32) (A : Nat → Nat → Int32) (B : Nat → Nat → Int64) : Prop := MT s.1 F A B ∧ WF s.1 ∧ F 17 = s.2.1 ∧ F 18 = s.2.2.1 ∧ F 20 = s.2.2.2.1 ∧ F 21 = s.2.2.2.2.1 ∧ F 22 = s.2.2.2.2.2 ∧ MN ν F A
theorem MT.updF {σ : AS} {F : Nat → Int32} {A : Nat → Nat → Int32} {B : Nat → Nat → Int64} {k : Nat} {v : Int32} (h : MT σ F A B) (h0 : k ≠ 0) (h1 : k ≠ 1) (h19 : k ≠ 19) : MT σ (upd F k v) A B := by
  obtain ⟨a, b, c, d⟩ := h
  exact ⟨(pk_un h0.symm).trans a, (pk_un h1.symm).trans b, (pk_un h19.symm).trans c, d⟩
theorem MT.updA {σ : AS} {F : Nat → Int32} {A A' : Nat → Nat → Int32} {B : Nat → Nat → Int64} (h : MT σ F A B) (hA : ∀ k, k < 8 → A' k = A k) : MT σ F A' B := by
  obtain ⟨a, b, c, d, e, f, g⟩ := h
  exact ⟨a, b, c, fun t t1 t2 => by rw [hA 2 (by decide), hA 3 (by decide), hA 4 (by decide), hA 5 (by decide)]; exact d t t1 t2, e, fun s hs => by rw [hA 7 (by decide)]; exact f s hs, g⟩
theorem MN.to {ν : NS} {F F' : Nat → Int32} {A A' : Nat → Nat → Int32} (h : MN ν F A) (hF : F' 9 = F 9) (hA : ∀ k, 10 ≤ k → k ≤ 16 → A' k = A k) : MN ν F' A' := by
  refine ⟨hF.trans h.1, fun n hn => ?_⟩
  rw [hA 10 (by decide) (by decide), hA 11 (by decide) (by decide), hA 12 (by decide) (by decide), hA 13 (by decide) (by decide), hA 14 (by decide) (by decide), hA 15 (by decide) (by decide), hA 16 (by decide) (by decide)]
  exact h.2 n hn
theorem exec_lt : ∀ (ν : NS) (f n : Nat) (s : ES), (exec ν f n s).1 < 10 := by
  intro ν f
  have hA : ∀ n (s : ES), (exAct ν n s).1 < 10 := by
    intro n s
    show (doAct _ _ _ _ _ _).1 < 10
    unfold doAct
    split <;> (first | unfold makeA | unfold deepA | unfold figureA | unfold moveA | unfold getA | unfold setA | unfold takeA | unfold layA | unfold measureA | unfold cloneA | unfold tellA | unfold copyA | unfold divA | skip) <;> (repeat' split) <;> first | exact itemF_lt _ _ _ _ | exact rowF_lt _ _ _ | (dsimp only; omega)
  induction f with
  | zero => intro n s; show 0 < 10; decide
  | succ f ih =>
    intro n s
    unfold exec
    split
    · exact hA n s
    · split
      · split
        · exact ih _ _
        · exact ih _ _
      · split
        · exact ih _ _
        · have hH : (exHand (exec ν f) ν n (exec ν f (tn (ν.na n)) s)).1 < 10 := by
            unfold exHand
            split
            · split
              · show 0 < 10; decide
              · exact ih _ _
            · exact ih _ _
          unfold exEnd
          split
          · exact hH
          · show (if _ then _ else _) < 10
            split
            · exact hH
            · exact ih _ _
/-- the end of a method of the model whose store is told -/
def pS (G : GX) (h : Nat) (ad : Nat → Nat) (r : Option Value) (F : Nat → Int32) (A : Nat → Nat → Int32) (B : Nat → Nat → Int64) : Option Value → Mem → Prop := fun v M' => v = r ∧ MRep G h ad F A B M'
/-- a node is laid on the stack, at the place t -/
def pushA (A : Nat → Nat → Int32) (t : Nat) (v : Int32) : Nat → Nat → Int32 := aset (aset (aset A 24 t v) 25 t 0) 26 t 0
def guardR (F : Nat → Int32) (A : Nat → Nat → Int32) (t m : Nat) (r : Int32) : Int32 × (Nat → Int32) × (Nat → Nat → Int32) :=
  if A 25 t = 0 then (0, upd F 27 (nI (t + 1)), pushA (aset A 25 t 1) (t + 1) (A 12 m))
  else if A 25 t = 3 then (if r = 0 then A 26 t else r, upd (upd F 21 (F 21 + (if r = 0 ∨ A 26 t = 0 then 0 else 1))) 27 (nI t - 1), A)
  else if (A 25 t = 1 ∧ (A 13 m >>> (r &&& 31)) &&& 1 = 1) ∧ ¬ A 14 m < 0 then (0, upd F 27 (nI (t + 1)), pushA (aset A 25 t 2) (t + 1) (A 14 m))
  else if A 15 m < 0 then (if A 25 t = 1 ∧ (A 13 m >>> (r &&& 31)) &&& 1 = 1 then 0 else r, upd F 27 (nI t - 1), A)
  else (0, upd (upd F 20 (F 20 + 1)) 27 (nI (t + 1)), pushA (aset (aset A 26 t (if A 25 t = 1 ∧ (A 13 m >>> (r &&& 31)) &&& 1 = 1 then 0 else r)) 25 t 3) (t + 1) (A 15 m))
def bothR (F : Nat → Int32) (A : Nat → Nat → Int32) (t m : Nat) (r : Int32) : Int32 × (Nat → Int32) × (Nat → Nat → Int32) :=
  if A 25 t = 0 ∨ (A 25 t = 1 ∧ r = 0) then (0, upd F 27 (nI (t + 1)), pushA (aset A 25 t (A 25 t + 1)) (t + 1) (if A 25 t = 0 then A 12 m else A 13 m)) else (r, upd F 27 (nI t - 1), A)
def choiceR (σ : AS) (F : Nat → Int32) (A : Nat → Nat → Int32) (t m s k : Nat) (r : Int32) : Int32 × (Nat → Int32) × (Nat → Nat → Int32) :=
  if A 25 t = 0 then (0, upd F 27 (nI (t + 1)), pushA (aset A 25 t 1) (t + 1) (if chooses σ s k = true then A 14 m else A 15 m)) else (r, upd F 27 (nI t - 1), A)
