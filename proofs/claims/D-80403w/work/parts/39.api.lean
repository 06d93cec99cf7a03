/-! WHAT THE CALLS ANSWER, in plain Lean (the report apart) -/
set_option maxRecDepth 100000
/-- of reports: the kinds given to slots; which nodes were reached, what they may come to, what stood ahead of them, what their bodies may come to, what may be lost -/
abbrev RP : Type := (Nat → Int32) × (Nat → Bool) × (Nat → Int32) × (Nat → Nat → Int32) × (Nat → Int32) × (Nat → Int32)
abbrev RP.st (ρ : RP) : Nat → Int32 := ρ.1
abbrev RP.rch (ρ : RP) : Nat → Bool := ρ.2.1
abbrev RP.may (ρ : RP) : Nat → Int32 := ρ.2.2.1
abbrev RP.ah (ρ : RP) : Nat → Nat → Int32 := ρ.2.2.2.1
abbrev RP.bo (ρ : RP) : Nat → Int32 := ρ.2.2.2.2.1
abbrev RP.lo (ρ : RP) : Nat → Int32 := ρ.2.2.2.2.2
abbrev FS : Type := NS × ES × RP
def updB (f : Nat → Bool) (k : Nat) (v : Bool) : Nat → Bool := fun j => if j = k then v else f j
def isN (ν : NS) (v : Int32) : Bool := inN v ν.N
def NS.add (ν : NS) (s o : Nat) (a b c d : Int32) (p : Nat) : NS := (ν.N + 1, updN ν.so ν.N s, updN ν.op ν.N o, upd ν.na ν.N a, upd ν.nb ν.N b, upd ν.nc ν.N c, upd ν.nd ν.N d, updN ν.co ν.N p)
def RP.unreach (ρ : RP) (n : Nat) : RP := (ρ.st, updB ρ.rch n false, ρ.may, ρ.ah, ρ.bo, ρ.lo)
def addN (Φ : FS) (s o : Nat) (a b c d : Int32) (p : Nat) : Int32 × FS := if Φ.1.N = 80 ∨ 100 < p then (-2, Φ) else (nI Φ.1.N, Φ.1.add s o a b c d p, Φ.2.1, Φ.2.2.unreach Φ.1.N)
def apAct (op a b c d : Int32) (Φ : FS) : Int32 × FS := if isActB op a b c d = true then addN Φ 0 (tn op) a b c d 1 else (-1, Φ)
def apBoth (i j : Int32) (Φ : FS) : Int32 × FS := if isN Φ.1 i = true ∧ isN Φ.1 j = true then addN Φ 1 0 i j 0 0 (1 + Φ.1.co (tn i) + Φ.1.co (tn j)) else (-1, Φ)
def apChoice (s k i j : Int32) (Φ : FS) : Int32 × FS := if inB s 0 11 = true ∧ inB k 0 9 = true ∧ isN Φ.1 i = true ∧ isN Φ.1 j = true then addN Φ 2 0 s k i j (1 + Φ.1.co (tn i) + Φ.1.co (tn j)) else (-1, Φ)
def apGuard (b w h l : Int32) (Φ : FS) : Int32 × FS := if isN Φ.1 b = true ∧ (h = -1 ∨ isN Φ.1 h = true) ∧ (l = -1 ∨ isN Φ.1 l = true) then addN Φ 3 0 b (w &&& 510) h l (1 + Φ.1.co (tn b) + costO Φ.1.co h + 9 * costO Φ.1.co l) else (-1, Φ)
def NS.none (ν : NS) : NS := (0, ν.so, ν.op, ν.na, ν.nb, ν.nc, ν.nd, ν.co)
def apForget (Φ : FS) : Int32 × FS := (nI Φ.1.N, Φ.1.none, Φ.2)
def ES.anew (s : ES) : ES := (s.1.setCm 0, 0, 0, 0, 0, -1)
def apRun (v : Int32) (Φ : FS) : Int32 × FS := if isN Φ.1 v = true then (nI (exec Φ.1 81 (tn v) Φ.2.1.anew).1, Φ.1, (exec Φ.1 81 (tn v) Φ.2.1.anew).2, Φ.2.2) else (-1, Φ)
def apRan (w : Int32) (Φ : FS) : Int32 := if w = 0 then Φ.2.1.2.1 else if w = 1 then Φ.2.1.2.2.1 else if w = 2 then Φ.2.1.1.cm else if w = 3 then Φ.2.1.2.2.2.1 else if w = 4 then Φ.2.1.2.2.2.2.1 else if w = 5 then Φ.2.1.2.2.2.2.2 else -1
def AS.clear (σ : AS) : AS := (0, 0, σ.kd, σ.bg, σ.ln, σ.nm, σ.it, fun _ => 0, fun _ => 0, σ.cm)
def apClear (Φ : FS) : Int32 × FS := (nI Φ.2.1.1.T, Φ.1, (Φ.2.1.1.clear, Φ.2.1.2), Φ.2.2)
def apCount (w : Int32) (Φ : FS) : Int32 := if w = 0 then nI Φ.2.1.1.T else if w = 1 then nI Φ.2.1.1.I else if w = 2 then nI Φ.1.N else if w = 3 then (if Φ.1.N = 0 then 0 else nI (Φ.1.co (Φ.1.N - 1))) else -1
def sizeA (σ : AS) (t : Nat) : Int32 := if σ.kd t < 8 then nI (σ.ln t) else σ.nm t
def apSlot (s w : Int32) (Φ : FS) : Int32 := if inB s 0 11 = true ∧ inB w 0 2 = true then (if w = 0 then nI (Φ.2.1.1.sl (tn s)) else if Φ.2.1.1.sl (tn s) = 0 then 0 else if w = 1 then nI (Φ.2.1.1.kd (Φ.2.1.1.sl (tn s))) else sizeA Φ.2.1.1 (Φ.2.1.1.sl (tn s))) else -1
def apItem (s i : Int32) (Φ : FS) : Int64 := if inB s 0 11 = true ∧ Φ.2.1.1.sl (tn s) ≠ 0 ∧ inN i (Φ.2.1.1.ln (Φ.2.1.1.sl (tn s))) = true then Φ.2.1.1.it (Φ.2.1.1.bg (Φ.2.1.1.sl (tn s)) + tn i) else 0
def apRegister (r : Int32) (Φ : FS) : Int64 := if inB r 0 7 = true then Φ.2.1.1.rg (tn r) else 0
def plainT (σ : AS) (x y : Nat) : Bool := decide (σ.kd x = σ.kd y) && decide (σ.ln x = σ.ln y) && decide (σ.nm x = σ.nm y) && (List.range (σ.ln x)).all fun i => decide (σ.it (σ.bg x + i) = σ.it (σ.bg y + i))
def twinI (σ : AS) (v w : Int64) : Bool := decide (v = w) || (decide (v ≠ 0) && decide (w ≠ 0) && plainT σ v.toInt.toNat w.toInt.toNat)
def twinsT (σ : AS) (x y : Nat) : Bool := if σ.kd x ≠ 5 ∨ σ.kd y ≠ 5 then plainT σ x y else decide (σ.ln x = σ.ln y) && (List.range (σ.ln x)).all fun i => twinI σ (σ.it (σ.bg x + i)) (σ.it (σ.bg y + i))
def apAlike (s o : Int32) (Φ : FS) : Int32 := if inB s 0 11 = true ∧ inB o 0 11 = true then (if Φ.2.1.1.sl (tn s) = Φ.2.1.1.sl (tn o) then 1 else if Φ.2.1.1.sl (tn s) ≠ 0 ∧ Φ.2.1.1.sl (tn o) ≠ 0 ∧ twinsT Φ.2.1.1 (Φ.2.1.1.sl (tn s)) (Φ.2.1.1.sl (tn o)) = true then 2 else 0) else -1
def RP.give (ρ : RP) (s : Nat) (w : Int32) : RP := (upd ρ.st s w, ρ.2)
def apGiven (s w : Int32) (Φ : FS) : Int32 × FS := if inB s 0 11 = true ∧ ¬ (w < 1 ∨ 1023 < w) then (Φ.2.2.st (tn s), Φ.1, Φ.2.1, Φ.2.2.give (tn s) w) else (-1, Φ)
def apReached (n : Int32) (Φ : FS) : Int32 := if isN Φ.1 n = true then bI (Φ.2.2.rch (tn n)) else -1
def apMay (n : Int32) (Φ : FS) : Int32 := if isN Φ.1 n = true then (if Φ.2.2.rch (tn n) = true then Φ.2.2.may (tn n) else 0) else -1
def apAhead (n s : Int32) (Φ : FS) : Int32 := if isN Φ.1 n = true ∧ inB s 0 11 = true then (if Φ.2.2.rch (tn n) = true then Φ.2.2.ah (tn n) (tn s) else 0) else -1
def apGuarded (n w : Int32) (Φ : FS) : Int32 := if isN Φ.1 n = true ∧ Φ.1.so (tn n) = 3 ∧ inB w 0 1 = true then (if Φ.2.2.rch (tn n) = true then (if w = 0 then Φ.1.nb (tn n) &&& (Φ.2.2.bo (tn n) ^^^ (-1)) else Φ.2.2.lo (tn n)) else 0) else -1
/-- the state is in order -/
def FW (Φ : FS) : Prop := VN Φ.1 ∧ WF Φ.2.1.1 ∧ ∀ s, s < 12 → ¬ (Φ.2.2.st s < 1 ∨ 1023 < Φ.2.2.st s)
/-- the model's store holds what is told of reports -/
def MQp (ρ : RP) (N : Nat) (F : Nat → Int32) (A : Nat → Nat → Int32) : Prop := (∀ s, s < 12 → (if A 30 s = 0 then 1 else A 29 s) = ρ.st s) ∧ ∀ n, n < N → (ρ.rch n = true ↔ ¬ F 28 = 0 ∧ ¬ A 31 n = 0) ∧ (ρ.rch n = true → A 32 n = ρ.may n ∧ (∀ s, s < 12 → A 33 (12 * n + s) = ρ.ah n s) ∧ A 34 n = ρ.bo n ∧ A 35 n = ρ.lo n)
def MF (Φ : FS) (F : Nat → Int32) (A : Nat → Nat → Int32) (B : Nat → Nat → Int64) : Prop := RI Φ.1 Φ.2.1 F A B ∧ MQp Φ.2.2 Φ.1.N F A
theorem MQp.to {ρ : RP} {N : Nat} {F F' : Nat → Int32} {A A' : Nat → Nat → Int32} (h : MQp ρ N F A) (hF : F' 28 = F 28) (hA : ∀ k, 29 ≤ k → k ≤ 35 → A' k = A k) : MQp ρ N F' A' := by
  unfold MQp
  rw [hF, hA 29 (by decide) (by decide), hA 30 (by decide) (by decide), hA 31 (by decide) (by decide), hA 32 (by decide) (by decide), hA 33 (by decide) (by decide), hA 34 (by decide) (by decide), hA 35 (by decide) (by decide)]
  exact h
/-- the end of a call of the model -/
def pA (G : GX) (h : Nat) (ad : Nat → Nat) (r : Value) (Φ : FS) : Option Value → Mem → Prop := fun v M' => v = some r ∧ ∃ (F' : Nat → Int32) (A' : Nat → Nat → Int32) (B' : Nat → Nat → Int64), MRep G h ad F' A' B' M' ∧ MF Φ F' A' B'
theorem isN_nI {ν : NS} {v : Int32} (hN : ν.N ≤ 80) (h : isN ν v = true) : ∃ j : Nat, j < ν.N ∧ v = nI j := by
  unfold isN inN at h
  simp only [Bool.and_eq_true, decide_eq_true_eq] at h
  exact ⟨v.toInt.toNat, by omega, toInt_nI (by omega) (by omega)⟩
