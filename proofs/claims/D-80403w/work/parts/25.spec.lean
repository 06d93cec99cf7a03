/-! WHAT THE SYSTEM COMPUTES, in plain Lean: the things, and the acts upon them -/
set_option maxRecDepth 100000
/-- T things, I items, and of a thing its kind, where its items begin, how many they are, its number; the items; the slots; the registers; how many items came by copies -/
abbrev AS : Type := Nat × Nat × (Nat → Nat) × (Nat → Nat) × (Nat → Nat) × (Nat → Int32) × (Nat → Int64) × (Nat → Nat) × (Nat → Int64) × Int32
abbrev AS.T (σ : AS) : Nat := σ.1
abbrev AS.I (σ : AS) : Nat := σ.2.1
abbrev AS.kd (σ : AS) : Nat → Nat := σ.2.2.1
abbrev AS.bg (σ : AS) : Nat → Nat := σ.2.2.2.1
abbrev AS.ln (σ : AS) : Nat → Nat := σ.2.2.2.2.1
abbrev AS.nm (σ : AS) : Nat → Int32 := σ.2.2.2.2.2.1
abbrev AS.it (σ : AS) : Nat → Int64 := σ.2.2.2.2.2.2.1
abbrev AS.sl (σ : AS) : Nat → Nat := σ.2.2.2.2.2.2.2.1
abbrev AS.rg (σ : AS) : Nat → Int64 := σ.2.2.2.2.2.2.2.2.1
abbrev AS.cm (σ : AS) : Int32 := σ.2.2.2.2.2.2.2.2.2
def updN (f : Nat → Nat) (k v : Nat) : Nat → Nat := fun j => if j = k then v else f j
theorem updN_s {f : Nat → Nat} {k v : Nat} : updN f k v k = v := by simp [updN]
theorem updN_n {f : Nat → Nat} {k v j : Nat} (h : j ≠ k) : updN f k v j = f j := by simp [updN, h]
def AS.setSl (σ : AS) (s t : Nat) : AS := (σ.T, σ.I, σ.kd, σ.bg, σ.ln, σ.nm, σ.it, updN σ.sl s t, σ.rg, σ.cm)
def AS.setRg (σ : AS) (r : Nat) (v : Int64) : AS := (σ.T, σ.I, σ.kd, σ.bg, σ.ln, σ.nm, σ.it, σ.sl, vp_updL σ.rg r v, σ.cm)
def AS.setIt (σ : AS) (j : Nat) (v : Int64) : AS := (σ.T, σ.I, σ.kd, σ.bg, σ.ln, σ.nm, vp_updL σ.it j v, σ.sl, σ.rg, σ.cm)
def AS.setNm (σ : AS) (t : Nat) (v : Int32) : AS := (σ.T, σ.I, σ.kd, σ.bg, σ.ln, upd σ.nm t v, σ.it, σ.sl, σ.rg, σ.cm)
def AS.setCm (σ : AS) (v : Int32) : AS := (σ.T, σ.I, σ.kd, σ.bg, σ.ln, σ.nm, σ.it, σ.sl, σ.rg, v)
/-- a new thing of the kind k with n items, all 0 -/
def AS.fresh (σ : AS) (k n : Nat) : AS := (σ.T + 1, σ.I + n, updN σ.kd (σ.T + 1) k, updN σ.bg (σ.T + 1) σ.I, updN σ.ln (σ.T + 1) n, upd σ.nm (σ.T + 1) 0, (fun j => if σ.I ≤ j ∧ j < σ.I + n then 0 else σ.it j), σ.sl, σ.rg, σ.cm)
def AS.fits (σ : AS) (t i : Nat) : Bool := Nat.ble (σ.T + t) 200 && Nat.ble (σ.I + i) 3000
/-- what is of the kind d is of the kind k -/
def isK (d k : Nat) : Bool := d == k || (d == 9 && k == 8) || (d == 7 && k == 6)
/-- the kind of what a row of references may hold -/
def elk (k : Nat) : Nat := if k = 5 then 1 else if k = 6 then 8 else 9
/-- the things are in order -/
def WF (σ : AS) : Prop := σ.T ≤ 200 ∧ σ.I ≤ 3000 ∧ (∀ t, 1 ≤ t → t ≤ σ.T → 1 ≤ σ.kd t ∧ σ.kd t ≤ 9 ∧ σ.bg t + σ.ln t ≤ σ.I ∧ (8 ≤ σ.kd t → σ.ln t = 0) ∧ ∀ u, t < u → u ≤ σ.T → σ.bg t + σ.ln t ≤ σ.bg u) ∧ (∀ s, s < 12 → σ.sl s ≤ σ.T) ∧ ∀ t, 1 ≤ t → t ≤ σ.T → 5 ≤ σ.kd t → ∀ i, i < σ.ln t → ∃ u : Nat, u ≤ σ.T ∧ σ.it (σ.bg t + i) = lN u ∧ (u ≠ 0 → isK (σ.kd u) (elk (σ.kd t)) = true)
/-- the model's store holds the things -/
def MT (σ : AS) (F : Nat → Int32) (A : Nat → Nat → Int32) (B : Nat → Nat → Int64) : Prop :=
  F 0 = nI σ.T ∧ F 1 = nI σ.I ∧ F 19 = σ.cm ∧ (∀ t, 1 ≤ t → t ≤ σ.T → A 2 t = nI (σ.kd t) ∧ A 3 t = nI (σ.bg t) ∧ A 4 t = nI (σ.ln t) ∧ A 5 t = σ.nm t) ∧ (∀ j, j < σ.I → B 6 j = σ.it j) ∧ (∀ s, s < 12 → A 7 s = nI (σ.sl s)) ∧ ∀ r, r < 8 → B 8 r = σ.rg r
/-- nothing but the things has changed -/
def FrT (F : Nat → Int32) (A : Nat → Nat → Int32) (F' : Nat → Int32) (A' : Nat → Nat → Int32) : Prop := (∀ k, k ≠ 0 → k ≠ 1 → k ≠ 19 → F' k = F k) ∧ ∀ k, 8 ≤ k → A' k = A k
theorem FrT.rf {F : Nat → Int32} {A : Nat → Nat → Int32} : FrT F A F A := ⟨fun _ _ _ _ => rfl, fun _ _ => rfl⟩
theorem FrT.tr {F F' F'' : Nat → Int32} {A A' A'' : Nat → Nat → Int32} (h : FrT F A F' A') (h' : FrT F' A' F'' A'') : FrT F A F'' A'' := ⟨fun k a b c => (h'.1 k a b c).trans (h.1 k a b c), fun k a => (h'.2 k a).trans (h.2 k a)⟩
/-! what an act comes to: 0, or the number of its failure -/
def asF (σ : AS) (s k : Nat) : Nat := if σ.sl s ≠ 0 ∧ isK (σ.kd (σ.sl s)) k = false then 2 else 0
def rowF (σ : AS) (s k : Nat) : Nat := if asF σ s k ≠ 0 then 2 else if σ.sl s = 0 then 1 else 0
def inN (i : Int32) (n : Nat) : Bool := decide (0 ≤ i.toInt) && decide (i.toInt < n)
def itemF (σ : AS) (s k : Nat) (i : Int32) : Nat := if rowF σ s k ≠ 0 then rowF σ s k else if inN i (σ.ln (σ.sl s)) = true then 0 else 3
def makeA (σ : AS) (s k : Nat) (n : Int32) : Nat × AS := if n.toInt < 0 then (4, σ) else if σ.fits 1 n.toInt.toNat = false then (8, σ) else (0, (σ.fresh k n.toInt.toNat).setSl s (σ.T + 1))
def rowsS (σ : AS) (b each : Nat) : Nat → AS
  | 0 => σ
  | i + 1 => ((rowsS σ b each i).fresh 1 each).setIt (b + i) (lN ((rowsS σ b each i).T + 1))
def deepA (σ : AS) (s : Nat) (n each : Int32) : Nat × AS := if n.toInt < 0 ∨ each.toInt < 0 then (4, σ) else if σ.fits (1 + n.toInt.toNat) (n.toInt.toNat + n.toInt.toNat * each.toInt.toNat) = false then (8, σ) else (0, (rowsS (σ.fresh 5 n.toInt.toNat) σ.I each.toInt.toNat n.toInt.toNat).setSl s (σ.T + 1))
def figureA (σ : AS) (s k : Nat) (v : Int32) : Nat × AS := if σ.fits 1 0 = false then (8, σ) else (0, ((σ.fresh k 0).setSl s (σ.T + 1)).setNm (σ.T + 1) v)
def moveA (σ : AS) (a b k : Nat) : Nat × AS := if k ≠ 0 ∧ asF σ b k ≠ 0 then (2, σ) else (0, σ.setSl a (σ.sl b))
def getA (σ : AS) (a b k : Nat) (i : Int32) : Nat × AS := if itemF σ b k i ≠ 0 then (itemF σ b k i, σ) else (0, σ.setRg a (σ.it (σ.bg (σ.sl b) + i.toInt.toNat)))
/-- what a row of the kind k holds of v -/
def toldV (k : Nat) (v : Int64) : Int64 := if k = 1 then v.toInt32.toInt64 else if k = 2 then v.toInt32.toInt8.toInt32.toInt64 else if k = 4 ∧ (v >>> (52 : Int64)) &&& 2047 = 2047 ∧ v &&& 4503599627370495 ≠ 0 then 9221120237041090560 else v
def setA (σ : AS) (a k : Nat) (i : Int32) (d : Nat) : Nat × AS := if itemF σ a k i ≠ 0 then (itemF σ a k i, σ) else (0, σ.setIt (σ.bg (σ.sl a) + i.toInt.toNat) (toldV k (σ.rg d)))
def takeA (σ : AS) (a b k : Nat) (i : Int32) : Nat × AS := if itemF σ b k i ≠ 0 then (itemF σ b k i, σ) else (0, σ.setSl a (σ.it (σ.bg (σ.sl b) + i.toInt.toNat)).toInt.toNat)
def layA (σ : AS) (a k : Nat) (i : Int32) (d : Nat) : Nat × AS := if asF σ a k ≠ 0 ∨ asF σ d (elk k) ≠ 0 then (2, σ) else if itemF σ a k i ≠ 0 then (itemF σ a k i, σ) else if σ.kd (σ.sl a) = 7 ∧ σ.sl d ≠ 0 ∧ σ.kd (σ.sl d) = 8 then (5, σ) else (0, σ.setIt (σ.bg (σ.sl a) + i.toInt.toNat) (lN (σ.sl d)))
def measureA (σ : AS) (a b k : Nat) : Nat × AS := if rowF σ b k ≠ 0 then (rowF σ b k, σ) else (0, σ.setRg a (lN (σ.ln (σ.sl b))))
/-- n items from f come to t -/
def AS.copyIt (σ : AS) (f t n : Nat) : AS := (σ.T, σ.I, σ.kd, σ.bg, σ.ln, σ.nm, va_cpy σ.it σ.it f t n, σ.sl, σ.rg, σ.cm)
def cloneA (σ : AS) (a b : Nat) : Nat × AS := if rowF σ b 1 ≠ 0 then (rowF σ b 1, σ) else if σ.fits 1 (σ.ln (σ.sl b)) = false then (8, σ) else (0, ((σ.fresh 1 (σ.ln (σ.sl b))).setSl a (σ.T + 1)).copyIt (σ.bg (σ.sl b)) σ.I (σ.ln (σ.sl b)))
def tellA (σ : AS) (a b : Nat) : Nat × AS := if rowF σ b 8 ≠ 0 then (rowF σ b 8, σ) else (0, σ.setRg a (if σ.kd (σ.sl b) = 9 then 2 * σ.nm (σ.sl b) + 1 else σ.nm (σ.sl b)).toInt64)
def meetK (j k : Nat) : Bool := (j == k && Nat.blt j 8) || (Nat.ble 5 j && Nat.ble j 7 && Nat.ble 5 k && Nat.ble k 7)
/-- the item w may lie in a row of the kind k -/
def mayLie (σ : AS) (k : Nat) (w : Int64) : Bool := Nat.blt k 5 || decide (w = 0) || isK (σ.kd w.toInt.toNat) (elk k)
/-- how many of the first n items from f on may lie in a row of the kind k, up to one that may not -/
def readyN (σ : AS) (k f : Nat) : Nat → Nat
  | 0 => 0
  | n + 1 => if readyN σ k f n = n ∧ mayLie σ k (σ.it (f + n)) = true then n + 1 else readyN σ k f n
def copyA (σ : AS) (a : Nat) (i : Int32) (c : Nat) (j n : Int32) : Nat × AS :=
  if σ.sl a = 0 ∨ σ.sl c = 0 then (1, σ) else if meetK (σ.kd (σ.sl a)) (σ.kd (σ.sl c)) = false then (5, σ)
  else if i.toInt < 0 ∨ j.toInt < 0 ∨ n.toInt < 0 ∨ i.toInt + n.toInt > σ.ln (σ.sl a) ∨ j.toInt + n.toInt > σ.ln (σ.sl c) then (3, σ)
  else (if readyN σ (σ.kd (σ.sl c)) (σ.bg (σ.sl a) + i.toInt.toNat) n.toInt.toNat = n.toInt.toNat then 0 else 5, (σ.copyIt (σ.bg (σ.sl a) + i.toInt.toNat) (σ.bg (σ.sl c) + j.toInt.toNat) (readyN σ (σ.kd (σ.sl c)) (σ.bg (σ.sl a) + i.toInt.toNat) n.toInt.toNat)).setCm (σ.cm + nI (readyN σ (σ.kd (σ.sl c)) (σ.bg (σ.sl a) + i.toInt.toNat) n.toInt.toNat)))
def divA (σ : AS) (a b c : Nat) (rest : Bool) : Nat × AS := if σ.rg c = 0 then (6, σ) else (0, σ.setRg a (if rest = true then σ.rg b - σ.rg b / σ.rg c * σ.rg c else σ.rg b / σ.rg c))
/-- an act: its operation, its four numbers -/
def doAct (op : Nat) (a b c d : Int32) (σ : AS) : Nat × AS := match op with
  | 0 => makeA σ a.toInt.toNat b.toInt.toNat c
  | 1 => deepA σ a.toInt.toNat b c
  | 2 => makeA σ a.toInt.toNat 5 b
  | 3 => figureA σ a.toInt.toNat (if b = 0 then 8 else 9) c
  | 4 => moveA σ a.toInt.toNat b.toInt.toNat c.toInt.toNat
  | 5 => getA σ a.toInt.toNat b.toInt.toNat c.toInt.toNat d
  | 6 => setA σ a.toInt.toNat b.toInt.toNat c d.toInt.toNat
  | 7 => takeA σ a.toInt.toNat b.toInt.toNat c.toInt.toNat d
  | 8 => layA σ a.toInt.toNat b.toInt.toNat c d.toInt.toNat
  | 9 => measureA σ a.toInt.toNat b.toInt.toNat c.toInt.toNat
  | 10 => cloneA σ a.toInt.toNat b.toInt.toNat
  | 11 => tellA σ a.toInt.toNat b.toInt.toNat
  | 12 => copyA σ a.toInt.toNat b c.toInt.toNat d (σ.rg 7).toInt32
  | 13 => (0, σ.setRg a.toInt.toNat b.toInt64)
  | 14 => (0, σ.setRg a.toInt.toNat (σ.rg b.toInt.toNat + σ.rg c.toInt.toNat))
  | 15 => divA σ a.toInt.toNat b.toInt.toNat c.toInt.toNat false
  | 16 => divA σ a.toInt.toNat b.toInt.toNat c.toInt.toNat true
  | _ => (7, σ)
/-! rows on the model's things -/
theorem nI_toNat {n : Nat} (h : n < 2 ^ 31) : (nI n).toInt.toNat = n := by rw [nI_toInt h]; rfl
theorem MT.bound {σ : AS} (hW : WF σ) {s : Nat} (hs : s < 12) : σ.sl s < 201 := Nat.lt_succ_of_le (Nat.le_trans (hW.2.2.2.1 s hs) hW.1)
/-! the parts of what an operation makes -/
theorem setSl_T (σ : AS) (s t : Nat) : (σ.setSl s t).T = σ.T := rfl
theorem setSl_I (σ : AS) (s t : Nat) : (σ.setSl s t).I = σ.I := rfl
theorem setSl_kd (σ : AS) (s t : Nat) : (σ.setSl s t).kd = σ.kd := rfl
theorem setSl_bg (σ : AS) (s t : Nat) : (σ.setSl s t).bg = σ.bg := rfl
theorem setSl_ln (σ : AS) (s t : Nat) : (σ.setSl s t).ln = σ.ln := rfl
theorem setSl_nm (σ : AS) (s t : Nat) : (σ.setSl s t).nm = σ.nm := rfl
theorem setSl_it (σ : AS) (s t : Nat) : (σ.setSl s t).it = σ.it := rfl
theorem setSl_sl (σ : AS) (s t : Nat) : (σ.setSl s t).sl = updN σ.sl s t := rfl
theorem setSl_rg (σ : AS) (s t : Nat) : (σ.setSl s t).rg = σ.rg := rfl
theorem setSl_cm (σ : AS) (s t : Nat) : (σ.setSl s t).cm = σ.cm := rfl
theorem setRg_T (σ : AS) (r : Nat) (v : Int64) : (σ.setRg r v).T = σ.T := rfl
theorem setRg_I (σ : AS) (r : Nat) (v : Int64) : (σ.setRg r v).I = σ.I := rfl
theorem setRg_kd (σ : AS) (r : Nat) (v : Int64) : (σ.setRg r v).kd = σ.kd := rfl
theorem setRg_bg (σ : AS) (r : Nat) (v : Int64) : (σ.setRg r v).bg = σ.bg := rfl
theorem setRg_ln (σ : AS) (r : Nat) (v : Int64) : (σ.setRg r v).ln = σ.ln := rfl
theorem setRg_nm (σ : AS) (r : Nat) (v : Int64) : (σ.setRg r v).nm = σ.nm := rfl
theorem setRg_it (σ : AS) (r : Nat) (v : Int64) : (σ.setRg r v).it = σ.it := rfl
theorem setRg_sl (σ : AS) (r : Nat) (v : Int64) : (σ.setRg r v).sl = σ.sl := rfl
theorem setRg_rg (σ : AS) (r : Nat) (v : Int64) : (σ.setRg r v).rg = vp_updL σ.rg r v := rfl
theorem setRg_cm (σ : AS) (r : Nat) (v : Int64) : (σ.setRg r v).cm = σ.cm := rfl
theorem setIt_T (σ : AS) (j : Nat) (v : Int64) : (σ.setIt j v).T = σ.T := rfl
theorem setIt_I (σ : AS) (j : Nat) (v : Int64) : (σ.setIt j v).I = σ.I := rfl
theorem setIt_kd (σ : AS) (j : Nat) (v : Int64) : (σ.setIt j v).kd = σ.kd := rfl
theorem setIt_bg (σ : AS) (j : Nat) (v : Int64) : (σ.setIt j v).bg = σ.bg := rfl
theorem setIt_ln (σ : AS) (j : Nat) (v : Int64) : (σ.setIt j v).ln = σ.ln := rfl
theorem setIt_nm (σ : AS) (j : Nat) (v : Int64) : (σ.setIt j v).nm = σ.nm := rfl
theorem setIt_it (σ : AS) (j : Nat) (v : Int64) : (σ.setIt j v).it = vp_updL σ.it j v := rfl
theorem setIt_sl (σ : AS) (j : Nat) (v : Int64) : (σ.setIt j v).sl = σ.sl := rfl
theorem setIt_rg (σ : AS) (j : Nat) (v : Int64) : (σ.setIt j v).rg = σ.rg := rfl
theorem setIt_cm (σ : AS) (j : Nat) (v : Int64) : (σ.setIt j v).cm = σ.cm := rfl
theorem setNm_T (σ : AS) (t : Nat) (v : Int32) : (σ.setNm t v).T = σ.T := rfl
theorem setNm_I (σ : AS) (t : Nat) (v : Int32) : (σ.setNm t v).I = σ.I := rfl
theorem setNm_kd (σ : AS) (t : Nat) (v : Int32) : (σ.setNm t v).kd = σ.kd := rfl
theorem setNm_bg (σ : AS) (t : Nat) (v : Int32) : (σ.setNm t v).bg = σ.bg := rfl
theorem setNm_ln (σ : AS) (t : Nat) (v : Int32) : (σ.setNm t v).ln = σ.ln := rfl
theorem setNm_nm (σ : AS) (t : Nat) (v : Int32) : (σ.setNm t v).nm = upd σ.nm t v := rfl
theorem setNm_it (σ : AS) (t : Nat) (v : Int32) : (σ.setNm t v).it = σ.it := rfl
theorem setNm_sl (σ : AS) (t : Nat) (v : Int32) : (σ.setNm t v).sl = σ.sl := rfl
theorem setNm_rg (σ : AS) (t : Nat) (v : Int32) : (σ.setNm t v).rg = σ.rg := rfl
theorem setNm_cm (σ : AS) (t : Nat) (v : Int32) : (σ.setNm t v).cm = σ.cm := rfl
theorem setCm_T (σ : AS) (v : Int32) : (σ.setCm v).T = σ.T := rfl
theorem setCm_I (σ : AS) (v : Int32) : (σ.setCm v).I = σ.I := rfl
theorem setCm_kd (σ : AS) (v : Int32) : (σ.setCm v).kd = σ.kd := rfl
theorem setCm_bg (σ : AS) (v : Int32) : (σ.setCm v).bg = σ.bg := rfl
theorem setCm_ln (σ : AS) (v : Int32) : (σ.setCm v).ln = σ.ln := rfl
theorem setCm_nm (σ : AS) (v : Int32) : (σ.setCm v).nm = σ.nm := rfl
theorem setCm_it (σ : AS) (v : Int32) : (σ.setCm v).it = σ.it := rfl
theorem setCm_sl (σ : AS) (v : Int32) : (σ.setCm v).sl = σ.sl := rfl
theorem setCm_rg (σ : AS) (v : Int32) : (σ.setCm v).rg = σ.rg := rfl
theorem setCm_cm (σ : AS) (v : Int32) : (σ.setCm v).cm = v := rfl
theorem fresh_T (σ : AS) (k n : Nat) : (σ.fresh k n).T = σ.T + 1 := rfl
theorem fresh_I (σ : AS) (k n : Nat) : (σ.fresh k n).I = σ.I + n := rfl
theorem fresh_kd (σ : AS) (k n : Nat) : (σ.fresh k n).kd = updN σ.kd (σ.T + 1) k := rfl
theorem fresh_bg (σ : AS) (k n : Nat) : (σ.fresh k n).bg = updN σ.bg (σ.T + 1) σ.I := rfl
theorem fresh_ln (σ : AS) (k n : Nat) : (σ.fresh k n).ln = updN σ.ln (σ.T + 1) n := rfl
theorem fresh_nm (σ : AS) (k n : Nat) : (σ.fresh k n).nm = upd σ.nm (σ.T + 1) 0 := rfl
theorem fresh_it (σ : AS) (k n : Nat) : (σ.fresh k n).it = fun j => if σ.I ≤ j ∧ j < σ.I + n then 0 else σ.it j := rfl
theorem fresh_sl (σ : AS) (k n : Nat) : (σ.fresh k n).sl = σ.sl := rfl
theorem fresh_rg (σ : AS) (k n : Nat) : (σ.fresh k n).rg = σ.rg := rfl
theorem fresh_cm (σ : AS) (k n : Nat) : (σ.fresh k n).cm = σ.cm := rfl
theorem copyIt_T (σ : AS) (f t n : Nat) : (σ.copyIt f t n).T = σ.T := rfl
theorem copyIt_I (σ : AS) (f t n : Nat) : (σ.copyIt f t n).I = σ.I := rfl
theorem copyIt_kd (σ : AS) (f t n : Nat) : (σ.copyIt f t n).kd = σ.kd := rfl
theorem copyIt_bg (σ : AS) (f t n : Nat) : (σ.copyIt f t n).bg = σ.bg := rfl
theorem copyIt_ln (σ : AS) (f t n : Nat) : (σ.copyIt f t n).ln = σ.ln := rfl
theorem copyIt_nm (σ : AS) (f t n : Nat) : (σ.copyIt f t n).nm = σ.nm := rfl
theorem copyIt_it (σ : AS) (f t n : Nat) : (σ.copyIt f t n).it = va_cpy σ.it σ.it f t n := rfl
theorem copyIt_sl (σ : AS) (f t n : Nat) : (σ.copyIt f t n).sl = σ.sl := rfl
theorem copyIt_rg (σ : AS) (f t n : Nat) : (σ.copyIt f t n).rg = σ.rg := rfl
theorem copyIt_cm (σ : AS) (f t n : Nat) : (σ.copyIt f t n).cm = σ.cm := rfl
