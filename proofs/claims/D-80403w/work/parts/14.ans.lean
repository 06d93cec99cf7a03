/-! behind a call: the answer on the stack -/
section MZ
variable {G : GX} {x : MX} {nL : Nat} {Q : State → Prop} {k n : Nat} {M : Mem} {pc : Nat} {L : LL} {st : List Value}
theorem m_stn (kk : WM G x nL Q k n M pc L st) : WM G x nL Q k n M pc L ((none : Option Value).toList ++ st) := kk
theorem m_sti {r : Int32} (kk : WM G x nL Q k n M pc L (.int r :: st)) : WM G x nL Q k n M pc L ((some (Value.int r)).toList ++ st) := kk
theorem m_stl {r : Int64} (kk : WM G x nL Q k n M pc L (.long r :: st)) : WM G x nL Q k n M pc L ((some (Value.long r)).toList ++ st) := kk
theorem m_std {r : UInt64} (kk : WM G x nL Q k n M pc L (.double r :: st)) : WM G x nL Q k n M pc L ((some (Value.double r)).toList ++ st) := kk
theorem m_str {r : Value} (kk : WM G x nL Q k n M pc L (r :: st)) : WM G x nL Q k n M pc L ((some r).toList ++ st) := kk
end MZ
/-! switches -/
def tswT (pc : Nat) (offs : Array Int) (j : Nat) : Nat := ((pc : Int) + offs.getD j 0).toNat
theorem toInt_nI {a : Int32} {j : Nat} (hj : j < 2 ^ 31) (h : a.toInt = (j : Int)) : a = nI j := by
  apply Int32.toInt_inj.mp
  rw [h, nI_toInt hj]
section MSW
variable {G : GX} {x : MX} {y : MethodName} {cc : ByteArray} {nL : Nat} {ret : Option FieldType} {rm : Room} {Q : State → Prop} {k n : Nat} {M : Mem} {pc : Nat} {L : LL} {st : List Value}
theorem m_pc {pc' : Nat} (h : pc = pc') (kk : WM G x nL Q k n M pc' L st) : WM G x nL Q k n M pc L st := by rw [h]; exact kk
theorem m_tsw (X : Cx G x y cc nL ret rm) {dflt : Int} {l0 N t : Nat} {offs : Array Int} {len : Nat} {a : Int32} {lo hi : Int} (d : decode cc pc = .ok (.tableswitch dflt lo hi offs, len)) (hlo : lo = (l0 : Int)) (hN : offs.size = N) (hhi : hi = (l0 : Int) + N - 1) (hb : Nat.ble (l0 + N) 1000 = true) (hp : (List.range N).all (fun j => decide (0 ≤ (pc : Int) + offs.getD j 0)) = true) (ht : (pc : Int) + dflt = (t : Int))
    (kin : ∀ j : Nat, j < N → a = nI (l0 + j) → WM G x nL Q k n M (tswT pc offs j) L st) (kout : (a.toInt < lo ∨ hi < a.toInt) → WM G x nL Q k n M t L st) : WM G x nL Q k n M pc L (.int a :: st) := by
  have hb' : l0 + N ≤ 1000 := Nat.le_of_ble_eq_true hb
  by_cases h1 : a.toInt < lo
  · exact m_tableOut X d (Or.inl h1) ht (kout (Or.inl h1))
  by_cases h2 : hi < a.toInt
  · exact m_tableOut X d (Or.inr h2) ht (kout (Or.inr h2))
  obtain ⟨j, hj⟩ : ∃ j : Nat, a.toInt = (l0 : Int) + j := ⟨(a.toInt - l0).toNat, by omega⟩
  have hjN : j < N := by omega
  have hpos := of_decide_eq_true (List.all_eq_true.mp hp j (List.mem_range.mpr hjN))
  have e1 : (a.toInt - lo).toNat = j := by omega
  have hlt : j < offs.size := by rw [hN]; exact hjN
  have e2 : offs[j]? = some (offs.getD j 0) := by
    rw [Array.getElem?_eq_getElem hlt]
    simp [Array.getD, hlt]
  refine m_tableIn X d h1 h2 (off := offs.getD j 0) (t := tswT pc offs j) (by rw [e1]; exact e2) ?_ (kin j hjN (toInt_nI (by omega) (by rw [hj]; push_cast; omega)))
  unfold tswT
  omega
end MSW
/-! locals told anew -/
def LLsub (L : LL) : LL → Prop
  | [] => True
  | q :: L' => plk L q.1 = some q.2 ∧ LLsub L L'
theorem LLsub.mem {L L' : LL} (h : LLsub L L') : ∀ q ∈ L', q.2 = none ∨ plk L q.1 = some q.2 := by
  induction L' with
  | nil => intro q hq; cases hq
  | cons r L' ih =>
    intro q hq
    rcases List.mem_cons.mp hq with rfl | h1
    · exact Or.inr h.1
    · exact ih h.2 q h1
theorem m_loc {G : GX} {x : MX} {nL : Nat} {Q : State → Prop} {k n : Nat} {M : Mem} {pc : Nat} {L : LL} {st : List Value} (L' : LL) (hs : LLsub L L') (kk : WM G x nL Q k n M pc L' st) : WM G x nL Q k n M pc L st := m_locals L' hs.mem kk
