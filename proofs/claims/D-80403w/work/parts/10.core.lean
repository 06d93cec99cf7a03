/-! THE M-LAYER: the heap that the law's run made, as a partial map from addresses to cells; contracts and walks over it -/
set_option maxRecDepth 100000
abbrev Mem : Type := Nat → Option va_E
def mup (M : Mem) (a : Nat) (e : va_E) : Mem := fun b => if b = a then some e else M b
theorem mup_s {M : Mem} {a : Nat} {e : va_E} : mup M a e a = some e := by simp [mup]
theorem mup_n {M : Mem} {a b : Nat} {e : va_E} (h : b ≠ a) : mup M a e b = M b := by simp [mup, h]
theorem mup_uu {M : Mem} {a : Nat} {e e' : va_E} : mup (mup M a e) a e' = mup M a e' := by
  funext b
  unfold mup
  split <;> rfl
/-- the classes whose objects the memory holds: an object names its class by its place here -/
def tE0 : u_T := fun _ => ("", "", "", false)
def clG : List vw_C := [(RX0, TX0, 14), (RX1, TX1, 1), (RX2, TX2, 1), (RX3, TX3, 40), (RX4, TX4, 15), (RX6, TX6, 1), (RX7, TX7, 1), (RX9, TX9, 2), (RX10, TX10, 1), (RJ4, tE0, 0), (RJ5, tE0, 0), (RJ8, tE0, 0), (RJ9, tE0, 0), (RJ10, tE0, 0), (RJ11, tE0, 0), (RX8, TX8, 6), (RX5, TX5, 6)]
/-- the array classes -/
def tyG : List FieldType := [.int, .byte, .long, .double, .array .int, .object RX6, .object RX7, .object RX2, .object RX4, .object RX1, .boolean]
abbrev GX : Type := va_G × (Nat → ClassId) × (Nat → Prop) × Launch × (Nat → Nat)
abbrev MX : Type := Program × Env × Room × State × MethodId × Array Value × List Frame × Method × Code
abbrev GX.D (G : GX) : va_G := G.1
abbrev GX.dA (G : GX) : Nat → ClassId := G.2.1
abbrev GX.A (G : GX) : Nat → Prop := G.2.2.1
abbrev GX.l (G : GX) : Launch := G.2.2.2.1
abbrev GX.eA (G : GX) : Nat → Nat := G.2.2.2.2
abbrev MX.p (x : MX) : Program := x.1
abbrev MX.e (x : MX) : Env := x.2.1
abbrev MX.R (x : MX) : Room := x.2.2.1
abbrev MX.s (x : MX) : State := x.2.2.2.1
abbrev MX.m (x : MX) : MethodId := x.2.2.2.2.1
abbrev MX.args (x : MX) : Array Value := x.2.2.2.2.2.1
abbrev MX.below (x : MX) : List Frame := x.2.2.2.2.2.2.1
abbrev MX.meth (x : MX) : Method := x.2.2.2.2.2.2.2.1
abbrev MX.c (x : MX) : Code := x.2.2.2.2.2.2.2.2
/-- the heap holds the memory -/
def PM (G : GX) (M : Mem) (H : Heap) : Prop := ∃ ws : va_W, va_P G.D clG ws H ∧ va_D G.A ws ∧ ∀ (a : Nat) (e : va_E), M a = some e → ∃ k : Nat, ws[k]? = some (a, e)
theorem PM.lt {G : GX} {M : Mem} {H : Heap} (h : PM G M H) {a : Nat} {e : va_E} (hM : M a = some e) : a < H.size := by
  obtain ⟨ws, hP, -, hm⟩ := h
  obtain ⟨k, hk⟩ := hm a e hM
  exact (hP k _ hk).lt
theorem PM.own {G : GX} {M : Mem} {H : Heap} (h : PM G M H) {a : Nat} {e : va_E} (hM : M a = some e) : G.A a := by
  obtain ⟨ws, -, hD, hm⟩ := h
  obtain ⟨k, hk⟩ := hm a e hM
  exact hD.2 k _ hk
theorem PM.at {G : GX} {M : Mem} {H : Heap} (h : PM G M H) {a : Nat} {e : va_E} (hM : M a = some e) : va_at G.D clG (a, e) H := by
  obtain ⟨ws, hP, -, hm⟩ := h
  obtain ⟨k, hk⟩ := hm a e hM
  exact hP k _ hk
theorem PM.sub {G : GX} {M M' : Mem} {H : Heap} (h : PM G M H) (hs : ∀ a e, M' a = some e → M a = some e) : PM G M' H := by
  obtain ⟨ws, hP, hD, hm⟩ := h
  exact ⟨ws, hP, hD, fun a e he => hm a e (hs a e he)⟩
theorem PM.kept {G : GX} {M : Mem} {H H1 : Heap} (h : PM G M H) (hk : ∀ q : Nat, q < H.size → H1[q]? = H[q]?) : PM G M H1 := by
  obtain ⟨ws, hP, hD, hm⟩ := h
  exact ⟨ws, hP.kept fun k q hq => hk _ (hP k q hq).lt, hD, hm⟩
theorem PM.set {G : GX} {M : Mem} {H1 : Heap} {ws : va_W} {q0 a : Nat} {e0 e : va_E} (he : ws[q0]? = some (a, e0)) (hm : ∀ (a : Nat) (e : va_E), M a = some e → ∃ k : Nat, ws[k]? = some (a, e)) (hP : va_P G.D clG (ws.set q0 (a, e)) H1) (hD : va_D G.A (ws.set q0 (a, e))) : PM G (mup M a e) H1 := by
  have hl : q0 < ws.length := (List.getElem?_eq_some_iff.mp he).1
  refine ⟨_, hP, hD, fun b f hb => ?_⟩
  by_cases hba : b = a
  · subst hba
    rw [mup_s] at hb
    cases hb
    exact ⟨q0, by rw [List.getElem?_set_self hl]⟩
  · rw [mup_n hba] at hb
    obtain ⟨k, hk⟩ := hm b f hb
    refine ⟨k, ?_⟩
    rw [List.getElem?_set_ne]
    · exact hk
    · intro h
      subst h
      rw [he] at hk
      cases hk
      exact hba rfl
theorem PM.push {G : GX} {M : Mem} {H1 : Heap} {ws : va_W} {a : Nat} {e : va_E} (hm : ∀ (a : Nat) (e : va_E), M a = some e → ∃ k : Nat, ws[k]? = some (a, e)) (hP : va_P G.D clG (ws ++ [(a, e)]) H1) (hD : va_D G.A (ws ++ [(a, e)])) : PM G (mup M a e) H1 ∧ M a = none := by
  have hn : M a = none := by
    cases hM : M a with
    | none => rfl
    | some f =>
      obtain ⟨k, hk⟩ := hm a f hM
      have hl : k < ws.length := (List.getElem?_eq_some_iff.mp hk).1
      have h1 : (ws ++ [(a, e)])[k]? = some (a, f) := by rw [List.getElem?_append_left hl]; exact hk
      have h2 : (ws ++ [(a, e)])[ws.length]? = some (a, e) := by simp
      have := hD.1 _ _ _ _ h1 h2 rfl
      omega
  refine ⟨⟨_, hP, hD, fun b f hb => ?_⟩, hn⟩
  by_cases hba : b = a
  · subst hba
    rw [mup_s] at hb
    cases hb
    exact ⟨ws.length, by simp⟩
  · rw [mup_n hba] at hb
    obtain ⟨k, hk⟩ := hm b f hb
    exact ⟨k, by rw [List.getElem?_append_left (List.getElem?_eq_some_iff.mp hk).1]; exact hk⟩
/-! locals as a list with the newest first; (i, none): nothing is known of i -/
abbrev LL : Type := List (Nat × Option Value)
def plk : LL → Nat → Option (Option Value)
  | [], _ => none
  | q :: L, i => bif Nat.beq q.1 i then some q.2 else plk L i
/-- nothing of two words lies just below i -/
def pok (L : LL) : Nat → Bool
  | 0 => true
  | j + 1 => match plk L j with
    | some (some v) => v.category != 2
    | _ => true
def lw_has (ls : Array Slot) (nL : Nat) (L : LL) : Prop := ls.size = nL ∧ lv_wf ls ∧ ∀ (i : Nat) (v : Value), plk L i = some (some v) → ls[i]? = some (.val v)
def lvl (nL : Nat) (L : LL) : List (Nat × Value) := (List.range nL).filterMap fun i => match plk L i with
  | some (some v) => some (i, v)
  | _ => none
theorem lvl_mem {nL : Nat} {L : LL} {q : Nat × Value} : q ∈ lvl nL L ↔ q.1 < nL ∧ plk L q.1 = some (some q.2) := by
  unfold lvl
  rw [List.mem_filterMap]
  constructor
  · rintro ⟨i, hi, h⟩
    rw [List.mem_range] at hi
    split at h
    · next v hv => cases h; exact ⟨hi, hv⟩
    · cases h
  · rintro ⟨h1, h2⟩
    exact ⟨q.1, List.mem_range.mpr h1, by rw [h2]⟩
theorem lw_kit {ls : Array Slot} {nL : Nat} {L : LL} (h : lw_has ls nL L) : lv_has ls nL (lvl nL L) := ⟨h.1, h.2.1, fun q hq => h.2.2 _ _ (lvl_mem.mp hq).2⟩
theorem lw_lt {ls : Array Slot} {nL : Nat} {L : LL} (h : lw_has ls nL L) {i : Nat} {v : Value} (hi : plk L i = some (some v)) : i < nL := by
  have := h.2.2 i v hi
  rw [← h.1]
  exact (Array.getElem?_eq_some_iff.mp this).1
theorem plk_cons {q : Nat × Option Value} {L : LL} {i : Nat} : plk (q :: L) i = if q.1 = i then some q.2 else plk L i := by
  show (bif Nat.beq q.1 i then some q.2 else plk L i) = _
  by_cases h : q.1 = i
  · have : Nat.beq q.1 i = true := by rw [Nat.beq_eq]; exact h
    rw [this, if_pos h]; rfl
  · have : Nat.beq q.1 i = false := by
      cases hb : Nat.beq q.1 i with
      | false => rfl
      | true => exact absurd (Nat.eq_of_beq_eq_true hb) h
    rw [this, if_neg h]; rfl
theorem lw_back1 {ls ls' : Array Slot} {nL i : Nat} {v : Value} {L : LL} (h : lw_has ls nL L) (ho : pok L i = true) (h' : lv_has ls' nL ((i, v) :: (lvl nL L).filter (fun q => !(q.1 == i) && !(q.1 + 1 == i && q.2.category == 2)))) : lw_has ls' nL ((i, some v) :: L) := by
  refine ⟨h'.1, h'.2.1, fun j w hj => ?_⟩
  rw [plk_cons] at hj
  split at hj
  · next e => cases hj; subst e; exact h'.2.2 (_, v) List.mem_cons_self
  · next e =>
    refine h'.2.2 (j, w) (List.mem_cons_of_mem _ (List.mem_filter.mpr ⟨lvl_mem.mpr ⟨lw_lt h hj, hj⟩, ?_⟩))
    have e1 : ¬ j = i := fun z => e z.symm
    simp only [beq_iff_eq, e1, Bool.not_eq_true', Bool.and_eq_true, decide_eq_true_eq, Bool.not_and, Bool.or_eq_true]
    simp only [Bool.and_eq_true, Bool.or_eq_true, Bool.not_eq_true', beq_eq_false_iff_ne, ne_eq, e1, not_false_eq_true, true_and]
    by_cases hj1 : j + 1 = i
    · subst hj1
      right
      simp only [pok, hj] at ho
      simpa using ho
    · left; exact hj1
theorem lw_back2 {ls ls' : Array Slot} {nL i : Nat} {v : Value} {L : LL} (h : lw_has ls nL L) (ho : pok L i = true) (h' : lv_has ls' nL ((i, v) :: (lvl nL L).filter (fun q => !(q.1 == i) && (!(q.1 == i + 1) && !(q.1 + 1 == i && q.2.category == 2))))) : lw_has ls' nL ((i, some v) :: (i + 1, none) :: L) := by
  refine ⟨h'.1, h'.2.1, fun j w hj => ?_⟩
  rw [plk_cons] at hj
  split at hj
  · next e => cases hj; subst e; exact h'.2.2 (_, v) List.mem_cons_self
  · next e =>
    rw [plk_cons] at hj
    split at hj
    · cases hj
    · next e3 =>
      refine h'.2.2 (j, w) (List.mem_cons_of_mem _ (List.mem_filter.mpr ⟨lvl_mem.mpr ⟨lw_lt h hj, hj⟩, ?_⟩))
      have e1 : ¬ j = i := fun z => e z.symm
      have e4 : ¬ j = i + 1 := fun z => e3 z.symm
      simp only [Bool.and_eq_true, Bool.or_eq_true, Bool.not_eq_true', beq_eq_false_iff_ne, ne_eq, e1, e4, not_false_eq_true, true_and, Bool.and_eq_false_iff]
      by_cases hj1 : j + 1 = i
      · subst hj1
        right
        simp only [pok, hj] at ho
        simpa using ho
      · left; exact hj1
theorem lw_weaken {ls : Array Slot} {nL : Nat} {L L' : LL} (h : lw_has ls nL L) (hs : ∀ q ∈ L', q.2 = none ∨ plk L q.1 = some q.2) : lw_has ls nL L' := by
  refine ⟨h.1, h.2.1, fun i v hi => ?_⟩
  have : ∃ q ∈ L', q.1 = i ∧ q.2 = some v := by
    clear h hs
    induction L' with
    | nil => cases hi
    | cons q L' ih =>
      rw [plk_cons] at hi
      split at hi
      · next e => exact ⟨q, List.mem_cons_self, e, Option.some.inj hi⟩
      · obtain ⟨r, h1, h2⟩ := ih hi; exact ⟨r, List.mem_cons_of_mem _ h1, h2⟩
  obtain ⟨q, hq, rfl, e⟩ := this
  rcases hs q hq with h0 | h1
  · rw [h0] at e; cases e
  · exact h.2.2 _ _ (by rw [h1, e])
/-- the words that a state's tables keep, whatever is warmed -/
def kwd (w : Cond) : Bool := w.onTables && (w.keepsCast || match w with
  | .fieldLinkNest .. => true
  | .methodLinkNest .. => true
  | _ => false)
theorem kwd_warm {w : Cond} (hk : kwd w = true) {s U : State} (hW : s.WarmedH U.vm) (h : w.before #[] s = true) : w.before #[] U = true := by
  unfold kwd at hk
  rw [Bool.and_eq_true, Bool.or_eq_true] at hk
  rcases hk with ⟨h1, h2 | h2⟩
  · exact va_tabs h1 (rfl : (s.setVm U.vm).vm = U.vm) (Cond.before_shiftedCast (State.Shifted.of_warmed hW) _ h2 h)
  · split at h2
    · exact va_Nw.warmF hW h
    · exact va_Nw.warmM hW h
    · cases h2
