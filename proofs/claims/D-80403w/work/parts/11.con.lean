/-! CONTEXTS, CONTRACTS, WALKS over the memory (printed by wip/D-80403w/tools/mk11.py) -/
set_option maxRecDepth 100000
def tysG (d : Nat → ClassId) : List (ClassId × FieldType) := [(d 0, .int), (d 1, .byte), (d 2, .long), (d 3, .double), (d 4, .array .int), (d 5, .object RX6), (d 6, .object RX7), (d 7, .object RX2), (d 8, .object RX4), (d 9, .object RX1), (d 10, .boolean)]
/-- all words of the tables and of the start that stay through a run -/
def xW : List Cond := (lw_tbl ++ flatC narrow_1).filter kwd
def enG (ad : Nat → Nat) (A : Nat → Prop) (U : State) (H : Heap) : Prop := va_En "ThrowReports$Sort" "LThrowReports$Sort;" ["ACT", "BOTH", "CHOICE", "GUARD"] [("java/lang/Enum", "ordinal", "I", [0, 1, 2, 3])] ad A U H
/-- statics that are read, and never written -/
def KS (G : GX) (U : State) (H : Heap) : Prop := vx_Zq Bundle.tN "UNASSIGNED_STACK" Bundle.steD G.A U H ∧ vx_Zq Bundle.tN "SUPPRESSED_SENTINEL" Bundle.listD G.A U H ∧ enG G.eA G.A U H
/-- what is known of the tables -/
def KT (G : GX) (U : State) : Prop := va_K G.D clG (tysG G.dA) U ∧ (∀ w ∈ xW, w.before #[] U = true) ∧ (∀ C ∈ [RX2, RX4, RX6, RX7, RX1], va_AO C U) ∧ (Cond.arrayOver (.array .int)).before #[] U = true ∧ (∃ kA : Class, U.vm.classes[G.dA 4]? = some kA ∧ kA.kind = .array (G.dA 0) (.array .int)) ∧ modulesRight_1 U = true ∧ G.l.stackTraces = false
def KN (G : GX) (U : State) : Prop := KT G U ∧ KS G U U.heap ∧ ∀ q : Nat, U.heap.size ≤ q → G.A q
theorem modulesRight_moved {u U : State} (h : u.vm.Alike U.vm) (hm : modulesRight_1 u = true) : modulesRight_1 U = true := by
  have e : U.vm.modules = u.vm.modules := by rw [h.1]
  unfold modulesRight_1 at hm ⊢
  rw [e]
  exact hm
theorem ao_moved {t : FieldType} {u U : State} (hvm : u.vm.Alike U.vm) (h : (Cond.arrayOver (.array t)).before #[] u = true) : (Cond.arrayOver (.array t)).before #[] U = true := by
  have e2 : ∀ n, U.vm.findClass n = u.vm.findClass n := fun n => hvm.findClass ..
  have hbr : U.vm.bare = u.vm.bare := by first | exact hvm.bare_eq | exact hvm.bare_eq.symm
  simp only [Cond.before, Cond.holds, Cond.value, beq_iff_eq] at h
  cases hc : u.vm.findClass (FieldType.array t).toString with
  | none => rw [hc] at h; simp at h
  | some comp =>
    rw [hc] at h
    simp only [Option.bind_some] at h
    rw [Option.bind_eq_some_iff] at h
    obtain ⟨c, hc1, hc2⟩ := h
    rw [Option.map_eq_some_iff] at hc2
    obtain ⟨k, hk, hk2⟩ := hc2
    obtain ⟨k', hk', he⟩ := hvm.2.2 _ _ hk
    have h1 := va_idx_bare U.vm comp
    rw [hbr] at h1
    have h2 := va_idx_bare u.vm comp
    have hi : (U.vm.classes.findIdx? fun (x : Class) => match x.kind with | .array component _ => component == comp | _ => false) = some c := h1.symm.trans (h2.trans hc1)
    have hkind : k'.kind = k.kind := by rw [he]
    unfold Cond.before Cond.holds
    simp only [Cond.value]
    rw [e2, hc, Option.bind_some]
    refine (congrArg (fun o : Option Nat => (o.bind (fun c => (U.vm.classes[c]?).map fun (k : Class) => match k.kind with | .array _ ty => decide (ty = FieldType.array t) && decide (U.vm.findClass ("[" ++ (FieldType.array t).toString) = some c) | _ => false) == some true)) hi).trans ?_
    simp only [Option.bind_some, hk', Option.map_some, hkind, e2]
    rw [beq_iff_eq]
    exact congrArg some hk2
theorem KT.warm {G : GX} {s U : State} (hW : s.WarmedH U.vm) (h : KT G s) : KT G U := by
  obtain ⟨h1, h2, h3, h4, ⟨kA, h5, h6⟩, h7, h8⟩ := h
  obtain ⟨k', hk', he⟩ := hW.alike.2.2 _ _ h5
  exact ⟨va_K.moved hW.alike h1, fun w hw => kwd_warm (List.mem_filter.mp hw).2 hW (h2 w hw), fun C hC => (h3 C hC).moved hW.alike, ao_moved hW.alike h4, ⟨k', hk', by rw [he]; exact h6⟩, modulesRight_moved hW.alike h7, h8⟩
theorem KS.moved {G : GX} {u U : State} {H : Heap} (hvm : u.vm.Alike U.vm) (h : KS G u H) : KS G U H := ⟨h.1.moved hvm, h.2.1.moved hvm, va_En.moved hvm h.2.2⟩
theorem KS.kept {G : GX} {U : State} {H H1 : Heap} (h : KS G U H) (hq : ∀ a : Nat, a < H.size → ¬ G.A a → H1[a]? = H[a]?) : KS G U H1 := ⟨h.1.kept hq, h.2.1.kept hq, va_En.kept h.2.2 hq⟩
theorem KN.go {G : GX} {s U : State} {H : Heap} {locs : List Loc} (h : KN G s) (hS : va_S G.A s.heap H locs) (hU : U.heap = H) (hW : s.WarmedH U.vm) : KN G U := by
  refine ⟨h.1.warm hW, ?_, fun q hq => h.2.2 q (Nat.le_trans hS.1 (by rw [← hU]; exact hq))⟩
  rw [hU]
  exact (h.2.1.kept hS.2.1).moved hW.alike
theorem KN.calling {G : GX} {U : State} {g : JFrame} {mk : MethodId} {a : Array Value} (h : KN G U) : KN G (U.calling g mk a) :=
  ⟨KT.warm (s := U) (U := U.calling g mk a) (State.WarmedH.refl U) h.1, KS.moved (u := U) (U := U.calling g mk a) (Vm.Alike.refl U.vm) h.2.1, h.2.2⟩
/-- exceptions by their numbers -/
def excN : Nat → String
  | 1 => RJ4
  | 2 => RJ5
  | 3 => RJ8
  | 4 => RJ9
  | 5 => RJ10
  | 6 => RJ11
  | 7 => RX8
  | _ => RX5
def isExc (k q : Nat) (M : Mem) : Prop := 1 ≤ k ∧ k ≤ 8 ∧ ∃ fs : List Value, M q = some (.inr (8 + k, fs))
def QcG (G : GX) (post : Option Value → Mem → Prop) : Array Value → State → Outcome → State → Prop := fun _ st o t => ∃ (v : Option Value) (M' : Mem), o = .returned v ∧ post v M' ∧ PM G M' t.heap ∧ va_F G.A st t
def XcG (G : GX) (px : Nat → Nat → Mem → Prop) : String → Addr → State → State → Prop := fun E q st t => ∃ (k : Nat) (M' : Mem), E = excN k ∧ isExc k q M' ∧ px k q M' ∧ PM G M' t.heap ∧ va_F G.A st t
def QM (G : GX) (x : MX) (post : Option Value → Mem → Prop) (px : Nat → Nat → Mem → Prop) (rm : Room) : State → Prop := vx_MQ x.below (QcG G post) (XcG G px) x.args x.s rm.cells rm.slots G.A
/-- A CONTRACT: from any heap that holds M, y called with 'as' returns v with a memory M' of 'post', or throws the exception k at q with a memory of 'px' -/
def Con (G : GX) (y : MethodName) (ws : List Cond) (rm : Room) (as : List Value) (M : Mem) (post : Option Value → Mem → Prop) (px : Nat → Nat → Mem → Prop) : Prop :=
  vx_Met G.l y ws rm (va_Pc as (fun U => PM G M U.heap ∧ KN G U)) (QcG G post) (XcG G px) rm.cells rm.slots G.A
/-- a method's body stands so -/
def Cx (G : GX) (x : MX) (y : MethodName) (cc : ByteArray) (nL : Nat) (ret : Option FieldType) (rm : Room) : Prop :=
  x.p.tables.exec = Jvm.exec ∧ x.c.code = cc ∧ x.meth.sig.returnType = ret ∧ x.c.maxLocals = nL ∧ x.s.vm.findClass y.cls = some x.m.cls ∧ (∀ w ∈ lw_all, w.before x.args x.s = true) ∧ KN G x.s ∧ x.meth.locks = false ∧ x.R = rm ∧ x.meth.name = y.name
section CX
variable {G : GX} {x : MX} {y : MethodName} {cc : ByteArray} {nL : Nat} {ret : Option FieldType} {rm : Room}
theorem Cx.hx (X : Cx G x y cc nL ret rm) : x.p.tables.exec = Jvm.exec := X.1
theorem Cx.hb (X : Cx G x y cc nL ret rm) : x.c.code = cc := X.2.1
theorem Cx.hr (X : Cx G x y cc nL ret rm) : x.meth.sig.returnType = ret := X.2.2.1
theorem Cx.hml (X : Cx G x y cc nL ret rm) : x.c.maxLocals = nL := X.2.2.2.1
theorem Cx.hown (X : Cx G x y cc nL ret rm) : x.s.vm.findClass y.cls = some x.m.cls := X.2.2.2.2.1
theorem Cx.hts (X : Cx G x y cc nL ret rm) : ∀ w ∈ lw_all, w.before x.args x.s = true := X.2.2.2.2.2.1
theorem Cx.hN (X : Cx G x y cc nL ret rm) : KN G x.s := X.2.2.2.2.2.2.1
theorem Cx.hlk (X : Cx G x y cc nL ret rm) : x.meth.locks = false := X.2.2.2.2.2.2.2.1
theorem Cx.hR (X : Cx G x y cc nL ret rm) : x.R = rm := X.2.2.2.2.2.2.2.2.1
theorem Cx.hnm (X : Cx G x y cc nL ret rm) : x.meth.name = y.name := X.2.2.2.2.2.2.2.2.2
theorem Cx.hK (X : Cx G x y cc nL ret rm) : va_K G.D clG (tysG G.dA) x.s := X.hN.1.1
theorem Cx.hA (X : Cx G x y cc nL ret rm) : ∀ q : Nat, x.s.heap.size ≤ q → G.A q := X.hN.2.2
theorem Cx.word (X : Cx G x y cc nL ret rm) {w : Cond} (hw : w ∈ xW) : w.before x.args x.s = true := va_Nw.use (by
  have := (List.mem_filter.mp hw).2
  unfold kwd at this
  rw [Bool.and_eq_true] at this
  exact this.1) (X.hN.1.2.1 w hw)
end CX
/-- a walk that stands at pc with locals L and the operand stack st, the memory M, k cells and n slots taken so far -/
def WM (G : GX) (x : MX) (nL : Nat) (Q : State → Prop) (k n : Nat) (M : Mem) (pc : Nat) (L : LL) (st : List Value) : Prop :=
  ∀ (H : Heap) (locs : List Loc) (ls : Array Slot), PM G M H → va_S G.A x.s.heap H locs → lw_has ls nL L → W x.p G.l x.e x.R x.s x.m x.args x.below x.meth x.c H locs k n Q (F0 x.m pc ls st)
/-- a walk that throws the exception at q -/
def WXM (G : GX) (x : MX) (nL : Nat) (Q : State → Prop) (k n : Nat) (M : Mem) (pc : Nat) (L : LL) (st : List Value) (q : Nat) : Prop :=
  ∀ (H : Heap) (locs : List Loc) (ls : Array Slot), PM G M H → va_S G.A x.s.heap H locs → lw_has ls nL L → vx_W x.p G.l x.e x.R x.s x.m x.args x.below x.meth x.c H locs k n Q (F0 x.m pc ls st) q
def mkL (l : List (Nat × Value)) : LL := l.map fun q => (q.1, some q.2)
theorem mkL_has {ls : Array Slot} {nL : Nat} {l : List (Nat × Value)} (h : lv_has ls nL l) : lw_has ls nL (mkL l) := by
  refine ⟨h.1, h.2.1, fun i v hi => ?_⟩
  have : ∃ q ∈ l, q.1 = i ∧ q.2 = v := by
    clear h
    induction l with
    | nil => cases hi
    | cons q l ih =>
      rw [show mkL (q :: l) = (q.1, some q.2) :: mkL l from rfl, plk_cons] at hi
      split at hi
      · next e => exact ⟨q, List.mem_cons_self, e, Option.some.inj (Option.some.inj hi)⟩
      · obtain ⟨r, h1, h2⟩ := ih hi; exact ⟨r, List.mem_cons_of_mem _ h1, h2⟩
  obtain ⟨q, hq, rfl, rfl⟩ := this
  exact h.2.2 q hq
theorem Con.mk {G : GX} {y : MethodName} {cc : ByteArray} {nL : Nat} {ret : Option FieldType} {rm : Room} {as : List Value} {M : Mem} {post : Option Value → Mem → Prop} {px : Nat → Nat → Mem → Prop} (hy : plainName y.cls = true) (hlen : Nat.ble (lg_sl as).length nL = true) (L : LL) (hL : mkL (lv_args 0 as) = L)
    (body : ∀ x : MX, Cx G x y cc nL ret rm → (∀ z ∈ x.c.exceptionTable.toList, False) → WM G x nL (QM G x post px rm) 0 0 M 0 L []) : Con G y (ws_ y cc nL ret) rm as M post px := by
  subst hL
  refine vx_ofW (cc := cc) (maxL := nL) (ret := ret) hy rfl ?_
  intro p e s m args below meth c s₁ B hml hno hv
  obtain ⟨rfl, hP, hN⟩ := hv
  have hts := atoms_spec (ws := ws_ y cc nL ret) B.pre
  have hl := lv_entry as (n := nL) (Nat.le_of_ble_eq_true hlen)
  rw [lg_entry_eq]
  exact body (p, e, (headSpec (ws_ y cc nL ret) rm).room, s, m, as.toArray, below, meth, c) ⟨B.exec, B.bytes, B.returns, hml, findClass_of_methodNamed B.named, fun w h => hts w (List.mem_cons_of_mem _ h), hN, B.notSynchronized, rfl, (name_of_methodNamed B.named B.method).1⟩ hno _ _ _ hP va_S.rf (mkL_has hl)
theorem Con.mkH {G : GX} {y : MethodName} {cc : ByteArray} {nL : Nat} {ret : Option FieldType} {hh : List (Nat × Nat × Nat × Nat)} {rm : Room} {as : List Value} {M : Mem} {post : Option Value → Mem → Prop} {px : Nat → Nat → Mem → Prop} (hy : plainName y.cls = true) (hlen : Nat.ble (lg_sl as).length nL = true) (L : LL) (hL : mkL (lv_args 0 as) = L)
    (body : ∀ x : MX, Cx G x y cc nL ret rm → x.c.exceptionTable.toList = tableOf hh → WM G x nL (QM G x post px rm) 0 0 M 0 L []) : Con G y (wsW_ y cc nL ret hh) rm as M post px := by
  subst hL
  refine vx_ofWH (cc := cc) (maxL := nL) (ret := ret) (hh := hh) hy rfl ?_
  intro p e s m args below meth c s₁ B hml hv
  obtain ⟨rfl, hP, hN⟩ := hv
  have hts := atoms_spec (ws := wsW_ y cc nL ret hh) B.pre
  have hl := lv_entry as (n := nL) (Nat.le_of_ble_eq_true hlen)
  rw [lg_entry_eq]
  exact body (p, e, (headSpec (wsW_ y cc nL ret hh) rm).room, s, m, as.toArray, below, meth, c) ⟨B.exec, B.bytes, B.returns, hml, findClass_of_methodNamed B.named, fun w h => hts w (List.mem_cons_of_mem _ h), hN, B.notSynchronized, rfl, (name_of_methodNamed B.named B.method).1⟩ (vx_table (x := y) B (hts _ List.mem_cons_self)) _ _ _ hP va_S.rf (mkL_has hl)
section MR
variable {G : GX} {x : MX} {y : MethodName} {cc : ByteArray} {nL : Nat} {ret : Option FieldType} {rm : Room} {Q : State → Prop} {k n : Nat} {M : Mem} {pc : Nat} {L : LL} {st : List Value}
/-- fewer locals -/
theorem m_locals (L' : LL) (hs : ∀ q ∈ L', q.2 = none ∨ plk L q.1 = some q.2) (kk : WM G x nL Q k n M pc L' st) : WM G x nL Q k n M pc L st := fun H locs ls hP hS hl => kk H locs ls hP hS (lw_weaken hl hs)
theorem m_widen {k' n' : Nat} (h1 : k ≤ k') (h2 : n ≤ n') (kk : WM G x nL Q k' n' M pc L st) : WM G x nL Q k n M pc L st := fun H locs ls hP hS hl => W.widen h1 h2 (kk H locs ls hP hS hl)
theorem m_mem {M' : Mem} (h : M = M') (kk : WM G x nL Q k n M' pc L st) : WM G x nL Q k n M pc L st := by rw [h]; exact kk
theorem m_sub {M' : Mem} (h : ∀ a e, M' a = some e → M a = some e) (kk : WM G x nL Q k n M' pc L st) : WM G x nL Q k n M pc L st := fun H locs ls hP hS hl => kk H locs ls (hP.sub h) hS hl
theorem m_st {st' : List Value} (h : st = st') (kk : WM G x nL Q k n M pc L st') : WM G x nL Q k n M pc L st := by rw [h]; exact kk

theorem m_iconst (X : Cx G x y cc nL ret rm) {i : Int} {v : Int32} (d : decode cc pc = .ok (.iconst i, 1)) (hv : Int32.ofInt i = v) (kk : WM G x nL Q k n M (pc + 1) L (.int v :: st)) : WM G x nL Q k n M pc L st := fun H locs ls hP hS hl => lv_iconst X.hx X.hb d hv (kk H locs ls hP hS hl)
theorem m_bipush (X : Cx G x y cc nL ret rm) {i : Int} {v : Int32} (d : decode cc pc = .ok (.bipush i, 2)) (hv : (Int8.ofInt i).toInt32 = v) (kk : WM G x nL Q k n M (pc + 2) L (.int v :: st)) : WM G x nL Q k n M pc L st := fun H locs ls hP hS hl => lv_bipush X.hx X.hb d hv (kk H locs ls hP hS hl)
theorem m_sipush (X : Cx G x y cc nL ret rm) {i : Int} {v : Int32} (d : decode cc pc = .ok (.sipush i, 3)) (hv : (Int16.ofInt i).toInt32 = v) (kk : WM G x nL Q k n M (pc + 3) L (.int v :: st)) : WM G x nL Q k n M pc L st := fun H locs ls hP hS hl => lv_sipush X.hx X.hb d hv (kk H locs ls hP hS hl)
theorem m_lconst (X : Cx G x y cc nL ret rm) {i : Fin 2} {v : Int64} (d : decode cc pc = .ok (.lconst i, 1)) (hv : Int64.ofNat i = v) (kk : WM G x nL Q k n M (pc + 1) L (.long v :: st)) : WM G x nL Q k n M pc L st := fun H locs ls hP hS hl => lv_lconst X.hx X.hb d hv (kk H locs ls hP hS hl)
theorem m_null (X : Cx G x y cc nL ret rm)  (d : decode cc pc = .ok (.aconst_null, 1)) (kk : WM G x nL Q k n M (pc + 1) L (.null :: st)) : WM G x nL Q k n M pc L st := fun H locs ls hP hS hl => lv_null X.hx X.hb d (kk H locs ls hP hS hl)
theorem m_iload (X : Cx G x y cc nL ret rm) {i : Nat} {v : Int32} (d : decode cc pc = .ok (.iload i, 2)) (h : plk L i = some (some (.int v))) (kk : WM G x nL Q k n M (pc + 2) L (.int v :: st)) : WM G x nL Q k n M pc L st := fun H locs ls hP hS hl => lv_iload X.hx X.hb d (hl.2.2 _ _ h) (kk H locs ls hP hS hl)
theorem m_iload_n (X : Cx G x y cc nL ret rm) {i : Fin 4} {j : Nat} {v : Int32} (d : decode cc pc = .ok (.iload_n i, 1)) (hj : (i : Nat) = j) (h : plk L j = some (some (.int v))) (kk : WM G x nL Q k n M (pc + 1) L (.int v :: st)) : WM G x nL Q k n M pc L st := fun H locs ls hP hS hl => lv_iload_n X.hx X.hb d hj (hl.2.2 _ _ h) (kk H locs ls hP hS hl)
theorem m_lload (X : Cx G x y cc nL ret rm) {i : Nat} {v : Int64} (d : decode cc pc = .ok (.lload i, 2)) (h : plk L i = some (some (.long v))) (kk : WM G x nL Q k n M (pc + 2) L (.long v :: st)) : WM G x nL Q k n M pc L st := fun H locs ls hP hS hl => lv_lload X.hx X.hb d (hl.2.2 _ _ h) (kk H locs ls hP hS hl)
theorem m_lload_n (X : Cx G x y cc nL ret rm) {i : Fin 4} {j : Nat} {v : Int64} (d : decode cc pc = .ok (.lload_n i, 1)) (hj : (i : Nat) = j) (h : plk L j = some (some (.long v))) (kk : WM G x nL Q k n M (pc + 1) L (.long v :: st)) : WM G x nL Q k n M pc L st := fun H locs ls hP hS hl => lv_lload_n X.hx X.hb d hj (hl.2.2 _ _ h) (kk H locs ls hP hS hl)
theorem m_dload_n (X : Cx G x y cc nL ret rm) {i : Fin 4} {j : Nat} {v : UInt64} (d : decode cc pc = .ok (.dload_n i, 1)) (hj : (i : Nat) = j) (h : plk L j = some (some (.double v))) (kk : WM G x nL Q k n M (pc + 1) L (.double v :: st)) : WM G x nL Q k n M pc L st := fun H locs ls hP hS hl => lv_dload_n X.hx X.hb d hj (hl.2.2 _ _ h) (kk H locs ls hP hS hl)
theorem isR_cases {v : Value} (h : v.isRef = true) : ∃ r : Option Nat, v = va_rf r := by
  cases v <;> first | exact ⟨none, rfl⟩ | exact ⟨some _, rfl⟩ | (simp [Value.isRef] at h)
theorem isR_rf {r : Option Nat} : (va_rf r).isRef = true := by cases r <;> rfl
theorem m_aload (X : Cx G x y cc nL ret rm) {i : Nat} {v : Value} (d : decode cc pc = .ok (.aload i, 2)) (h : plk L i = some (some v)) (hv : v.isRef = true) (kk : WM G x nL Q k n M (pc + 2) L (v :: st)) : WM G x nL Q k n M pc L st := by
  intro H locs ls hP hS hl
  obtain ⟨r, rfl⟩ := isR_cases hv
  cases r with
  | none => exact lv_aloadN X.hx X.hb d (hl.2.2 _ _ h) (kk H locs ls hP hS hl)
  | some a => exact lv_aload X.hx X.hb d (hl.2.2 _ _ h) (kk H locs ls hP hS hl)
theorem m_aload_n (X : Cx G x y cc nL ret rm) {i : Fin 4} {j : Nat} {v : Value} (d : decode cc pc = .ok (.aload_n i, 1)) (hj : (i : Nat) = j) (h : plk L j = some (some v)) (hv : v.isRef = true) (kk : WM G x nL Q k n M (pc + 1) L (v :: st)) : WM G x nL Q k n M pc L st := by
  intro H locs ls hP hS hl
  obtain ⟨r, rfl⟩ := isR_cases hv
  cases r with
  | none => exact lv_aload_nN X.hx X.hb d hj (hl.2.2 _ _ h) (kk H locs ls hP hS hl)
  | some a => exact lv_aload_n X.hx X.hb d hj (hl.2.2 _ _ h) (kk H locs ls hP hS hl)
theorem m_istore (X : Cx G x y cc nL ret rm) {i : Nat} {v : Int32} (d : decode cc pc = .ok (.istore i, 2)) (hn : Nat.blt i nL = true) (ho : pok L i = true) (kk : WM G x nL Q k n M (pc + 2) ((i, some (.int v)) :: L) st) : WM G x nL Q k n M pc L (.int v :: st) := fun H locs ls hP hS hl => lv_istore X.hx X.hb d (lw_kit hl) (by simpa using hn) rfl fun ls' h' => kk H locs ls' hP hS (lw_back1 hl ho h')
theorem m_istore_n (X : Cx G x y cc nL ret rm) {i : Fin 4} {j : Nat} {v : Int32} (d : decode cc pc = .ok (.istore_n i, 1)) (hj : (i : Nat) = j) (hn : Nat.blt j nL = true) (ho : pok L j = true) (kk : WM G x nL Q k n M (pc + 1) ((j, some (.int v)) :: L) st) : WM G x nL Q k n M pc L (.int v :: st) := fun H locs ls hP hS hl => lv_istore_n X.hx X.hb d hj (lw_kit hl) (by simpa using hn) rfl fun ls' h' => kk H locs ls' hP hS (lw_back1 hl ho h')
theorem m_lstore (X : Cx G x y cc nL ret rm) {i : Nat} {v : Int64} (d : decode cc pc = .ok (.lstore i, 2)) (hn : Nat.blt (i + 1) nL = true) (ho : pok L i = true) (kk : WM G x nL Q k n M (pc + 2) ((i, some (.long v)) :: (i + 1, none) :: L) st) : WM G x nL Q k n M pc L (.long v :: st) := fun H locs ls hP hS hl => lv_lstore X.hx X.hb d (lw_kit hl) (by simpa using hn) rfl fun ls' h' => kk H locs ls' hP hS (lw_back2 hl ho h')
theorem m_lstore_n (X : Cx G x y cc nL ret rm) {i : Fin 4} {j : Nat} {v : Int64} (d : decode cc pc = .ok (.lstore_n i, 1)) (hj : (i : Nat) = j) (hn : Nat.blt (j + 1) nL = true) (ho : pok L j = true) (kk : WM G x nL Q k n M (pc + 1) ((j, some (.long v)) :: (j + 1, none) :: L) st) : WM G x nL Q k n M pc L (.long v :: st) := fun H locs ls hP hS hl => lv_lstore_n X.hx X.hb d hj (lw_kit hl) (by simpa using hn) rfl fun ls' h' => kk H locs ls' hP hS (lw_back2 hl ho h')
theorem m_astore (X : Cx G x y cc nL ret rm) {i : Nat} {v : Value} (d : decode cc pc = .ok (.astore i, 2)) (hn : Nat.blt i nL = true) (ho : pok L i = true) (hv : v.isRef = true) (kk : WM G x nL Q k n M (pc + 2) ((i, some v) :: L) st) : WM G x nL Q k n M pc L (v :: st) := by
  intro H locs ls hP hS hl
  obtain ⟨r, rfl⟩ := isR_cases hv
  cases r with
  | none => exact lv_astoreN X.hx X.hb d (lw_kit hl) (by simpa using hn) rfl fun ls' h' => kk H locs ls' hP hS (lw_back1 hl ho h')
  | some a => exact lv_astore X.hx X.hb d (lw_kit hl) (by simpa using hn) rfl fun ls' h' => kk H locs ls' hP hS (lw_back1 hl ho h')
theorem m_astore_n (X : Cx G x y cc nL ret rm) {i : Fin 4} {j : Nat} {v : Value} (d : decode cc pc = .ok (.astore_n i, 1)) (hj : (i : Nat) = j) (hn : Nat.blt j nL = true) (ho : pok L j = true) (hv : v.isRef = true) (kk : WM G x nL Q k n M (pc + 1) ((j, some v) :: L) st) : WM G x nL Q k n M pc L (v :: st) := by
  intro H locs ls hP hS hl
  obtain ⟨r, rfl⟩ := isR_cases hv
  cases r with
  | none => exact lv_astore_nN X.hx X.hb d hj (lw_kit hl) (by simpa using hn) rfl fun ls' h' => kk H locs ls' hP hS (lw_back1 hl ho h')
  | some a => exact lv_astore_n X.hx X.hb d hj (lw_kit hl) (by simpa using hn) rfl fun ls' h' => kk H locs ls' hP hS (lw_back1 hl ho h')
theorem m_iinc (X : Cx G x y cc nL ret rm) {i : Nat} {j : Int} {v w : Int32} (d : decode cc pc = .ok (.iinc i j, 3)) (h : plk L i = some (some (.int v))) (hw : Int32.ofInt j = w) (ho : pok L i = true) (kk : WM G x nL Q k n M (pc + 3) ((i, some (.int (v + w))) :: L) st) : WM G x nL Q k n M pc L st := by
  intro H locs ls hP hS hl
  have hi := lw_lt hl h
  obtain ⟨q, hq⟩ := List.getElem?_of_mem (lvl_mem (q := (i, Value.int v)).mpr ⟨hi, h⟩)
  subst hw
  exact lv_iinc X.hx X.hb d (lw_kit hl) hq rfl hi rfl fun ls' h' => kk H locs ls' hP hS (lw_back1 hl ho h')
theorem m_iadd (X : Cx G x y cc nL ret rm) {a b : Int32} (d : decode cc pc = .ok (.iadd, 1)) (kk : WM G x nL Q k n M (pc + 1) L (.int (a + b) :: st)) : WM G x nL Q k n M pc L (.int b :: .int a :: st) := fun H locs ls hP hS hl => lv_iadd X.hx X.hb d (kk H locs ls hP hS hl)
theorem m_isub (X : Cx G x y cc nL ret rm) {a b : Int32} (d : decode cc pc = .ok (.isub, 1)) (kk : WM G x nL Q k n M (pc + 1) L (.int (a - b) :: st)) : WM G x nL Q k n M pc L (.int b :: .int a :: st) := fun H locs ls hP hS hl => lv_isub X.hx X.hb d (kk H locs ls hP hS hl)
theorem m_imul (X : Cx G x y cc nL ret rm) {a b : Int32} (d : decode cc pc = .ok (.imul, 1)) (kk : WM G x nL Q k n M (pc + 1) L (.int (a * b) :: st)) : WM G x nL Q k n M pc L (.int b :: .int a :: st) := fun H locs ls hP hS hl => lv_imul X.hx X.hb d (kk H locs ls hP hS hl)
theorem m_iand (X : Cx G x y cc nL ret rm) {a b : Int32} (d : decode cc pc = .ok (.iand, 1)) (kk : WM G x nL Q k n M (pc + 1) L (.int (a &&& b) :: st)) : WM G x nL Q k n M pc L (.int b :: .int a :: st) := fun H locs ls hP hS hl => lv_iand X.hx X.hb d (kk H locs ls hP hS hl)
theorem m_ior (X : Cx G x y cc nL ret rm) {a b : Int32} (d : decode cc pc = .ok (.ior, 1)) (kk : WM G x nL Q k n M (pc + 1) L (.int (a ||| b) :: st)) : WM G x nL Q k n M pc L (.int b :: .int a :: st) := fun H locs ls hP hS hl => lv_ior X.hx X.hb d (kk H locs ls hP hS hl)
theorem m_ixor (X : Cx G x y cc nL ret rm) {a b : Int32} (d : decode cc pc = .ok (.ixor, 1)) (kk : WM G x nL Q k n M (pc + 1) L (.int (a ^^^ b) :: st)) : WM G x nL Q k n M pc L (.int b :: .int a :: st) := fun H locs ls hP hS hl => lv_ixor X.hx X.hb d (kk H locs ls hP hS hl)
theorem m_ladd (X : Cx G x y cc nL ret rm) {a b : Int64} (d : decode cc pc = .ok (.ladd, 1)) (kk : WM G x nL Q k n M (pc + 1) L (.long (a + b) :: st)) : WM G x nL Q k n M pc L (.long b :: .long a :: st) := fun H locs ls hP hS hl => lv_ladd X.hx X.hb d (kk H locs ls hP hS hl)
theorem m_lsub (X : Cx G x y cc nL ret rm) {a b : Int64} (d : decode cc pc = .ok (.lsub, 1)) (kk : WM G x nL Q k n M (pc + 1) L (.long (a - b) :: st)) : WM G x nL Q k n M pc L (.long b :: .long a :: st) := fun H locs ls hP hS hl => lv_lsub X.hx X.hb d (kk H locs ls hP hS hl)
theorem m_lmul (X : Cx G x y cc nL ret rm) {a b : Int64} (d : decode cc pc = .ok (.lmul, 1)) (kk : WM G x nL Q k n M (pc + 1) L (.long (a * b) :: st)) : WM G x nL Q k n M pc L (.long b :: .long a :: st) := fun H locs ls hP hS hl => lv_lmul X.hx X.hb d (kk H locs ls hP hS hl)
theorem m_land (X : Cx G x y cc nL ret rm) {a b : Int64} (d : decode cc pc = .ok (.land, 1)) (kk : WM G x nL Q k n M (pc + 1) L (.long (a &&& b) :: st)) : WM G x nL Q k n M pc L (.long b :: .long a :: st) := fun H locs ls hP hS hl => lv_land X.hx X.hb d (kk H locs ls hP hS hl)
theorem m_topi (X : Cx G x y cc nL ret rm) {a b : Int32} (h : a = b) (kk : WM G x nL Q k n M pc L (.int b :: st)) : WM G x nL Q k n M pc L (.int a :: st) := fun H locs ls hP hS hl => (by rw [h]; exact (kk H locs ls hP hS hl))
theorem m_topl (X : Cx G x y cc nL ret rm) {a b : Int64} (h : a = b) (kk : WM G x nL Q k n M pc L (.long b :: st)) : WM G x nL Q k n M pc L (.long a :: st) := fun H locs ls hP hS hl => (by rw [h]; exact (kk H locs ls hP hS hl))
theorem m_pop (X : Cx G x y cc nL ret rm) {a : Value} (d : decode cc pc = .ok (.pop, 1)) (h : a.category = 1) (kk : WM G x nL Q k n M (pc + 1) L st) : WM G x nL Q k n M pc L (a :: st) := fun H locs ls hP hS hl => lv_pop X.hx X.hb d h (kk H locs ls hP hS hl)
theorem m_dup (X : Cx G x y cc nL ret rm) {a : Value} (d : decode cc pc = .ok (.dup, 1)) (h : a.category = 1) (kk : WM G x nL Q k n M (pc + 1) L (a :: a :: st)) : WM G x nL Q k n M pc L (a :: st) := fun H locs ls hP hS hl => lv_dup X.hx X.hb d h (kk H locs ls hP hS hl)
theorem m_goto (X : Cx G x y cc nL ret rm) {off : Int} {t : Nat} (d : decode cc pc = .ok (.goto off, 3)) (ht : (pc : Int) + off = (t : Int)) (kk : WM G x nL Q k n M t L st) : WM G x nL Q k n M pc L st := fun H locs ls hP hS hl => lv_goto X.hx X.hb d ht (kk H locs ls hP hS hl)
theorem m_ineg (X : Cx G x y cc nL ret rm) {a : Int32} (d : decode cc pc = .ok (.ineg, 1)) (kk : WM G x nL Q k n M (pc + 1) L (.int (-a) :: st)) : WM G x nL Q k n M pc L (.int a :: st) := fun H locs ls hP hS hl => lv_ineg X.hx X.hb d (kk H locs ls hP hS hl)
theorem m_lneg (X : Cx G x y cc nL ret rm) {a : Int64} (d : decode cc pc = .ok (.lneg, 1)) (kk : WM G x nL Q k n M (pc + 1) L (.long (-a) :: st)) : WM G x nL Q k n M pc L (.long a :: st) := fun H locs ls hP hS hl => lv_lneg X.hx X.hb d (kk H locs ls hP hS hl)
theorem m_ishl (X : Cx G x y cc nL ret rm) {a b : Int32} (d : decode cc pc = .ok (.ishl, 1)) (kk : WM G x nL Q k n M (pc + 1) L (.int (a <<< (b &&& 31)) :: st)) : WM G x nL Q k n M pc L (.int b :: .int a :: st) := fun H locs ls hP hS hl => lv_ishl X.hx X.hb d (kk H locs ls hP hS hl)
theorem m_ishr (X : Cx G x y cc nL ret rm) {a b : Int32} (d : decode cc pc = .ok (.ishr, 1)) (kk : WM G x nL Q k n M (pc + 1) L (.int (a >>> (b &&& 31)) :: st)) : WM G x nL Q k n M pc L (.int b :: .int a :: st) := fun H locs ls hP hS hl => lv_ishr X.hx X.hb d (kk H locs ls hP hS hl)
theorem m_i2l (X : Cx G x y cc nL ret rm) {a : Int32} (d : decode cc pc = .ok (.i2l, 1)) (kk : WM G x nL Q k n M (pc + 1) L (.long a.toInt64 :: st)) : WM G x nL Q k n M pc L (.int a :: st) := fun H locs ls hP hS hl => lv_i2l X.hx X.hb d rfl (kk H locs ls hP hS hl)
theorem m_l2i (X : Cx G x y cc nL ret rm) {a : Int64} (d : decode cc pc = .ok (.l2i, 1)) (kk : WM G x nL Q k n M (pc + 1) L (.int a.toInt32 :: st)) : WM G x nL Q k n M pc L (.long a :: st) := fun H locs ls hP hS hl => lv_l2i X.hx X.hb d rfl (kk H locs ls hP hS hl)
theorem m_i2b (X : Cx G x y cc nL ret rm) {a : Int32} (d : decode cc pc = .ok (.i2b, 1)) (kk : WM G x nL Q k n M (pc + 1) L (.int a.toInt8.toInt32 :: st)) : WM G x nL Q k n M pc L (.int a :: st) := fun H locs ls hP hS hl => lv_i2b X.hx X.hb d rfl (kk H locs ls hP hS hl)
theorem m_lshr (X : Cx G x y cc nL ret rm) {a : Int64} {b : Int32} (d : decode cc pc = .ok (.lshr, 1)) (kk : WM G x nL Q k n M (pc + 1) L (.long (a >>> (b.toInt64 &&& 63)) :: st)) : WM G x nL Q k n M pc L (.int b :: .long a :: st) := fun H locs ls hP hS hl => lv_lshr X.hx X.hb d rfl (kk H locs ls hP hS hl)
theorem m_ldiv (X : Cx G x y cc nL ret rm) {a b : Int64} (d : decode cc pc = .ok (.ldiv, 1)) (h : ¬ b = 0) (kk : WM G x nL Q k n M (pc + 1) L (.long (a / b) :: st)) : WM G x nL Q k n M pc L (.long b :: .long a :: st) := fun H locs ls hP hS hl => lv_ldiv X.hx X.hb d h (kk H locs ls hP hS hl)
theorem m_lrem (X : Cx G x y cc nL ret rm) {a b : Int64} (d : decode cc pc = .ok (.lrem, 1)) (h : ¬ b = 0) (kk : WM G x nL Q k n M (pc + 1) L (.long (a - a / b * b) :: st)) : WM G x nL Q k n M pc L (.long b :: .long a :: st) := fun H locs ls hP hS hl => lv_lrem X.hx X.hb d h (kk H locs ls hP hS hl)
theorem m_dup_x1 (X : Cx G x y cc nL ret rm) {a b : Value} (d : decode cc pc = .ok (.dup_x1, 1)) (ha : a.category = 1) (hb : b.category = 1) (kk : WM G x nL Q k n M (pc + 1) L (a :: b :: a :: st)) : WM G x nL Q k n M pc L (a :: b :: st) := fun H locs ls hP hS hl => lv_dup_x1 X.hx X.hb d ha hb (kk H locs ls hP hS hl)
theorem m_dup2 (X : Cx G x y cc nL ret rm) {a b : Value} (d : decode cc pc = .ok (.dup2, 1)) (ha : a.category = 1) (hb : b.category = 1) (kk : WM G x nL Q k n M (pc + 1) L (a :: b :: a :: b :: st)) : WM G x nL Q k n M pc L (a :: b :: st) := fun H locs ls hP hS hl => lv_dup2_11 X.hx X.hb d ha hb (kk H locs ls hP hS hl)
theorem m_ifeq (X : Cx G x y cc nL ret rm) {a : Int32} {off : Int} {t : Nat} (d : decode cc pc = .ok (.ifCond .eq off, 3)) (ht : (pc : Int) + off = (t : Int)) (kt : a = 0 → WM G x nL Q k n M t L st) (kf : ¬ a = 0 → WM G x nL Q k n M (pc + 3) L st) : WM G x nL Q k n M pc L (.int a :: st) := fun H locs ls hP hS hl => lv_if_eq X.hx X.hb d ht (fun h => kt h H locs ls hP hS hl) (fun h => kf h H locs ls hP hS hl)
theorem m_ifne (X : Cx G x y cc nL ret rm) {a : Int32} {off : Int} {t : Nat} (d : decode cc pc = .ok (.ifCond .ne off, 3)) (ht : (pc : Int) + off = (t : Int)) (kt : ¬ a = 0 → WM G x nL Q k n M t L st) (kf : a = 0 → WM G x nL Q k n M (pc + 3) L st) : WM G x nL Q k n M pc L (.int a :: st) := fun H locs ls hP hS hl => lv_if_ne X.hx X.hb d ht (fun h => kt h H locs ls hP hS hl) (fun h => kf h H locs ls hP hS hl)
theorem m_iflt (X : Cx G x y cc nL ret rm) {a : Int32} {off : Int} {t : Nat} (d : decode cc pc = .ok (.ifCond .lt off, 3)) (ht : (pc : Int) + off = (t : Int)) (kt : a < 0 → WM G x nL Q k n M t L st) (kf : ¬ a < 0 → WM G x nL Q k n M (pc + 3) L st) : WM G x nL Q k n M pc L (.int a :: st) := fun H locs ls hP hS hl => lv_if_lt X.hx X.hb d ht (fun h => kt h H locs ls hP hS hl) (fun h => kf h H locs ls hP hS hl)
theorem m_ifge (X : Cx G x y cc nL ret rm) {a : Int32} {off : Int} {t : Nat} (d : decode cc pc = .ok (.ifCond .ge off, 3)) (ht : (pc : Int) + off = (t : Int)) (kt : 0 ≤ a → WM G x nL Q k n M t L st) (kf : ¬ 0 ≤ a → WM G x nL Q k n M (pc + 3) L st) : WM G x nL Q k n M pc L (.int a :: st) := fun H locs ls hP hS hl => lv_if_ge X.hx X.hb d ht (fun h => kt h H locs ls hP hS hl) (fun h => kf h H locs ls hP hS hl)
theorem m_ifgt (X : Cx G x y cc nL ret rm) {a : Int32} {off : Int} {t : Nat} (d : decode cc pc = .ok (.ifCond .gt off, 3)) (ht : (pc : Int) + off = (t : Int)) (kt : 0 < a → WM G x nL Q k n M t L st) (kf : ¬ 0 < a → WM G x nL Q k n M (pc + 3) L st) : WM G x nL Q k n M pc L (.int a :: st) := fun H locs ls hP hS hl => lv_if_gt X.hx X.hb d ht (fun h => kt h H locs ls hP hS hl) (fun h => kf h H locs ls hP hS hl)
theorem m_ifle (X : Cx G x y cc nL ret rm) {a : Int32} {off : Int} {t : Nat} (d : decode cc pc = .ok (.ifCond .le off, 3)) (ht : (pc : Int) + off = (t : Int)) (kt : a ≤ 0 → WM G x nL Q k n M t L st) (kf : ¬ a ≤ 0 → WM G x nL Q k n M (pc + 3) L st) : WM G x nL Q k n M pc L (.int a :: st) := fun H locs ls hP hS hl => lv_if_le X.hx X.hb d ht (fun h => kt h H locs ls hP hS hl) (fun h => kf h H locs ls hP hS hl)
theorem m_icmpeq (X : Cx G x y cc nL ret rm) {a b : Int32} {off : Int} {t : Nat} (d : decode cc pc = .ok (.if_icmp .eq off, 3)) (ht : (pc : Int) + off = (t : Int)) (kt : a = b → WM G x nL Q k n M t L st) (kf : ¬ a = b → WM G x nL Q k n M (pc + 3) L st) : WM G x nL Q k n M pc L (.int b :: .int a :: st) := fun H locs ls hP hS hl => lv_icmp_eq X.hx X.hb d ht (fun h => kt h H locs ls hP hS hl) (fun h => kf h H locs ls hP hS hl)
theorem m_icmpne (X : Cx G x y cc nL ret rm) {a b : Int32} {off : Int} {t : Nat} (d : decode cc pc = .ok (.if_icmp .ne off, 3)) (ht : (pc : Int) + off = (t : Int)) (kt : ¬ a = b → WM G x nL Q k n M t L st) (kf : a = b → WM G x nL Q k n M (pc + 3) L st) : WM G x nL Q k n M pc L (.int b :: .int a :: st) := fun H locs ls hP hS hl => lv_icmp_ne X.hx X.hb d ht (fun h => kt h H locs ls hP hS hl) (fun h => kf h H locs ls hP hS hl)
theorem m_icmplt (X : Cx G x y cc nL ret rm) {a b : Int32} {off : Int} {t : Nat} (d : decode cc pc = .ok (.if_icmp .lt off, 3)) (ht : (pc : Int) + off = (t : Int)) (kt : a < b → WM G x nL Q k n M t L st) (kf : ¬ a < b → WM G x nL Q k n M (pc + 3) L st) : WM G x nL Q k n M pc L (.int b :: .int a :: st) := fun H locs ls hP hS hl => lv_icmp_lt X.hx X.hb d ht (fun h => kt h H locs ls hP hS hl) (fun h => kf h H locs ls hP hS hl)
theorem m_icmpge (X : Cx G x y cc nL ret rm) {a b : Int32} {off : Int} {t : Nat} (d : decode cc pc = .ok (.if_icmp .ge off, 3)) (ht : (pc : Int) + off = (t : Int)) (kt : b ≤ a → WM G x nL Q k n M t L st) (kf : ¬ b ≤ a → WM G x nL Q k n M (pc + 3) L st) : WM G x nL Q k n M pc L (.int b :: .int a :: st) := fun H locs ls hP hS hl => lv_icmp_ge X.hx X.hb d ht (fun h => kt h H locs ls hP hS hl) (fun h => kf h H locs ls hP hS hl)
theorem m_icmpgt (X : Cx G x y cc nL ret rm) {a b : Int32} {off : Int} {t : Nat} (d : decode cc pc = .ok (.if_icmp .gt off, 3)) (ht : (pc : Int) + off = (t : Int)) (kt : b < a → WM G x nL Q k n M t L st) (kf : ¬ b < a → WM G x nL Q k n M (pc + 3) L st) : WM G x nL Q k n M pc L (.int b :: .int a :: st) := fun H locs ls hP hS hl => lv_icmp_gt X.hx X.hb d ht (fun h => kt h H locs ls hP hS hl) (fun h => kf h H locs ls hP hS hl)
theorem m_icmple (X : Cx G x y cc nL ret rm) {a b : Int32} {off : Int} {t : Nat} (d : decode cc pc = .ok (.if_icmp .le off, 3)) (ht : (pc : Int) + off = (t : Int)) (kt : a ≤ b → WM G x nL Q k n M t L st) (kf : ¬ a ≤ b → WM G x nL Q k n M (pc + 3) L st) : WM G x nL Q k n M pc L (.int b :: .int a :: st) := fun H locs ls hP hS hl => lv_icmp_le X.hx X.hb d ht (fun h => kt h H locs ls hP hS hl) (fun h => kf h H locs ls hP hS hl)
theorem m_acmpeq (X : Cx G x y cc nL ret rm) {a b : Option Nat} {off : Int} {t : Nat} (d : decode cc pc = .ok (.if_acmp .eq off, 3)) (ht : (pc : Int) + off = (t : Int)) (kt : a = b → WM G x nL Q k n M t L st) (kf : ¬ a = b → WM G x nL Q k n M (pc + 3) L st) : WM G x nL Q k n M pc L (va_rf b :: va_rf a :: st) := fun H locs ls hP hS hl => lv_acmp_eq X.hx X.hb d ht (fun h => kt h H locs ls hP hS hl) (fun h => kf h H locs ls hP hS hl)
theorem m_acmpne (X : Cx G x y cc nL ret rm) {a b : Option Nat} {off : Int} {t : Nat} (d : decode cc pc = .ok (.if_acmp .ne off, 3)) (ht : (pc : Int) + off = (t : Int)) (kt : ¬ a = b → WM G x nL Q k n M t L st) (kf : a = b → WM G x nL Q k n M (pc + 3) L st) : WM G x nL Q k n M pc L (va_rf b :: va_rf a :: st) := fun H locs ls hP hS hl => lv_acmp_ne X.hx X.hb d ht (fun h => kt h H locs ls hP hS hl) (fun h => kf h H locs ls hP hS hl)
theorem m_ifnull (X : Cx G x y cc nL ret rm) {a : Option Nat} {off : Int} {t : Nat} (d : decode cc pc = .ok (.ifnull off, 3)) (ht : (pc : Int) + off = (t : Int)) (kt : a = none → WM G x nL Q k n M t L st) (kf : ∀ b : Nat, a = some b → WM G x nL Q k n M (pc + 3) L st) : WM G x nL Q k n M pc L (va_rf a :: st) := by
  intro H locs ls hP hS hl
  cases a with
  | none => exact lv_ifnullN X.hx X.hb d ht (kt rfl H locs ls hP hS hl)
  | some b => exact lv_ifnull X.hx X.hb d (kf b rfl H locs ls hP hS hl)
theorem m_ifnonnull (X : Cx G x y cc nL ret rm) {a : Option Nat} {off : Int} {t : Nat} (d : decode cc pc = .ok (.ifnonnull off, 3)) (ht : (pc : Int) + off = (t : Int)) (kt : ∀ b : Nat, a = some b → WM G x nL Q k n M t L st) (kf : a = none → WM G x nL Q k n M (pc + 3) L st) : WM G x nL Q k n M pc L (va_rf a :: st) := by
  intro H locs ls hP hS hl
  cases a with
  | none => exact lv_ifnonnullN X.hx X.hb d (kf rfl H locs ls hP hS hl)
  | some b => exact lv_ifnonnull X.hx X.hb d ht (kt b rfl H locs ls hP hS hl)
theorem m_lcmp (X : Cx G x y cc nL ret rm) {a b : Int64} (d : decode cc pc = .ok (.lcmp, 1)) (kk : WM G x nL Q k n M (pc + 1) L (.int (lg_cmp a b) :: st)) : WM G x nL Q k n M pc L (.long b :: .long a :: st) := fun H locs ls hP hS hl => W.lcmp X.hx X.hb d (kk H locs ls hP hS hl)
theorem m_tableIn (X : Cx G x y cc nL ret rm) {dflt lo hi : Int} {offs : Array Int} {len : Nat} {a : Int32} {off : Int} {t : Nat} (d : decode cc pc = .ok (.tableswitch dflt lo hi offs, len)) (h1 : ¬ a.toInt < lo) (h2 : ¬ hi < a.toInt) (ho : offs[(a.toInt - lo).toNat]? = some off) (ht : (pc : Int) + off = (t : Int)) (kk : WM G x nL Q k n M t L st) : WM G x nL Q k n M pc L (.int a :: st) := fun H locs ls hP hS hl => lv_tableIn X.hx X.hb d h1 h2 ho ht (kk H locs ls hP hS hl)
theorem m_tableOut (X : Cx G x y cc nL ret rm) {dflt lo hi : Int} {offs : Array Int} {len : Nat} {a : Int32} {t : Nat} (d : decode cc pc = .ok (.tableswitch dflt lo hi offs, len)) (h : a.toInt < lo ∨ hi < a.toInt) (ht : (pc : Int) + dflt = (t : Int)) (kk : WM G x nL Q k n M t L st) : WM G x nL Q k n M pc L (.int a :: st) := fun H locs ls hP hS hl => lv_tableOut X.hx X.hb d h ht (kk H locs ls hP hS hl)
theorem m_lookup (X : Cx G x y cc nL ret rm) {dflt : Int} {ps : Array (Int × Int)} {len : Nat} {a : Int32} {off : Int} {t : Nat} (d : decode cc pc = .ok (.lookupswitch dflt ps, len)) (hp : (ps.toList.zip (ps.toList.drop 1)).all (fun (a, next) => a.1 < next.1) = true) (ho : Op.lookupswitch.offset ps.toList dflt a.toInt = off) (ht : (pc : Int) + off = (t : Int)) (kk : WM G x nL Q k n M t L st) : WM G x nL Q k n M pc L (.int a :: st) := fun H locs ls hP hS hl => lv_lookup X.hx X.hb d hp ho ht (kk H locs ls hP hS hl)
theorem m_ldc2 (X : Cx G x y cc nL ret rm) {i : Nat} {v : Int64} (w : (Jvm.Cond.constantLong y.cls i v) ∈ lw_all) (d : decode cc pc = .ok (.ldc2_w i, 3)) (kk : WM G x nL Q k n M (pc + 3) L (.long v :: st)) : WM G x nL Q k n M pc L st := fun H locs ls hP hS hl => lv_ldc2 X.hx X.hb X.hown (X.hts _ w) d (kk H locs ls hP hS hl)
theorem m_ldc2d (X : Cx G x y cc nL ret rm) {i : Nat} {v : UInt64} (w : (Jvm.Cond.constantDouble y.cls i v) ∈ lw_all) (d : decode cc pc = .ok (.ldc2_w i, 3)) (kk : WM G x nL Q k n M (pc + 3) L (.double v :: st)) : WM G x nL Q k n M pc L st := fun H locs ls hP hS hl => lv_ldc2d X.hx X.hb X.hown (X.hts _ w) d (kk H locs ls hP hS hl)
variable {post : Option Value → Mem → Prop} {px : Nat → Nat → Mem → Prop}
theorem m_iret (X : Cx G x y cc nL (some .int) rm) {v : Int32} (d : decode cc pc = .ok (.ireturn, 1)) (h1 : k ≤ rm.cells) (h2 : n ≤ rm.slots) (hp : post (some (.int v)) M) : WM G x nL (QM G x post px rm) k n M pc L [.int v] := by
  intro H locs ls hP hS hl
  refine W.widen h1 h2 (vx_ret ?_)
  exact W.iret X.hx X.hb X.hr (fun t ht _ => ⟨_, M, rfl, hp, by rw [ht]; exact hP, by rw [ht]; exact hS.1, fun q h3 h4 => by rw [ht]; exact hS.2.1 q h3 h4⟩) hS.2.2 d X.hlk
theorem m_zret (X : Cx G x y cc nL (some .boolean) rm) {v : Int32} (d : decode cc pc = .ok (.ireturn, 1)) (hn : narrow .boolean (.int v) = .int v) (h1 : k ≤ rm.cells) (h2 : n ≤ rm.slots) (hp : post (some (.int v)) M) : WM G x nL (QM G x post px rm) k n M pc L [.int v] := by
  intro H locs ls hP hS hl
  refine W.widen h1 h2 (vx_ret ?_)
  exact W.zret X.hx X.hb X.hr hn (fun t ht _ => ⟨_, M, rfl, hp, by rw [ht]; exact hP, by rw [ht]; exact hS.1, fun q h3 h4 => by rw [ht]; exact hS.2.1 q h3 h4⟩) hS.2.2 d X.hlk
theorem m_lret (X : Cx G x y cc nL (some .long) rm) {v : Int64} (d : decode cc pc = .ok (.lreturn, 1)) (h1 : k ≤ rm.cells) (h2 : n ≤ rm.slots) (hp : post (some (.long v)) M) : WM G x nL (QM G x post px rm) k n M pc L [.long v] := by
  intro H locs ls hP hS hl
  refine W.widen h1 h2 (vx_ret ?_)
  exact W.lret X.hx X.hb X.hr (fun t ht _ => ⟨_, M, rfl, hp, by rw [ht]; exact hP, by rw [ht]; exact hS.1, fun q h3 h4 => by rw [ht]; exact hS.2.1 q h3 h4⟩) hS.2.2 d X.hlk
theorem m_dret (X : Cx G x y cc nL (some .double) rm) {v : UInt64} (d : decode cc pc = .ok (.dreturn, 1)) (h1 : k ≤ rm.cells) (h2 : n ≤ rm.slots) (hp : post (some (.double v)) M) : WM G x nL (QM G x post px rm) k n M pc L [.double v] := by
  intro H locs ls hP hS hl
  refine W.widen h1 h2 (vx_ret ?_)
  exact W.dret X.hx X.hb X.hr (fun t ht _ => ⟨_, M, rfl, hp, by rw [ht]; exact hP, by rw [ht]; exact hS.1, fun q h3 h4 => by rw [ht]; exact hS.2.1 q h3 h4⟩) hS.2.2 d X.hlk
theorem m_vret (X : Cx G x y cc nL none rm) (d : decode cc pc = .ok (.return_, 1)) (h1 : k ≤ rm.cells) (h2 : n ≤ rm.slots) (hp : post none M) : WM G x nL (QM G x post px rm) k n M pc L [] := by
  intro H locs ls hP hS hl
  refine W.widen h1 h2 (vx_ret ?_)
  exact W.vret X.hx X.hb X.hr (fun t ht _ => ⟨_, M, rfl, hp, by rw [ht]; exact hP, by rw [ht]; exact hS.1, fun q h3 h4 => by rw [ht]; exact hS.2.1 q h3 h4⟩) hS.2.2 d X.hlk
end MR
