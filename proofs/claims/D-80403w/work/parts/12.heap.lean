/-! THE RULES THAT TOUCH THE MEMORY: fields, arrays, new, calls -/
set_option maxRecDepth 100000
/-- the entry idx of own's class file names the field k of the class ci -/
def FG (own : String) (idx ci k : Nat) : Prop := ∃ (C : String) (T : u_T) (N : Nat) (ref : String), clG[ci]? = some (C, T, N) ∧ k < N ∧ (∀ w ∈ u_ws C T N, w ∈ lw_all) ∧ (Cond.fieldLink own idx ref (T k).2.1 (T k).2.2.1 ∈ lw_all ∨ ∃ host : String, Cond.fieldLinkNest own idx ref (T k).2.1 (T k).2.2.1 host ∈ xW) ∧ ref = (T k).1
/-- .. and it may be written: fin = true: a final field, in a constructor of own -/
def FP (own : String) (idx ci k : Nat) (ty : FieldType) (fin : Bool) : Prop := ∃ (C : String) (T : u_T) (N : Nat) (ref : String) (ty0 : Nat → FieldType), clG[ci]? = some (C, T, N) ∧ k < N ∧ (∀ w ∈ u_ws C T N, w ∈ lw_all) ∧ (Cond.fieldLink own idx ref (T k).2.1 (T k).2.2.1 ∈ lw_all ∨ (fin = false ∧ ∃ host : String, Cond.fieldLinkNest own idx ref (T k).2.1 (T k).2.2.1 host ∈ xW)) ∧ ref = (T k).1 ∧ (∀ j, j < N → parseFieldDescriptor (T j).2.2.1 = some (ty0 j)) ∧ (∀ a, a < N → ∀ b, b < N → a ≠ b → (T a).2.1 ≠ (T b).2.1) ∧ (T k).2.2.2 = fin ∧ (fin = true → (T k).1 = own) ∧ parseFieldDescriptor (T k).2.2.1 = some ty
/-- a call's words -/
def YV (own : String) (idx : Nat) (C : String) (y : MethodName) (b : ByteArray) (L : Nat) (r : Option FieldType) (n : Nat) : Prop := GoodIn lw_all (wsV own idx C y (ws_ y b L r)) ∧ y.cls = C ∧ y.cls ≠ "java/lang/invoke/MethodHandle" ∧ y.cls ≠ "java/lang/invoke/VarHandle" ∧ (parseMethodDescriptor y.desc).map (fun d => d.parameters.length) = some n
def YVW (own : String) (idx : Nat) (C : String) (y : MethodName) (b : ByteArray) (L : Nat) (r : Option FieldType) (hh : List (Nat × Nat × Nat × Nat)) (n : Nat) : Prop := GoodIn lw_all (wsV own idx C y (wsW_ y b L r hh)) ∧ y.cls = C ∧ y.cls ≠ "java/lang/invoke/MethodHandle" ∧ y.cls ≠ "java/lang/invoke/VarHandle" ∧ (parseMethodDescriptor y.desc).map (fun d => d.parameters.length) = some n
def YS (own : String) (idx : Nat) (y : MethodName) (b : ByteArray) (L : Nat) (r : Option FieldType) (n : Nat) : Prop := GoodIn lw_all (va_wsS own idx y (ws_ y b L r)) ∧ y.cls ≠ "java/lang/invoke/MethodHandle" ∧ y.cls ≠ "java/lang/invoke/VarHandle" ∧ (parseMethodDescriptor y.desc).map (fun d => d.parameters.length) = some n
def YI (own : String) (idx : Nat) (y : MethodName) (b : ByteArray) (L : Nat) (n : Nat) : Prop := GoodIn lw_all (ws_ y b L none) ∧ Cond.initialized y.cls ∈ lw_all ∧ Cond.methodLink own idx y ∈ lw_all ∧ Cond.instanceMethod y ∈ lw_all ∧ y.name = "<init>" ∧ y.cls ≠ "java/lang/invoke/MethodHandle" ∧ y.cls ≠ "java/lang/invoke/VarHandle" ∧ (parseMethodDescriptor y.desc).map (fun d => d.parameters.length) = some n
def YN (own : String) (idx : Nat) (y : MethodName) (b : ByteArray) (L : Nat) (r : Option FieldType) (n : Nat) : Prop := GoodIn lw_all (ws_ y b L r) ∧ Cond.initialized y.cls ∈ lw_all ∧ (∃ host : String, Cond.methodLinkNest own idx y host ∈ xW) ∧ y.cls ≠ "java/lang/invoke/MethodHandle" ∧ y.cls ≠ "java/lang/invoke/VarHandle" ∧ (parseMethodDescriptor y.desc).map (fun d => d.parameters.length) = some n
def nX : Nat → Nat → Mem → Prop := fun _ _ _ => False
section MH
variable {G : GX} {x : MX} {y : MethodName} {cc : ByteArray} {nL : Nat} {ret : Option FieldType} {rm : Room} {Q : State → Prop} {k n : Nat} {M : Mem} {pc : Nat} {L : LL} {st : List Value}
theorem Cx.nest (X : Cx G x y cc nL ret rm) {w : Cond} (hw : w ∈ xW) : va_Nw w x.s := X.hN.1.2.1 w hw
theorem m_getf (X : Cx G x y cc nL ret rm) {ci kf i a : Nat} {fs : List Value} {v : Value} (f : FG y.cls i ci kf) (hM : M a = some (.inr (ci, fs))) (hv : fs[kf]? = some v) (d : decode cc pc = .ok (.getfield i, 3)) (kk : WM G x nL Q k n M (pc + 3) L (v :: st)) : WM G x nL Q k n M pc L (.ref a :: st) := by
  intro H locs ls hP hS hl
  have k0 := kk H locs ls hP hS hl
  obtain ⟨ws, hP', hD, hm⟩ := hP
  obtain ⟨q0, hq⟩ := hm _ _ hM
  obtain ⟨C, T, N, ref, hcl, hk, hin, hlink, rfl⟩ := f
  rcases hlink with h | ⟨host, h⟩
  · exact va_get X.hx X.hb X.hts hin X.hown X.hK hP' q0 hq hcl kf hk (X.hts _ h) (fun _ h => h) hv d k0
  · exact va_getN X.hx X.hb X.hts hin X.hown X.hK hP' q0 hq hcl kf hk (X.word h) (fun _ h => h) hv d k0
theorem m_putf (X : Cx G x y cc nL ret rm) {ci kf i a : Nat} {fs : List Value} {v : Value} {ty : FieldType} {fin : Bool} (f : FP y.cls i ci kf ty fin) (hfi : fin = true → y.name = "<init>") (hM : M a = some (.inr (ci, fs))) (hn : narrow ty v = v) (hfit : fits ty v = true) (hlen : Nat.blt kf fs.length = true) (d : decode cc pc = .ok (.putfield i, 3)) (kk : WM G x nL Q k n (mup M a (.inr (ci, fs.set kf v))) (pc + 3) L st) : WM G x nL Q k n M pc L (v :: .ref a :: st) := by
  intro H locs ls hP hS hl
  obtain ⟨ws, hP', hD, hm⟩ := hP
  obtain ⟨q0, hq⟩ := hm _ _ hM
  obtain ⟨C, T, N, ref, ty0, hcl, hk, hin, hlink, rfl, hty, hnm, hfin, hdecl, hd⟩ := f
  have hlen' : kf < fs.length := by simpa using hlen
  cases fin with
  | false =>
    rcases hlink with h | ⟨-, host, h⟩
    · exact va_put X.hx X.hb X.hts hin ty0 hty hnm X.hown X.hK hP' hD hS q0 hq hcl kf hk (X.hts _ h) (fun _ h => h) hfin hd hn hfit hlen' d fun H1 locs1 h1 h2 h3 => kk H1 locs1 ls (PM.set hq hm h1 h2) h3 hl
    · exact va_putN X.hx X.hb X.hts hin ty0 hty hnm X.hown X.hK hP' hD hS q0 hq hcl kf hk (X.word h) (fun _ h => h) hfin hd hn hfit hlen' d fun H1 locs1 h1 h2 h3 => kk H1 locs1 ls (PM.set hq hm h1 h2) h3 hl
  | true =>
    rcases hlink with h | ⟨h, -⟩
    · exact va_putF X.hx X.hb X.hts hin ty0 hty hnm X.hown X.hK hP' hD hS q0 hq hcl kf hk (X.hts _ h) (fun _ h => h) hfin (X.hnm.trans (hfi rfl)) (hdecl rfl) hd hn hfit hlen' d fun H1 locs1 h1 h2 h3 => kk H1 locs1 ls (PM.set hq hm h1 h2) h3 hl
    · cases h
theorem m_iald (X : Cx G x y cc nL ret rm) {a N : Nat} {f : Nat → Int32} {i : Int32} (hM : M a = some (.inl (G.dA 0, N, .inl f))) (hin : vp_in i N) (d : decode cc pc = .ok (.iaload, 1)) (kk : WM G x nL Q k n M (pc + 1) L (.int (f i.toNatClampNeg) :: st)) : WM G x nL Q k n M pc L (.int i :: .ref a :: st) := by
  intro H locs ls hP hS hl
  have k0 := kk H locs ls hP hS hl
  obtain ⟨ws, hP', hD, hm⟩ := hP
  obtain ⟨q0, hq⟩ := hm _ _ hM
  exact va_iald X.hx X.hb X.hK hP' q0 0 hq rfl hin d k0
theorem m_bald (X : Cx G x y cc nL ret rm) {a N : Nat} {f : Nat → Int32} {i : Int32} (hM : M a = some (.inl (G.dA 1, N, .inl f))) (hin : vp_in i N) (d : decode cc pc = .ok (.baload, 1)) (kk : WM G x nL Q k n M (pc + 1) L (.int (f i.toNatClampNeg) :: st)) : WM G x nL Q k n M pc L (.int i :: .ref a :: st) := by
  intro H locs ls hP hS hl
  have k0 := kk H locs ls hP hS hl
  obtain ⟨ws, hP', hD, hm⟩ := hP
  obtain ⟨q0, hq⟩ := hm _ _ hM
  exact va_bald X.hx X.hb X.hK hP' q0 1 hq rfl hin d k0
theorem m_zald (X : Cx G x y cc nL ret rm) {a N : Nat} {f : Nat → Int32} {i : Int32} (hM : M a = some (.inl (G.dA 10, N, .inl f))) (hin : vp_in i N) (d : decode cc pc = .ok (.baload, 1)) (kk : WM G x nL Q k n M (pc + 1) L (.int (f i.toNatClampNeg) :: st)) : WM G x nL Q k n M pc L (.int i :: .ref a :: st) := by
  intro H locs ls hP hS hl
  have k0 := kk H locs ls hP hS hl
  obtain ⟨ws, hP', hD, hm⟩ := hP
  obtain ⟨q0, hq⟩ := hm _ _ hM
  exact va_zald X.hx X.hb X.hK hP' q0 10 hq rfl hin d k0
theorem m_lald (X : Cx G x y cc nL ret rm) {a N : Nat} {f : Nat → Int64} {i : Int32} (hM : M a = some (.inl (G.dA 2, N, .inr (.inl f)))) (hin : vp_in i N) (d : decode cc pc = .ok (.laload, 1)) (kk : WM G x nL Q k n M (pc + 1) L (.long (f i.toNatClampNeg) :: st)) : WM G x nL Q k n M pc L (.int i :: .ref a :: st) := by
  intro H locs ls hP hS hl
  have k0 := kk H locs ls hP hS hl
  obtain ⟨ws, hP', hD, hm⟩ := hP
  obtain ⟨q0, hq⟩ := hm _ _ hM
  exact va_lald X.hx X.hb X.hK hP' q0 2 hq rfl hin d k0
theorem m_dald (X : Cx G x y cc nL ret rm) {a N : Nat} {f : Nat → UInt64} {i : Int32} (hM : M a = some (.inl (G.dA 3, N, .inr (.inr (.inr (.inl f)))))) (hin : vp_in i N) (d : decode cc pc = .ok (.daload, 1)) (kk : WM G x nL Q k n M (pc + 1) L (.double (f i.toNatClampNeg) :: st)) : WM G x nL Q k n M pc L (.int i :: .ref a :: st) := by
  intro H locs ls hP hS hl
  have k0 := kk H locs ls hP hS hl
  obtain ⟨ws, hP', hD, hm⟩ := hP
  obtain ⟨q0, hq⟩ := hm _ _ hM
  exact va_dald X.hx X.hb X.hK hP' q0 3 hq rfl hin d k0
theorem m_iast (X : Cx G x y cc nL ret rm) {a N : Nat} {f : Nat → Int32} {i v : Int32} (hM : M a = some (.inl (G.dA 0, N, .inl f))) (hin : vp_in i N) (d : decode cc pc = .ok (.iastore, 1)) (kk : WM G x nL Q k n (mup M a (.inl (G.dA 0, N, .inl (upd f i.toNatClampNeg v)))) (pc + 1) L st) : WM G x nL Q k n M pc L (.int v :: .int i :: .ref a :: st) := by
  intro H locs ls hP hS hl
  obtain ⟨ws, hP', hD, hm⟩ := hP
  obtain ⟨q0, hq⟩ := hm _ _ hM
  exact va_iast X.hx X.hb X.hK hP' hD hS q0 0 hq rfl hin d fun H1 locs1 h1 h2 h3 => kk H1 locs1 ls (PM.set hq hm h1 h2) h3 hl
theorem m_bast (X : Cx G x y cc nL ret rm) {a N : Nat} {f : Nat → Int32} {i v : Int32} (hM : M a = some (.inl (G.dA 1, N, .inl f))) (hin : vp_in i N) (d : decode cc pc = .ok (.bastore, 1)) (kk : WM G x nL Q k n (mup M a (.inl (G.dA 1, N, .inl (upd f i.toNatClampNeg (vp_nar .byte v))))) (pc + 1) L st) : WM G x nL Q k n M pc L (.int v :: .int i :: .ref a :: st) := by
  intro H locs ls hP hS hl
  obtain ⟨ws, hP', hD, hm⟩ := hP
  obtain ⟨q0, hq⟩ := hm _ _ hM
  exact va_bast X.hx X.hb X.hK hP' hD hS q0 1 hq rfl hin d fun H1 locs1 h1 h2 h3 => kk H1 locs1 ls (PM.set hq hm h1 h2) h3 hl
theorem m_zast (X : Cx G x y cc nL ret rm) {a N : Nat} {f : Nat → Int32} {i v : Int32} (hM : M a = some (.inl (G.dA 10, N, .inl f))) (hin : vp_in i N) (d : decode cc pc = .ok (.bastore, 1)) (kk : WM G x nL Q k n (mup M a (.inl (G.dA 10, N, .inl (upd f i.toNatClampNeg (vp_nar .boolean v))))) (pc + 1) L st) : WM G x nL Q k n M pc L (.int v :: .int i :: .ref a :: st) := by
  intro H locs ls hP hS hl
  obtain ⟨ws, hP', hD, hm⟩ := hP
  obtain ⟨q0, hq⟩ := hm _ _ hM
  exact va_zast X.hx X.hb X.hK hP' hD hS q0 10 hq rfl hin d fun H1 locs1 h1 h2 h3 => kk H1 locs1 ls (PM.set hq hm h1 h2) h3 hl
theorem m_last (X : Cx G x y cc nL ret rm) {a N : Nat} {f : Nat → Int64} {i : Int32} {v : Int64} (hM : M a = some (.inl (G.dA 2, N, .inr (.inl f)))) (hin : vp_in i N) (d : decode cc pc = .ok (.lastore, 1)) (kk : WM G x nL Q k n (mup M a (.inl (G.dA 2, N, .inr (.inl (vp_updL f i.toNatClampNeg v))))) (pc + 1) L st) : WM G x nL Q k n M pc L (.long v :: .int i :: .ref a :: st) := by
  intro H locs ls hP hS hl
  obtain ⟨ws, hP', hD, hm⟩ := hP
  obtain ⟨q0, hq⟩ := hm _ _ hM
  exact va_last X.hx X.hb X.hK hP' hD hS q0 2 hq rfl hin d fun H1 locs1 h1 h2 h3 => kk H1 locs1 ls (PM.set hq hm h1 h2) h3 hl
theorem m_alen (X : Cx G x y cc nL ret rm) {a t : Nat} {u : vp_A} {ty : FieldType} (hM : M a = some (.inl (G.dA t, u))) (ht : (tysG G.dA)[t]? = some (G.dA t, ty)) (d : decode cc pc = .ok (.arraylength, 1)) (kk : WM G x nL Q k n M (pc + 1) L (.int (nI u.1) :: st)) : WM G x nL Q k n M pc L (.ref a :: st) := by
  intro H locs ls hP hS hl
  have k0 := kk H locs ls hP hS hl
  obtain ⟨ws, hP', hD, hm⟩ := hP
  obtain ⟨q0, hq⟩ := hm _ _ hM
  exact va_alen X.hx X.hb X.hK hP' q0 t hq ht rfl d k0
/-- an array class is known by its name -/
theorem dA_eq {s : State} (hK : va_K G.D clG (tysG G.dA) s) {t : Nat} {ty : FieldType} (ht : (tysG G.dA)[t]? = some (G.dA t, ty)) {c : ClassId} (hc : s.vm.findClass ("[" ++ ty.toString) = some c) : c = G.dA t := by
  have h := (hK.2 t _ ht).2
  cases ty with
  | object C =>
    obtain ⟨kA, comp, h1, h2, h3, h4⟩ := h
    exact Option.some.inj (hc.symm.trans h4)
  | _ => exact Option.some.inj (hc.symm.trans h)
theorem m_newa (X : Cx G x y cc nL ret rm) {t : Nat} {atype : ArrayType} {ty : FieldType} (w : Cond.arrayClass (newarray.typeOf atype) ∈ lw_all) (hty : newarray.typeOf atype = ty) (ht : (tysG G.dA)[t]? = some (G.dA t, ty)) {i : Int32} {N : Nat} {a0 : vp_A} (ha : ∀ cA : ClassId, vp_cell cA a0 = arrV cA N (fun _ => defaultValue ty)) (hn : ¬ i < 0) (hN : i.toNatClampNeg = N) (hbytes : N * componentBytes ty ≤ 536870912) (hcells : k + 1 ≤ rm.cells) (hslots : n + N ≤ rm.slots) (d : decode cc pc = .ok (.newarray atype, 2))
    (kk : ∀ q : Nat, M q = none → WM G x nL Q (k + 1) (n + N) (mup M q (.inl (G.dA t, a0))) (pc + 2) L (.ref q :: st)) : WM G x nL Q k n M pc L (.int i :: st) := by
  intro H locs ls hP hS hl
  obtain ⟨ws, hP', hD, hm⟩ := hP
  refine va_newa X.hx X.hb (X.hts _ w) hty X.hK hP' hD hS X.hA ha hn hN hbytes (by rw [X.hR]; exact hcells) (by rw [X.hR]; exact hslots) d fun q cA H1 h0 h1 h2 h3 => ?_
  have e : cA = G.dA t := by
    have h9 := (h0.2 (tysG G.dA).length (cA, ty) (by simp)).2
    cases ty with
    | object C =>
      obtain ⟨kA, comp, z1, z2, z3, z4⟩ := h9
      exact dA_eq X.hK ht z4
    | _ => exact dA_eq X.hK ht h9
  subst e
  obtain ⟨p1, p2⟩ := PM.push hm h1 h2
  exact kk q p2 H1 locs ls p1 h3 hl
theorem m_newq (X : Cx G x y cc nL ret rm) {t idx : Nat} {C : String} (w : Cond.classLink y.cls idx C ∈ lw_all) (hC : C ∈ [RX2, RX4, RX6, RX7, RX1]) (ht : (tysG G.dA)[t]? = some (G.dA t, .object C)) {i : Int32} {N : Nat} (hn : ¬ i < 0) (hN : i.toNatClampNeg = N) (hbytes : N * 4 ≤ 536870912) (hcells : k + 1 ≤ rm.cells) (hslots : n + N ≤ rm.slots) (d : decode cc pc = .ok (.anewarray idx, 3))
    (kk : ∀ q : Nat, M q = none → WM G x nL Q (k + 1) (n + N) (mup M q (.inl (G.dA t, N, .inr (.inr (.inr (.inr fun _ => none)))))) (pc + 3) L (.ref q :: st)) : WM G x nL Q k n M pc L (.int i :: st) := by
  intro H locs ls hP hS hl
  obtain ⟨ws, hP', hD, hm⟩ := hP
  refine va_newq X.hx X.hb X.hown (X.hts _ w) (X.hN.1.2.2.1 C hC) X.hK hP' hD hS X.hA hn hN hbytes (by rw [X.hR]; exact hcells) (by rw [X.hR]; exact hslots) d fun q cA H1 h0 h1 h2 h3 => ?_
  have e : cA = G.dA t := by
    obtain ⟨kA, comp, z1, z2, z3, z4⟩ := (h0.2 (tysG G.dA).length (cA, .object C) (by simp)).2
    exact dA_eq X.hK ht z4
  subst e
  obtain ⟨p1, p2⟩ := PM.push hm h1 h2
  exact kk q p2 H1 locs ls p1 h3 hl
theorem m_new (X : Cx G x y cc nL ret rm) {ci idx : Nat} {C : String} {T : u_T} {N : Nat} (ty0 : Nat → FieldType) (hcl : clG[ci]? = some (C, T, N)) (hin : ∀ w ∈ u_ws C T N, w ∈ lw_all) (hty : ∀ j, j < N → parseFieldDescriptor (T j).2.2.1 = some (ty0 j)) (w1 : Cond.classLink y.cls idx C ∈ lw_all) (w2 : Cond.instantiable C N ∈ lw_all) (w3 : Cond.initialized C ∈ lw_all) {fs : List Value} (hfs : (List.range N).all (fun j => decide (defaultValue (ty0 j) = vp_V fs j)) = true) (hcells : k + 1 ≤ rm.cells) (hslots : n + N ≤ rm.slots) (d : decode cc pc = .ok (.new idx, 3))
    (kk : ∀ q : Nat, M q = none → WM G x nL Q (k + 1) (n + N) (mup M q (.inr (ci, fs))) (pc + 3) L (.ref q :: st)) : WM G x nL Q k n M pc L st := by
  intro H locs ls hP hS hl
  obtain ⟨ws, hP', hD, hm⟩ := hP
  refine va_new X.hx X.hb X.hts hin ty0 hty X.hown (X.hts _ w1) (X.hts _ w2) (X.hts _ w3) X.hK hP' hD hS X.hA hcl (fun j hj => by
    have := List.all_eq_true.mp hfs j (List.mem_range.mpr hj)
    exact of_decide_eq_true this) (by rw [X.hR]; exact hcells) (by rw [X.hR]; exact hslots) d fun q H1 h1 h2 h3 => ?_
  obtain ⟨p1, p2⟩ := PM.push hm h1 h2
  exact kk q p2 H1 locs ls p1 h3 hl
theorem m_objInit (X : Cx G x y cc nL ret rm) {idx a : Nat} (w1 : Cond.methodLink y.cls idx Lib.objectInit ∈ lw_all) (w2 : Cond.instanceMethod Lib.objectInit ∈ lw_all) (w3 : Cond.code Lib.objectInit ⟨#[0xb1]⟩ 1 none ∈ lw_all) (d : decode cc pc = .ok (.invokespecial idx, 3)) (hf : 1 ≤ rm.frames) (hlo : (st.map fun v => v.category).sum + 12 ≤ rm.locals) (kk : WM G x nL Q k n M (pc + 3) L st) : WM G x nL Q k n M pc L (.ref a :: st) := by
  intro H locs ls hP hS hl
  refine W.objInit X.hx X.hb X.hown (X.hts _ w1) (X.hts _ w2) (X.hts _ w3) rfl (by rw [X.hml]; exact hl.1) rfl d (by rw [X.hR]; exact hf) ?_ ?_
  · rw [X.hR]
    show 2 * 0 + (st.map fun v => v.category).sum + 12 ≤ rm.locals
    omega
  · exact kk H locs ls hP hS hl
/-! calls -/
theorem m_run {st0 : List Value} {mc ms : Nat} {post : Option Value → Mem → Prop} {px : Nat → Nat → Mem → Prop} {aa : Array Value}
    (hr : ∀ (H : Heap) (locs : List Loc) (ls : Array Slot), PM G M H → va_S G.A x.s.heap H locs → lw_has ls nL L → vx_Run x.p G.l x.e x.R x.s x.m x.args x.below x.meth x.c H locs k n mc ms (F0 x.m pc ls st0) st (QcG G post aa) (XcG G px) G.A)
    (kk : ∀ (v : Option Value) (M' : Mem), post v M' → WM G x nL Q (k + mc) (n + ms) M' (pc + 3) L (v.toList ++ st))
    (kx : ∀ (e q : Nat) (M' : Mem), isExc e q M' → px e q M' → WXM G x nL Q (k + mc) (n + ms) M' pc L st q) : WM G x nL Q k n M pc L st0 := by
  intro H locs ls hP hS hl T hT X
  rcases hr H locs ls hP hS hl T hT X with ⟨v, st₀, t, T', L', h0, X', hL, e1, e2, ⟨v', M', hv, hp, hPM, hF⟩, st⟩ | ⟨q, st₀, t, T', L', E, ce, h0, X', hL, e1, e2, ⟨ek, M', rfl, hx, hp, hPM, hF⟩, hce, hcv, hcl, st⟩
  · cases hv
    obtain ⟨k1, k2, k3⟩ := vx_keep h0 e1 hS (fun _ _ h => h) (fun _ h => h) hL hF
    obtain ⟨t2, a1, b1⟩ := kk v M' hp T'.heap (locs ++ L') ls (by rw [e1]; exact hPM) k3 hl T' rfl X'
    exact ⟨t2, st t2 a1, b1⟩
  · obtain ⟨k1, k2, k3⟩ := vx_keep h0 e1 hS (fun _ _ h => h) (fun _ h => h) hL hF
    obtain ⟨t2, a1, b1⟩ := kx ek q M' hx hp T'.heap (locs ++ L') ls (by rw [e1]; exact hPM) k3 hl T' rfl X'
    exact ⟨t2, st.trans a1, b1⟩
theorem blindC {as : List Value} : FrameBlind (va_Pc as (fun U => PM G M U.heap ∧ KN G U)) := fun _ _ _ _ q => ⟨q.1, q.2.1, q.2.2.calling⟩
theorem Cx.fix (X : Cx G x y cc nL ret rm) : CallFix x.p x.m x.c cc nL x.s x.args lw_all y.cls := ⟨X.hx, X.hb, X.hml, X.hown, X.hts⟩
theorem Cx.preS (X : Cx G x y cc nL ret rm) {H : Heap} {locs : List Loc} (hP : PM G M H) (hS : va_S G.A x.s.heap H locs) {as : List Value} : PreS x.s H (va_Pc as (fun U => PM G M U.heap ∧ KN G U)) as := ⟨blindC, fun U hU hW => ⟨rfl, by rw [hU]; exact hP, X.hN.go hS hU hW⟩⟩
theorem Cx.preV (X : Cx G x y cc nL ret rm) {H : Heap} {locs : List Loc} (hP : PM G M H) (hS : va_S G.A x.s.heap H locs) {a ci : Nat} {fs : List Value} {C : String} {T : u_T} {N : Nat} (hM : M a = some (.inr (ci, fs))) (hcl : clG[ci]? = some (C, T, N)) {as : List Value} : PreV x.s H C a (va_Pc (.ref a :: as) (fun U => PM G M U.heap ∧ KN G U)) as := by
  refine ⟨blindC, ?_, fun U hU hW => ⟨rfl, by rw [hU]; exact hP, X.hN.go hS hU hW⟩⟩
  obtain ⟨ws, hP', hD, hm⟩ := hP
  obtain ⟨q0, hq⟩ := hm _ _ hM
  exact va_recv X.hK hP' hcl hq
section CALLS
variable {y' : MethodName} {b' : ByteArray} {L' nn idx : Nat} {r' : Option FieldType} {hh : List (Nat × Nat × Nat × Nat)} {rm' : Room} {as : List Value} {post : Option Value → Mem → Prop} {px : Nat → Nat → Mem → Prop}
/-- the room of a call -/
def Fit (rm rm' : Room) (L' k n : Nat) : Prop := rm'.frames + 1 ≤ rm.frames ∧ 8 + (L' + 11) + rm'.locals ≤ rm.locals ∧ k + rm'.cells ≤ rm.cells ∧ n + rm'.slots ≤ rm.slots
theorem m_callV (X : Cx G x y cc nL ret rm) {a ci : Nat} {fs : List Value} {C : String} {T : u_T} {N : Nat} (f : YV y.cls idx C y' b' L' r' nn) (hC : Con G y' (ws_ y' b' L' r') rm' (.ref a :: as) M post px) (hM : M a = some (.inr (ci, fs))) (hcl : clG[ci]? = some (C, T, N)) (hn : as.length = nn) {st0 : List Value} (hst : st0 = as.reverse ++ .ref a :: st) (hW : (st.map fun v => v.category).sum ≤ 8) (d : decode cc pc = .ok (.invokevirtual idx, 3)) (hR : Fit rm rm' L' k n)
    (kk : ∀ (v : Option Value) (M' : Mem), post v M' → WM G x nL Q (k + rm'.cells) (n + rm'.slots) M' (pc + 3) L (v.toList ++ st))
    (kx : ∀ (e q : Nat) (M' : Mem), isExc e q M' → px e q M' → WXM G x nL Q (k + rm'.cells) (n + rm'.slots) M' pc L st q) : WM G x nL Q k n M pc L st0 := by
  subst hst
  exact m_run (fun H locs ls hP hS hl => vx_runV X.fix hC (cwV nn X.hts f.1 rfl rfl rfl f.2 (by rw [X.hR]; exact ⟨hR.1, hR.2.1⟩)) (X.preV hP hS hM hcl) rfl hn hl.1 rfl (lv_room hW) d (by rw [X.hR]; exact ⟨hR.2.2.1, hR.2.2.2⟩)) kk kx
theorem m_callVW (X : Cx G x y cc nL ret rm) {a ci : Nat} {fs : List Value} {C : String} {T : u_T} {N : Nat} (f : YVW y.cls idx C y' b' L' r' hh nn) (hC : Con G y' (wsW_ y' b' L' r' hh) rm' (.ref a :: as) M post px) (hM : M a = some (.inr (ci, fs))) (hcl : clG[ci]? = some (C, T, N)) (hn : as.length = nn) {st0 : List Value} (hst : st0 = as.reverse ++ .ref a :: st) (hW : (st.map fun v => v.category).sum ≤ 8) (d : decode cc pc = .ok (.invokevirtual idx, 3)) (hR : Fit rm rm' L' k n)
    (kk : ∀ (v : Option Value) (M' : Mem), post v M' → WM G x nL Q (k + rm'.cells) (n + rm'.slots) M' (pc + 3) L (v.toList ++ st))
    (kx : ∀ (e q : Nat) (M' : Mem), isExc e q M' → px e q M' → WXM G x nL Q (k + rm'.cells) (n + rm'.slots) M' pc L st q) : WM G x nL Q k n M pc L st0 := by
  subst hst
  exact m_run (fun H locs ls hP hS hl => vx_runVX X.fix hC (vx_cwVW nn X.hts f.1 rfl rfl rfl f.2 (by rw [X.hR]; exact ⟨hR.1, hR.2.1⟩)) (X.preV hP hS hM hcl) rfl hn hl.1 rfl (lv_room hW) d (by rw [X.hR]; exact ⟨hR.2.2.1, hR.2.2.2⟩)) kk kx
theorem m_callS (X : Cx G x y cc nL ret rm) (f : YS y.cls idx y' b' L' r' nn) (hC : Con G y' (ws_ y' b' L' r') rm' as M post px) (hn : as.length = nn) {st0 : List Value} (hst : st0 = as.reverse ++ st) (hW : (st.map fun v => v.category).sum ≤ 8) (d : decode cc pc = .ok (.invokestatic idx, 3)) (hR : Fit rm rm' L' k n)
    (kk : ∀ (v : Option Value) (M' : Mem), post v M' → WM G x nL Q (k + rm'.cells) (n + rm'.slots) M' (pc + 3) L (v.toList ++ st))
    (kx : ∀ (e q : Nat) (M' : Mem), isExc e q M' → px e q M' → WXM G x nL Q (k + rm'.cells) (n + rm'.slots) M' pc L st q) : WM G x nL Q k n M pc L st0 := by
  subst hst
  exact m_run (fun H locs ls hP hS hl => vx_runS X.fix hC (va_cwS nn X.hts f.1 rfl rfl rfl f.2 (by rw [X.hR]; exact ⟨hR.1, hR.2.1⟩)) (X.preS hP hS) rfl hn hl.1 rfl (lv_room hW) d (by rw [X.hR]; exact ⟨hR.2.2.1, hR.2.2.2⟩)) kk kx
theorem m_callI (X : Cx G x y cc nL ret rm) {a : Nat} (f : YI y.cls idx y' b' L' nn) (hC : Con G y' (ws_ y' b' L' none) rm' (.ref a :: as) M post px) (hn : as.length = nn) {st0 : List Value} (hst : st0 = as.reverse ++ .ref a :: st) (hW : (st.map fun v => v.category).sum ≤ 8) (d : decode cc pc = .ok (.invokespecial idx, 3)) (hR : Fit rm rm' L' k n)
    (kk : ∀ (v : Option Value) (M' : Mem), post v M' → WM G x nL Q (k + rm'.cells) (n + rm'.slots) M' (pc + 3) L (v.toList ++ st))
    (kx : ∀ (e q : Nat) (M' : Mem), isExc e q M' → px e q M' → WXM G x nL Q (k + rm'.cells) (n + rm'.slots) M' pc L st q) : WM G x nL Q k n M pc L st0 := by
  subst hst
  obtain ⟨f1, f2, f3, f4, f5, f6⟩ := f
  exact m_run (fun H locs ls hP hS hl => vx_runI X.fix hC (cwI nn X.hts f1 rfl rfl rfl (X.hts _ f2) (X.hts _ f3) (X.hts _ f4) f5 f6 (by rw [X.hR]; exact ⟨hR.1, hR.2.1⟩)) (X.preS hP hS) rfl hn hl.1 rfl (lv_room hW) d (by rw [X.hR]; exact ⟨hR.2.2.1, hR.2.2.2⟩)) kk kx
theorem m_callVN (X : Cx G x y cc nL ret rm) {a ci : Nat} {fs : List Value} {C : String} {T : u_T} {N : Nat} (f : YN y.cls idx y' b' L' r' nn) (w1 : Cond.instanceMethod y' ∈ lw_all) (w2 : Cond.selects C y' y' ∈ lw_all) (hC : Con G y' (ws_ y' b' L' r') rm' (.ref a :: as) M post px) (hM : M a = some (.inr (ci, fs))) (hcl : clG[ci]? = some (C, T, N)) (hn : as.length = nn) {st0 : List Value} (hst : st0 = as.reverse ++ .ref a :: st) (hW : (st.map fun v => v.category).sum ≤ 8) (d : decode cc pc = .ok (.invokevirtual idx, 3)) (hR : Fit rm rm' L' k n)
    (kk : ∀ (v : Option Value) (M' : Mem), post v M' → WM G x nL Q (k + rm'.cells) (n + rm'.slots) M' (pc + 3) L (v.toList ++ st))
    (kx : ∀ (e q : Nat) (M' : Mem), isExc e q M' → px e q M' → WXM G x nL Q (k + rm'.cells) (n + rm'.slots) M' pc L st q) : WM G x nL Q k n M pc L st0 := by
  subst hst
  obtain ⟨f1, f2, ⟨host, f3⟩, f6⟩ := f
  exact m_run (fun H locs ls hP hS hl => vx_runVN X.fix hC ⟨va_cnB nn X.hts f1 rfl rfl rfl (X.nest f3) (X.hts _ f2) f6 (by rw [X.hR]; exact ⟨hR.1, hR.2.1⟩), X.hts _ w1, X.hts _ w2⟩ (X.preV hP hS hM hcl) rfl hn hl.1 rfl (lv_room hW) d (by rw [X.hR]; exact ⟨hR.2.2.1, hR.2.2.2⟩)) kk kx
theorem m_callSN (X : Cx G x y cc nL ret rm) (f : YN y.cls idx y' b' L' r' nn) (w1 : Cond.static y' ∈ lw_all) (hC : Con G y' (ws_ y' b' L' r') rm' as M post px) (hn : as.length = nn) {st0 : List Value} (hst : st0 = as.reverse ++ st) (hW : (st.map fun v => v.category).sum ≤ 8) (d : decode cc pc = .ok (.invokestatic idx, 3)) (hR : Fit rm rm' L' k n)
    (kk : ∀ (v : Option Value) (M' : Mem), post v M' → WM G x nL Q (k + rm'.cells) (n + rm'.slots) M' (pc + 3) L (v.toList ++ st))
    (kx : ∀ (e q : Nat) (M' : Mem), isExc e q M' → px e q M' → WXM G x nL Q (k + rm'.cells) (n + rm'.slots) M' pc L st q) : WM G x nL Q k n M pc L st0 := by
  subst hst
  obtain ⟨f1, f2, ⟨host, f3⟩, f6⟩ := f
  exact m_run (fun H locs ls hP hS hl => vx_runSN X.fix hC ⟨va_cnB nn X.hts f1 rfl rfl rfl (X.nest f3) (X.hts _ f2) f6 (by rw [X.hR]; exact ⟨hR.1, hR.2.1⟩), X.hts _ w1, trivial⟩ (X.preS hP hS) rfl hn hl.1 rfl (lv_room hW) d (by rw [X.hR]; exact ⟨hR.2.2.1, hR.2.2.2⟩)) kk kx
theorem m_callIN (X : Cx G x y cc nL ret rm) {a : Nat} (f : YN y.cls idx y' b' L' none nn) (w1 : Cond.instanceMethod y' ∈ lw_all) (hi : y'.name = "<init>") (hC : Con G y' (ws_ y' b' L' none) rm' (.ref a :: as) M post px) (hn : as.length = nn) {st0 : List Value} (hst : st0 = as.reverse ++ .ref a :: st) (hW : (st.map fun v => v.category).sum ≤ 8) (d : decode cc pc = .ok (.invokespecial idx, 3)) (hR : Fit rm rm' L' k n)
    (kk : ∀ (v : Option Value) (M' : Mem), post v M' → WM G x nL Q (k + rm'.cells) (n + rm'.slots) M' (pc + 3) L (v.toList ++ st))
    (kx : ∀ (e q : Nat) (M' : Mem), isExc e q M' → px e q M' → WXM G x nL Q (k + rm'.cells) (n + rm'.slots) M' pc L st q) : WM G x nL Q k n M pc L st0 := by
  subst hst
  obtain ⟨f1, f2, ⟨host, f3⟩, f6⟩ := f
  exact m_run (fun H locs ls hP hS hl => vx_runIN X.fix hC ⟨va_cnB nn X.hts f1 rfl rfl rfl (X.nest f3) (X.hts _ f2) f6 (by rw [X.hR]; exact ⟨hR.1, hR.2.1⟩), hi, X.hts _ w1⟩ (X.preS hP hS) rfl hn hl.1 rfl (lv_room hW) d (by rw [X.hR]; exact ⟨hR.2.2.1, hR.2.2.2⟩)) kk kx
end CALLS
end MH
