/-! AN ACT'S QUESTIONS in the model (printed by wip/D-80403w/tools/m45.py) -/
set_option maxRecDepth 100000
/-- the state at hand; what has come out, by ways -/
abbrev QS : Type := (Nat → Int32) × (Nat → Nat → Int32)
def qOr (q : QS) (f : Nat) (w : Nat → Int32) : QS := (q.1, fun g u => if g = f then q.2 g u ||| w u else q.2 g u)
def qSet (q : QS) (s : Nat) (v : Int32) : QS := (upd q.1 s v, q.2)
def qIs (s : Nat) (q : QS) : Bool := decide (q.1 s ≠ 0)
def qAsB (q : QS) (s : Nat) (k : Int32) : Int32 := (q.1 s &&& (maskI k ^^^ (-1))) &&& (-2)
def qAs (s : Nat) (k : Int32) (q : QS) : QS := qSet (if qAsB q s k = 0 then q else qOr q 2 (upd q.1 s (qAsB q s k))) s (q.1 s &&& (maskI k ||| 1))
def qRow (s : Nat) (q : QS) : QS := qSet (if q.1 s &&& 1 = 1 then qOr q 1 (upd q.1 s 1) else q) s (q.1 s &&& (-2))
def qRT (s : Nat) (k : Int32) (q : QS) : Bool × QS := if qIs s (qAs s k q) = true then (qIs s (qRow s (qAs s k q)), qRow s (qAs s k q)) else (false, qAs s k q)
def qItem (s : Nat) (k : Int32) (q : QS) : Bool × QS := if (qRT s k q).1 = true then (true, qOr (qRT s k q).2 3 (qRT s k q).2.1) else (false, (qRT s k q).2)
def qNew (small : Bool) (s : Nat) (v : Int32) (q : QS) : Bool × QS := if small = true then (false, qOr q 4 q.1) else (true, qSet (qOr q 8 q.1) s v)
def elI (k : Int32) : Int32 := if k = 5 then 1 else if k = 6 then 8 else 9
def bq (v j : Int32) : Bool := decide ((v >>> (j &&& 31)) &&& 1 = 1)
def qStV (v : Int32) (c : Int32) (w m u : Int32) : Int32 := if v = c then w &&& m else u
def qSt1 (a d : Nat) (q : QS) : QS := qSet (qOr q 5 q.1) a (qStV (q.1 d) 256 (q.1 a) (-129) (q.1 a))
def qSto (a d : Nat) (q : QS) : QS := if bq (q.1 a) 7 = true ∧ bq (q.1 d) 8 = true then qSet (qSt1 a d q) d (qStV (q.1 a) 128 (q.1 d) (-257) ((qSt1 a d q).1 d)) else q
def qLay3 (a : Nat) (k : Int32) (d : Nat) (q : QS) : Bool × QS := if qIs a (qAs a k q) = true then (if qIs d (qAs d (elI k) (qAs a k q)) = true then (qIs a (qRow a (qAs d (elI k) (qAs a k q))), qRow a (qAs d (elI k) (qAs a k q))) else (false, qAs d (elI k) (qAs a k q))) else (false, qAs a k q)
def qLay (a : Nat) (k : Int32) (d : Nat) (q : QS) : Bool × QS := if (qLay3 a k d q).1 = true then (qIs a (qSto a d (qOr (qLay3 a k d q).2 3 (qLay3 a k d q).2.1)) && qIs d (qSto a d (qOr (qLay3 a k d q).2 3 (qLay3 a k d q).2.1)), qSto a d (qOr (qLay3 a k d q).2 3 (qLay3 a k d q).2.1)) else (false, (qLay3 a k d q).2)
def qTake (a b : Nat) (k : Int32) (q : QS) : Bool × QS := if (qItem b k q).1 = true then (true, qSet (qItem b k q).2 a (if k = 5 then 3 else 513 ||| (if bq ((qItem b k q).2.1 b) 6 = true then 256 else 0))) else qItem b k q
def partK (j k : Nat) : Bool := (j == 5 && (k == 6 || k == 7)) || ((j == 6 || j == 7) && k == 5) || (j == 6 && k == 7)
abbrev CP : Type := Bool × Int32 × Int32
def cpStep (x y : Int32) (j k : Nat) (p : CP) : CP := if bq x (nI j) = true ∧ bq y (nI k) = true then (p.1 || (!meetK j k || partK j k), p.2.1 ||| (if meetK j k = true then (1 : Int32) <<< (nI j &&& 31) else 0), p.2.2 ||| (if meetK j k = true then (1 : Int32) <<< (nI k &&& 31) else 0)) else p
def cpIn (x y : Int32) (j : Nat) (p : CP) : Nat → CP
  | 0 => p
  | k + 1 => cpStep x y j (k + 1) (cpIn x y j p k)
def cpOut (x y : Int32) : Nat → CP
  | 0 => (false, 0, 0)
  | j + 1 => cpIn x y (j + 1) (cpOut x y j) 9
def qCp0 (a c : Nat) (q : QS) : QS := if (q.1 a ||| q.1 c) &&& 1 = 1 then qOr q 1 q.1 else q
def qCp1 (a c : Nat) (q : QS) : QS := qSet (qSet (qCp0 a c q) a ((qCp0 a c q).1 a &&& (-2))) c ((qSet (qCp0 a c q) a ((qCp0 a c q).1 a &&& (-2))).1 c &&& (-2))
def qCp2 (a c : Nat) (p : CP) (q : QS) : Bool × QS := if p.2.1 = 0 then (false, qSet (qSet (if p.1 = true then qOr q 5 q.1 else q) a p.2.1) c p.2.2) else (true, qOr (qSet (qSet (if p.1 = true then qOr q 5 q.1 else q) a p.2.1) c p.2.2) 3 (qSet (qSet (if p.1 = true then qOr q 5 q.1 else q) a p.2.1) c p.2.2).1)
def qCopy (a c : Nat) (q : QS) : Bool × QS := if (qCp1 a c q).1 a = 0 ∨ (qCp1 a c q).1 c = 0 then (false, qCp1 a c q) else qCp2 a c (cpOut ((qCp1 a c q).1 a) ((qCp1 a c q).1 c) 9) (qCp1 a c q)
/-- an act's questions: whether it may end, with what state, and how it may fail -/
def qAct (op : Nat) (a b c d : Int32) (q : QS) : Bool × QS := match op with
  | 0 => qNew (decide (c < 0)) (tn a) ((1 : Int32) <<< (b &&& 31)) q
  | 1 => qNew (decide (b < 0) || decide (c < 0)) (tn a) 32 q
  | 2 => qNew (decide (b < 0)) (tn a) 32 q
  | 3 => qNew false (tn a) (if b = 0 then 256 else 512) q
  | 4 => if c = 0 then (true, qSet q (tn a) (q.1 (tn b))) else (qIs (tn b) (qAs (tn b) c q), qSet (qAs (tn b) c q) (tn a) ((qAs (tn b) c q).1 (tn b)))
  | 5 => qItem (tn b) c q
  | 6 => qItem (tn a) b q
  | 7 => qTake (tn a) (tn b) c q
  | 8 => qLay (tn a) b (tn d) q
  | 9 => qRT (tn b) c q
  | 10 => if (qRT (tn b) 1 q).1 = true then qNew false (tn a) 2 (qRT (tn b) 1 q).2 else qRT (tn b) 1 q
  | 11 => qRT (tn b) 8 q
  | 12 => qCopy (tn a) (tn c) q
  | 13 => (true, q)
  | 14 => (true, q)
  | 15 => (true, qOr q 6 q.1)
  | 16 => (true, qOr q 6 q.1)
  | _ => (false, qOr q 7 q.1)
/-- the model's store holds the state at hand and what came out at the depth e -/
def QR (e : Nat) (A : Nat → Nat → Int32) (q : QS) : Prop := (∀ s, s < 12 → A 39 s = q.1 s) ∧ ∀ f s, f < 9 → s < 12 → A 36 (108 * e + 12 * f + s) = q.2 f s
def KQ (e : Nat) (A A' : Nat → Nat → Int32) : Prop := (∀ k, k ≠ 36 → k ≠ 39 → A' k = A k) ∧ ∀ l, (l < 108 * e ∨ 108 * e + 108 ≤ l) → A' 36 l = A 36 l
theorem KQ.rf {e : Nat} {A : Nat → Nat → Int32} : KQ e A A := ⟨fun _ _ _ => rfl, fun _ _ => rfl⟩
def pQ (G : GX) (h : Nat) (ad : Nat → Nat) (F : Nat → Int32) (A0 : Nat → Nat → Int32) (B : Nat → Nat → Int64) (e : Nat) (r : Option Value) (q : QS) : Option Value → Mem → Prop := fun v M' => v = r ∧ ∃ A : Nat → Nat → Int32, MRep G h ad F A B M' ∧ QR e A q ∧ KQ e A0 A
section QQ
variable {e : Nat} {A A0 : Nat → Nat → Int32} {q : QS}
theorem QR.now (hQ : QR e A q) {s : Nat} (hs : s < 12) : A 39 (nI s).toNatClampNeg = q.1 s := by rw [nI_clamp (by omega)]; exact hQ.1 s hs
theorem QR.set (hQ : QR e A q) {s : Nat} {v : Int32} (hs : s < 12) : QR e (aset A 39 (nI s).toNatClampNeg v) (qSet q s v) := by
  rw [nI_clamp (by omega)]
  refine ⟨fun t ht => ?_, fun f t hf ht => ?_⟩
  · rw [aset_k]
    show upd (A 39) s v t = upd q.1 s v t
    unfold upd
    split
    · rfl
    · exact hQ.1 t ht
  · rw [aset_n (by decide)]
    exact hQ.2 f t hf ht
theorem KQ.set (hK : KQ e A0 A) {i : Nat} {v : Int32} : KQ e A0 (aset A 39 i v) := ⟨fun k a b => (aset_n b).trans (hK.1 k a b), fun l hl => by rw [aset_n (by decide)]; exact hK.2 l hl⟩
theorem QR.join (hQ : QR e A q) {f : Nat} : QR e (joinA A 39 0 36 (108 * e + 12 * f) 12) (qOr q f q.1) := by
  refine ⟨fun t ht => ?_, fun g t hg ht => ?_⟩
  · unfold joinA
    rw [if_neg (fun z => absurd z.1 (by decide))]
    exact hQ.1 t ht
  · unfold joinA qOr
    dsimp only
    by_cases h : g = f
    · subst h
      rw [if_pos ⟨rfl, by omega, by omega⟩, if_pos rfl, hQ.2 g t hg ht, show 0 + (108 * e + 12 * g + t - (108 * e + 12 * g)) = t by omega, hQ.1 t ht]
    · rw [if_neg (fun z => h (by omega)), if_neg h]
      exact hQ.2 g t hg ht
theorem KQ.join (hK : KQ e A0 A) {f : Nat} (hf : f < 9) : KQ e A0 (joinA A 39 0 36 (108 * e + 12 * f) 12) := by
  refine ⟨fun k a b => ?_, fun l hl => ?_⟩
  · funext l
    unfold joinA
    rw [if_neg (fun z => a z.1)]
    exact congrFun (hK.1 k a b) l
  · unfold joinA
    rw [if_neg (by omega)]
    exact hK.2 l hl
theorem qOr_back {s f : Nat} {v : Int32} : qSet (qOr (qSet q s v) f (qSet q s v).1) s (q.1 s) = qOr q f (upd q.1 s v) := by
  unfold qSet qOr
  refine Prod.ext ?_ rfl
  funext t
  show upd (upd q.1 s v) s (q.1 s) t = q.1 t
  unfold upd
  split
  · next h => rw [h]
  · rfl
theorem bI1 {p : Prop} [Decidable p] (h : p) : some (Value.int 1) = some (Value.int (bI (decide p))) := by rw [decide_eq_true h]; rfl
theorem bI0 {p : Prop} [Decidable p] (h : ¬ p) : some (Value.int 0) = some (Value.int (bI (decide p))) := by rw [decide_eq_false h]; rfl
theorem qIs1 {s : Nat} (h : ¬ q.1 s = 0) : some (Value.int 1) = some (Value.int (bI (qIs s q))) := bI1 h
theorem qIs0 {s : Nat} (h : q.1 s = 0) : some (Value.int 0) = some (Value.int (bI (qIs s q))) := bI0 (fun z => z h)
end QQ
theorem s_now {G : GX} {x : MX} {y : MethodName} {cc : ByteArray} {nL : Nat} {ret : Option FieldType} {rm : Room} {Q : State → Prop} {k n : Nat} {M : Mem} {pc : Nat} {L : LL} {st : List Value} {h : Nat} {ad : Nat → Nat} {F : Nat → Int32} {A A0 : Nat → Nat → Int32} {B : Nat → Nat → Int64} {q : QS} {e s : Nat} {v : Int32}
    (X : Cx G x y cc nL ret rm) (hM : MRep G h ad F A B M) (hQ : QR e A q) (hK : KQ e A0 A) (hs : s < 12) (d : decode cc pc = .ok (.iastore, 1)) (kk : ∀ (A' : Nat → Nat → Int32) (M' : Mem), MRep G h ad F A' B M' → QR e A' (qSet q s v) → KQ e A0 A' → WM G x nL Q k n M' (pc + 1) L st) : WM G x nL Q k n M pc L (.int v :: .int (nI s) :: .ref (ad 39) :: st) :=
  s_iast X hM rfl rfl (tin (by simp only [alen]; omega) rfl) d fun M' hM' => kk _ M' hM' (hQ.set hs) hK.set
set_option maxHeartbeats 4000000 in
theorem c_X3_mayFail0 {G : GX} {h : Nat} {ad : Nat → Nat} {F : Nat → Int32} {A A0 : Nat → Nat → Int32} {B : Nat → Nat → Int64} {M : Mem} {q : QS} {e : Nat} (hM : MRep G h ad F A B M) (hQ : QR e A q) (hK : KQ e A0 A) (he : e < 81) (f : Nat) (hf : f < 9) : Con G yX3_mayFail wX3_mayFail (rmm 1 24) [.ref h, .int (nI e), .int (nI f), .int (-1), .int 0] M (pQ G h ad F A0 B e none (qOr q f q.1)) nX := by
  refine Con.mk (by decide) rfl [(0, some (.ref h)), (1, some (.int (nI e))), (2, some (.int (nI f))), (3, some (.int (-1))), (4, some (.int 0))] rfl fun x X hno => ?_
  refine m_iload_n X dX3_mayFail_0 rfl rfl ?_
  refine m_ifge X dX3_mayFail_1 (t := 8) (by decide) (fun c_1 => absurd c_1 (by decide)) (fun c_1 => ?_)
  refine m_iconst X dX3_mayFail_4 (v := 0) (by decide) ?_
  refine m_goto X dX3_mayFail_5 (t := 14) (by decide) ?_
  refine m_istore X dX3_mayFail_14 rfl rfl ?_
  refine m_iload_n X dX3_mayFail_16 rfl rfl ?_
  refine m_iflt X dX3_mayFail_17 (t := 28) (by decide) (fun c_17 => ?_) (fun c_17 => absurd (by decide) c_17)
  refine m_aload_n X dX3_mayFail_28 rfl rfl (by first | rfl | exact isR_rf) ?_
  refine m_getf X fg_X3_100_X3 hM.1 rfl dX3_mayFail_29 ?_
  refine m_iconst X dX3_mayFail_32 (v := 0) (by decide) ?_
  refine m_topi X (nI_0.symm) ?_
  refine m_aload_n X dX3_mayFail_33 rfl rfl (by first | rfl | exact isR_rf) ?_
  refine m_getf X fg_X3_91_X3 hM.1 rfl dX3_mayFail_34 ?_
  refine m_bipush X dX3_mayFail_37 (v := 108) (by decide) ?_
  refine m_iload_n X dX3_mayFail_39 rfl rfl ?_
  refine m_imul X dX3_mayFail_40 ?_
  refine m_topi X (pk_mul 108 e) ?_
  refine m_bipush X dX3_mayFail_41 (v := 12) (by decide) ?_
  refine m_iload_n X dX3_mayFail_43 rfl rfl ?_
  refine m_imul X dX3_mayFail_44 ?_
  refine m_topi X (pk_mul 12 f) ?_
  refine m_iadd X dX3_mayFail_45 ?_
  refine m_topi X (nI_add _ _) ?_
  refine m_callS X cs_X3_275  (c_X3_join hM 39 0 36 (108 * e + 12 * f) rfl rfl (by simp only [alen]; omega) (by simp only [alen]; omega) (Or.inl (by decide))) rfl rfl (Nat.le_of_ble_eq_true rfl) dX3_mayFail_46 ⟨by decide, by decide, by decide, by decide⟩ (fun v M hp => ?_) (fun _ _ _ _ h => h.elim)
  obtain ⟨rfl, hM⟩ := hp
  have hQ := hQ.join (f := f)
  have hK := hK.join hf
  refine m_stn ?_
  refine m_iload_n X dX3_mayFail_49 rfl rfl ?_
  refine m_iflt X dX3_mayFail_50 (t := 61) (by decide) (fun c_50 => ?_) (fun c_50 => absurd (by decide) c_50)
  exact m_vret X dX3_mayFail_61 (by decide) (by decide) (by exact ⟨rfl, _, hM, hQ, hK⟩)
set_option maxHeartbeats 4000000 in
theorem c_X3_mayFail {G : GX} {h : Nat} {ad : Nat → Nat} {F : Nat → Int32} {A A0 : Nat → Nat → Int32} {B : Nat → Nat → Int64} {M : Mem} {q : QS} {e : Nat} (hM : MRep G h ad F A B M) (hQ : QR e A q) (hK : KQ e A0 A) (he : e < 81) (f s : Nat) (v : Int32) (hf : f < 9) (hs : s < 12) : Con G yX3_mayFail wX3_mayFail (rmm 1 24) [.ref h, .int (nI e), .int (nI f), .int (nI s), .int v] M (pQ G h ad F A0 B e none (qOr q f (upd q.1 s v))) nX := by
  refine Con.mk (by decide) rfl [(0, some (.ref h)), (1, some (.int (nI e))), (2, some (.int (nI f))), (3, some (.int (nI s))), (4, some (.int v))] rfl fun x X hno => ?_
  refine m_iload_n X dX3_mayFail_0 rfl rfl ?_
  refine m_ifge X dX3_mayFail_1 (t := 8) (by decide) (fun c_1 => ?_) (fun c_1 => absurd (nI_pos' (by omega)) c_1)
  refine m_aload_n X dX3_mayFail_8 rfl rfl (by first | rfl | exact isR_rf) ?_
  refine m_getf X fg_X3_100_X3 hM.1 rfl dX3_mayFail_9 ?_
  refine m_iload_n X dX3_mayFail_12 rfl rfl ?_
  refine s_iald X hM rfl rfl (by exact tin (by simp only [alen]; omega) rfl) dX3_mayFail_13 ?_
  refine m_topi X (hQ.now (by omega)) ?_
  refine m_istore X dX3_mayFail_14 rfl rfl ?_
  refine m_iload_n X dX3_mayFail_16 rfl rfl ?_
  refine m_iflt X dX3_mayFail_17 (t := 28) (by decide) (fun c_17 => absurd c_17 (nI_pos (by omega))) (fun c_17 => ?_)
  refine m_aload_n X dX3_mayFail_20 rfl rfl (by first | rfl | exact isR_rf) ?_
  refine m_getf X fg_X3_100_X3 hM.1 rfl dX3_mayFail_21 ?_
  refine m_iload_n X dX3_mayFail_24 rfl rfl ?_
  refine m_iload X dX3_mayFail_25 rfl ?_
  refine s_now X hM hQ hK (by omega) dX3_mayFail_27 (fun A M hM hQ hK => ?_)
  refine m_aload_n X dX3_mayFail_28 rfl rfl (by first | rfl | exact isR_rf) ?_
  refine m_getf X fg_X3_100_X3 hM.1 rfl dX3_mayFail_29 ?_
  refine m_iconst X dX3_mayFail_32 (v := 0) (by decide) ?_
  refine m_topi X (nI_0.symm) ?_
  refine m_aload_n X dX3_mayFail_33 rfl rfl (by first | rfl | exact isR_rf) ?_
  refine m_getf X fg_X3_91_X3 hM.1 rfl dX3_mayFail_34 ?_
  refine m_bipush X dX3_mayFail_37 (v := 108) (by decide) ?_
  refine m_iload_n X dX3_mayFail_39 rfl rfl ?_
  refine m_imul X dX3_mayFail_40 ?_
  refine m_topi X (pk_mul 108 e) ?_
  refine m_bipush X dX3_mayFail_41 (v := 12) (by decide) ?_
  refine m_iload_n X dX3_mayFail_43 rfl rfl ?_
  refine m_imul X dX3_mayFail_44 ?_
  refine m_topi X (pk_mul 12 f) ?_
  refine m_iadd X dX3_mayFail_45 ?_
  refine m_topi X (nI_add _ _) ?_
  refine m_callS X cs_X3_275  (c_X3_join hM 39 0 36 (108 * e + 12 * f) rfl rfl (by simp only [alen]; omega) (by simp only [alen]; omega) (Or.inl (by decide))) rfl rfl (Nat.le_of_ble_eq_true rfl) dX3_mayFail_46 ⟨by decide, by decide, by decide, by decide⟩ (fun v M hp => ?_) (fun _ _ _ _ h => h.elim)
  obtain ⟨rfl, hM⟩ := hp
  have hQ := hQ.join (f := f)
  have hK := hK.join hf
  refine m_stn ?_
  refine m_iload_n X dX3_mayFail_49 rfl rfl ?_
  refine m_iflt X dX3_mayFail_50 (t := 61) (by decide) (fun c_50 => absurd c_50 (nI_pos (by omega))) (fun c_50 => ?_)
  refine m_aload_n X dX3_mayFail_53 rfl rfl (by first | rfl | exact isR_rf) ?_
  refine m_getf X fg_X3_100_X3 hM.1 rfl dX3_mayFail_54 ?_
  refine m_iload_n X dX3_mayFail_57 rfl rfl ?_
  refine m_iload X dX3_mayFail_58 rfl ?_
  refine s_now X hM hQ hK (by omega) dX3_mayFail_60 (fun A M hM hQ hK => ?_)
  exact m_vret X dX3_mayFail_61 (by decide) (by decide) (by exact ⟨rfl, _, hM, by rw [← qOr_back]; exact hQ, hK⟩)
set_option maxHeartbeats 4000000 in
theorem c_X3_mayAs {G : GX} {h : Nat} {ad : Nat → Nat} {F : Nat → Int32} {A A0 : Nat → Nat → Int32} {B : Nat → Nat → Int64} {M : Mem} {q : QS} {e : Nat} (hM : MRep G h ad F A B M) (hQ : QR e A q) (hK : KQ e A0 A) (he : e < 81) (s : Nat) (k : Int32) (hs : s < 12) : Con G yX3_mayAs wX3_mayAs (rmm 2 49) [.ref h, .int (nI e), .int (nI s), .int k] M (pQ G h ad F A0 B e (some (.int (bI (qIs s (qAs s k q))))) (qAs s k q)) nX := by
  refine Con.mk (by decide) rfl [(0, some (.ref h)), (1, some (.int (nI e))), (2, some (.int (nI s))), (3, some (.int k))] rfl fun x X hno => ?_
  refine m_aload_n X dX3_mayAs_0 rfl rfl (by first | rfl | exact isR_rf) ?_
  refine m_getf X fg_X3_100_X3 hM.1 rfl dX3_mayAs_1 ?_
  refine m_iload_n X dX3_mayAs_4 rfl rfl ?_
  refine s_iald X hM rfl rfl (by exact tin (by simp only [alen]; omega) rfl) dX3_mayAs_5 ?_
  refine m_topi X (hQ.now (by omega)) ?_
  refine m_iload_n X dX3_mayAs_6 rfl rfl ?_
  refine m_callS X cs_X3_107  (c_X3_mask _ _ _) rfl rfl (Nat.le_of_ble_eq_true rfl) dX3_mayAs_7 ⟨by decide, by decide, by decide, by decide⟩ (fun v M hp => ?_) (fun _ _ _ _ h => h.elim)
  obtain ⟨rfl, rfl⟩ := hp
  refine m_sti ?_
  refine m_iconst X dX3_mayAs_10 (v := (-1)) (by decide) ?_
  refine m_ixor X dX3_mayAs_11 ?_
  refine m_iand X dX3_mayAs_12 ?_
  refine m_bipush X dX3_mayAs_13 (v := (-2)) (by decide) ?_
  refine m_iand X dX3_mayAs_15 ?_
  refine m_istore X dX3_mayAs_16 rfl rfl ?_
  refine m_iload X dX3_mayAs_18 rfl ?_
  refine m_ifeq X dX3_mayAs_20 (t := 32) (by decide) (fun c_20 => ?_) (fun c_20 => ?_)
  · skip
    try simp only [bI_0, Bool.not_eq_false] at c_20
    have c_20 : qAsB q s k = 0 := c_20
    refine m_aload_n X dX3_mayAs_32 rfl rfl (by first | rfl | exact isR_rf) ?_
    refine m_getf X fg_X3_100_X3 hM.1 rfl dX3_mayAs_33 ?_
    refine m_iload_n X dX3_mayAs_36 rfl rfl ?_
    refine m_dup2 X dX3_mayAs_37 rfl rfl ?_
    refine s_iald X hM rfl rfl (by exact tin (by simp only [alen]; omega) rfl) dX3_mayAs_38 ?_
    refine m_topi X (hQ.now (by omega)) ?_
    refine m_iload_n X dX3_mayAs_39 rfl rfl ?_
    refine m_callS X cs_X3_107  (c_X3_mask _ _ _) rfl rfl (Nat.le_of_ble_eq_true rfl) dX3_mayAs_40 ⟨by decide, by decide, by decide, by decide⟩ (fun v M hp => ?_) (fun _ _ _ _ h => h.elim)
    obtain ⟨rfl, rfl⟩ := hp
    refine m_sti ?_
    refine m_iconst X dX3_mayAs_43 (v := 1) (by decide) ?_
    refine m_ior X dX3_mayAs_44 ?_
    refine m_iand X dX3_mayAs_45 ?_
    refine s_now X hM hQ hK (by omega) dX3_mayAs_46 (fun A M hM hQ hK => ?_)
    refine m_aload_n X dX3_mayAs_47 rfl rfl (by first | rfl | exact isR_rf) ?_
    refine m_getf X fg_X3_100_X3 hM.1 rfl dX3_mayAs_48 ?_
    refine m_iload_n X dX3_mayAs_51 rfl rfl ?_
    refine s_iald X hM rfl rfl (by exact tin (by simp only [alen]; omega) rfl) dX3_mayAs_52 ?_
    refine m_topi X (hQ.now (by omega)) ?_
    refine m_ifeq X dX3_mayAs_53 (t := 60) (by decide) (fun c_53 => ?_) (fun c_53 => ?_)
    · skip
      try simp only [bI_0, Bool.not_eq_false] at c_53
      refine m_iconst X dX3_mayAs_60 (v := 0) (by decide) ?_
      exact m_zret X dX3_mayAs_61 (by first | rfl | exact bI_nar) (by decide) (by decide) (by refine ⟨?_, A, hM, ?_, hK⟩ <;> unfold qAs <;> (first | rw [if_pos c_20] | rw [if_neg c_20]) <;> first | exact hQ | exact qIs1 c_53 | exact qIs0 c_53)
    · skip
      try simp only [bI_0, Bool.not_eq_false] at c_53
      refine m_iconst X dX3_mayAs_56 (v := 1) (by decide) ?_
      refine m_goto X dX3_mayAs_57 (t := 61) (by decide) ?_
      exact m_zret X dX3_mayAs_61 (by first | rfl | exact bI_nar) (by decide) (by decide) (by refine ⟨?_, A, hM, ?_, hK⟩ <;> unfold qAs <;> (first | rw [if_pos c_20] | rw [if_neg c_20]) <;> first | exact hQ | exact qIs1 c_53 | exact qIs0 c_53)
  · skip
    try simp only [bI_0, Bool.not_eq_false] at c_20
    have c_20 : ¬ qAsB q s k = 0 := c_20
    refine m_aload_n X dX3_mayAs_23 rfl rfl (by first | rfl | exact isR_rf) ?_
    refine m_iload_n X dX3_mayAs_24 rfl rfl ?_
    refine m_iconst X dX3_mayAs_25 (v := 2) (by decide) ?_
    refine m_iload_n X dX3_mayAs_26 rfl rfl ?_
    refine m_iload X dX3_mayAs_27 rfl ?_
    refine m_callV X cs_X3_279  (c_X3_mayFail hM hQ hK he 2 s (qAsB q s k) (by decide) hs) hM.1 rfl rfl rfl (Nat.le_of_ble_eq_true rfl) dX3_mayAs_29 ⟨by decide, by decide, by decide, by decide⟩ (fun v M hp => ?_) (fun _ _ _ _ h => h.elim)
    obtain ⟨rfl, A, hM, hQ, hK⟩ := hp
    refine m_stn ?_
    refine m_aload_n X dX3_mayAs_32 rfl rfl (by first | rfl | exact isR_rf) ?_
    refine m_getf X fg_X3_100_X3 hM.1 rfl dX3_mayAs_33 ?_
    refine m_iload_n X dX3_mayAs_36 rfl rfl ?_
    refine m_dup2 X dX3_mayAs_37 rfl rfl ?_
    refine s_iald X hM rfl rfl (by exact tin (by simp only [alen]; omega) rfl) dX3_mayAs_38 ?_
    refine m_topi X (hQ.now (by omega)) ?_
    refine m_iload_n X dX3_mayAs_39 rfl rfl ?_
    refine m_callS X cs_X3_107  (c_X3_mask _ _ _) rfl rfl (Nat.le_of_ble_eq_true rfl) dX3_mayAs_40 ⟨by decide, by decide, by decide, by decide⟩ (fun v M hp => ?_) (fun _ _ _ _ h => h.elim)
    obtain ⟨rfl, rfl⟩ := hp
    refine m_sti ?_
    refine m_iconst X dX3_mayAs_43 (v := 1) (by decide) ?_
    refine m_ior X dX3_mayAs_44 ?_
    refine m_iand X dX3_mayAs_45 ?_
    refine s_now X hM hQ hK (by omega) dX3_mayAs_46 (fun A M hM hQ hK => ?_)
    refine m_aload_n X dX3_mayAs_47 rfl rfl (by first | rfl | exact isR_rf) ?_
    refine m_getf X fg_X3_100_X3 hM.1 rfl dX3_mayAs_48 ?_
    refine m_iload_n X dX3_mayAs_51 rfl rfl ?_
    refine s_iald X hM rfl rfl (by exact tin (by simp only [alen]; omega) rfl) dX3_mayAs_52 ?_
    refine m_topi X (hQ.now (by omega)) ?_
    refine m_ifeq X dX3_mayAs_53 (t := 60) (by decide) (fun c_53 => ?_) (fun c_53 => ?_)
    · skip
      try simp only [bI_0, Bool.not_eq_false] at c_53
      refine m_iconst X dX3_mayAs_60 (v := 0) (by decide) ?_
      exact m_zret X dX3_mayAs_61 (by first | rfl | exact bI_nar) (by decide) (by decide) (by refine ⟨?_, A, hM, ?_, hK⟩ <;> unfold qAs <;> (first | rw [if_pos c_20] | rw [if_neg c_20]) <;> first | exact hQ | exact qIs1 c_53 | exact qIs0 c_53)
    · skip
      try simp only [bI_0, Bool.not_eq_false] at c_53
      refine m_iconst X dX3_mayAs_56 (v := 1) (by decide) ?_
      refine m_goto X dX3_mayAs_57 (t := 61) (by decide) ?_
      exact m_zret X dX3_mayAs_61 (by first | rfl | exact bI_nar) (by decide) (by decide) (by refine ⟨?_, A, hM, ?_, hK⟩ <;> unfold qAs <;> (first | rw [if_pos c_20] | rw [if_neg c_20]) <;> first | exact hQ | exact qIs1 c_53 | exact qIs0 c_53)
set_option maxHeartbeats 4000000 in
theorem c_X3_mayRow {G : GX} {h : Nat} {ad : Nat → Nat} {F : Nat → Int32} {A A0 : Nat → Nat → Int32} {B : Nat → Nat → Int64} {M : Mem} {q : QS} {e : Nat} (hM : MRep G h ad F A B M) (hQ : QR e A q) (hK : KQ e A0 A) (he : e < 81) (s : Nat) (hs : s < 12) : Con G yX3_mayRow wX3_mayRow (rmm 2 49) [.ref h, .int (nI e), .int (nI s)] M (pQ G h ad F A0 B e (some (.int (bI (qIs s (qRow s q))))) (qRow s q)) nX := by
  refine Con.mk (by decide) rfl [(0, some (.ref h)), (1, some (.int (nI e))), (2, some (.int (nI s)))] rfl fun x X hno => ?_
  refine m_aload_n X dX3_mayRow_0 rfl rfl (by first | rfl | exact isR_rf) ?_
  refine m_getf X fg_X3_100_X3 hM.1 rfl dX3_mayRow_1 ?_
  refine m_iload_n X dX3_mayRow_4 rfl rfl ?_
  refine s_iald X hM rfl rfl (by exact tin (by simp only [alen]; omega) rfl) dX3_mayRow_5 ?_
  refine m_topi X (hQ.now (by omega)) ?_
  refine m_iconst X dX3_mayRow_6 (v := 1) (by decide) ?_
  refine m_iand X dX3_mayRow_7 ?_
  refine m_iconst X dX3_mayRow_8 (v := 1) (by decide) ?_
  refine m_icmpne X dX3_mayRow_9 (t := 20) (by decide) (fun c_9 => ?_) (fun c_9 => ?_)
  · skip
    refine m_aload_n X dX3_mayRow_20 rfl rfl (by first | rfl | exact isR_rf) ?_
    refine m_getf X fg_X3_100_X3 hM.1 rfl dX3_mayRow_21 ?_
    refine m_iload_n X dX3_mayRow_24 rfl rfl ?_
    refine m_dup2 X dX3_mayRow_25 rfl rfl ?_
    refine s_iald X hM rfl rfl (by exact tin (by simp only [alen]; omega) rfl) dX3_mayRow_26 ?_
    refine m_topi X (hQ.now (by omega)) ?_
    refine m_bipush X dX3_mayRow_27 (v := (-2)) (by decide) ?_
    refine m_iand X dX3_mayRow_29 ?_
    refine s_now X hM hQ hK (by omega) dX3_mayRow_30 (fun A M hM hQ hK => ?_)
    refine m_aload_n X dX3_mayRow_31 rfl rfl (by first | rfl | exact isR_rf) ?_
    refine m_getf X fg_X3_100_X3 hM.1 rfl dX3_mayRow_32 ?_
    refine m_iload_n X dX3_mayRow_35 rfl rfl ?_
    refine s_iald X hM rfl rfl (by exact tin (by simp only [alen]; omega) rfl) dX3_mayRow_36 ?_
    refine m_topi X (hQ.now (by omega)) ?_
    refine m_ifeq X dX3_mayRow_37 (t := 44) (by decide) (fun c_37 => ?_) (fun c_37 => ?_)
    · skip
      try simp only [bI_0, Bool.not_eq_false] at c_37
      refine m_iconst X dX3_mayRow_44 (v := 0) (by decide) ?_
      exact m_zret X dX3_mayRow_45 (by first | rfl | exact bI_nar) (by decide) (by decide) (by refine ⟨?_, A, hM, ?_, hK⟩ <;> unfold qRow <;> (first | rw [if_pos c_9] | rw [if_neg c_9]) <;> first | exact hQ | exact qIs1 c_37 | exact qIs0 c_37)
    · skip
      try simp only [bI_0, Bool.not_eq_false] at c_37
      refine m_iconst X dX3_mayRow_40 (v := 1) (by decide) ?_
      refine m_goto X dX3_mayRow_41 (t := 45) (by decide) ?_
      exact m_zret X dX3_mayRow_45 (by first | rfl | exact bI_nar) (by decide) (by decide) (by refine ⟨?_, A, hM, ?_, hK⟩ <;> unfold qRow <;> (first | rw [if_pos c_9] | rw [if_neg c_9]) <;> first | exact hQ | exact qIs1 c_37 | exact qIs0 c_37)
  · skip
    refine m_aload_n X dX3_mayRow_12 rfl rfl (by first | rfl | exact isR_rf) ?_
    refine m_iload_n X dX3_mayRow_13 rfl rfl ?_
    refine m_iconst X dX3_mayRow_14 (v := 1) (by decide) ?_
    refine m_iload_n X dX3_mayRow_15 rfl rfl ?_
    refine m_iconst X dX3_mayRow_16 (v := 1) (by decide) ?_
    refine m_callV X cs_X3_279  (c_X3_mayFail hM hQ hK he 1 s 1 (by decide) hs) hM.1 rfl rfl rfl (Nat.le_of_ble_eq_true rfl) dX3_mayRow_17 ⟨by decide, by decide, by decide, by decide⟩ (fun v M hp => ?_) (fun _ _ _ _ h => h.elim)
    obtain ⟨rfl, A, hM, hQ, hK⟩ := hp
    refine m_stn ?_
    refine m_aload_n X dX3_mayRow_20 rfl rfl (by first | rfl | exact isR_rf) ?_
    refine m_getf X fg_X3_100_X3 hM.1 rfl dX3_mayRow_21 ?_
    refine m_iload_n X dX3_mayRow_24 rfl rfl ?_
    refine m_dup2 X dX3_mayRow_25 rfl rfl ?_
    refine s_iald X hM rfl rfl (by exact tin (by simp only [alen]; omega) rfl) dX3_mayRow_26 ?_
    refine m_topi X (hQ.now (by omega)) ?_
    refine m_bipush X dX3_mayRow_27 (v := (-2)) (by decide) ?_
    refine m_iand X dX3_mayRow_29 ?_
    refine s_now X hM hQ hK (by omega) dX3_mayRow_30 (fun A M hM hQ hK => ?_)
    refine m_aload_n X dX3_mayRow_31 rfl rfl (by first | rfl | exact isR_rf) ?_
    refine m_getf X fg_X3_100_X3 hM.1 rfl dX3_mayRow_32 ?_
    refine m_iload_n X dX3_mayRow_35 rfl rfl ?_
    refine s_iald X hM rfl rfl (by exact tin (by simp only [alen]; omega) rfl) dX3_mayRow_36 ?_
    refine m_topi X (hQ.now (by omega)) ?_
    refine m_ifeq X dX3_mayRow_37 (t := 44) (by decide) (fun c_37 => ?_) (fun c_37 => ?_)
    · skip
      try simp only [bI_0, Bool.not_eq_false] at c_37
      refine m_iconst X dX3_mayRow_44 (v := 0) (by decide) ?_
      exact m_zret X dX3_mayRow_45 (by first | rfl | exact bI_nar) (by decide) (by decide) (by refine ⟨?_, A, hM, ?_, hK⟩ <;> unfold qRow <;> (first | rw [if_pos c_9] | rw [if_neg c_9]) <;> first | exact hQ | exact qIs1 c_37 | exact qIs0 c_37)
    · skip
      try simp only [bI_0, Bool.not_eq_false] at c_37
      refine m_iconst X dX3_mayRow_40 (v := 1) (by decide) ?_
      refine m_goto X dX3_mayRow_41 (t := 45) (by decide) ?_
      exact m_zret X dX3_mayRow_45 (by first | rfl | exact bI_nar) (by decide) (by decide) (by refine ⟨?_, A, hM, ?_, hK⟩ <;> unfold qRow <;> (first | rw [if_pos c_9] | rw [if_neg c_9]) <;> first | exact hQ | exact qIs1 c_37 | exact qIs0 c_37)
set_option maxHeartbeats 4000000 in
theorem c_X3_mayItem {G : GX} {h : Nat} {ad : Nat → Nat} {F : Nat → Int32} {A A0 : Nat → Nat → Int32} {B : Nat → Nat → Int64} {M : Mem} {q : QS} {e : Nat} (hM : MRep G h ad F A B M) (hQ : QR e A q) (hK : KQ e A0 A) (he : e < 81) (s : Nat) (k : Int32) (hs : s < 12) : Con G yX3_mayItem wX3_mayItem (rmm 3 73) [.ref h, .int (nI e), .int (nI s), .int k] M (pQ G h ad F A0 B e (some (.int (bI (qItem s k q).1))) (qItem s k q).2) nX := by
  refine Con.mk (by decide) rfl [(0, some (.ref h)), (1, some (.int (nI e))), (2, some (.int (nI s))), (3, some (.int k))] rfl fun x X hno => ?_
  refine m_aload_n X dX3_mayItem_0 rfl rfl (by first | rfl | exact isR_rf) ?_
  refine m_iload_n X dX3_mayItem_1 rfl rfl ?_
  refine m_iload_n X dX3_mayItem_2 rfl rfl ?_
  refine m_iload_n X dX3_mayItem_3 rfl rfl ?_
  refine m_callV X cs_X3_283  (c_X3_mayAs hM hQ hK he s k hs) hM.1 rfl rfl rfl (Nat.le_of_ble_eq_true rfl) dX3_mayItem_4 ⟨by decide, by decide, by decide, by decide⟩ (fun v M hp => ?_) (fun _ _ _ _ h => h.elim)
  obtain ⟨rfl, A, hM, hQ, hK⟩ := hp
  refine m_sti ?_
  refine m_ifeq X dX3_mayItem_7 (t := 23) (by decide) (fun c_7 => ?_) (fun c_7 => ?_)
  · skip
    try simp only [bI_0, Bool.not_eq_false] at c_7
    refine m_iconst X dX3_mayItem_23 (v := 0) (by decide) ?_
    refine m_istore X dX3_mayItem_24 rfl rfl ?_
    refine m_iload X dX3_mayItem_26 rfl ?_
    refine m_ifeq X dX3_mayItem_28 (t := 39) (by decide) (fun c_28 => ?_) (fun c_28 => absurd rfl c_28)
    refine m_iload X dX3_mayItem_39 rfl ?_
    exact m_zret X dX3_mayItem_41 (by first | rfl | exact bI_nar) (by decide) (by decide) (by refine ⟨?_, A, hM, ?_, hK⟩ <;> simp only [qItem, qRT, c_7, if_true, Bool.false_eq_true, if_false] <;> first | exact hQ | rfl)
  · skip
    try simp only [bI_0, Bool.not_eq_false] at c_7
    refine m_aload_n X dX3_mayItem_10 rfl rfl (by first | rfl | exact isR_rf) ?_
    refine m_iload_n X dX3_mayItem_11 rfl rfl ?_
    refine m_iload_n X dX3_mayItem_12 rfl rfl ?_
    refine m_callV X cs_X3_286  (c_X3_mayRow hM hQ hK he s hs) hM.1 rfl rfl rfl (Nat.le_of_ble_eq_true rfl) dX3_mayItem_13 ⟨by decide, by decide, by decide, by decide⟩ (fun v M hp => ?_) (fun _ _ _ _ h => h.elim)
    obtain ⟨rfl, A, hM, hQ, hK⟩ := hp
    refine m_sti ?_
    refine m_ifeq X dX3_mayItem_16 (t := 23) (by decide) (fun c_16 => ?_) (fun c_16 => ?_)
    · skip
      try simp only [bI_0, Bool.not_eq_false] at c_16
      refine m_iconst X dX3_mayItem_23 (v := 0) (by decide) ?_
      refine m_istore X dX3_mayItem_24 rfl rfl ?_
      refine m_iload X dX3_mayItem_26 rfl ?_
      refine m_ifeq X dX3_mayItem_28 (t := 39) (by decide) (fun c_28 => ?_) (fun c_28 => absurd rfl c_28)
      refine m_iload X dX3_mayItem_39 rfl ?_
      exact m_zret X dX3_mayItem_41 (by first | rfl | exact bI_nar) (by decide) (by decide) (by refine ⟨?_, A, hM, ?_, hK⟩ <;> simp only [qItem, qRT, c_7, c_16, if_true, Bool.false_eq_true, if_false] <;> first | exact hQ | rfl)
    · skip
      try simp only [bI_0, Bool.not_eq_false] at c_16
      refine m_iconst X dX3_mayItem_19 (v := 1) (by decide) ?_
      refine m_goto X dX3_mayItem_20 (t := 24) (by decide) ?_
      refine m_istore X dX3_mayItem_24 rfl rfl ?_
      refine m_iload X dX3_mayItem_26 rfl ?_
      refine m_ifeq X dX3_mayItem_28 (t := 39) (by decide) (fun c_28 => absurd c_28 (by decide)) (fun c_28 => ?_)
      refine m_aload_n X dX3_mayItem_31 rfl rfl (by first | rfl | exact isR_rf) ?_
      refine m_iload_n X dX3_mayItem_32 rfl rfl ?_
      refine m_iconst X dX3_mayItem_33 (v := 3) (by decide) ?_
      refine m_iconst X dX3_mayItem_34 (v := (-1)) (by decide) ?_
      refine m_iconst X dX3_mayItem_35 (v := 0) (by decide) ?_
      refine m_callV X cs_X3_279  (c_X3_mayFail0 hM hQ hK he 3 (by decide)) hM.1 rfl rfl rfl (Nat.le_of_ble_eq_true rfl) dX3_mayItem_36 ⟨by decide, by decide, by decide, by decide⟩ (fun v M hp => ?_) (fun _ _ _ _ h => h.elim)
      obtain ⟨rfl, A, hM, hQ, hK⟩ := hp
      refine m_stn ?_
      refine m_iload X dX3_mayItem_39 rfl ?_
      exact m_zret X dX3_mayItem_41 (by first | rfl | exact bI_nar) (by decide) (by decide) (by refine ⟨?_, A, hM, ?_, hK⟩ <;> simp only [qItem, qRT, c_7, c_16, if_true, Bool.false_eq_true, if_false] <;> first | exact hQ | rfl)
set_option maxHeartbeats 4000000 in
theorem c_X3_mayNew {G : GX} {h : Nat} {ad : Nat → Nat} {F : Nat → Int32} {A A0 : Nat → Nat → Int32} {B : Nat → Nat → Int64} {M : Mem} {q : QS} {e : Nat} (hM : MRep G h ad F A B M) (hQ : QR e A q) (hK : KQ e A0 A) (he : e < 81) (b : Bool) (s : Nat) (v : Int32) (hs : s < 12) : Con G yX3_mayNew wX3_mayNew (rmm 2 49) [.ref h, .int (nI e), .int (bI b), .int (nI s), .int v] M (pQ G h ad F A0 B e (some (.int (bI (qNew b s v q).1))) (qNew b s v q).2) nX := by
  refine Con.mk (by decide) rfl [(0, some (.ref h)), (1, some (.int (nI e))), (2, some (.int (bI b))), (3, some (.int (nI s))), (4, some (.int v))] rfl fun x X hno => ?_
  refine m_iload_n X dX3_mayNew_0 rfl rfl ?_
  refine m_ifeq X dX3_mayNew_1 (t := 14) (by decide) (fun c_1 => ?_) (fun c_1 => ?_)
  · skip
    try simp only [bI_0, Bool.not_eq_false] at c_1
    refine m_aload_n X dX3_mayNew_14 rfl rfl (by first | rfl | exact isR_rf) ?_
    refine m_iload_n X dX3_mayNew_15 rfl rfl ?_
    refine m_bipush X dX3_mayNew_16 (v := 8) (by decide) ?_
    refine m_iconst X dX3_mayNew_18 (v := (-1)) (by decide) ?_
    refine m_iconst X dX3_mayNew_19 (v := 0) (by decide) ?_
    refine m_callV X cs_X3_279  (c_X3_mayFail0 hM hQ hK he 8 (by decide)) hM.1 rfl rfl rfl (Nat.le_of_ble_eq_true rfl) dX3_mayNew_20 ⟨by decide, by decide, by decide, by decide⟩ (fun v M hp => ?_) (fun _ _ _ _ h => h.elim)
    obtain ⟨rfl, A, hM, hQ, hK⟩ := hp
    refine m_stn ?_
    refine m_aload_n X dX3_mayNew_23 rfl rfl (by first | rfl | exact isR_rf) ?_
    refine m_getf X fg_X3_100_X3 hM.1 rfl dX3_mayNew_24 ?_
    refine m_iload_n X dX3_mayNew_27 rfl rfl ?_
    refine m_iload X dX3_mayNew_28 rfl ?_
    refine s_now X hM hQ hK (by omega) dX3_mayNew_30 (fun A M hM hQ hK => ?_)
    refine m_iconst X dX3_mayNew_31 (v := 1) (by decide) ?_
    exact m_zret X dX3_mayNew_32 (by first | rfl | exact bI_nar) (by decide) (by decide) (by refine ⟨?_, A, hM, ?_, hK⟩ <;> simp only [qNew, c_1, if_true, Bool.false_eq_true, if_false] <;> first | exact hQ | rfl)
  · skip
    try simp only [bI_0, Bool.not_eq_false] at c_1
    refine m_aload_n X dX3_mayNew_4 rfl rfl (by first | rfl | exact isR_rf) ?_
    refine m_iload_n X dX3_mayNew_5 rfl rfl ?_
    refine m_iconst X dX3_mayNew_6 (v := 4) (by decide) ?_
    refine m_iconst X dX3_mayNew_7 (v := (-1)) (by decide) ?_
    refine m_iconst X dX3_mayNew_8 (v := 0) (by decide) ?_
    refine m_callV X cs_X3_279  (c_X3_mayFail0 hM hQ hK he 4 (by decide)) hM.1 rfl rfl rfl (Nat.le_of_ble_eq_true rfl) dX3_mayNew_9 ⟨by decide, by decide, by decide, by decide⟩ (fun v M hp => ?_) (fun _ _ _ _ h => h.elim)
    obtain ⟨rfl, A, hM, hQ, hK⟩ := hp
    refine m_stn ?_
    refine m_iconst X dX3_mayNew_12 (v := 0) (by decide) ?_
    exact m_zret X dX3_mayNew_13 (by first | rfl | exact bI_nar) (by decide) (by decide) (by refine ⟨?_, A, hM, ?_, hK⟩ <;> simp only [qNew, c_1, if_true, Bool.false_eq_true, if_false] <;> first | exact hQ | rfl)
