/-! THE THINGS STAY IN ORDER, whatever act is done -/
set_option maxRecDepth 100000
theorem WF.copyIt {σ : AS} (hW : WF σ) {f t j r : Nat} (t1 : 1 ≤ t) (t2 : t ≤ σ.T) (hj : j + r ≤ σ.ln t) (hv : 5 ≤ σ.kd t → ∀ i, i < r → ∃ u : Nat, u ≤ σ.T ∧ σ.it (f + i) = lN u ∧ (u ≠ 0 → isK (σ.kd u) (elk (σ.kd t)) = true)) : WF (σ.copyIt f (σ.bg t + j) r) := by
  refine ⟨hW.1, hW.2.1, hW.2.2.1, hW.2.2.2.1, fun t' s1 s2 s3 i' hi' => ?_⟩
  show ∃ u : Nat, u ≤ σ.T ∧ va_cpy σ.it σ.it f (σ.bg t + j) r (σ.bg t' + i') = lN u ∧ (u ≠ 0 → isK (σ.kd u) (elk (σ.kd t')) = true)
  unfold va_cpy
  by_cases e : σ.bg t + j ≤ σ.bg t' + i' ∧ σ.bg t' + i' < σ.bg t + j + r
  · rw [if_pos e]
    obtain ⟨rfl, e2⟩ := hW.inj (t := t') (i := i') (t' := t) (i' := σ.bg t' + i' - σ.bg t) s1 s2 hi' t1 t2 (by omega) (by omega)
    exact hv s3 _ (by omega)
  · rw [if_neg e]
    exact hW.2.2.2.2 t' s1 s2 s3 i' hi'
theorem readyN_lie {σ : AS} {k f n : Nat} : ∀ i, i < readyN σ k f n → mayLie σ k (σ.it (f + i)) = true := by
  induction n with
  | zero => intro i hi; exact absurd hi (by show ¬ i < 0; omega)
  | succ n ih =>
    intro i hi
    unfold readyN at hi
    split at hi
    · next h =>
      by_cases e : i = n
      · rw [e]; exact h.2
      · exact ih i (by rw [h.1]; omega)
    · exact ih i hi
theorem isK_5 {d k : Nat} (h : isK d k = true) (hk : k < 5 ∨ k = 5) : d = k := by
  unfold isK at h
  simp only [Bool.or_eq_true, Bool.and_eq_true, beq_iff_eq] at h
  omega
theorem isK_67 {d k : Nat} (h : isK d k = true) : d = k ∨ (d = 9 ∧ k = 8) ∨ (d = 7 ∧ k = 6) := by
  unfold isK at h
  simp only [Bool.or_eq_true, Bool.and_eq_true, beq_iff_eq] at h
  omega
theorem asF_0 {σ : AS} {s k : Nat} (h : asF σ s k = 0) (h0 : σ.sl s ≠ 0) : isK (σ.kd (σ.sl s)) k = true := by
  unfold asF at h
  cases e : isK (σ.kd (σ.sl s)) k with
  | true => rfl
  | false => rw [if_pos ⟨h0, e⟩] at h; cases h
theorem itemF_cases {σ : AS} (hW : WF σ) {s k : Nat} (hs : s < 12) {i : Int32} (h : itemF σ s k i = 0) : (1 ≤ σ.sl s ∧ σ.sl s ≤ σ.T) ∧ isK (σ.kd (σ.sl s)) k = true ∧ i.toInt.toNat < σ.ln (σ.sl s) ∧ σ.bg (σ.sl s) + σ.ln (σ.sl s) ≤ σ.I := by
  have h0 : σ.sl s ≠ 0 := fun z => by simp [itemF, rowF, asF, z] at h
  have hp := hW.pos hs h0
  have hI := hW.2.1
  obtain ⟨-, h2, j, hj, rfl⟩ := itemF_0 h (by omega)
  rw [nI_toNat (by omega)]
  exact ⟨⟨hp.1, hp.2.1⟩, h2, hj, hp.2.2.1⟩
theorem WF_doAct {σ : AS} (hW : WF σ) {op : Nat} {a b c d : Int32} (hv : isActN op a b c d = true) : WF (doAct op a b c d σ).2 := by
  have hb1 := hW.1
  have hb2 := hW.2.1
  have mk : ∀ (s k : Nat) (n : Int32), 1 ≤ k ∧ k ≤ 7 → WF (makeA σ s k n).2 := by
    intro s k n hk
    unfold makeA
    split
    · exact hW
    · split
      · exact hW
      · next h2 =>
        rw [Bool.not_eq_false, fits_t] at h2
        exact (hW.fresh (by omega) (by omega) (by omega) (fun z => by omega)).setSl (by rw [fresh_T]; exact Nat.le_refl _)
  have hop : op < 18 := by
    unfold isActN at hv
    split at hv <;> first | omega | cases hv
  have hk : op = 0 ∨ op = 1 ∨ op = 2 ∨ op = 3 ∨ op = 4 ∨ op = 5 ∨ op = 6 ∨ op = 7 ∨ op = 8 ∨ op = 9 ∨ op = 10 ∨ op = 11 ∨ op = 12 ∨ op = 13 ∨ op = 14 ∨ op = 15 ∨ op = 16 ∨ op = 17 := by omega
  rcases hk with rfl | rfl | rfl | rfl | rfl | rfl | rfl | rfl | rfl | rfl | rfl | rfl | rfl | rfl | rfl | rfl | rfl | rfl
  · simp only [isActN, Bool.and_eq_true] at hv
    obtain ⟨b, l, u, rfl⟩ := inB_r 1 7 (by decide) (by decide) hv.2.1
    exact mk _ _ _ (by rw [nI_toNat (by omega)]; omega)
  · show WF (deepA σ a.toInt.toNat b c).2
    unfold deepA
    split
    · exact hW
    · split
      · exact hW
      · next h2 =>
        rw [Bool.not_eq_false, fits_t] at h2
        exact (rowsS_WF hW h2.1 h2.2 _ (Nat.le_refl _)).setSl (by rw [rowsS_T, fresh_T]; omega)
  · exact mk _ _ _ (by decide)
  · show WF (figureA σ a.toInt.toNat (if b = 0 then 8 else 9) c).2
    unfold figureA
    split
    · exact hW
    · next h2 =>
      rw [Bool.not_eq_false, fits_t] at h2
      exact ((hW.fresh (k := if b = 0 then 8 else 9) (n := 0) (by omega) (by omega) (by split <;> omega) (fun _ => rfl)).setSl (by rw [fresh_T]; exact Nat.le_refl _)).setNm
  · simp only [isActN, Bool.and_eq_true] at hv
    obtain ⟨b, -, hb, rfl⟩ := inB_r 0 11 (by decide) (by decide) hv.2.1
    show WF (moveA σ a.toInt.toNat (nI b).toInt.toNat c.toInt.toNat).2
    rw [nI_toNat (by omega)]
    unfold moveA
    split
    · exact hW
    · exact hW.setSl (hW.sl (by omega))
  · show WF (getA σ _ _ _ d).2
    unfold getA
    split
    · exact hW
    · exact hW.setRg
  · simp only [isActN, Bool.and_eq_true] at hv
    obtain ⟨a, -, ha, rfl⟩ := inB_r 0 11 (by decide) (by decide) hv.1
    obtain ⟨b, lb, hb, rfl⟩ := inB_r 1 4 (by decide) (by decide) hv.2.1
    show WF (setA σ (nI a).toInt.toNat (nI b).toInt.toNat c d.toInt.toNat).2
    rw [nI_toNat (by omega), nI_toNat (by omega)]
    unfold setA
    split
    · exact hW
    · next h =>
      obtain ⟨h1, h2, h3, h4⟩ := itemF_cases hW (by omega) (Decidable.not_not.mp h)
      have := isK_5 h2 (by omega)
      exact hW.setIt h1.1 h1.2 h3 (fun z => by omega)
  · simp only [isActN, Bool.and_eq_true] at hv
    obtain ⟨b, -, hb, rfl⟩ := inB_r 0 11 (by decide) (by decide) hv.2.1
    obtain ⟨c, lc, hc, rfl⟩ := inB_r 5 7 (by decide) (by decide) hv.2.2
    show WF (takeA σ a.toInt.toNat (nI b).toInt.toNat (nI c).toInt.toNat d).2
    rw [nI_toNat (by omega), nI_toNat (by omega)]
    unfold takeA
    split
    · exact hW
    · next h =>
      obtain ⟨h1, h2, h3, h4⟩ := itemF_cases hW (by omega) (Decidable.not_not.mp h)
      have := isK_67 h2
      obtain ⟨u, u1, u2, -⟩ := hW.2.2.2.2 _ h1.1 h1.2 (by omega) _ h3
      refine hW.setSl ?_
      rw [u2, lN_toInt (by omega)]
      exact u1
  · simp only [isActN, Bool.and_eq_true] at hv
    obtain ⟨a, -, ha, rfl⟩ := inB_r 0 11 (by decide) (by decide) hv.1
    obtain ⟨b, lb, hb, rfl⟩ := inB_r 5 7 (by decide) (by decide) hv.2.1
    obtain ⟨d, -, hd, rfl⟩ := inB_r 0 11 (by decide) (by decide) hv.2.2
    show WF (layA σ (nI a).toInt.toNat (nI b).toInt.toNat c (nI d).toInt.toNat).2
    rw [nI_toNat (by omega), nI_toNat (by omega), nI_toNat (by omega)]
    unfold layA
    split
    · exact hW
    · next h0 =>
      split
      · exact hW
      · next h =>
        split
        · exact hW
        · next h5 =>
          obtain ⟨h1, h2, h3, h4⟩ := itemF_cases hW (by omega) (Decidable.not_not.mp h)
          refine hW.setIt h1.1 h1.2 h3 (fun z => ⟨σ.sl d, hW.sl (by omega), rfl, fun hd0 => ?_⟩)
          have ha0 : asF σ d (elk b) = 0 := Decidable.not_not.mp fun z => h0 (Or.inr z)
          have hk0 := asF_0 ha0 hd0
          have e1 := isK_67 h2
          by_cases e : σ.kd (σ.sl a) = b
          · rw [e]; exact hk0
          · have e2 : σ.kd (σ.sl a) = 7 ∧ b = 6 := by omega
            rw [e2.2] at hk0
            rw [e2.1]
            have e3 := isK_67 (show isK (σ.kd (σ.sl d)) 8 = true from hk0)
            have e4 : σ.kd (σ.sl d) ≠ 8 := fun z => h5 ⟨e2.1, hd0, z⟩
            have e5 : σ.kd (σ.sl d) = 9 := by omega
            rw [e5]; rfl
  · show WF (measureA σ _ _ _).2
    unfold measureA
    split
    · exact hW
    · exact hW.setRg
  · simp only [isActN, Bool.and_eq_true] at hv
    obtain ⟨b, -, hb, rfl⟩ := inB_r 0 11 (by decide) (by decide) hv.2
    show WF (cloneA σ a.toInt.toNat (nI b).toInt.toNat).2
    rw [nI_toNat (by omega)]
    unfold cloneA
    split
    · exact hW
    · split
      · exact hW
      · next h2 =>
        rw [Bool.not_eq_false, fits_t] at h2
        have hf := hW.fresh (k := 1) (n := σ.ln (σ.sl b)) (by omega) (by omega) (by decide) (fun z => by omega)
        have hs := hf.setSl (s := a.toInt.toNat) (t := σ.T + 1) (by rw [fresh_T]; exact Nat.le_refl _)
        have := hs.copyIt (f := σ.bg (σ.sl b)) (t := σ.T + 1) (j := 0) (r := σ.ln (σ.sl b)) (by omega) (by rw [setSl_T, fresh_T]; exact Nat.le_refl _) (by rw [setSl_ln, fresh_ln, updN_s]; omega) (fun z => by rw [setSl_kd, fresh_kd, updN_s] at z; omega)
        rw [setSl_bg, fresh_bg, updN_s] at this
        exact this
  · show WF (tellA σ _ _).2
    unfold tellA
    split
    · exact hW
    · exact hW.setRg
  · simp only [isActN, Bool.and_eq_true] at hv
    obtain ⟨a, -, ha, rfl⟩ := inB_r 0 11 (by decide) (by decide) hv.1
    obtain ⟨c, -, hc, rfl⟩ := inB_r 0 11 (by decide) (by decide) hv.2
    show WF (copyA σ (nI a).toInt.toNat b (nI c).toInt.toNat d (σ.rg 7).toInt32).2
    rw [nI_toNat (by omega), nI_toNat (by omega)]
    generalize (σ.rg 7).toInt32 = n
    unfold copyA
    split
    · exact hW
    · next h0 =>
      split
      · exact hW
      · next hm =>
        split
        · exact hW
        · next hr =>
          have p1 := hW.pos (s := a) (by omega) (fun z => h0 (Or.inl z))
          have p2 := hW.pos (s := c) (by omega) (fun z => h0 (Or.inr z))
          have hle := readyN_le σ (σ.kd (σ.sl c)) (σ.bg (σ.sl a) + b.toInt.toNat) n.toInt.toNat
          refine WF.setCm (hW.copyIt p2.1 p2.2.1 (by omega) (fun z i hi => ?_))
          rw [Bool.not_eq_false, meetK_iff] at hm
          have hml := mayLie_iff.mp (readyN_lie i hi)
          obtain ⟨u, u1, u2, u3⟩ := hW.2.2.2.2 _ p1.1 p1.2.1 (by omega) (b.toInt.toNat + i) (by omega)
          rw [← Nat.add_assoc] at u2
          refine ⟨u, u1, u2, fun hu => ?_⟩
          rw [u2, lN_toInt (by omega)] at hml
          rcases hml with q | q | q
          · omega
          · exfalso
            have := (lN_eq (a := u) (b := 0) (by omega) (by decide)).mp q
            omega
          · exact q
  · exact hW.setRg
  · exact hW.setRg
  · show WF (divA σ _ _ _ _).2
    unfold divA
    split
    · exact hW
    · exact hW.setRg
  · show WF (divA σ _ _ _ _).2
    unfold divA
    split
    · exact hW
    · exact hW.setRg
  · exact hW
