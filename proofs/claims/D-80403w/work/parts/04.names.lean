/-! ThrowReports$State -/
set_option maxRecDepth 100000
def RX1 : String := "ThrowReports$State"
def TX1 : u_T := fun k => match k with
  | _ => ("ThrowReports$State", "sets", "[I", true)
def tyX1 : Nat → FieldType := fun k => match k with
  | _ => .array .int
abbrev wsX10 : List Cond := u_ws RX1 TX1 1
theorem nmX1 : ∀ a, a < 1 → ∀ b, b < 1 → a ≠ b → (TX1 a).2.1 ≠ (TX1 b).2.1 := by decide +kernel
theorem tyX1_ok : ∀ k, k < 1 → parseFieldDescriptor (TX1 k).2.2.1 = some (tyX1 k) := by decide +kernel
abbrev cX1_init : ByteArray := prog_10_method_1_code
def yX1_init : MethodName := ⟨RX1, "<init>", "()V"⟩
def dkwX1_init_0 : List UInt8 := [42, 183, 0, 3, 42, 16, 12, 188, 10, 181, 0, 9, 177]
abbrev dktX1_init_0 : List UInt8 := dkwX1_init_0 ++ []
theorem dksX1_init_0 : cX1_init.data.toList.drop 0 = dktX1_init_0 := by decide +kernel
theorem dX1_init_0 : decode cX1_init 0 = .ok (.aload_n 0, 1) := dk_42 (dk_at dksX1_init_0 0 rfl rfl)
theorem dX1_init_1 : decode cX1_init 1 = .ok (.invokespecial 3, 3) := dk_183 0 3 (dk_at dksX1_init_0 1 rfl rfl)
theorem dX1_init_4 : decode cX1_init 4 = .ok (.aload_n 0, 1) := dk_42 (dk_at dksX1_init_0 4 rfl rfl)
theorem dX1_init_5 : decode cX1_init 5 = .ok (.bipush 12, 2) := dk_16 12 (dk_at dksX1_init_0 5 rfl rfl)
theorem dX1_init_7 : decode cX1_init 7 = .ok (.newarray .int, 2) := dk_188_10 (dk_at dksX1_init_0 7 rfl rfl)
theorem dX1_init_9 : decode cX1_init 9 = .ok (.putfield 9, 3) := dk_181 0 9 (dk_at dksX1_init_0 9 rfl rfl)
theorem dX1_init_12 : decode cX1_init 12 = .ok (.return_, 1) := dk_177 (dk_at dksX1_init_0 12 rfl rfl)
abbrev cX1_copy : ByteArray := prog_10_method_2_code
def yX1_copy : MethodName := ⟨RX1, "copy", "()LThrowReports$State;"⟩
def dkwX1_copy_1 : List UInt8 := [176]
abbrev dktX1_copy_1 : List UInt8 := dkwX1_copy_1 ++ []
def dkwX1_copy_0 : List UInt8 := [187, 0, 10, 89, 183, 0, 15, 76, 42, 180, 0, 9, 3, 43, 180, 0, 9, 3, 16, 12, 184, 0, 16, 43]
abbrev dktX1_copy_0 : List UInt8 := dkwX1_copy_0 ++ dktX1_copy_1
theorem dksX1_copy_0 : cX1_copy.data.toList.drop 0 = dktX1_copy_0 := by decide +kernel
theorem dksX1_copy_1 : cX1_copy.data.toList.drop 24 = dktX1_copy_1 := dk_seg dksX1_copy_0 24 rfl rfl
theorem dX1_copy_0 : decode cX1_copy 0 = .ok (.new 10, 3) := dk_187 0 10 (dk_at dksX1_copy_0 0 rfl rfl)
theorem dX1_copy_3 : decode cX1_copy 3 = .ok (.dup, 1) := dk_89 (dk_at dksX1_copy_0 3 rfl rfl)
theorem dX1_copy_4 : decode cX1_copy 4 = .ok (.invokespecial 15, 3) := dk_183 0 15 (dk_at dksX1_copy_0 4 rfl rfl)
theorem dX1_copy_7 : decode cX1_copy 7 = .ok (.astore_n 1, 1) := dk_76 (dk_at dksX1_copy_0 7 rfl rfl)
theorem dX1_copy_8 : decode cX1_copy 8 = .ok (.aload_n 0, 1) := dk_42 (dk_at dksX1_copy_0 8 rfl rfl)
theorem dX1_copy_9 : decode cX1_copy 9 = .ok (.getfield 9, 3) := dk_180 0 9 (dk_at dksX1_copy_0 9 rfl rfl)
theorem dX1_copy_12 : decode cX1_copy 12 = .ok (.iconst 0, 1) := dk_3 (dk_at dksX1_copy_0 12 rfl rfl)
theorem dX1_copy_13 : decode cX1_copy 13 = .ok (.aload_n 1, 1) := dk_43 (dk_at dksX1_copy_0 13 rfl rfl)
theorem dX1_copy_14 : decode cX1_copy 14 = .ok (.getfield 9, 3) := dk_180 0 9 (dk_at dksX1_copy_0 14 rfl rfl)
theorem dX1_copy_17 : decode cX1_copy 17 = .ok (.iconst 0, 1) := dk_3 (dk_at dksX1_copy_0 17 rfl rfl)
theorem dX1_copy_18 : decode cX1_copy 18 = .ok (.bipush 12, 2) := dk_16 12 (dk_at dksX1_copy_0 18 rfl rfl)
theorem dX1_copy_20 : decode cX1_copy 20 = .ok (.invokestatic 16, 3) := dk_184 0 16 (dk_at dksX1_copy_0 20 rfl rfl)
theorem dX1_copy_23 : decode cX1_copy 23 = .ok (.aload_n 1, 1) := dk_43 (dk_at dksX1_copy_0 23 rfl rfl)
theorem dX1_copy_24 : decode cX1_copy 24 = .ok (.areturn, 1) := dk_176 (dk_at dksX1_copy_1 0 rfl rfl)
abbrev cX1_with : ByteArray := prog_10_method_3_code
def yX1_with : MethodName := ⟨RX1, "with", "(II)LThrowReports$State;"⟩
def dkwX1_with_0 : List UInt8 := [42, 182, 0, 22, 78, 45, 180, 0, 9, 27, 28, 79, 45, 176]
abbrev dktX1_with_0 : List UInt8 := dkwX1_with_0 ++ []
theorem dksX1_with_0 : cX1_with.data.toList.drop 0 = dktX1_with_0 := by decide +kernel
theorem dX1_with_0 : decode cX1_with 0 = .ok (.aload_n 0, 1) := dk_42 (dk_at dksX1_with_0 0 rfl rfl)
theorem dX1_with_1 : decode cX1_with 1 = .ok (.invokevirtual 22, 3) := dk_182 0 22 (dk_at dksX1_with_0 1 rfl rfl)
theorem dX1_with_4 : decode cX1_with 4 = .ok (.astore_n 3, 1) := dk_78 (dk_at dksX1_with_0 4 rfl rfl)
theorem dX1_with_5 : decode cX1_with 5 = .ok (.aload_n 3, 1) := dk_45 (dk_at dksX1_with_0 5 rfl rfl)
theorem dX1_with_6 : decode cX1_with 6 = .ok (.getfield 9, 3) := dk_180 0 9 (dk_at dksX1_with_0 6 rfl rfl)
theorem dX1_with_9 : decode cX1_with 9 = .ok (.iload_n 1, 1) := dk_27 (dk_at dksX1_with_0 9 rfl rfl)
theorem dX1_with_10 : decode cX1_with 10 = .ok (.iload_n 2, 1) := dk_28 (dk_at dksX1_with_0 10 rfl rfl)
theorem dX1_with_11 : decode cX1_with 11 = .ok (.iastore, 1) := dk_79 (dk_at dksX1_with_0 11 rfl rfl)
theorem dX1_with_12 : decode cX1_with 12 = .ok (.aload_n 3, 1) := dk_45 (dk_at dksX1_with_0 12 rfl rfl)
theorem dX1_with_13 : decode cX1_with 13 = .ok (.areturn, 1) := dk_176 (dk_at dksX1_with_0 13 rfl rfl)
theorem q95 : (Jvm.Cond.initialized "ThrowReports$State") ∈ lw_all := lw_g (lw_at lw_m1 2 rfl) rfl
theorem q135 : (Jvm.Cond.instantiable "ThrowReports$State" (1 : Nat)) ∈ lw_all := lw_g (lw_at lw_m1 42 rfl) rfl
theorem q137 : (Jvm.Cond.instanceMethod ({ cls := "ThrowReports$State", name := "<init>", desc := "()V" } : Jvm.MethodName)) ∈ lw_all := lw_g (lw_at lw_m1 44 rfl) rfl
theorem q138 : (Jvm.Cond.code ({ cls := "ThrowReports$State", name := "<init>", desc := "()V" } : Jvm.MethodName) prog_10_method_1_code (1 : Nat) (Option.none : Option Jvm.ClassFile.FieldType)) ∈ lw_all := lw_g (lw_at lw_m1 45 rfl) rfl
theorem q139 : (Jvm.Cond.methodLink "ThrowReports$State" (3 : Nat) ({ cls := "java/lang/Object", name := "<init>", desc := "()V" } : Jvm.MethodName)) ∈ lw_all := lw_g (lw_at lw_m1 46 rfl) rfl
theorem q140 : (Jvm.Cond.fieldLink "ThrowReports$State" (9 : Nat) "ThrowReports$State" "sets" "[I") ∈ lw_all := lw_g (lw_at lw_m1 47 rfl) rfl
theorem q143 : (Jvm.Cond.laysFinal "ThrowReports$State" "ThrowReports$State" "sets" "[I") ∈ lw_all := lw_g (lw_at lw_m1 50 rfl) rfl
theorem q144 : (Jvm.Cond.soleField "ThrowReports$State" "sets") ∈ lw_all := lw_g (lw_at lw_m1 51 rfl) rfl
theorem q145 : (Jvm.Cond.superclass "ThrowReports$State" "java/lang/Object") ∈ lw_all := lw_g (lw_at lw_m1 52 rfl) rfl
theorem q829 : (Jvm.Cond.privateMethod ({ cls := "ThrowReports$State", name := "copy", desc := "()LThrowReports$State;" } : Jvm.MethodName)) ∈ lw_tbl := lw_at lw_m4 16 rfl
theorem q830 : (Jvm.Cond.instanceMethod ({ cls := "ThrowReports$State", name := "copy", desc := "()LThrowReports$State;" } : Jvm.MethodName)) ∈ lw_all := lw_g (lw_at lw_m4 17 rfl) rfl
theorem q831 : (Jvm.Cond.code ({ cls := "ThrowReports$State", name := "copy", desc := "()LThrowReports$State;" } : Jvm.MethodName) prog_10_method_2_code (2 : Nat) (Option.some (Jvm.ClassFile.FieldType.object "ThrowReports$State"))) ∈ lw_all := lw_g (lw_at lw_m4 18 rfl) rfl
theorem q832 : (Jvm.Cond.classLink "ThrowReports$State" (10 : Nat) "ThrowReports$State") ∈ lw_all := lw_g (lw_at lw_m4 19 rfl) rfl
theorem q833 : (Jvm.Cond.methodLink "ThrowReports$State" (15 : Nat) ({ cls := "ThrowReports$State", name := "<init>", desc := "()V" } : Jvm.MethodName)) ∈ lw_all := lw_g (lw_at lw_m4 20 rfl) rfl
theorem q834 : (Jvm.Cond.methodLink "ThrowReports$State" (16 : Nat) ({ cls := "java/lang/System", name := "arraycopy", desc := "(Ljava/lang/Object;ILjava/lang/Object;II)V" } : Jvm.MethodName)) ∈ lw_all := lw_g (lw_at lw_m4 21 rfl) rfl
theorem q844 : (Jvm.Cond.privateMethod ({ cls := "ThrowReports$State", name := "with", desc := "(II)LThrowReports$State;" } : Jvm.MethodName)) ∈ lw_tbl := lw_at lw_m4 31 rfl
theorem q845 : (Jvm.Cond.instanceMethod ({ cls := "ThrowReports$State", name := "with", desc := "(II)LThrowReports$State;" } : Jvm.MethodName)) ∈ lw_all := lw_g (lw_at lw_m4 32 rfl) rfl
theorem q846 : (Jvm.Cond.code ({ cls := "ThrowReports$State", name := "with", desc := "(II)LThrowReports$State;" } : Jvm.MethodName) prog_10_method_3_code (4 : Nat) (Option.some (Jvm.ClassFile.FieldType.object "ThrowReports$State"))) ∈ lw_all := lw_g (lw_at lw_m4 33 rfl) rfl
theorem q847 : (Jvm.Cond.methodLink "ThrowReports$State" (22 : Nat) ({ cls := "ThrowReports$State", name := "copy", desc := "()LThrowReports$State;" } : Jvm.MethodName)) ∈ lw_all := lw_g (lw_at lw_m4 34 rfl) rfl
theorem in_X1 : ∀ w ∈ wsX10, w ∈ lw_all := lw_in wsX10 [143] (by decide +kernel) (by decide +kernel)
/-! ThrowReports$Holder -/
set_option maxRecDepth 100000
def RX2 : String := "ThrowReports$Holder"
def TX2 : u_T := fun k => match k with
  | _ => ("ThrowReports$Holder", "held", "Ljava/lang/Object;", false)
def tyX2 : Nat → FieldType := fun k => match k with
  | _ => .object "java/lang/Object"
abbrev wsX20 : List Cond := u_ws RX2 TX2 1
theorem nmX2 : ∀ a, a < 1 → ∀ b, b < 1 → a ≠ b → (TX2 a).2.1 ≠ (TX2 b).2.1 := by decide +kernel
theorem tyX2_ok : ∀ k, k < 1 → parseFieldDescriptor (TX2 k).2.2.1 = some (tyX2 k) := by decide +kernel
abbrev cX2_init : ByteArray := prog_3_method_1_code
def yX2_init : MethodName := ⟨RX2, "<init>", "()V"⟩
theorem dX2_init_0 : decode cX2_init 0 = .ok (.aload_n 0, 1) := by decide +kernel
theorem dX2_init_1 : decode cX2_init 1 = .ok (.invokespecial 1, 3) := by decide +kernel
theorem dX2_init_4 : decode cX2_init 4 = .ok (.return_, 1) := by decide +kernel
abbrev cX2_isRow : ByteArray := prog_3_method_4_code
def yX2_isRow : MethodName := ⟨RX2, "isRow", "()Z"⟩
def dkwX2_isRow_0 : List UInt8 := [42, 182, 0, 31, 158, 0, 16, 42, 182, 0, 31, 16, 8, 162, 0, 7, 4, 167, 0, 4, 3, 172]
abbrev dktX2_isRow_0 : List UInt8 := dkwX2_isRow_0 ++ []
theorem dksX2_isRow_0 : cX2_isRow.data.toList.drop 0 = dktX2_isRow_0 := by decide +kernel
theorem dX2_isRow_0 : decode cX2_isRow 0 = .ok (.aload_n 0, 1) := dk_42 (dk_at dksX2_isRow_0 0 rfl rfl)
theorem dX2_isRow_1 : decode cX2_isRow 1 = .ok (.invokevirtual 31, 3) := dk_182 0 31 (dk_at dksX2_isRow_0 1 rfl rfl)
theorem dX2_isRow_4 : decode cX2_isRow 4 = .ok (.ifCond .le 16, 3) := dk_158 0 16 (dk_at dksX2_isRow_0 4 rfl rfl)
theorem dX2_isRow_7 : decode cX2_isRow 7 = .ok (.aload_n 0, 1) := dk_42 (dk_at dksX2_isRow_0 7 rfl rfl)
theorem dX2_isRow_8 : decode cX2_isRow 8 = .ok (.invokevirtual 31, 3) := dk_182 0 31 (dk_at dksX2_isRow_0 8 rfl rfl)
theorem dX2_isRow_11 : decode cX2_isRow 11 = .ok (.bipush 8, 2) := dk_16 8 (dk_at dksX2_isRow_0 11 rfl rfl)
theorem dX2_isRow_13 : decode cX2_isRow 13 = .ok (.if_icmp .ge 7, 3) := dk_162 0 7 (dk_at dksX2_isRow_0 13 rfl rfl)
theorem dX2_isRow_16 : decode cX2_isRow 16 = .ok (.iconst 1, 1) := dk_4 (dk_at dksX2_isRow_0 16 rfl rfl)
theorem dX2_isRow_17 : decode cX2_isRow 17 = .ok (.goto 4, 3) := dk_167 0 4 (dk_at dksX2_isRow_0 17 rfl rfl)
theorem dX2_isRow_20 : decode cX2_isRow 20 = .ok (.iconst 0, 1) := dk_3 (dk_at dksX2_isRow_0 20 rfl rfl)
theorem dX2_isRow_21 : decode cX2_isRow 21 = .ok (.ireturn, 1) := dk_172 (dk_at dksX2_isRow_0 21 rfl rfl)
abbrev cX2_kind : ByteArray := prog_3_method_2_code
def yX2_kind : MethodName := ⟨RX2, "kind", "()I"⟩
def dkwX2_kind_4 : List UInt8 := [172]
abbrev dktX2_kind_4 : List UInt8 := dkwX2_kind_4 ++ []
def dkwX2_kind_3 : List UInt8 := [193, 0, 27, 153, 0, 8, 16, 9, 167, 0, 16, 43, 193, 0, 29, 153, 0, 8, 16, 8, 167, 0, 4, 3]
abbrev dktX2_kind_3 : List UInt8 := dkwX2_kind_3 ++ dktX2_kind_4
def dkwX2_kind_2 : List UInt8 := [8, 172, 43, 193, 0, 23, 153, 0, 6, 16, 7, 172, 43, 193, 0, 25, 153, 0, 6, 16, 6, 172, 43]
abbrev dktX2_kind_2 : List UInt8 := dkwX2_kind_2 ++ dktX2_kind_3
def dkwX2_kind_1 : List UInt8 := [193, 0, 17, 153, 0, 5, 6, 172, 43, 193, 0, 19, 153, 0, 5, 7, 172, 43, 193, 0, 21, 153, 0, 5]
abbrev dktX2_kind_1 : List UInt8 := dkwX2_kind_1 ++ dktX2_kind_2
def dkwX2_kind_0 : List UInt8 := [42, 180, 0, 7, 76, 43, 193, 0, 13, 153, 0, 5, 4, 172, 43, 193, 0, 15, 153, 0, 5, 5, 172, 43]
abbrev dktX2_kind_0 : List UInt8 := dkwX2_kind_0 ++ dktX2_kind_1
theorem dksX2_kind_0 : cX2_kind.data.toList.drop 0 = dktX2_kind_0 := by decide +kernel
theorem dksX2_kind_1 : cX2_kind.data.toList.drop 24 = dktX2_kind_1 := dk_seg dksX2_kind_0 24 rfl rfl
theorem dksX2_kind_2 : cX2_kind.data.toList.drop 48 = dktX2_kind_2 := dk_seg dksX2_kind_1 24 rfl rfl
theorem dksX2_kind_3 : cX2_kind.data.toList.drop 71 = dktX2_kind_3 := dk_seg dksX2_kind_2 23 rfl rfl
theorem dksX2_kind_4 : cX2_kind.data.toList.drop 95 = dktX2_kind_4 := dk_seg dksX2_kind_3 24 rfl rfl
theorem dX2_kind_0 : decode cX2_kind 0 = .ok (.aload_n 0, 1) := dk_42 (dk_at dksX2_kind_0 0 rfl rfl)
theorem dX2_kind_1 : decode cX2_kind 1 = .ok (.getfield 7, 3) := dk_180 0 7 (dk_at dksX2_kind_0 1 rfl rfl)
theorem dX2_kind_4 : decode cX2_kind 4 = .ok (.astore_n 1, 1) := dk_76 (dk_at dksX2_kind_0 4 rfl rfl)
theorem dX2_kind_5 : decode cX2_kind 5 = .ok (.aload_n 1, 1) := dk_43 (dk_at dksX2_kind_0 5 rfl rfl)
theorem dX2_kind_6 : decode cX2_kind 6 = .ok (.instanceof 13, 3) := dk_193 0 13 (dk_at dksX2_kind_0 6 rfl rfl)
theorem dX2_kind_9 : decode cX2_kind 9 = .ok (.ifCond .eq 5, 3) := dk_153 0 5 (dk_at dksX2_kind_0 9 rfl rfl)
theorem dX2_kind_12 : decode cX2_kind 12 = .ok (.iconst 1, 1) := dk_4 (dk_at dksX2_kind_0 12 rfl rfl)
theorem dX2_kind_13 : decode cX2_kind 13 = .ok (.ireturn, 1) := dk_172 (dk_at dksX2_kind_0 13 rfl rfl)
theorem dX2_kind_14 : decode cX2_kind 14 = .ok (.aload_n 1, 1) := dk_43 (dk_at dksX2_kind_0 14 rfl rfl)
theorem dX2_kind_15 : decode cX2_kind 15 = .ok (.instanceof 15, 3) := dk_193 0 15 (dk_at dksX2_kind_0 15 rfl rfl)
theorem dX2_kind_18 : decode cX2_kind 18 = .ok (.ifCond .eq 5, 3) := dk_153 0 5 (dk_at dksX2_kind_0 18 rfl rfl)
theorem dX2_kind_21 : decode cX2_kind 21 = .ok (.iconst 2, 1) := dk_5 (dk_at dksX2_kind_0 21 rfl rfl)
theorem dX2_kind_22 : decode cX2_kind 22 = .ok (.ireturn, 1) := dk_172 (dk_at dksX2_kind_0 22 rfl rfl)
theorem dX2_kind_23 : decode cX2_kind 23 = .ok (.aload_n 1, 1) := dk_43 (dk_at dksX2_kind_0 23 rfl rfl)
theorem dX2_kind_24 : decode cX2_kind 24 = .ok (.instanceof 17, 3) := dk_193 0 17 (dk_at dksX2_kind_1 0 rfl rfl)
theorem dX2_kind_27 : decode cX2_kind 27 = .ok (.ifCond .eq 5, 3) := dk_153 0 5 (dk_at dksX2_kind_1 3 rfl rfl)
theorem dX2_kind_30 : decode cX2_kind 30 = .ok (.iconst 3, 1) := dk_6 (dk_at dksX2_kind_1 6 rfl rfl)
theorem dX2_kind_31 : decode cX2_kind 31 = .ok (.ireturn, 1) := dk_172 (dk_at dksX2_kind_1 7 rfl rfl)
theorem dX2_kind_32 : decode cX2_kind 32 = .ok (.aload_n 1, 1) := dk_43 (dk_at dksX2_kind_1 8 rfl rfl)
theorem dX2_kind_33 : decode cX2_kind 33 = .ok (.instanceof 19, 3) := dk_193 0 19 (dk_at dksX2_kind_1 9 rfl rfl)
theorem dX2_kind_36 : decode cX2_kind 36 = .ok (.ifCond .eq 5, 3) := dk_153 0 5 (dk_at dksX2_kind_1 12 rfl rfl)
theorem dX2_kind_39 : decode cX2_kind 39 = .ok (.iconst 4, 1) := dk_7 (dk_at dksX2_kind_1 15 rfl rfl)
theorem dX2_kind_40 : decode cX2_kind 40 = .ok (.ireturn, 1) := dk_172 (dk_at dksX2_kind_1 16 rfl rfl)
theorem dX2_kind_41 : decode cX2_kind 41 = .ok (.aload_n 1, 1) := dk_43 (dk_at dksX2_kind_1 17 rfl rfl)
theorem dX2_kind_42 : decode cX2_kind 42 = .ok (.instanceof 21, 3) := dk_193 0 21 (dk_at dksX2_kind_1 18 rfl rfl)
theorem dX2_kind_45 : decode cX2_kind 45 = .ok (.ifCond .eq 5, 3) := dk_153 0 5 (dk_at dksX2_kind_1 21 rfl rfl)
theorem dX2_kind_48 : decode cX2_kind 48 = .ok (.iconst 5, 1) := dk_8 (dk_at dksX2_kind_2 0 rfl rfl)
theorem dX2_kind_49 : decode cX2_kind 49 = .ok (.ireturn, 1) := dk_172 (dk_at dksX2_kind_2 1 rfl rfl)
theorem dX2_kind_50 : decode cX2_kind 50 = .ok (.aload_n 1, 1) := dk_43 (dk_at dksX2_kind_2 2 rfl rfl)
theorem dX2_kind_51 : decode cX2_kind 51 = .ok (.instanceof 23, 3) := dk_193 0 23 (dk_at dksX2_kind_2 3 rfl rfl)
theorem dX2_kind_54 : decode cX2_kind 54 = .ok (.ifCond .eq 6, 3) := dk_153 0 6 (dk_at dksX2_kind_2 6 rfl rfl)
theorem dX2_kind_57 : decode cX2_kind 57 = .ok (.bipush 7, 2) := dk_16 7 (dk_at dksX2_kind_2 9 rfl rfl)
theorem dX2_kind_59 : decode cX2_kind 59 = .ok (.ireturn, 1) := dk_172 (dk_at dksX2_kind_2 11 rfl rfl)
theorem dX2_kind_60 : decode cX2_kind 60 = .ok (.aload_n 1, 1) := dk_43 (dk_at dksX2_kind_2 12 rfl rfl)
theorem dX2_kind_61 : decode cX2_kind 61 = .ok (.instanceof 25, 3) := dk_193 0 25 (dk_at dksX2_kind_2 13 rfl rfl)
theorem dX2_kind_64 : decode cX2_kind 64 = .ok (.ifCond .eq 6, 3) := dk_153 0 6 (dk_at dksX2_kind_2 16 rfl rfl)
theorem dX2_kind_67 : decode cX2_kind 67 = .ok (.bipush 6, 2) := dk_16 6 (dk_at dksX2_kind_2 19 rfl rfl)
theorem dX2_kind_69 : decode cX2_kind 69 = .ok (.ireturn, 1) := dk_172 (dk_at dksX2_kind_2 21 rfl rfl)
theorem dX2_kind_70 : decode cX2_kind 70 = .ok (.aload_n 1, 1) := dk_43 (dk_at dksX2_kind_2 22 rfl rfl)
theorem dX2_kind_71 : decode cX2_kind 71 = .ok (.instanceof 27, 3) := dk_193 0 27 (dk_at dksX2_kind_3 0 rfl rfl)
theorem dX2_kind_74 : decode cX2_kind 74 = .ok (.ifCond .eq 8, 3) := dk_153 0 8 (dk_at dksX2_kind_3 3 rfl rfl)
theorem dX2_kind_77 : decode cX2_kind 77 = .ok (.bipush 9, 2) := dk_16 9 (dk_at dksX2_kind_3 6 rfl rfl)
theorem dX2_kind_79 : decode cX2_kind 79 = .ok (.goto 16, 3) := dk_167 0 16 (dk_at dksX2_kind_3 8 rfl rfl)
theorem dX2_kind_82 : decode cX2_kind 82 = .ok (.aload_n 1, 1) := dk_43 (dk_at dksX2_kind_3 11 rfl rfl)
theorem dX2_kind_83 : decode cX2_kind 83 = .ok (.instanceof 29, 3) := dk_193 0 29 (dk_at dksX2_kind_3 12 rfl rfl)
theorem dX2_kind_86 : decode cX2_kind 86 = .ok (.ifCond .eq 8, 3) := dk_153 0 8 (dk_at dksX2_kind_3 15 rfl rfl)
theorem dX2_kind_89 : decode cX2_kind 89 = .ok (.bipush 8, 2) := dk_16 8 (dk_at dksX2_kind_3 18 rfl rfl)
theorem dX2_kind_91 : decode cX2_kind 91 = .ok (.goto 4, 3) := dk_167 0 4 (dk_at dksX2_kind_3 20 rfl rfl)
theorem dX2_kind_94 : decode cX2_kind 94 = .ok (.iconst 0, 1) := dk_3 (dk_at dksX2_kind_3 23 rfl rfl)
theorem dX2_kind_95 : decode cX2_kind 95 = .ok (.ireturn, 1) := dk_172 (dk_at dksX2_kind_4 0 rfl rfl)
abbrev cX2_size : ByteArray := prog_3_method_3_code
def yX2_size : MethodName := ⟨RX2, "size", "()I"⟩
def dkwX2_size_5 : List UInt8 := [192, 0, 29, 182, 0, 35, 172]
abbrev dktX2_size_5 : List UInt8 := dkwX2_size_5 ++ []
def dkwX2_size_4 : List UInt8 := [180, 0, 7, 192, 0, 25, 190, 172, 42, 180, 0, 7, 199, 0, 7, 3, 167, 0, 13, 42, 180, 0, 7]
abbrev dktX2_size_4 : List UInt8 := dkwX2_size_4 ++ dktX2_size_5
def dkwX2_size_3 : List UInt8 := [192, 0, 17, 190, 172, 42, 180, 0, 7, 192, 0, 19, 190, 172, 42, 180, 0, 7, 192, 0, 21, 190, 172, 42]
abbrev dktX2_size_3 : List UInt8 := dkwX2_size_3 ++ dktX2_size_4
def dkwX2_size_2 : List UInt8 := [42, 180, 0, 7, 192, 0, 13, 190, 172, 42, 180, 0, 7, 192, 0, 15, 190, 172, 42, 180, 0, 7]
abbrev dktX2_size_2 : List UInt8 := dkwX2_size_2 ++ dktX2_size_3
def dkwX2_size_1 : List UInt8 := [170, 0, 0, 0, 0, 0, 0, 98, 0, 0, 0, 1, 0, 0, 0, 7, 0, 0, 0, 44, 0, 0, 0, 53, 0, 0, 0, 62, 0, 0, 0, 71, 0, 0, 0, 80, 0, 0, 0, 89, 0, 0, 0, 89]
abbrev dktX2_size_1 : List UInt8 := dkwX2_size_1 ++ dktX2_size_2
def dkwX2_size_0 : List UInt8 := [42, 182, 0, 31]
abbrev dktX2_size_0 : List UInt8 := dkwX2_size_0 ++ dktX2_size_1
theorem dksX2_size_0 : cX2_size.data.toList.drop 0 = dktX2_size_0 := by decide +kernel
theorem dksX2_size_1 : cX2_size.data.toList.drop 4 = dktX2_size_1 := dk_seg dksX2_size_0 4 rfl rfl
theorem dksX2_size_2 : cX2_size.data.toList.drop 48 = dktX2_size_2 := dk_seg dksX2_size_1 44 rfl rfl
theorem dksX2_size_3 : cX2_size.data.toList.drop 70 = dktX2_size_3 := dk_seg dksX2_size_2 22 rfl rfl
theorem dksX2_size_4 : cX2_size.data.toList.drop 94 = dktX2_size_4 := dk_seg dksX2_size_3 24 rfl rfl
theorem dksX2_size_5 : cX2_size.data.toList.drop 117 = dktX2_size_5 := dk_seg dksX2_size_4 23 rfl rfl
theorem dX2_size_0 : decode cX2_size 0 = .ok (.aload_n 0, 1) := dk_42 (dk_at dksX2_size_0 0 rfl rfl)
theorem dX2_size_1 : decode cX2_size 1 = .ok (.invokevirtual 31, 3) := dk_182 0 31 (dk_at dksX2_size_0 1 rfl rfl)
theorem dX2_size_4 : decode cX2_size 4 = .ok (.tableswitch 98 1 7 #[44, 53, 62, 71, 80, 89, 89], 44) := by decide +kernel
theorem dX2_size_48 : decode cX2_size 48 = .ok (.aload_n 0, 1) := dk_42 (dk_at dksX2_size_2 0 rfl rfl)
theorem dX2_size_49 : decode cX2_size 49 = .ok (.getfield 7, 3) := dk_180 0 7 (dk_at dksX2_size_2 1 rfl rfl)
theorem dX2_size_52 : decode cX2_size 52 = .ok (.checkcast 13, 3) := dk_192 0 13 (dk_at dksX2_size_2 4 rfl rfl)
theorem dX2_size_55 : decode cX2_size 55 = .ok (.arraylength, 1) := dk_190 (dk_at dksX2_size_2 7 rfl rfl)
theorem dX2_size_56 : decode cX2_size 56 = .ok (.ireturn, 1) := dk_172 (dk_at dksX2_size_2 8 rfl rfl)
theorem dX2_size_57 : decode cX2_size 57 = .ok (.aload_n 0, 1) := dk_42 (dk_at dksX2_size_2 9 rfl rfl)
theorem dX2_size_58 : decode cX2_size 58 = .ok (.getfield 7, 3) := dk_180 0 7 (dk_at dksX2_size_2 10 rfl rfl)
theorem dX2_size_61 : decode cX2_size 61 = .ok (.checkcast 15, 3) := dk_192 0 15 (dk_at dksX2_size_2 13 rfl rfl)
theorem dX2_size_64 : decode cX2_size 64 = .ok (.arraylength, 1) := dk_190 (dk_at dksX2_size_2 16 rfl rfl)
theorem dX2_size_65 : decode cX2_size 65 = .ok (.ireturn, 1) := dk_172 (dk_at dksX2_size_2 17 rfl rfl)
theorem dX2_size_66 : decode cX2_size 66 = .ok (.aload_n 0, 1) := dk_42 (dk_at dksX2_size_2 18 rfl rfl)
theorem dX2_size_67 : decode cX2_size 67 = .ok (.getfield 7, 3) := dk_180 0 7 (dk_at dksX2_size_2 19 rfl rfl)
theorem dX2_size_70 : decode cX2_size 70 = .ok (.checkcast 17, 3) := dk_192 0 17 (dk_at dksX2_size_3 0 rfl rfl)
theorem dX2_size_73 : decode cX2_size 73 = .ok (.arraylength, 1) := dk_190 (dk_at dksX2_size_3 3 rfl rfl)
theorem dX2_size_74 : decode cX2_size 74 = .ok (.ireturn, 1) := dk_172 (dk_at dksX2_size_3 4 rfl rfl)
theorem dX2_size_75 : decode cX2_size 75 = .ok (.aload_n 0, 1) := dk_42 (dk_at dksX2_size_3 5 rfl rfl)
theorem dX2_size_76 : decode cX2_size 76 = .ok (.getfield 7, 3) := dk_180 0 7 (dk_at dksX2_size_3 6 rfl rfl)
theorem dX2_size_79 : decode cX2_size 79 = .ok (.checkcast 19, 3) := dk_192 0 19 (dk_at dksX2_size_3 9 rfl rfl)
theorem dX2_size_82 : decode cX2_size 82 = .ok (.arraylength, 1) := dk_190 (dk_at dksX2_size_3 12 rfl rfl)
theorem dX2_size_83 : decode cX2_size 83 = .ok (.ireturn, 1) := dk_172 (dk_at dksX2_size_3 13 rfl rfl)
theorem dX2_size_84 : decode cX2_size 84 = .ok (.aload_n 0, 1) := dk_42 (dk_at dksX2_size_3 14 rfl rfl)
theorem dX2_size_85 : decode cX2_size 85 = .ok (.getfield 7, 3) := dk_180 0 7 (dk_at dksX2_size_3 15 rfl rfl)
theorem dX2_size_88 : decode cX2_size 88 = .ok (.checkcast 21, 3) := dk_192 0 21 (dk_at dksX2_size_3 18 rfl rfl)
theorem dX2_size_91 : decode cX2_size 91 = .ok (.arraylength, 1) := dk_190 (dk_at dksX2_size_3 21 rfl rfl)
theorem dX2_size_92 : decode cX2_size 92 = .ok (.ireturn, 1) := dk_172 (dk_at dksX2_size_3 22 rfl rfl)
theorem dX2_size_93 : decode cX2_size 93 = .ok (.aload_n 0, 1) := dk_42 (dk_at dksX2_size_3 23 rfl rfl)
theorem dX2_size_94 : decode cX2_size 94 = .ok (.getfield 7, 3) := dk_180 0 7 (dk_at dksX2_size_4 0 rfl rfl)
theorem dX2_size_97 : decode cX2_size 97 = .ok (.checkcast 25, 3) := dk_192 0 25 (dk_at dksX2_size_4 3 rfl rfl)
theorem dX2_size_100 : decode cX2_size 100 = .ok (.arraylength, 1) := dk_190 (dk_at dksX2_size_4 6 rfl rfl)
theorem dX2_size_101 : decode cX2_size 101 = .ok (.ireturn, 1) := dk_172 (dk_at dksX2_size_4 7 rfl rfl)
theorem dX2_size_102 : decode cX2_size 102 = .ok (.aload_n 0, 1) := dk_42 (dk_at dksX2_size_4 8 rfl rfl)
theorem dX2_size_103 : decode cX2_size 103 = .ok (.getfield 7, 3) := dk_180 0 7 (dk_at dksX2_size_4 9 rfl rfl)
theorem dX2_size_106 : decode cX2_size 106 = .ok (.ifnonnull 7, 3) := dk_199 0 7 (dk_at dksX2_size_4 12 rfl rfl)
theorem dX2_size_109 : decode cX2_size 109 = .ok (.iconst 0, 1) := dk_3 (dk_at dksX2_size_4 15 rfl rfl)
theorem dX2_size_110 : decode cX2_size 110 = .ok (.goto 13, 3) := dk_167 0 13 (dk_at dksX2_size_4 16 rfl rfl)
theorem dX2_size_113 : decode cX2_size 113 = .ok (.aload_n 0, 1) := dk_42 (dk_at dksX2_size_4 19 rfl rfl)
theorem dX2_size_114 : decode cX2_size 114 = .ok (.getfield 7, 3) := dk_180 0 7 (dk_at dksX2_size_4 20 rfl rfl)
theorem dX2_size_117 : decode cX2_size 117 = .ok (.checkcast 29, 3) := dk_192 0 29 (dk_at dksX2_size_5 0 rfl rfl)
theorem dX2_size_120 : decode cX2_size 120 = .ok (.invokevirtual 35, 3) := dk_182 0 35 (dk_at dksX2_size_5 3 rfl rfl)
theorem dX2_size_123 : decode cX2_size 123 = .ok (.ireturn, 1) := dk_172 (dk_at dksX2_size_5 6 rfl rfl)
theorem q96 : (Jvm.Cond.initialized "ThrowReports$Holder") ∈ lw_all := lw_g (lw_at lw_m1 3 rfl) rfl
theorem q148 : (Jvm.Cond.instantiable "ThrowReports$Holder" (1 : Nat)) ∈ lw_all := lw_g (lw_at lw_m1 55 rfl) rfl
theorem q150 : (Jvm.Cond.instanceMethod ({ cls := "ThrowReports$Holder", name := "<init>", desc := "()V" } : Jvm.MethodName)) ∈ lw_all := lw_g (lw_at lw_m1 57 rfl) rfl
theorem q151 : (Jvm.Cond.code ({ cls := "ThrowReports$Holder", name := "<init>", desc := "()V" } : Jvm.MethodName) prog_3_method_1_code (1 : Nat) (Option.none : Option Jvm.ClassFile.FieldType)) ∈ lw_all := lw_g (lw_at lw_m1 58 rfl) rfl
theorem q152 : (Jvm.Cond.methodLink "ThrowReports$Holder" (1 : Nat) ({ cls := "java/lang/Object", name := "<init>", desc := "()V" } : Jvm.MethodName)) ∈ lw_all := lw_g (lw_at lw_m1 59 rfl) rfl
theorem q153 : (Jvm.Cond.fieldLink "ThrowReports$Holder" (7 : Nat) "ThrowReports$Holder" "held" "Ljava/lang/Object;") ∈ lw_all := lw_g (lw_at lw_m1 60 rfl) rfl
theorem q155 : (Jvm.Cond.lays "ThrowReports$Holder" "ThrowReports$Holder" "held" "Ljava/lang/Object;") ∈ lw_all := lw_g (lw_at lw_m1 62 rfl) rfl
theorem q156 : (Jvm.Cond.soleField "ThrowReports$Holder" "held") ∈ lw_all := lw_g (lw_at lw_m1 63 rfl) rfl
theorem q157 : (Jvm.Cond.superclass "ThrowReports$Holder" "java/lang/Object") ∈ lw_all := lw_g (lw_at lw_m1 64 rfl) rfl
theorem q667 : (Jvm.Cond.privateMethod ({ cls := "ThrowReports$Holder", name := "isRow", desc := "()Z" } : Jvm.MethodName)) ∈ lw_tbl := lw_at lw_m3 94 rfl
theorem q668 : (Jvm.Cond.instanceMethod ({ cls := "ThrowReports$Holder", name := "isRow", desc := "()Z" } : Jvm.MethodName)) ∈ lw_all := lw_g (lw_at lw_m3 95 rfl) rfl
theorem q669 : (Jvm.Cond.code ({ cls := "ThrowReports$Holder", name := "isRow", desc := "()Z" } : Jvm.MethodName) prog_3_method_4_code (1 : Nat) (Option.some Jvm.ClassFile.FieldType.boolean)) ∈ lw_all := lw_g (lw_at lw_m3 96 rfl) rfl
theorem q670 : (Jvm.Cond.methodLink "ThrowReports$Holder" (31 : Nat) ({ cls := "ThrowReports$Holder", name := "kind", desc := "()I" } : Jvm.MethodName)) ∈ lw_all := lw_g (lw_at lw_m3 97 rfl) rfl
theorem q671 : (Jvm.Cond.privateMethod ({ cls := "ThrowReports$Holder", name := "kind", desc := "()I" } : Jvm.MethodName)) ∈ lw_tbl := lw_at lw_m3 98 rfl
theorem q672 : (Jvm.Cond.instanceMethod ({ cls := "ThrowReports$Holder", name := "kind", desc := "()I" } : Jvm.MethodName)) ∈ lw_all := lw_g (lw_at lw_m3 99 rfl) rfl
theorem q673 : (Jvm.Cond.code ({ cls := "ThrowReports$Holder", name := "kind", desc := "()I" } : Jvm.MethodName) prog_3_method_2_code (2 : Nat) (Option.some Jvm.ClassFile.FieldType.int)) ∈ lw_all := lw_g (lw_at lw_m3 100 rfl) rfl
theorem q674 : (Jvm.Cond.classLink "ThrowReports$Holder" (13 : Nat) "[I") ∈ lw_all := lw_g (lw_at lw_m3 101 rfl) rfl
theorem q675 : (Jvm.Cond.classLink "ThrowReports$Holder" (15 : Nat) "[B") ∈ lw_all := lw_g (lw_at lw_m3 102 rfl) rfl
theorem q676 : (Jvm.Cond.classLink "ThrowReports$Holder" (17 : Nat) "[J") ∈ lw_all := lw_g (lw_at lw_m3 103 rfl) rfl
theorem q677 : (Jvm.Cond.classLink "ThrowReports$Holder" (19 : Nat) "[D") ∈ lw_all := lw_g (lw_at lw_m3 104 rfl) rfl
theorem q678 : (Jvm.Cond.classLink "ThrowReports$Holder" (21 : Nat) "[[I") ∈ lw_all := lw_g (lw_at lw_m3 105 rfl) rfl
theorem q679 : (Jvm.Cond.classLink "ThrowReports$Holder" (23 : Nat) "[LThrowReports$Round;") ∈ lw_all := lw_g (lw_at lw_m3 106 rfl) rfl
theorem q680 : (Jvm.Cond.classLink "ThrowReports$Holder" (25 : Nat) "[LThrowReports$Figure;") ∈ lw_all := lw_g (lw_at lw_m3 107 rfl) rfl
theorem q681 : (Jvm.Cond.classLink "ThrowReports$Holder" (27 : Nat) "ThrowReports$Round") ∈ lw_all := lw_g (lw_at lw_m3 108 rfl) rfl
theorem q682 : (Jvm.Cond.classLink "ThrowReports$Holder" (29 : Nat) "ThrowReports$Figure") ∈ lw_all := lw_g (lw_at lw_m3 109 rfl) rfl
theorem q688 : (Jvm.Cond.privateMethod ({ cls := "ThrowReports$Holder", name := "size", desc := "()I" } : Jvm.MethodName)) ∈ lw_tbl := lw_at lw_m3 115 rfl
theorem q689 : (Jvm.Cond.instanceMethod ({ cls := "ThrowReports$Holder", name := "size", desc := "()I" } : Jvm.MethodName)) ∈ lw_all := lw_g (lw_at lw_m3 116 rfl) rfl
theorem q690 : (Jvm.Cond.code ({ cls := "ThrowReports$Holder", name := "size", desc := "()I" } : Jvm.MethodName) prog_3_method_3_code (1 : Nat) (Option.some Jvm.ClassFile.FieldType.int)) ∈ lw_all := lw_g (lw_at lw_m3 117 rfl) rfl
theorem q691 : (Jvm.Cond.methodLink "ThrowReports$Holder" (35 : Nat) ({ cls := "ThrowReports$Figure", name := "number", desc := "()I" } : Jvm.MethodName)) ∈ lw_all := lw_g (lw_at lw_m3 118 rfl) rfl
theorem in_X2 : ∀ w ∈ wsX20, w ∈ lw_all := lw_in wsX20 [155] (by decide +kernel) (by decide +kernel)
/-! ThrowReports$Node -/
set_option maxRecDepth 100000
def RX4 : String := "ThrowReports$Node"
def TX4 : u_T := fun k => match k with
  | 0 => ("ThrowReports$Node", "sort", "LThrowReports$Sort;", true)
  | 1 => ("ThrowReports$Node", "number", "I", true)
  | 2 => ("ThrowReports$Node", "op", "I", true)
  | 3 => ("ThrowReports$Node", "a", "I", true)
  | 4 => ("ThrowReports$Node", "b", "I", true)
  | 5 => ("ThrowReports$Node", "c", "I", true)
  | 6 => ("ThrowReports$Node", "d", "I", true)
  | 7 => ("ThrowReports$Node", "cost", "I", false)
  | 8 => ("ThrowReports$Node", "one", "LThrowReports$Node;", false)
  | 9 => ("ThrowReports$Node", "other", "LThrowReports$Node;", false)
  | 10 => ("ThrowReports$Node", "last", "LThrowReports$Node;", false)
  | 11 => ("ThrowReports$Node", "may", "I", false)
  | 12 => ("ThrowReports$Node", "ahead", "[I", true)
  | 13 => ("ThrowReports$Node", "bodyMay", "I", false)
  | _ => ("ThrowReports$Node", "lost", "I", false)
def tyX4 : Nat → FieldType := fun k => match k with
  | 0 => .object "ThrowReports$Sort"
  | 1 => .int
  | 2 => .int
  | 3 => .int
  | 4 => .int
  | 5 => .int
  | 6 => .int
  | 7 => .int
  | 8 => .object "ThrowReports$Node"
  | 9 => .object "ThrowReports$Node"
  | 10 => .object "ThrowReports$Node"
  | 11 => .int
  | 12 => .array .int
  | 13 => .int
  | _ => .int
abbrev wsX40 : List Cond := u_ws RX4 TX4 15
set_option maxRecDepth 100000 in
theorem nmX4 : ∀ a, a < 15 → ∀ b, b < 15 → a ≠ b → (TX4 a).2.1 ≠ (TX4 b).2.1 := by decide +kernel
set_option maxRecDepth 100000 in
theorem tyX4_ok : ∀ k, k < 15 → parseFieldDescriptor (TX4 k).2.2.1 = some (tyX4 k) := by decide +kernel
abbrev cX4_init : ByteArray := prog_4_method_1_code
def yX4_init : MethodName := ⟨RX4, "<init>", "(LThrowReports$Sort;IIIIII)V"⟩
def dkwX4_init_2 : List UInt8 := [181, 0, 35, 42, 21, 7, 181, 0, 38, 177]
abbrev dktX4_init_2 : List UInt8 := dkwX4_init_2 ++ []
def dkwX4_init_1 : List UInt8 := [181, 0, 23, 42, 29, 181, 0, 26, 42, 21, 4, 181, 0, 29, 42, 21, 5, 181, 0, 32, 42, 21, 6]
abbrev dktX4_init_1 : List UInt8 := dkwX4_init_1 ++ dktX4_init_2
def dkwX4_init_0 : List UInt8 := [42, 183, 0, 3, 42, 4, 181, 0, 9, 42, 16, 12, 188, 10, 181, 0, 15, 42, 43, 181, 0, 19, 42, 28]
abbrev dktX4_init_0 : List UInt8 := dkwX4_init_0 ++ dktX4_init_1
theorem dksX4_init_0 : cX4_init.data.toList.drop 0 = dktX4_init_0 := by decide +kernel
theorem dksX4_init_1 : cX4_init.data.toList.drop 24 = dktX4_init_1 := dk_seg dksX4_init_0 24 rfl rfl
theorem dksX4_init_2 : cX4_init.data.toList.drop 47 = dktX4_init_2 := dk_seg dksX4_init_1 23 rfl rfl
theorem dX4_init_0 : decode cX4_init 0 = .ok (.aload_n 0, 1) := dk_42 (dk_at dksX4_init_0 0 rfl rfl)
theorem dX4_init_1 : decode cX4_init 1 = .ok (.invokespecial 3, 3) := dk_183 0 3 (dk_at dksX4_init_0 1 rfl rfl)
theorem dX4_init_4 : decode cX4_init 4 = .ok (.aload_n 0, 1) := dk_42 (dk_at dksX4_init_0 4 rfl rfl)
theorem dX4_init_5 : decode cX4_init 5 = .ok (.iconst 1, 1) := dk_4 (dk_at dksX4_init_0 5 rfl rfl)
theorem dX4_init_6 : decode cX4_init 6 = .ok (.putfield 9, 3) := dk_181 0 9 (dk_at dksX4_init_0 6 rfl rfl)
theorem dX4_init_9 : decode cX4_init 9 = .ok (.aload_n 0, 1) := dk_42 (dk_at dksX4_init_0 9 rfl rfl)
theorem dX4_init_10 : decode cX4_init 10 = .ok (.bipush 12, 2) := dk_16 12 (dk_at dksX4_init_0 10 rfl rfl)
theorem dX4_init_12 : decode cX4_init 12 = .ok (.newarray .int, 2) := dk_188_10 (dk_at dksX4_init_0 12 rfl rfl)
theorem dX4_init_14 : decode cX4_init 14 = .ok (.putfield 15, 3) := dk_181 0 15 (dk_at dksX4_init_0 14 rfl rfl)
theorem dX4_init_17 : decode cX4_init 17 = .ok (.aload_n 0, 1) := dk_42 (dk_at dksX4_init_0 17 rfl rfl)
theorem dX4_init_18 : decode cX4_init 18 = .ok (.aload_n 1, 1) := dk_43 (dk_at dksX4_init_0 18 rfl rfl)
theorem dX4_init_19 : decode cX4_init 19 = .ok (.putfield 19, 3) := dk_181 0 19 (dk_at dksX4_init_0 19 rfl rfl)
theorem dX4_init_22 : decode cX4_init 22 = .ok (.aload_n 0, 1) := dk_42 (dk_at dksX4_init_0 22 rfl rfl)
theorem dX4_init_23 : decode cX4_init 23 = .ok (.iload_n 2, 1) := dk_28 (dk_at dksX4_init_0 23 rfl rfl)
theorem dX4_init_24 : decode cX4_init 24 = .ok (.putfield 23, 3) := dk_181 0 23 (dk_at dksX4_init_1 0 rfl rfl)
theorem dX4_init_27 : decode cX4_init 27 = .ok (.aload_n 0, 1) := dk_42 (dk_at dksX4_init_1 3 rfl rfl)
theorem dX4_init_28 : decode cX4_init 28 = .ok (.iload_n 3, 1) := dk_29 (dk_at dksX4_init_1 4 rfl rfl)
theorem dX4_init_29 : decode cX4_init 29 = .ok (.putfield 26, 3) := dk_181 0 26 (dk_at dksX4_init_1 5 rfl rfl)
theorem dX4_init_32 : decode cX4_init 32 = .ok (.aload_n 0, 1) := dk_42 (dk_at dksX4_init_1 8 rfl rfl)
theorem dX4_init_33 : decode cX4_init 33 = .ok (.iload 4, 2) := dk_21 4 (dk_at dksX4_init_1 9 rfl rfl)
theorem dX4_init_35 : decode cX4_init 35 = .ok (.putfield 29, 3) := dk_181 0 29 (dk_at dksX4_init_1 11 rfl rfl)
theorem dX4_init_38 : decode cX4_init 38 = .ok (.aload_n 0, 1) := dk_42 (dk_at dksX4_init_1 14 rfl rfl)
theorem dX4_init_39 : decode cX4_init 39 = .ok (.iload 5, 2) := dk_21 5 (dk_at dksX4_init_1 15 rfl rfl)
theorem dX4_init_41 : decode cX4_init 41 = .ok (.putfield 32, 3) := dk_181 0 32 (dk_at dksX4_init_1 17 rfl rfl)
theorem dX4_init_44 : decode cX4_init 44 = .ok (.aload_n 0, 1) := dk_42 (dk_at dksX4_init_1 20 rfl rfl)
theorem dX4_init_45 : decode cX4_init 45 = .ok (.iload 6, 2) := dk_21 6 (dk_at dksX4_init_1 21 rfl rfl)
theorem dX4_init_47 : decode cX4_init 47 = .ok (.putfield 35, 3) := dk_181 0 35 (dk_at dksX4_init_2 0 rfl rfl)
theorem dX4_init_50 : decode cX4_init 50 = .ok (.aload_n 0, 1) := dk_42 (dk_at dksX4_init_2 3 rfl rfl)
theorem dX4_init_51 : decode cX4_init 51 = .ok (.iload 7, 2) := dk_21 7 (dk_at dksX4_init_2 4 rfl rfl)
theorem dX4_init_53 : decode cX4_init 53 = .ok (.putfield 38, 3) := dk_181 0 38 (dk_at dksX4_init_2 6 rfl rfl)
theorem dX4_init_56 : decode cX4_init 56 = .ok (.return_, 1) := dk_177 (dk_at dksX4_init_2 9 rfl rfl)
abbrev cX4_takes : ByteArray := prog_4_method_3_code
def yX4_takes : MethodName := ⟨RX4, "takes", "(I)Z"⟩
def dkwX4_takes_0 : List UInt8 := [42, 180, 0, 29, 27, 122, 4, 126, 4, 160, 0, 7, 4, 167, 0, 4, 3, 172]
abbrev dktX4_takes_0 : List UInt8 := dkwX4_takes_0 ++ []
theorem dksX4_takes_0 : cX4_takes.data.toList.drop 0 = dktX4_takes_0 := by decide +kernel
theorem dX4_takes_0 : decode cX4_takes 0 = .ok (.aload_n 0, 1) := dk_42 (dk_at dksX4_takes_0 0 rfl rfl)
theorem dX4_takes_1 : decode cX4_takes 1 = .ok (.getfield 29, 3) := dk_180 0 29 (dk_at dksX4_takes_0 1 rfl rfl)
theorem dX4_takes_4 : decode cX4_takes 4 = .ok (.iload_n 1, 1) := dk_27 (dk_at dksX4_takes_0 4 rfl rfl)
theorem dX4_takes_5 : decode cX4_takes 5 = .ok (.ishr, 1) := dk_122 (dk_at dksX4_takes_0 5 rfl rfl)
theorem dX4_takes_6 : decode cX4_takes 6 = .ok (.iconst 1, 1) := dk_4 (dk_at dksX4_takes_0 6 rfl rfl)
theorem dX4_takes_7 : decode cX4_takes 7 = .ok (.iand, 1) := dk_126 (dk_at dksX4_takes_0 7 rfl rfl)
theorem dX4_takes_8 : decode cX4_takes 8 = .ok (.iconst 1, 1) := dk_4 (dk_at dksX4_takes_0 8 rfl rfl)
theorem dX4_takes_9 : decode cX4_takes 9 = .ok (.if_icmp .ne 7, 3) := dk_160 0 7 (dk_at dksX4_takes_0 9 rfl rfl)
theorem dX4_takes_12 : decode cX4_takes 12 = .ok (.iconst 1, 1) := dk_4 (dk_at dksX4_takes_0 12 rfl rfl)
theorem dX4_takes_13 : decode cX4_takes 13 = .ok (.goto 4, 3) := dk_167 0 4 (dk_at dksX4_takes_0 13 rfl rfl)
theorem dX4_takes_16 : decode cX4_takes 16 = .ok (.iconst 0, 1) := dk_3 (dk_at dksX4_takes_0 16 rfl rfl)
theorem dX4_takes_17 : decode cX4_takes 17 = .ok (.ireturn, 1) := dk_172 (dk_at dksX4_takes_0 17 rfl rfl)
abbrev cX4_forget : ByteArray := prog_4_method_2_code
def yX4_forget : MethodName := ⟨RX4, "forget", "()V"⟩
def dkwX4_forget_1 : List UInt8 := [180, 0, 15, 27, 3, 79, 132, 1, 1, 167, 255, 240, 177]
abbrev dktX4_forget_1 : List UInt8 := dkwX4_forget_1 ++ []
def dkwX4_forget_0 : List UInt8 := [42, 3, 181, 0, 41, 42, 3, 181, 0, 44, 42, 3, 181, 0, 47, 3, 60, 27, 16, 12, 162, 0, 16, 42]
abbrev dktX4_forget_0 : List UInt8 := dkwX4_forget_0 ++ dktX4_forget_1
theorem dksX4_forget_0 : cX4_forget.data.toList.drop 0 = dktX4_forget_0 := by decide +kernel
theorem dksX4_forget_1 : cX4_forget.data.toList.drop 24 = dktX4_forget_1 := dk_seg dksX4_forget_0 24 rfl rfl
theorem dX4_forget_0 : decode cX4_forget 0 = .ok (.aload_n 0, 1) := dk_42 (dk_at dksX4_forget_0 0 rfl rfl)
theorem dX4_forget_1 : decode cX4_forget 1 = .ok (.iconst 0, 1) := dk_3 (dk_at dksX4_forget_0 1 rfl rfl)
theorem dX4_forget_2 : decode cX4_forget 2 = .ok (.putfield 41, 3) := dk_181 0 41 (dk_at dksX4_forget_0 2 rfl rfl)
theorem dX4_forget_5 : decode cX4_forget 5 = .ok (.aload_n 0, 1) := dk_42 (dk_at dksX4_forget_0 5 rfl rfl)
theorem dX4_forget_6 : decode cX4_forget 6 = .ok (.iconst 0, 1) := dk_3 (dk_at dksX4_forget_0 6 rfl rfl)
theorem dX4_forget_7 : decode cX4_forget 7 = .ok (.putfield 44, 3) := dk_181 0 44 (dk_at dksX4_forget_0 7 rfl rfl)
theorem dX4_forget_10 : decode cX4_forget 10 = .ok (.aload_n 0, 1) := dk_42 (dk_at dksX4_forget_0 10 rfl rfl)
theorem dX4_forget_11 : decode cX4_forget 11 = .ok (.iconst 0, 1) := dk_3 (dk_at dksX4_forget_0 11 rfl rfl)
theorem dX4_forget_12 : decode cX4_forget 12 = .ok (.putfield 47, 3) := dk_181 0 47 (dk_at dksX4_forget_0 12 rfl rfl)
theorem dX4_forget_15 : decode cX4_forget 15 = .ok (.iconst 0, 1) := dk_3 (dk_at dksX4_forget_0 15 rfl rfl)
theorem dX4_forget_16 : decode cX4_forget 16 = .ok (.istore_n 1, 1) := dk_60 (dk_at dksX4_forget_0 16 rfl rfl)
theorem dX4_forget_17 : decode cX4_forget 17 = .ok (.iload_n 1, 1) := dk_27 (dk_at dksX4_forget_0 17 rfl rfl)
theorem dX4_forget_18 : decode cX4_forget 18 = .ok (.bipush 12, 2) := dk_16 12 (dk_at dksX4_forget_0 18 rfl rfl)
theorem dX4_forget_20 : decode cX4_forget 20 = .ok (.if_icmp .ge 16, 3) := dk_162 0 16 (dk_at dksX4_forget_0 20 rfl rfl)
theorem dX4_forget_23 : decode cX4_forget 23 = .ok (.aload_n 0, 1) := dk_42 (dk_at dksX4_forget_0 23 rfl rfl)
theorem dX4_forget_24 : decode cX4_forget 24 = .ok (.getfield 15, 3) := dk_180 0 15 (dk_at dksX4_forget_1 0 rfl rfl)
theorem dX4_forget_27 : decode cX4_forget 27 = .ok (.iload_n 1, 1) := dk_27 (dk_at dksX4_forget_1 3 rfl rfl)
theorem dX4_forget_28 : decode cX4_forget 28 = .ok (.iconst 0, 1) := dk_3 (dk_at dksX4_forget_1 4 rfl rfl)
theorem dX4_forget_29 : decode cX4_forget 29 = .ok (.iastore, 1) := dk_79 (dk_at dksX4_forget_1 5 rfl rfl)
theorem dX4_forget_30 : decode cX4_forget 30 = .ok (.iinc 1 1, 3) := dk_132 1 1 (dk_at dksX4_forget_1 6 rfl rfl)
theorem dX4_forget_33 : decode cX4_forget 33 = .ok (.goto (-16), 3) := dk_167 255 240 (dk_at dksX4_forget_1 9 rfl rfl)
theorem dX4_forget_36 : decode cX4_forget 36 = .ok (.return_, 1) := dk_177 (dk_at dksX4_forget_1 12 rfl rfl)
theorem q98 : (Jvm.Cond.initialized "ThrowReports$Node") ∈ lw_all := lw_g (lw_at lw_m1 5 rfl) rfl
theorem q217 : (Jvm.Cond.instantiable "ThrowReports$Node" (15 : Nat)) ∈ lw_all := lw_g (lw_at lw_m1 124 rfl) rfl
theorem q221 : (Jvm.Cond.instanceMethod ({ cls := "ThrowReports$Node", name := "<init>", desc := "(LThrowReports$Sort;IIIIII)V" } : Jvm.MethodName)) ∈ lw_all := lw_g (lw_at lw_m1 128 rfl) rfl
theorem q222 : (Jvm.Cond.code ({ cls := "ThrowReports$Node", name := "<init>", desc := "(LThrowReports$Sort;IIIIII)V" } : Jvm.MethodName) prog_4_method_1_code (8 : Nat) (Option.none : Option Jvm.ClassFile.FieldType)) ∈ lw_all := lw_g (lw_at lw_m1 129 rfl) rfl
theorem q223 : (Jvm.Cond.methodLink "ThrowReports$Node" (3 : Nat) ({ cls := "java/lang/Object", name := "<init>", desc := "()V" } : Jvm.MethodName)) ∈ lw_all := lw_g (lw_at lw_m1 130 rfl) rfl
theorem q224 : (Jvm.Cond.fieldLink "ThrowReports$Node" (19 : Nat) "ThrowReports$Node" "sort" "LThrowReports$Sort;") ∈ lw_all := lw_g (lw_at lw_m1 131 rfl) rfl
theorem q226 : (Jvm.Cond.fieldLink "ThrowReports$Node" (23 : Nat) "ThrowReports$Node" "number" "I") ∈ lw_all := lw_g (lw_at lw_m1 133 rfl) rfl
theorem q228 : (Jvm.Cond.fieldLink "ThrowReports$Node" (26 : Nat) "ThrowReports$Node" "op" "I") ∈ lw_all := lw_g (lw_at lw_m1 135 rfl) rfl
theorem q230 : (Jvm.Cond.fieldLink "ThrowReports$Node" (29 : Nat) "ThrowReports$Node" "a" "I") ∈ lw_all := lw_g (lw_at lw_m1 137 rfl) rfl
theorem q232 : (Jvm.Cond.fieldLink "ThrowReports$Node" (32 : Nat) "ThrowReports$Node" "b" "I") ∈ lw_all := lw_g (lw_at lw_m1 139 rfl) rfl
theorem q234 : (Jvm.Cond.fieldLink "ThrowReports$Node" (35 : Nat) "ThrowReports$Node" "c" "I") ∈ lw_all := lw_g (lw_at lw_m1 141 rfl) rfl
theorem q236 : (Jvm.Cond.fieldLink "ThrowReports$Node" (38 : Nat) "ThrowReports$Node" "d" "I") ∈ lw_all := lw_g (lw_at lw_m1 143 rfl) rfl
theorem q238 : (Jvm.Cond.fieldLink "ThrowReports$Node" (9 : Nat) "ThrowReports$Node" "cost" "I") ∈ lw_all := lw_g (lw_at lw_m1 145 rfl) rfl
theorem q243 : (Jvm.Cond.fieldLink "ThrowReports$Node" (41 : Nat) "ThrowReports$Node" "may" "I") ∈ lw_all := lw_g (lw_at lw_m1 150 rfl) rfl
theorem q245 : (Jvm.Cond.fieldLink "ThrowReports$Node" (15 : Nat) "ThrowReports$Node" "ahead" "[I") ∈ lw_all := lw_g (lw_at lw_m1 152 rfl) rfl
theorem q247 : (Jvm.Cond.fieldLink "ThrowReports$Node" (44 : Nat) "ThrowReports$Node" "bodyMay" "I") ∈ lw_all := lw_g (lw_at lw_m1 154 rfl) rfl
theorem q249 : (Jvm.Cond.fieldLink "ThrowReports$Node" (47 : Nat) "ThrowReports$Node" "lost" "I") ∈ lw_all := lw_g (lw_at lw_m1 156 rfl) rfl
theorem q251 : (Jvm.Cond.laysFinal "ThrowReports$Node" "ThrowReports$Node" "sort" "LThrowReports$Sort;") ∈ lw_all := lw_g (lw_at lw_m1 158 rfl) rfl
theorem q252 : (Jvm.Cond.soleField "ThrowReports$Node" "sort") ∈ lw_all := lw_g (lw_at lw_m1 159 rfl) rfl
theorem q253 : (Jvm.Cond.laysFinal "ThrowReports$Node" "ThrowReports$Node" "number" "I") ∈ lw_all := lw_g (lw_at lw_m1 160 rfl) rfl
theorem q254 : (Jvm.Cond.soleField "ThrowReports$Node" "number") ∈ lw_all := lw_g (lw_at lw_m1 161 rfl) rfl
theorem q255 : (Jvm.Cond.laysFinal "ThrowReports$Node" "ThrowReports$Node" "op" "I") ∈ lw_all := lw_g (lw_at lw_m1 162 rfl) rfl
theorem q256 : (Jvm.Cond.soleField "ThrowReports$Node" "op") ∈ lw_all := lw_g (lw_at lw_m1 163 rfl) rfl
theorem q257 : (Jvm.Cond.laysFinal "ThrowReports$Node" "ThrowReports$Node" "a" "I") ∈ lw_all := lw_g (lw_at lw_m1 164 rfl) rfl
theorem q258 : (Jvm.Cond.soleField "ThrowReports$Node" "a") ∈ lw_all := lw_g (lw_at lw_m1 165 rfl) rfl
theorem q259 : (Jvm.Cond.laysFinal "ThrowReports$Node" "ThrowReports$Node" "b" "I") ∈ lw_all := lw_g (lw_at lw_m1 166 rfl) rfl
theorem q260 : (Jvm.Cond.soleField "ThrowReports$Node" "b") ∈ lw_all := lw_g (lw_at lw_m1 167 rfl) rfl
theorem q261 : (Jvm.Cond.laysFinal "ThrowReports$Node" "ThrowReports$Node" "c" "I") ∈ lw_all := lw_g (lw_at lw_m1 168 rfl) rfl
theorem q262 : (Jvm.Cond.soleField "ThrowReports$Node" "c") ∈ lw_all := lw_g (lw_at lw_m1 169 rfl) rfl
theorem q263 : (Jvm.Cond.laysFinal "ThrowReports$Node" "ThrowReports$Node" "d" "I") ∈ lw_all := lw_g (lw_at lw_m1 170 rfl) rfl
theorem q264 : (Jvm.Cond.soleField "ThrowReports$Node" "d") ∈ lw_all := lw_g (lw_at lw_m1 171 rfl) rfl
theorem q265 : (Jvm.Cond.lays "ThrowReports$Node" "ThrowReports$Node" "cost" "I") ∈ lw_all := lw_g (lw_at lw_m1 172 rfl) rfl
theorem q266 : (Jvm.Cond.soleField "ThrowReports$Node" "cost") ∈ lw_all := lw_g (lw_at lw_m1 173 rfl) rfl
theorem q267 : (Jvm.Cond.lays "ThrowReports$Node" "ThrowReports$Node" "one" "LThrowReports$Node;") ∈ lw_all := lw_g (lw_at lw_m1 174 rfl) rfl
theorem q268 : (Jvm.Cond.soleField "ThrowReports$Node" "one") ∈ lw_all := lw_g (lw_at lw_m1 175 rfl) rfl
theorem q269 : (Jvm.Cond.lays "ThrowReports$Node" "ThrowReports$Node" "other" "LThrowReports$Node;") ∈ lw_all := lw_g (lw_at lw_m1 176 rfl) rfl
theorem q270 : (Jvm.Cond.soleField "ThrowReports$Node" "other") ∈ lw_all := lw_g (lw_at lw_m1 177 rfl) rfl
theorem q271 : (Jvm.Cond.lays "ThrowReports$Node" "ThrowReports$Node" "last" "LThrowReports$Node;") ∈ lw_all := lw_g (lw_at lw_m1 178 rfl) rfl
theorem q272 : (Jvm.Cond.soleField "ThrowReports$Node" "last") ∈ lw_all := lw_g (lw_at lw_m1 179 rfl) rfl
theorem q273 : (Jvm.Cond.lays "ThrowReports$Node" "ThrowReports$Node" "may" "I") ∈ lw_all := lw_g (lw_at lw_m1 180 rfl) rfl
theorem q274 : (Jvm.Cond.soleField "ThrowReports$Node" "may") ∈ lw_all := lw_g (lw_at lw_m1 181 rfl) rfl
theorem q275 : (Jvm.Cond.laysFinal "ThrowReports$Node" "ThrowReports$Node" "ahead" "[I") ∈ lw_all := lw_g (lw_at lw_m1 182 rfl) rfl
theorem q276 : (Jvm.Cond.soleField "ThrowReports$Node" "ahead") ∈ lw_all := lw_g (lw_at lw_m1 183 rfl) rfl
theorem q277 : (Jvm.Cond.lays "ThrowReports$Node" "ThrowReports$Node" "bodyMay" "I") ∈ lw_all := lw_g (lw_at lw_m1 184 rfl) rfl
theorem q278 : (Jvm.Cond.soleField "ThrowReports$Node" "bodyMay") ∈ lw_all := lw_g (lw_at lw_m1 185 rfl) rfl
theorem q279 : (Jvm.Cond.lays "ThrowReports$Node" "ThrowReports$Node" "lost" "I") ∈ lw_all := lw_g (lw_at lw_m1 186 rfl) rfl
theorem q280 : (Jvm.Cond.soleField "ThrowReports$Node" "lost") ∈ lw_all := lw_g (lw_at lw_m1 187 rfl) rfl
theorem q281 : (Jvm.Cond.superclass "ThrowReports$Node" "java/lang/Object") ∈ lw_all := lw_g (lw_at lw_m1 188 rfl) rfl
theorem q725 : (Jvm.Cond.privateMethod ({ cls := "ThrowReports$Node", name := "takes", desc := "(I)Z" } : Jvm.MethodName)) ∈ lw_tbl := lw_at lw_m3 152 rfl
theorem q726 : (Jvm.Cond.instanceMethod ({ cls := "ThrowReports$Node", name := "takes", desc := "(I)Z" } : Jvm.MethodName)) ∈ lw_all := lw_g (lw_at lw_m3 153 rfl) rfl
theorem q727 : (Jvm.Cond.code ({ cls := "ThrowReports$Node", name := "takes", desc := "(I)Z" } : Jvm.MethodName) prog_4_method_3_code (2 : Nat) (Option.some Jvm.ClassFile.FieldType.boolean)) ∈ lw_all := lw_g (lw_at lw_m3 154 rfl) rfl
theorem q780 : (Jvm.Cond.privateMethod ({ cls := "ThrowReports$Node", name := "forget", desc := "()V" } : Jvm.MethodName)) ∈ lw_tbl := lw_at lw_m3 207 rfl
theorem q781 : (Jvm.Cond.instanceMethod ({ cls := "ThrowReports$Node", name := "forget", desc := "()V" } : Jvm.MethodName)) ∈ lw_all := lw_g (lw_at lw_m3 208 rfl) rfl
theorem q782 : (Jvm.Cond.code ({ cls := "ThrowReports$Node", name := "forget", desc := "()V" } : Jvm.MethodName) prog_4_method_2_code (2 : Nat) (Option.none : Option Jvm.ClassFile.FieldType)) ∈ lw_all := lw_g (lw_at lw_m3 209 rfl) rfl
theorem in_X4 : ∀ w ∈ wsX40, w ∈ lw_all := lw_in wsX40 [251, 253, 255, 257, 259, 261, 263, 265, 267, 269, 271, 273, 275, 277, 279] (by decide +kernel) (by decide +kernel)
/-! ThrowReports$RoomFailure -/
set_option maxRecDepth 100000
def RX5 : String := "ThrowReports$RoomFailure"
def TX5 : u_T := fun k => match k with
  | 0 => ("java/lang/Throwable", "cause", "Ljava/lang/Throwable;", false)
  | 1 => ("java/lang/Throwable", "stackTrace", "[Ljava/lang/StackTraceElement;", false)
  | 2 => ("java/lang/Throwable", "suppressedExceptions", "Ljava/util/List;", false)
  | 3 => ("java/lang/Throwable", "detailMessage", "Ljava/lang/String;", false)
  | 4 => ("java/lang/Throwable", "backtrace", "Ljava/lang/Object;", false)
  | _ => ("java/lang/Throwable", "depth", "I", false)
def tyX5 : Nat → FieldType := fun k => match k with
  | 0 => .object "java/lang/Throwable"
  | 1 => .array (.object "java/lang/StackTraceElement")
  | 2 => .object "java/util/List"
  | 3 => .object "java/lang/String"
  | 4 => .object "java/lang/Object"
  | _ => .int
abbrev wsX50 : List Cond := u_ws RX5 TX5 6
theorem nmX5 : ∀ a, a < 6 → ∀ b, b < 6 → a ≠ b → (TX5 a).2.1 ≠ (TX5 b).2.1 := by decide +kernel
theorem tyX5_ok : ∀ k, k < 6 → parseFieldDescriptor (TX5 k).2.2.1 = some (tyX5 k) := by decide +kernel
abbrev cX5_init : ByteArray := prog_7_method_1_code
def yX5_init : MethodName := ⟨RX5, "<init>", "()V"⟩
def dkwX5_init_0 : List UInt8 := [42, 1, 1, 3, 3, 183, 0, 1, 177]
abbrev dktX5_init_0 : List UInt8 := dkwX5_init_0 ++ []
theorem dksX5_init_0 : cX5_init.data.toList.drop 0 = dktX5_init_0 := by decide +kernel
theorem dX5_init_0 : decode cX5_init 0 = .ok (.aload_n 0, 1) := dk_42 (dk_at dksX5_init_0 0 rfl rfl)
theorem dX5_init_1 : decode cX5_init 1 = .ok (.aconst_null, 1) := dk_1 (dk_at dksX5_init_0 1 rfl rfl)
theorem dX5_init_2 : decode cX5_init 2 = .ok (.aconst_null, 1) := dk_1 (dk_at dksX5_init_0 2 rfl rfl)
theorem dX5_init_3 : decode cX5_init 3 = .ok (.iconst 0, 1) := dk_3 (dk_at dksX5_init_0 3 rfl rfl)
theorem dX5_init_4 : decode cX5_init 4 = .ok (.iconst 0, 1) := dk_3 (dk_at dksX5_init_0 4 rfl rfl)
theorem dX5_init_5 : decode cX5_init 5 = .ok (.invokespecial 1, 3) := dk_183 0 1 (dk_at dksX5_init_0 5 rfl rfl)
theorem dX5_init_8 : decode cX5_init 8 = .ok (.return_, 1) := dk_177 (dk_at dksX5_init_0 8 rfl rfl)
theorem q113 : (Jvm.Cond.initialized "ThrowReports$RoomFailure") ∈ lw_all := lw_g (lw_at lw_m1 20 rfl) rfl
theorem q338 : (Jvm.Cond.selects "ThrowReports$RoomFailure" ({ cls := "java/lang/Throwable", name := "fillInStackTrace", desc := "()Ljava/lang/Throwable;" } : Jvm.MethodName) ({ cls := "java/lang/Throwable", name := "fillInStackTrace", desc := "()Ljava/lang/Throwable;" } : Jvm.MethodName)) ∈ lw_all := lw_g (lw_at lw_m2 5 rfl) rfl
theorem q524 : (Jvm.Cond.instantiable "ThrowReports$RoomFailure" (6 : Nat)) ∈ lw_all := lw_g (lw_at lw_m2 191 rfl) rfl
theorem q525 : (Jvm.Cond.castable "ThrowReports$RoomFailure" "ThrowReports$RoomFailure") ∈ lw_tbl := lw_at lw_m2 192 rfl
theorem q526 : (Jvm.Cond.selects "ThrowReports$RoomFailure" ({ cls := "java/lang/Throwable", name := "fillInStackTrace", desc := "(I)Ljava/lang/Throwable;" } : Jvm.MethodName) ({ cls := "java/lang/Throwable", name := "fillInStackTrace", desc := "(I)Ljava/lang/Throwable;" } : Jvm.MethodName)) ∈ lw_all := lw_g (lw_at lw_m2 193 rfl) rfl
theorem q527 : (Jvm.Cond.lays "ThrowReports$RoomFailure" "java/lang/Throwable" "cause" "Ljava/lang/Throwable;") ∈ lw_all := lw_g (lw_at lw_m2 194 rfl) rfl
theorem q528 : (Jvm.Cond.lays "ThrowReports$RoomFailure" "java/lang/Throwable" "stackTrace" "[Ljava/lang/StackTraceElement;") ∈ lw_all := lw_g (lw_at lw_m2 195 rfl) rfl
theorem q529 : (Jvm.Cond.lays "ThrowReports$RoomFailure" "java/lang/Throwable" "suppressedExceptions" "Ljava/util/List;") ∈ lw_all := lw_g (lw_at lw_m2 196 rfl) rfl
theorem q530 : (Jvm.Cond.lays "ThrowReports$RoomFailure" "java/lang/Throwable" "detailMessage" "Ljava/lang/String;") ∈ lw_all := lw_g (lw_at lw_m2 197 rfl) rfl
theorem q531 : (Jvm.Cond.lays "ThrowReports$RoomFailure" "java/lang/Throwable" "backtrace" "Ljava/lang/Object;") ∈ lw_all := lw_g (lw_at lw_m2 198 rfl) rfl
theorem q533 : (Jvm.Cond.instanceMethod ({ cls := "ThrowReports$RoomFailure", name := "<init>", desc := "()V" } : Jvm.MethodName)) ∈ lw_all := lw_g (lw_at lw_m2 200 rfl) rfl
theorem q534 : (Jvm.Cond.code ({ cls := "ThrowReports$RoomFailure", name := "<init>", desc := "()V" } : Jvm.MethodName) prog_7_method_1_code (1 : Nat) (Option.none : Option Jvm.ClassFile.FieldType)) ∈ lw_all := lw_g (lw_at lw_m2 201 rfl) rfl
theorem q535 : (Jvm.Cond.methodLink "ThrowReports$RoomFailure" (1 : Nat) ({ cls := "java/lang/RuntimeException", name := "<init>", desc := "(Ljava/lang/String;Ljava/lang/Throwable;ZZ)V" } : Jvm.MethodName)) ∈ lw_all := lw_g (lw_at lw_m2 202 rfl) rfl
theorem q544 : (Jvm.Cond.lays "ThrowReports$RoomFailure" "java/lang/Throwable" "depth" "I") ∈ lw_all := lw_g (lw_at lw_m2 211 rfl) rfl
theorem q545 : (Jvm.Cond.superclass "ThrowReports$RoomFailure" "java/lang/RuntimeException") ∈ lw_all := lw_g (lw_at lw_m2 212 rfl) rfl
theorem in_X5 : ∀ w ∈ wsX50, w ∈ lw_all := lw_in wsX50 [527, 528, 529, 530, 531, 544] (by decide +kernel) (by decide +kernel)
/-! ThrowReports$Figure -/
set_option maxRecDepth 100000
def RX6 : String := "ThrowReports$Figure"
def TX6 : u_T := fun k => match k with
  | _ => ("ThrowReports$Figure", "number", "I", true)
def tyX6 : Nat → FieldType := fun k => match k with
  | _ => .int
abbrev wsX60 : List Cond := u_ws RX6 TX6 1
theorem nmX6 : ∀ a, a < 1 → ∀ b, b < 1 → a ≠ b → (TX6 a).2.1 ≠ (TX6 b).2.1 := by decide +kernel
theorem tyX6_ok : ∀ k, k < 1 → parseFieldDescriptor (TX6 k).2.2.1 = some (tyX6 k) := by decide +kernel
abbrev cX6_init : ByteArray := prog_2_method_1_code
def yX6_init : MethodName := ⟨RX6, "<init>", "(I)V"⟩
def dkwX6_init_0 : List UInt8 := [42, 183, 0, 1, 42, 27, 181, 0, 7, 177]
abbrev dktX6_init_0 : List UInt8 := dkwX6_init_0 ++ []
theorem dksX6_init_0 : cX6_init.data.toList.drop 0 = dktX6_init_0 := by decide +kernel
theorem dX6_init_0 : decode cX6_init 0 = .ok (.aload_n 0, 1) := dk_42 (dk_at dksX6_init_0 0 rfl rfl)
theorem dX6_init_1 : decode cX6_init 1 = .ok (.invokespecial 1, 3) := dk_183 0 1 (dk_at dksX6_init_0 1 rfl rfl)
theorem dX6_init_4 : decode cX6_init 4 = .ok (.aload_n 0, 1) := dk_42 (dk_at dksX6_init_0 4 rfl rfl)
theorem dX6_init_5 : decode cX6_init 5 = .ok (.iload_n 1, 1) := dk_27 (dk_at dksX6_init_0 5 rfl rfl)
theorem dX6_init_6 : decode cX6_init 6 = .ok (.putfield 7, 3) := dk_181 0 7 (dk_at dksX6_init_0 6 rfl rfl)
theorem dX6_init_9 : decode cX6_init 9 = .ok (.return_, 1) := dk_177 (dk_at dksX6_init_0 9 rfl rfl)
abbrev cX6_number : ByteArray := prog_2_method_2_code
def yX6_number : MethodName := ⟨RX6, "number", "()I"⟩
theorem dX6_number_0 : decode cX6_number 0 = .ok (.aload_n 0, 1) := by decide +kernel
theorem dX6_number_1 : decode cX6_number 1 = .ok (.getfield 7, 3) := by decide +kernel
theorem dX6_number_4 : decode cX6_number 4 = .ok (.ireturn, 1) := by decide +kernel
theorem q114 : (Jvm.Cond.initialized "ThrowReports$Figure") ∈ lw_all := lw_g (lw_at lw_m1 21 rfl) rfl
theorem q561 : (Jvm.Cond.instantiable "ThrowReports$Figure" (1 : Nat)) ∈ lw_all := lw_g (lw_at lw_m2 228 rfl) rfl
theorem q563 : (Jvm.Cond.instanceMethod ({ cls := "ThrowReports$Figure", name := "<init>", desc := "(I)V" } : Jvm.MethodName)) ∈ lw_all := lw_g (lw_at lw_m2 230 rfl) rfl
theorem q564 : (Jvm.Cond.code ({ cls := "ThrowReports$Figure", name := "<init>", desc := "(I)V" } : Jvm.MethodName) prog_2_method_1_code (2 : Nat) (Option.none : Option Jvm.ClassFile.FieldType)) ∈ lw_all := lw_g (lw_at lw_m2 231 rfl) rfl
theorem q565 : (Jvm.Cond.methodLink "ThrowReports$Figure" (1 : Nat) ({ cls := "java/lang/Object", name := "<init>", desc := "()V" } : Jvm.MethodName)) ∈ lw_all := lw_g (lw_at lw_m2 232 rfl) rfl
theorem q566 : (Jvm.Cond.fieldLink "ThrowReports$Figure" (7 : Nat) "ThrowReports$Figure" "number" "I") ∈ lw_all := lw_g (lw_at lw_m2 233 rfl) rfl
theorem q567 : (Jvm.Cond.laysFinal "ThrowReports$Figure" "ThrowReports$Figure" "number" "I") ∈ lw_all := lw_g (lw_at lw_m2 234 rfl) rfl
theorem q568 : (Jvm.Cond.soleField "ThrowReports$Figure" "number") ∈ lw_all := lw_g (lw_at lw_m2 235 rfl) rfl
theorem q569 : (Jvm.Cond.superclass "ThrowReports$Figure" "java/lang/Object") ∈ lw_all := lw_g (lw_at lw_m2 236 rfl) rfl
theorem q631 : (Jvm.Cond.castable "ThrowReports$Figure" "ThrowReports$Told") ∈ lw_tbl := lw_at lw_m3 58 rfl
theorem q632 : (Jvm.Cond.unhidden "ThrowReports$Figure" "tells" "()I") ∈ lw_tbl := lw_at lw_m3 59 rfl
theorem q640 : (Jvm.Cond.selects "ThrowReports$Figure" ({ cls := "ThrowReports$Told", name := "number", desc := "()I" } : Jvm.MethodName) ({ cls := "ThrowReports$Figure", name := "number", desc := "()I" } : Jvm.MethodName)) ∈ lw_all := lw_g (lw_at lw_m3 67 rfl) rfl
theorem q641 : (Jvm.Cond.unhidden "ThrowReports$Figure" "number" "()I") ∈ lw_tbl := lw_at lw_m3 68 rfl
theorem q642 : (Jvm.Cond.instanceMethod ({ cls := "ThrowReports$Figure", name := "number", desc := "()I" } : Jvm.MethodName)) ∈ lw_all := lw_g (lw_at lw_m3 69 rfl) rfl
theorem q643 : (Jvm.Cond.publicMethod ({ cls := "ThrowReports$Figure", name := "number", desc := "()I" } : Jvm.MethodName)) ∈ lw_tbl := lw_at lw_m3 70 rfl
theorem q644 : (Jvm.Cond.code ({ cls := "ThrowReports$Figure", name := "number", desc := "()I" } : Jvm.MethodName) prog_2_method_2_code (1 : Nat) (Option.some Jvm.ClassFile.FieldType.int)) ∈ lw_all := lw_g (lw_at lw_m3 71 rfl) rfl
theorem q1380 : (Jvm.Cond.sameMethod "ThrowReports$Figure" "ThrowReports$Figure" "number" "()I") ∈ lw_all := lw_g (lw_at lw_m6 87 rfl) rfl
theorem q1381 : (Jvm.Cond.selects "ThrowReports$Figure" ({ cls := "ThrowReports$Figure", name := "number", desc := "()I" } : Jvm.MethodName) ({ cls := "ThrowReports$Figure", name := "number", desc := "()I" } : Jvm.MethodName)) ∈ lw_all := lw_g (lw_at lw_m6 88 rfl) rfl
theorem in_X6 : ∀ w ∈ wsX60, w ∈ lw_all := lw_in wsX60 [567] (by decide +kernel) (by decide +kernel)
/-! ThrowReports$Round -/
set_option maxRecDepth 100000
def RX7 : String := "ThrowReports$Round"
def TX7 : u_T := fun k => match k with
  | _ => ("ThrowReports$Figure", "number", "I", true)
def tyX7 : Nat → FieldType := fun k => match k with
  | _ => .int
abbrev wsX70 : List Cond := u_ws RX7 TX7 1
theorem nmX7 : ∀ a, a < 1 → ∀ b, b < 1 → a ≠ b → (TX7 a).2.1 ≠ (TX7 b).2.1 := by decide +kernel
theorem tyX7_ok : ∀ k, k < 1 → parseFieldDescriptor (TX7 k).2.2.1 = some (tyX7 k) := by decide +kernel
abbrev cX7_init : ByteArray := prog_8_method_1_code
def yX7_init : MethodName := ⟨RX7, "<init>", "(I)V"⟩
def dkwX7_init_0 : List UInt8 := [42, 27, 183, 0, 1, 177]
abbrev dktX7_init_0 : List UInt8 := dkwX7_init_0 ++ []
theorem dksX7_init_0 : cX7_init.data.toList.drop 0 = dktX7_init_0 := by decide +kernel
theorem dX7_init_0 : decode cX7_init 0 = .ok (.aload_n 0, 1) := dk_42 (dk_at dksX7_init_0 0 rfl rfl)
theorem dX7_init_1 : decode cX7_init 1 = .ok (.iload_n 1, 1) := dk_27 (dk_at dksX7_init_0 1 rfl rfl)
theorem dX7_init_2 : decode cX7_init 2 = .ok (.invokespecial 1, 3) := dk_183 0 1 (dk_at dksX7_init_0 2 rfl rfl)
theorem dX7_init_5 : decode cX7_init 5 = .ok (.return_, 1) := dk_177 (dk_at dksX7_init_0 5 rfl rfl)
theorem q115 : (Jvm.Cond.initialized "ThrowReports$Round") ∈ lw_all := lw_g (lw_at lw_m1 22 rfl) rfl
theorem q571 : (Jvm.Cond.instantiable "ThrowReports$Round" (1 : Nat)) ∈ lw_all := lw_g (lw_at lw_m2 238 rfl) rfl
theorem q573 : (Jvm.Cond.instanceMethod ({ cls := "ThrowReports$Round", name := "<init>", desc := "(I)V" } : Jvm.MethodName)) ∈ lw_all := lw_g (lw_at lw_m3 0 rfl) rfl
theorem q574 : (Jvm.Cond.code ({ cls := "ThrowReports$Round", name := "<init>", desc := "(I)V" } : Jvm.MethodName) prog_8_method_1_code (2 : Nat) (Option.none : Option Jvm.ClassFile.FieldType)) ∈ lw_all := lw_g (lw_at lw_m3 1 rfl) rfl
theorem q575 : (Jvm.Cond.methodLinkNest "ThrowReports$Round" (1 : Nat) ({ cls := "ThrowReports$Figure", name := "<init>", desc := "(I)V" } : Jvm.MethodName) "ThrowReports") ∈ lw_tbl := lw_at lw_m3 2 rfl
theorem q576 : (Jvm.Cond.laysFinal "ThrowReports$Round" "ThrowReports$Figure" "number" "I") ∈ lw_all := lw_g (lw_at lw_m3 3 rfl) rfl
theorem q577 : (Jvm.Cond.superclass "ThrowReports$Round" "ThrowReports$Figure") ∈ lw_all := lw_g (lw_at lw_m3 4 rfl) rfl
theorem q645 : (Jvm.Cond.castable "ThrowReports$Round" "ThrowReports$Told") ∈ lw_tbl := lw_at lw_m3 72 rfl
theorem q646 : (Jvm.Cond.selects "ThrowReports$Round" ({ cls := "ThrowReports$Told", name := "number", desc := "()I" } : Jvm.MethodName) ({ cls := "ThrowReports$Figure", name := "number", desc := "()I" } : Jvm.MethodName)) ∈ lw_all := lw_g (lw_at lw_m3 73 rfl) rfl
theorem q647 : (Jvm.Cond.unhidden "ThrowReports$Round" "number" "()I") ∈ lw_tbl := lw_at lw_m3 74 rfl
theorem q649 : (Jvm.Cond.unhidden "ThrowReports$Round" "tells" "()I") ∈ lw_tbl := lw_at lw_m3 76 rfl
theorem q655 : (Jvm.Cond.castable "ThrowReports$Round" "ThrowReports$Twice") ∈ lw_tbl := lw_at lw_m3 82 rfl
theorem q1382 : (Jvm.Cond.selects "ThrowReports$Round" ({ cls := "ThrowReports$Figure", name := "number", desc := "()I" } : Jvm.MethodName) ({ cls := "ThrowReports$Figure", name := "number", desc := "()I" } : Jvm.MethodName)) ∈ lw_all := lw_g (lw_at lw_m6 89 rfl) rfl
theorem q1386 : (Jvm.Cond.castable "ThrowReports$Round" "ThrowReports$Figure") ∈ lw_tbl := lw_at lw_m6 93 rfl
theorem in_X7 : ∀ w ∈ wsX70, w ∈ lw_all := lw_in wsX70 [576] (by decide +kernel) (by decide +kernel)
/-! ThrowReports$OwnFailure -/
set_option maxRecDepth 100000
def RX8 : String := "ThrowReports$OwnFailure"
def TX8 : u_T := fun k => match k with
  | 0 => ("java/lang/Throwable", "cause", "Ljava/lang/Throwable;", false)
  | 1 => ("java/lang/Throwable", "stackTrace", "[Ljava/lang/StackTraceElement;", false)
  | 2 => ("java/lang/Throwable", "suppressedExceptions", "Ljava/util/List;", false)
  | 3 => ("java/lang/Throwable", "detailMessage", "Ljava/lang/String;", false)
  | 4 => ("java/lang/Throwable", "backtrace", "Ljava/lang/Object;", false)
  | _ => ("java/lang/Throwable", "depth", "I", false)
def tyX8 : Nat → FieldType := fun k => match k with
  | 0 => .object "java/lang/Throwable"
  | 1 => .array (.object "java/lang/StackTraceElement")
  | 2 => .object "java/util/List"
  | 3 => .object "java/lang/String"
  | 4 => .object "java/lang/Object"
  | _ => .int
abbrev wsX80 : List Cond := u_ws RX8 TX8 6
theorem nmX8 : ∀ a, a < 6 → ∀ b, b < 6 → a ≠ b → (TX8 a).2.1 ≠ (TX8 b).2.1 := by decide +kernel
theorem tyX8_ok : ∀ k, k < 6 → parseFieldDescriptor (TX8 k).2.2.1 = some (tyX8 k) := by decide +kernel
abbrev cX8_init : ByteArray := prog_5_method_1_code
def yX8_init : MethodName := ⟨RX8, "<init>", "()V"⟩
def dkwX8_init_0 : List UInt8 := [42, 1, 1, 3, 3, 183, 0, 1, 177]
abbrev dktX8_init_0 : List UInt8 := dkwX8_init_0 ++ []
theorem dksX8_init_0 : cX8_init.data.toList.drop 0 = dktX8_init_0 := by decide +kernel
theorem dX8_init_0 : decode cX8_init 0 = .ok (.aload_n 0, 1) := dk_42 (dk_at dksX8_init_0 0 rfl rfl)
theorem dX8_init_1 : decode cX8_init 1 = .ok (.aconst_null, 1) := dk_1 (dk_at dksX8_init_0 1 rfl rfl)
theorem dX8_init_2 : decode cX8_init 2 = .ok (.aconst_null, 1) := dk_1 (dk_at dksX8_init_0 2 rfl rfl)
theorem dX8_init_3 : decode cX8_init 3 = .ok (.iconst 0, 1) := dk_3 (dk_at dksX8_init_0 3 rfl rfl)
theorem dX8_init_4 : decode cX8_init 4 = .ok (.iconst 0, 1) := dk_3 (dk_at dksX8_init_0 4 rfl rfl)
theorem dX8_init_5 : decode cX8_init 5 = .ok (.invokespecial 1, 3) := dk_183 0 1 (dk_at dksX8_init_0 5 rfl rfl)
theorem dX8_init_8 : decode cX8_init 8 = .ok (.return_, 1) := dk_177 (dk_at dksX8_init_0 8 rfl rfl)
theorem q119 : (Jvm.Cond.initialized "ThrowReports$OwnFailure") ∈ lw_all := lw_g (lw_at lw_m1 26 rfl) rfl
theorem q337 : (Jvm.Cond.selects "ThrowReports$OwnFailure" ({ cls := "java/lang/Throwable", name := "fillInStackTrace", desc := "()Ljava/lang/Throwable;" } : Jvm.MethodName) ({ cls := "java/lang/Throwable", name := "fillInStackTrace", desc := "()Ljava/lang/Throwable;" } : Jvm.MethodName)) ∈ lw_all := lw_g (lw_at lw_m2 4 rfl) rfl
theorem q695 : (Jvm.Cond.instantiable "ThrowReports$OwnFailure" (6 : Nat)) ∈ lw_all := lw_g (lw_at lw_m3 122 rfl) rfl
theorem q696 : (Jvm.Cond.castable "ThrowReports$OwnFailure" "ThrowReports$OwnFailure") ∈ lw_tbl := lw_at lw_m3 123 rfl
theorem q697 : (Jvm.Cond.selects "ThrowReports$OwnFailure" ({ cls := "java/lang/Throwable", name := "fillInStackTrace", desc := "(I)Ljava/lang/Throwable;" } : Jvm.MethodName) ({ cls := "java/lang/Throwable", name := "fillInStackTrace", desc := "(I)Ljava/lang/Throwable;" } : Jvm.MethodName)) ∈ lw_all := lw_g (lw_at lw_m3 124 rfl) rfl
theorem q698 : (Jvm.Cond.lays "ThrowReports$OwnFailure" "java/lang/Throwable" "cause" "Ljava/lang/Throwable;") ∈ lw_all := lw_g (lw_at lw_m3 125 rfl) rfl
theorem q699 : (Jvm.Cond.lays "ThrowReports$OwnFailure" "java/lang/Throwable" "stackTrace" "[Ljava/lang/StackTraceElement;") ∈ lw_all := lw_g (lw_at lw_m3 126 rfl) rfl
theorem q700 : (Jvm.Cond.lays "ThrowReports$OwnFailure" "java/lang/Throwable" "suppressedExceptions" "Ljava/util/List;") ∈ lw_all := lw_g (lw_at lw_m3 127 rfl) rfl
theorem q701 : (Jvm.Cond.lays "ThrowReports$OwnFailure" "java/lang/Throwable" "detailMessage" "Ljava/lang/String;") ∈ lw_all := lw_g (lw_at lw_m3 128 rfl) rfl
theorem q702 : (Jvm.Cond.lays "ThrowReports$OwnFailure" "java/lang/Throwable" "backtrace" "Ljava/lang/Object;") ∈ lw_all := lw_g (lw_at lw_m3 129 rfl) rfl
theorem q704 : (Jvm.Cond.instanceMethod ({ cls := "ThrowReports$OwnFailure", name := "<init>", desc := "()V" } : Jvm.MethodName)) ∈ lw_all := lw_g (lw_at lw_m3 131 rfl) rfl
theorem q705 : (Jvm.Cond.code ({ cls := "ThrowReports$OwnFailure", name := "<init>", desc := "()V" } : Jvm.MethodName) prog_5_method_1_code (1 : Nat) (Option.none : Option Jvm.ClassFile.FieldType)) ∈ lw_all := lw_g (lw_at lw_m3 132 rfl) rfl
theorem q706 : (Jvm.Cond.methodLink "ThrowReports$OwnFailure" (1 : Nat) ({ cls := "java/lang/RuntimeException", name := "<init>", desc := "(Ljava/lang/String;Ljava/lang/Throwable;ZZ)V" } : Jvm.MethodName)) ∈ lw_all := lw_g (lw_at lw_m3 133 rfl) rfl
theorem q707 : (Jvm.Cond.lays "ThrowReports$OwnFailure" "java/lang/Throwable" "depth" "I") ∈ lw_all := lw_g (lw_at lw_m3 134 rfl) rfl
theorem q708 : (Jvm.Cond.superclass "ThrowReports$OwnFailure" "java/lang/RuntimeException") ∈ lw_all := lw_g (lw_at lw_m3 135 rfl) rfl
theorem in_X8 : ∀ w ∈ wsX80, w ∈ lw_all := lw_in wsX80 [698, 699, 700, 701, 702, 707] (by decide +kernel) (by decide +kernel)
/-! ThrowReports$Questions -/
set_option maxRecDepth 100000
def RX9 : String := "ThrowReports$Questions"
def TX9 : u_T := fun k => match k with
  | 0 => ("ThrowReports$Questions", "ways", "LThrowReports$Ways;", true)
  | _ => ("ThrowReports$Questions", "now", "LThrowReports$State;", false)
def tyX9 : Nat → FieldType := fun k => match k with
  | 0 => .object "ThrowReports$Ways"
  | _ => .object "ThrowReports$State"
abbrev wsX90 : List Cond := u_ws RX9 TX9 2
theorem nmX9 : ∀ a, a < 2 → ∀ b, b < 2 → a ≠ b → (TX9 a).2.1 ≠ (TX9 b).2.1 := by decide +kernel
theorem tyX9_ok : ∀ k, k < 2 → parseFieldDescriptor (TX9 k).2.2.1 = some (tyX9 k) := by decide +kernel
abbrev cX9_init : ByteArray := prog_6_method_1_code
def yX9_init : MethodName := ⟨RX9, "<init>", "(LThrowReports$State;)V"⟩
def dkwX9_init_0 : List UInt8 := [42, 183, 0, 3, 42, 187, 0, 9, 89, 183, 0, 11, 181, 0, 12, 42, 43, 181, 0, 18, 177]
abbrev dktX9_init_0 : List UInt8 := dkwX9_init_0 ++ []
theorem dksX9_init_0 : cX9_init.data.toList.drop 0 = dktX9_init_0 := by decide +kernel
theorem dX9_init_0 : decode cX9_init 0 = .ok (.aload_n 0, 1) := dk_42 (dk_at dksX9_init_0 0 rfl rfl)
theorem dX9_init_1 : decode cX9_init 1 = .ok (.invokespecial 3, 3) := dk_183 0 3 (dk_at dksX9_init_0 1 rfl rfl)
theorem dX9_init_4 : decode cX9_init 4 = .ok (.aload_n 0, 1) := dk_42 (dk_at dksX9_init_0 4 rfl rfl)
theorem dX9_init_5 : decode cX9_init 5 = .ok (.new 9, 3) := dk_187 0 9 (dk_at dksX9_init_0 5 rfl rfl)
theorem dX9_init_8 : decode cX9_init 8 = .ok (.dup, 1) := dk_89 (dk_at dksX9_init_0 8 rfl rfl)
theorem dX9_init_9 : decode cX9_init 9 = .ok (.invokespecial 11, 3) := dk_183 0 11 (dk_at dksX9_init_0 9 rfl rfl)
theorem dX9_init_12 : decode cX9_init 12 = .ok (.putfield 12, 3) := dk_181 0 12 (dk_at dksX9_init_0 12 rfl rfl)
theorem dX9_init_15 : decode cX9_init 15 = .ok (.aload_n 0, 1) := dk_42 (dk_at dksX9_init_0 15 rfl rfl)
theorem dX9_init_16 : decode cX9_init 16 = .ok (.aload_n 1, 1) := dk_43 (dk_at dksX9_init_0 16 rfl rfl)
theorem dX9_init_17 : decode cX9_init 17 = .ok (.putfield 18, 3) := dk_181 0 18 (dk_at dksX9_init_0 17 rfl rfl)
theorem dX9_init_20 : decode cX9_init 20 = .ok (.return_, 1) := dk_177 (dk_at dksX9_init_0 20 rfl rfl)
abbrev cX9_size : ByteArray := prog_6_method_7_code
def yX9_size : MethodName := ⟨RX9, "size", "(Z)LThrowReports$Questions;"⟩
def dkwX9_size_0 : List UInt8 := [27, 154, 0, 20, 42, 180, 0, 12, 7, 42, 180, 0, 18, 182, 0, 36, 42, 1, 181, 0, 18, 42, 176]
abbrev dktX9_size_0 : List UInt8 := dkwX9_size_0 ++ []
theorem dksX9_size_0 : cX9_size.data.toList.drop 0 = dktX9_size_0 := by decide +kernel
theorem dX9_size_0 : decode cX9_size 0 = .ok (.iload_n 1, 1) := dk_27 (dk_at dksX9_size_0 0 rfl rfl)
theorem dX9_size_1 : decode cX9_size 1 = .ok (.ifCond .ne 20, 3) := dk_154 0 20 (dk_at dksX9_size_0 1 rfl rfl)
theorem dX9_size_4 : decode cX9_size 4 = .ok (.aload_n 0, 1) := dk_42 (dk_at dksX9_size_0 4 rfl rfl)
theorem dX9_size_5 : decode cX9_size 5 = .ok (.getfield 12, 3) := dk_180 0 12 (dk_at dksX9_size_0 5 rfl rfl)
theorem dX9_size_8 : decode cX9_size 8 = .ok (.iconst 4, 1) := dk_7 (dk_at dksX9_size_0 8 rfl rfl)
theorem dX9_size_9 : decode cX9_size 9 = .ok (.aload_n 0, 1) := dk_42 (dk_at dksX9_size_0 9 rfl rfl)
theorem dX9_size_10 : decode cX9_size 10 = .ok (.getfield 18, 3) := dk_180 0 18 (dk_at dksX9_size_0 10 rfl rfl)
theorem dX9_size_13 : decode cX9_size 13 = .ok (.invokevirtual 36, 3) := dk_182 0 36 (dk_at dksX9_size_0 13 rfl rfl)
theorem dX9_size_16 : decode cX9_size 16 = .ok (.aload_n 0, 1) := dk_42 (dk_at dksX9_size_0 16 rfl rfl)
theorem dX9_size_17 : decode cX9_size 17 = .ok (.aconst_null, 1) := dk_1 (dk_at dksX9_size_0 17 rfl rfl)
theorem dX9_size_18 : decode cX9_size 18 = .ok (.putfield 18, 3) := dk_181 0 18 (dk_at dksX9_size_0 18 rfl rfl)
theorem dX9_size_21 : decode cX9_size 21 = .ok (.aload_n 0, 1) := dk_42 (dk_at dksX9_size_0 21 rfl rfl)
theorem dX9_size_22 : decode cX9_size 22 = .ok (.areturn, 1) := dk_176 (dk_at dksX9_size_0 22 rfl rfl)
abbrev cX9_may : ByteArray := prog_6_method_6_code
def yX9_may : MethodName := ⟨RX9, "may", "(I)LThrowReports$Questions;"⟩
def dkwX9_may_0 : List UInt8 := [42, 180, 0, 12, 27, 42, 180, 0, 18, 182, 0, 36, 42, 176]
abbrev dktX9_may_0 : List UInt8 := dkwX9_may_0 ++ []
theorem dksX9_may_0 : cX9_may.data.toList.drop 0 = dktX9_may_0 := by decide +kernel
theorem dX9_may_0 : decode cX9_may 0 = .ok (.aload_n 0, 1) := dk_42 (dk_at dksX9_may_0 0 rfl rfl)
theorem dX9_may_1 : decode cX9_may 1 = .ok (.getfield 12, 3) := dk_180 0 12 (dk_at dksX9_may_0 1 rfl rfl)
theorem dX9_may_4 : decode cX9_may 4 = .ok (.iload_n 1, 1) := dk_27 (dk_at dksX9_may_0 4 rfl rfl)
theorem dX9_may_5 : decode cX9_may 5 = .ok (.aload_n 0, 1) := dk_42 (dk_at dksX9_may_0 5 rfl rfl)
theorem dX9_may_6 : decode cX9_may 6 = .ok (.getfield 18, 3) := dk_180 0 18 (dk_at dksX9_may_0 6 rfl rfl)
theorem dX9_may_9 : decode cX9_may 9 = .ok (.invokevirtual 36, 3) := dk_182 0 36 (dk_at dksX9_may_0 9 rfl rfl)
theorem dX9_may_12 : decode cX9_may 12 = .ok (.aload_n 0, 1) := dk_42 (dk_at dksX9_may_0 12 rfl rfl)
theorem dX9_may_13 : decode cX9_may 13 = .ok (.areturn, 1) := dk_176 (dk_at dksX9_may_0 13 rfl rfl)
abbrev cX9_anew : ByteArray := prog_6_method_9_code
def yX9_anew : MethodName := ⟨RX9, "anew", "(II)LThrowReports$Ways;"⟩
def dkwX9_anew_1 : List UInt8 := [42, 182, 0, 48, 176]
abbrev dktX9_anew_1 : List UInt8 := dkwX9_anew_1 ++ []
def dkwX9_anew_0 : List UInt8 := [42, 42, 180, 0, 18, 199, 0, 7, 1, 167, 0, 12, 42, 180, 0, 18, 27, 28, 182, 0, 32, 181, 0, 18]
abbrev dktX9_anew_0 : List UInt8 := dkwX9_anew_0 ++ dktX9_anew_1
theorem dksX9_anew_0 : cX9_anew.data.toList.drop 0 = dktX9_anew_0 := by decide +kernel
theorem dksX9_anew_1 : cX9_anew.data.toList.drop 24 = dktX9_anew_1 := dk_seg dksX9_anew_0 24 rfl rfl
theorem dX9_anew_0 : decode cX9_anew 0 = .ok (.aload_n 0, 1) := dk_42 (dk_at dksX9_anew_0 0 rfl rfl)
theorem dX9_anew_1 : decode cX9_anew 1 = .ok (.aload_n 0, 1) := dk_42 (dk_at dksX9_anew_0 1 rfl rfl)
theorem dX9_anew_2 : decode cX9_anew 2 = .ok (.getfield 18, 3) := dk_180 0 18 (dk_at dksX9_anew_0 2 rfl rfl)
theorem dX9_anew_5 : decode cX9_anew 5 = .ok (.ifnonnull 7, 3) := dk_199 0 7 (dk_at dksX9_anew_0 5 rfl rfl)
theorem dX9_anew_8 : decode cX9_anew 8 = .ok (.aconst_null, 1) := dk_1 (dk_at dksX9_anew_0 8 rfl rfl)
theorem dX9_anew_9 : decode cX9_anew 9 = .ok (.goto 12, 3) := dk_167 0 12 (dk_at dksX9_anew_0 9 rfl rfl)
theorem dX9_anew_12 : decode cX9_anew 12 = .ok (.aload_n 0, 1) := dk_42 (dk_at dksX9_anew_0 12 rfl rfl)
theorem dX9_anew_13 : decode cX9_anew 13 = .ok (.getfield 18, 3) := dk_180 0 18 (dk_at dksX9_anew_0 13 rfl rfl)
theorem dX9_anew_16 : decode cX9_anew 16 = .ok (.iload_n 1, 1) := dk_27 (dk_at dksX9_anew_0 16 rfl rfl)
theorem dX9_anew_17 : decode cX9_anew 17 = .ok (.iload_n 2, 1) := dk_28 (dk_at dksX9_anew_0 17 rfl rfl)
theorem dX9_anew_18 : decode cX9_anew 18 = .ok (.invokevirtual 32, 3) := dk_182 0 32 (dk_at dksX9_anew_0 18 rfl rfl)
theorem dX9_anew_21 : decode cX9_anew 21 = .ok (.putfield 18, 3) := dk_181 0 18 (dk_at dksX9_anew_0 21 rfl rfl)
theorem dX9_anew_24 : decode cX9_anew 24 = .ok (.aload_n 0, 1) := dk_42 (dk_at dksX9_anew_1 0 rfl rfl)
theorem dX9_anew_25 : decode cX9_anew 25 = .ok (.invokevirtual 48, 3) := dk_182 0 48 (dk_at dksX9_anew_1 1 rfl rfl)
theorem dX9_anew_28 : decode cX9_anew 28 = .ok (.areturn, 1) := dk_176 (dk_at dksX9_anew_1 4 rfl rfl)
abbrev cX9_end : ByteArray := prog_6_method_8_code
def yX9_end : MethodName := ⟨RX9, "end", "()LThrowReports$Ways;"⟩
def dkwX9_end_0 : List UInt8 := [42, 180, 0, 12, 3, 42, 180, 0, 18, 182, 0, 36, 42, 180, 0, 12, 176]
abbrev dktX9_end_0 : List UInt8 := dkwX9_end_0 ++ []
theorem dksX9_end_0 : cX9_end.data.toList.drop 0 = dktX9_end_0 := by decide +kernel
theorem dX9_end_0 : decode cX9_end 0 = .ok (.aload_n 0, 1) := dk_42 (dk_at dksX9_end_0 0 rfl rfl)
theorem dX9_end_1 : decode cX9_end 1 = .ok (.getfield 12, 3) := dk_180 0 12 (dk_at dksX9_end_0 1 rfl rfl)
theorem dX9_end_4 : decode cX9_end 4 = .ok (.iconst 0, 1) := dk_3 (dk_at dksX9_end_0 4 rfl rfl)
theorem dX9_end_5 : decode cX9_end 5 = .ok (.aload_n 0, 1) := dk_42 (dk_at dksX9_end_0 5 rfl rfl)
theorem dX9_end_6 : decode cX9_end 6 = .ok (.getfield 18, 3) := dk_180 0 18 (dk_at dksX9_end_0 6 rfl rfl)
theorem dX9_end_9 : decode cX9_end 9 = .ok (.invokevirtual 36, 3) := dk_182 0 36 (dk_at dksX9_end_0 9 rfl rfl)
theorem dX9_end_12 : decode cX9_end 12 = .ok (.aload_n 0, 1) := dk_42 (dk_at dksX9_end_0 12 rfl rfl)
theorem dX9_end_13 : decode cX9_end 13 = .ok (.getfield 12, 3) := dk_180 0 12 (dk_at dksX9_end_0 13 rfl rfl)
theorem dX9_end_16 : decode cX9_end 16 = .ok (.areturn, 1) := dk_176 (dk_at dksX9_end_0 16 rfl rfl)
abbrev cX9_as : ByteArray := prog_6_method_4_code
def yX9_as : MethodName := ⟨RX9, "as", "(II)LThrowReports$Questions;"⟩
def dkwX9_as_1 : List UInt8 := [130, 126, 5, 182, 0, 44, 42, 176]
abbrev dktX9_as_1 : List UInt8 := dkwX9_as_1 ++ []
def dkwX9_as_0 : List UInt8 := [28, 158, 0, 29, 42, 27, 42, 27, 182, 0, 28, 16, 254, 126, 42, 27, 182, 0, 28, 28, 184, 0, 40, 2]
abbrev dktX9_as_0 : List UInt8 := dkwX9_as_0 ++ dktX9_as_1
theorem dksX9_as_0 : cX9_as.data.toList.drop 0 = dktX9_as_0 := by decide +kernel
theorem dksX9_as_1 : cX9_as.data.toList.drop 24 = dktX9_as_1 := dk_seg dksX9_as_0 24 rfl rfl
theorem dX9_as_0 : decode cX9_as 0 = .ok (.iload_n 2, 1) := dk_28 (dk_at dksX9_as_0 0 rfl rfl)
theorem dX9_as_1 : decode cX9_as 1 = .ok (.ifCond .le 29, 3) := dk_158 0 29 (dk_at dksX9_as_0 1 rfl rfl)
theorem dX9_as_4 : decode cX9_as 4 = .ok (.aload_n 0, 1) := dk_42 (dk_at dksX9_as_0 4 rfl rfl)
theorem dX9_as_5 : decode cX9_as 5 = .ok (.iload_n 1, 1) := dk_27 (dk_at dksX9_as_0 5 rfl rfl)
theorem dX9_as_6 : decode cX9_as 6 = .ok (.aload_n 0, 1) := dk_42 (dk_at dksX9_as_0 6 rfl rfl)
theorem dX9_as_7 : decode cX9_as 7 = .ok (.iload_n 1, 1) := dk_27 (dk_at dksX9_as_0 7 rfl rfl)
theorem dX9_as_8 : decode cX9_as 8 = .ok (.invokevirtual 28, 3) := dk_182 0 28 (dk_at dksX9_as_0 8 rfl rfl)
theorem dX9_as_11 : decode cX9_as 11 = .ok (.bipush (-2), 2) := dk_16 254 (dk_at dksX9_as_0 11 rfl rfl)
theorem dX9_as_13 : decode cX9_as 13 = .ok (.iand, 1) := dk_126 (dk_at dksX9_as_0 13 rfl rfl)
theorem dX9_as_14 : decode cX9_as 14 = .ok (.aload_n 0, 1) := dk_42 (dk_at dksX9_as_0 14 rfl rfl)
theorem dX9_as_15 : decode cX9_as 15 = .ok (.iload_n 1, 1) := dk_27 (dk_at dksX9_as_0 15 rfl rfl)
theorem dX9_as_16 : decode cX9_as 16 = .ok (.invokevirtual 28, 3) := dk_182 0 28 (dk_at dksX9_as_0 16 rfl rfl)
theorem dX9_as_19 : decode cX9_as 19 = .ok (.iload_n 2, 1) := dk_28 (dk_at dksX9_as_0 19 rfl rfl)
theorem dX9_as_20 : decode cX9_as 20 = .ok (.invokestatic 40, 3) := dk_184 0 40 (dk_at dksX9_as_0 20 rfl rfl)
theorem dX9_as_23 : decode cX9_as 23 = .ok (.iconst (-1), 1) := dk_2 (dk_at dksX9_as_0 23 rfl rfl)
theorem dX9_as_24 : decode cX9_as 24 = .ok (.ixor, 1) := dk_130 (dk_at dksX9_as_1 0 rfl rfl)
theorem dX9_as_25 : decode cX9_as 25 = .ok (.iand, 1) := dk_126 (dk_at dksX9_as_1 1 rfl rfl)
theorem dX9_as_26 : decode cX9_as 26 = .ok (.iconst 2, 1) := dk_5 (dk_at dksX9_as_1 2 rfl rfl)
theorem dX9_as_27 : decode cX9_as 27 = .ok (.invokevirtual 44, 3) := dk_182 0 44 (dk_at dksX9_as_1 3 rfl rfl)
theorem dX9_as_30 : decode cX9_as 30 = .ok (.aload_n 0, 1) := dk_42 (dk_at dksX9_as_1 6 rfl rfl)
theorem dX9_as_31 : decode cX9_as 31 = .ok (.areturn, 1) := dk_176 (dk_at dksX9_as_1 7 rfl rfl)
abbrev cX9_set : ByteArray := prog_6_method_2_code
def yX9_set : MethodName := ⟨RX9, "set", "(I)I"⟩
def dkwX9_set_0 : List UInt8 := [42, 180, 0, 18, 199, 0, 7, 3, 167, 0, 12, 42, 180, 0, 18, 180, 0, 22, 27, 46, 172]
abbrev dktX9_set_0 : List UInt8 := dkwX9_set_0 ++ []
theorem dksX9_set_0 : cX9_set.data.toList.drop 0 = dktX9_set_0 := by decide +kernel
theorem dX9_set_0 : decode cX9_set 0 = .ok (.aload_n 0, 1) := dk_42 (dk_at dksX9_set_0 0 rfl rfl)
theorem dX9_set_1 : decode cX9_set 1 = .ok (.getfield 18, 3) := dk_180 0 18 (dk_at dksX9_set_0 1 rfl rfl)
theorem dX9_set_4 : decode cX9_set 4 = .ok (.ifnonnull 7, 3) := dk_199 0 7 (dk_at dksX9_set_0 4 rfl rfl)
theorem dX9_set_7 : decode cX9_set 7 = .ok (.iconst 0, 1) := dk_3 (dk_at dksX9_set_0 7 rfl rfl)
theorem dX9_set_8 : decode cX9_set 8 = .ok (.goto 12, 3) := dk_167 0 12 (dk_at dksX9_set_0 8 rfl rfl)
theorem dX9_set_11 : decode cX9_set 11 = .ok (.aload_n 0, 1) := dk_42 (dk_at dksX9_set_0 11 rfl rfl)
theorem dX9_set_12 : decode cX9_set 12 = .ok (.getfield 18, 3) := dk_180 0 18 (dk_at dksX9_set_0 12 rfl rfl)
theorem dX9_set_15 : decode cX9_set 15 = .ok (.getfield 22, 3) := dk_180 0 22 (dk_at dksX9_set_0 15 rfl rfl)
theorem dX9_set_18 : decode cX9_set 18 = .ok (.iload_n 1, 1) := dk_27 (dk_at dksX9_set_0 18 rfl rfl)
theorem dX9_set_19 : decode cX9_set 19 = .ok (.iaload, 1) := dk_46 (dk_at dksX9_set_0 19 rfl rfl)
theorem dX9_set_20 : decode cX9_set 20 = .ok (.ireturn, 1) := dk_172 (dk_at dksX9_set_0 20 rfl rfl)
abbrev cX9_parts : ByteArray := prog_6_method_3_code
def yX9_parts : MethodName := ⟨RX9, "parts", "(III)V"⟩
def dkwX9_parts_2 : List UInt8 := [42, 180, 0, 18, 27, 21, 4, 28, 2, 130, 126, 182, 0, 32, 181, 0, 18, 177]
abbrev dktX9_parts_2 : List UInt8 := dkwX9_parts_2 ++ []
def dkwX9_parts_1 : List UInt8 := [21, 4, 28, 126, 182, 0, 32, 182, 0, 36, 42, 21, 4, 28, 2, 130, 126, 154, 0, 7, 1, 167, 0, 17]
abbrev dktX9_parts_1 : List UInt8 := dkwX9_parts_1 ++ dktX9_parts_2
def dkwX9_parts_0 : List UInt8 := [42, 27, 182, 0, 28, 54, 4, 21, 4, 28, 126, 153, 0, 54, 42, 180, 0, 12, 29, 42, 180, 0, 18, 27]
abbrev dktX9_parts_0 : List UInt8 := dkwX9_parts_0 ++ dktX9_parts_1
theorem dksX9_parts_0 : cX9_parts.data.toList.drop 0 = dktX9_parts_0 := by decide +kernel
theorem dksX9_parts_1 : cX9_parts.data.toList.drop 24 = dktX9_parts_1 := dk_seg dksX9_parts_0 24 rfl rfl
theorem dksX9_parts_2 : cX9_parts.data.toList.drop 48 = dktX9_parts_2 := dk_seg dksX9_parts_1 24 rfl rfl
theorem dX9_parts_0 : decode cX9_parts 0 = .ok (.aload_n 0, 1) := dk_42 (dk_at dksX9_parts_0 0 rfl rfl)
theorem dX9_parts_1 : decode cX9_parts 1 = .ok (.iload_n 1, 1) := dk_27 (dk_at dksX9_parts_0 1 rfl rfl)
theorem dX9_parts_2 : decode cX9_parts 2 = .ok (.invokevirtual 28, 3) := dk_182 0 28 (dk_at dksX9_parts_0 2 rfl rfl)
theorem dX9_parts_5 : decode cX9_parts 5 = .ok (.istore 4, 2) := dk_54 4 (dk_at dksX9_parts_0 5 rfl rfl)
theorem dX9_parts_7 : decode cX9_parts 7 = .ok (.iload 4, 2) := dk_21 4 (dk_at dksX9_parts_0 7 rfl rfl)
theorem dX9_parts_9 : decode cX9_parts 9 = .ok (.iload_n 2, 1) := dk_28 (dk_at dksX9_parts_0 9 rfl rfl)
theorem dX9_parts_10 : decode cX9_parts 10 = .ok (.iand, 1) := dk_126 (dk_at dksX9_parts_0 10 rfl rfl)
theorem dX9_parts_11 : decode cX9_parts 11 = .ok (.ifCond .eq 54, 3) := dk_153 0 54 (dk_at dksX9_parts_0 11 rfl rfl)
theorem dX9_parts_14 : decode cX9_parts 14 = .ok (.aload_n 0, 1) := dk_42 (dk_at dksX9_parts_0 14 rfl rfl)
theorem dX9_parts_15 : decode cX9_parts 15 = .ok (.getfield 12, 3) := dk_180 0 12 (dk_at dksX9_parts_0 15 rfl rfl)
theorem dX9_parts_18 : decode cX9_parts 18 = .ok (.iload_n 3, 1) := dk_29 (dk_at dksX9_parts_0 18 rfl rfl)
theorem dX9_parts_19 : decode cX9_parts 19 = .ok (.aload_n 0, 1) := dk_42 (dk_at dksX9_parts_0 19 rfl rfl)
theorem dX9_parts_20 : decode cX9_parts 20 = .ok (.getfield 18, 3) := dk_180 0 18 (dk_at dksX9_parts_0 20 rfl rfl)
theorem dX9_parts_23 : decode cX9_parts 23 = .ok (.iload_n 1, 1) := dk_27 (dk_at dksX9_parts_0 23 rfl rfl)
theorem dX9_parts_24 : decode cX9_parts 24 = .ok (.iload 4, 2) := dk_21 4 (dk_at dksX9_parts_1 0 rfl rfl)
theorem dX9_parts_26 : decode cX9_parts 26 = .ok (.iload_n 2, 1) := dk_28 (dk_at dksX9_parts_1 2 rfl rfl)
theorem dX9_parts_27 : decode cX9_parts 27 = .ok (.iand, 1) := dk_126 (dk_at dksX9_parts_1 3 rfl rfl)
theorem dX9_parts_28 : decode cX9_parts 28 = .ok (.invokevirtual 32, 3) := dk_182 0 32 (dk_at dksX9_parts_1 4 rfl rfl)
theorem dX9_parts_31 : decode cX9_parts 31 = .ok (.invokevirtual 36, 3) := dk_182 0 36 (dk_at dksX9_parts_1 7 rfl rfl)
theorem dX9_parts_34 : decode cX9_parts 34 = .ok (.aload_n 0, 1) := dk_42 (dk_at dksX9_parts_1 10 rfl rfl)
theorem dX9_parts_35 : decode cX9_parts 35 = .ok (.iload 4, 2) := dk_21 4 (dk_at dksX9_parts_1 11 rfl rfl)
theorem dX9_parts_37 : decode cX9_parts 37 = .ok (.iload_n 2, 1) := dk_28 (dk_at dksX9_parts_1 13 rfl rfl)
theorem dX9_parts_38 : decode cX9_parts 38 = .ok (.iconst (-1), 1) := dk_2 (dk_at dksX9_parts_1 14 rfl rfl)
theorem dX9_parts_39 : decode cX9_parts 39 = .ok (.ixor, 1) := dk_130 (dk_at dksX9_parts_1 15 rfl rfl)
theorem dX9_parts_40 : decode cX9_parts 40 = .ok (.iand, 1) := dk_126 (dk_at dksX9_parts_1 16 rfl rfl)
theorem dX9_parts_41 : decode cX9_parts 41 = .ok (.ifCond .ne 7, 3) := dk_154 0 7 (dk_at dksX9_parts_1 17 rfl rfl)
theorem dX9_parts_44 : decode cX9_parts 44 = .ok (.aconst_null, 1) := dk_1 (dk_at dksX9_parts_1 20 rfl rfl)
theorem dX9_parts_45 : decode cX9_parts 45 = .ok (.goto 17, 3) := dk_167 0 17 (dk_at dksX9_parts_1 21 rfl rfl)
theorem dX9_parts_48 : decode cX9_parts 48 = .ok (.aload_n 0, 1) := dk_42 (dk_at dksX9_parts_2 0 rfl rfl)
theorem dX9_parts_49 : decode cX9_parts 49 = .ok (.getfield 18, 3) := dk_180 0 18 (dk_at dksX9_parts_2 1 rfl rfl)
theorem dX9_parts_52 : decode cX9_parts 52 = .ok (.iload_n 1, 1) := dk_27 (dk_at dksX9_parts_2 4 rfl rfl)
theorem dX9_parts_53 : decode cX9_parts 53 = .ok (.iload 4, 2) := dk_21 4 (dk_at dksX9_parts_2 5 rfl rfl)
theorem dX9_parts_55 : decode cX9_parts 55 = .ok (.iload_n 2, 1) := dk_28 (dk_at dksX9_parts_2 7 rfl rfl)
theorem dX9_parts_56 : decode cX9_parts 56 = .ok (.iconst (-1), 1) := dk_2 (dk_at dksX9_parts_2 8 rfl rfl)
theorem dX9_parts_57 : decode cX9_parts 57 = .ok (.ixor, 1) := dk_130 (dk_at dksX9_parts_2 9 rfl rfl)
theorem dX9_parts_58 : decode cX9_parts 58 = .ok (.iand, 1) := dk_126 (dk_at dksX9_parts_2 10 rfl rfl)
theorem dX9_parts_59 : decode cX9_parts 59 = .ok (.invokevirtual 32, 3) := dk_182 0 32 (dk_at dksX9_parts_2 11 rfl rfl)
theorem dX9_parts_62 : decode cX9_parts 62 = .ok (.putfield 18, 3) := dk_181 0 18 (dk_at dksX9_parts_2 14 rfl rfl)
theorem dX9_parts_65 : decode cX9_parts 65 = .ok (.return_, 1) := dk_177 (dk_at dksX9_parts_2 17 rfl rfl)
abbrev cX9_there : ByteArray := prog_6_method_5_code
def yX9_there : MethodName := ⟨RX9, "there", "(I)LThrowReports$Questions;"⟩
def dkwX9_there_0 : List UInt8 := [42, 27, 4, 4, 182, 0, 44, 42, 176]
abbrev dktX9_there_0 : List UInt8 := dkwX9_there_0 ++ []
theorem dksX9_there_0 : cX9_there.data.toList.drop 0 = dktX9_there_0 := by decide +kernel
theorem dX9_there_0 : decode cX9_there 0 = .ok (.aload_n 0, 1) := dk_42 (dk_at dksX9_there_0 0 rfl rfl)
theorem dX9_there_1 : decode cX9_there 1 = .ok (.iload_n 1, 1) := dk_27 (dk_at dksX9_there_0 1 rfl rfl)
theorem dX9_there_2 : decode cX9_there 2 = .ok (.iconst 1, 1) := dk_4 (dk_at dksX9_there_0 2 rfl rfl)
theorem dX9_there_3 : decode cX9_there 3 = .ok (.iconst 1, 1) := dk_4 (dk_at dksX9_there_0 3 rfl rfl)
theorem dX9_there_4 : decode cX9_there 4 = .ok (.invokevirtual 44, 3) := dk_182 0 44 (dk_at dksX9_there_0 4 rfl rfl)
theorem dX9_there_7 : decode cX9_there 7 = .ok (.aload_n 0, 1) := dk_42 (dk_at dksX9_there_0 7 rfl rfl)
theorem dX9_there_8 : decode cX9_there 8 = .ok (.areturn, 1) := dk_176 (dk_at dksX9_there_0 8 rfl rfl)
theorem q120 : (Jvm.Cond.initialized "ThrowReports$Questions") ∈ lw_all := lw_g (lw_at lw_m1 27 rfl) rfl
theorem q141 : (Jvm.Cond.fieldLinkNest "ThrowReports$Questions" (22 : Nat) "ThrowReports$State" "sets" "[I" "ThrowReports") ∈ lw_tbl := lw_at lw_m1 48 rfl
theorem q791 : (Jvm.Cond.instantiable "ThrowReports$Questions" (2 : Nat)) ∈ lw_all := lw_g (lw_at lw_m3 218 rfl) rfl
theorem q793 : (Jvm.Cond.instanceMethod ({ cls := "ThrowReports$Questions", name := "<init>", desc := "(LThrowReports$State;)V" } : Jvm.MethodName)) ∈ lw_all := lw_g (lw_at lw_m3 220 rfl) rfl
theorem q794 : (Jvm.Cond.code ({ cls := "ThrowReports$Questions", name := "<init>", desc := "(LThrowReports$State;)V" } : Jvm.MethodName) prog_6_method_1_code (2 : Nat) (Option.none : Option Jvm.ClassFile.FieldType)) ∈ lw_all := lw_g (lw_at lw_m3 221 rfl) rfl
theorem q795 : (Jvm.Cond.methodLink "ThrowReports$Questions" (3 : Nat) ({ cls := "java/lang/Object", name := "<init>", desc := "()V" } : Jvm.MethodName)) ∈ lw_all := lw_g (lw_at lw_m3 222 rfl) rfl
theorem q796 : (Jvm.Cond.classLink "ThrowReports$Questions" (9 : Nat) "ThrowReports$Ways") ∈ lw_all := lw_g (lw_at lw_m3 223 rfl) rfl
theorem q798 : (Jvm.Cond.methodLinkNest "ThrowReports$Questions" (11 : Nat) ({ cls := "ThrowReports$Ways", name := "<init>", desc := "()V" } : Jvm.MethodName) "ThrowReports") ∈ lw_tbl := lw_at lw_m3 225 rfl
theorem q809 : (Jvm.Cond.fieldLink "ThrowReports$Questions" (12 : Nat) "ThrowReports$Questions" "ways" "LThrowReports$Ways;") ∈ lw_all := lw_g (lw_at lw_m3 236 rfl) rfl
theorem q810 : (Jvm.Cond.fieldLink "ThrowReports$Questions" (18 : Nat) "ThrowReports$Questions" "now" "LThrowReports$State;") ∈ lw_all := lw_g (lw_at lw_m3 237 rfl) rfl
theorem q812 : (Jvm.Cond.laysFinal "ThrowReports$Questions" "ThrowReports$Questions" "ways" "LThrowReports$Ways;") ∈ lw_all := lw_g (lw_at lw_m3 239 rfl) rfl
theorem q813 : (Jvm.Cond.soleField "ThrowReports$Questions" "ways") ∈ lw_all := lw_g (lw_at lw_m4 0 rfl) rfl
theorem q814 : (Jvm.Cond.lays "ThrowReports$Questions" "ThrowReports$Questions" "now" "LThrowReports$State;") ∈ lw_all := lw_g (lw_at lw_m4 1 rfl) rfl
theorem q815 : (Jvm.Cond.soleField "ThrowReports$Questions" "now") ∈ lw_all := lw_g (lw_at lw_m4 2 rfl) rfl
theorem q816 : (Jvm.Cond.superclass "ThrowReports$Questions" "java/lang/Object") ∈ lw_all := lw_g (lw_at lw_m4 3 rfl) rfl
theorem q818 : (Jvm.Cond.privateMethod ({ cls := "ThrowReports$Questions", name := "size", desc := "(Z)LThrowReports$Questions;" } : Jvm.MethodName)) ∈ lw_tbl := lw_at lw_m4 5 rfl
theorem q819 : (Jvm.Cond.instanceMethod ({ cls := "ThrowReports$Questions", name := "size", desc := "(Z)LThrowReports$Questions;" } : Jvm.MethodName)) ∈ lw_all := lw_g (lw_at lw_m4 6 rfl) rfl
theorem q820 : (Jvm.Cond.code ({ cls := "ThrowReports$Questions", name := "size", desc := "(Z)LThrowReports$Questions;" } : Jvm.MethodName) prog_6_method_7_code (2 : Nat) (Option.some (Jvm.ClassFile.FieldType.object "ThrowReports$Questions"))) ∈ lw_all := lw_g (lw_at lw_m4 7 rfl) rfl
theorem q821 : (Jvm.Cond.methodLinkNest "ThrowReports$Questions" (36 : Nat) ({ cls := "ThrowReports$Ways", name := "add", desc := "(ILThrowReports$State;)V" } : Jvm.MethodName) "ThrowReports") ∈ lw_tbl := lw_at lw_m4 8 rfl
theorem q836 : (Jvm.Cond.privateMethod ({ cls := "ThrowReports$Questions", name := "may", desc := "(I)LThrowReports$Questions;" } : Jvm.MethodName)) ∈ lw_tbl := lw_at lw_m4 23 rfl
theorem q837 : (Jvm.Cond.instanceMethod ({ cls := "ThrowReports$Questions", name := "may", desc := "(I)LThrowReports$Questions;" } : Jvm.MethodName)) ∈ lw_all := lw_g (lw_at lw_m4 24 rfl) rfl
theorem q838 : (Jvm.Cond.code ({ cls := "ThrowReports$Questions", name := "may", desc := "(I)LThrowReports$Questions;" } : Jvm.MethodName) prog_6_method_6_code (2 : Nat) (Option.some (Jvm.ClassFile.FieldType.object "ThrowReports$Questions"))) ∈ lw_all := lw_g (lw_at lw_m4 25 rfl) rfl
theorem q840 : (Jvm.Cond.privateMethod ({ cls := "ThrowReports$Questions", name := "anew", desc := "(II)LThrowReports$Ways;" } : Jvm.MethodName)) ∈ lw_tbl := lw_at lw_m4 27 rfl
theorem q841 : (Jvm.Cond.instanceMethod ({ cls := "ThrowReports$Questions", name := "anew", desc := "(II)LThrowReports$Ways;" } : Jvm.MethodName)) ∈ lw_all := lw_g (lw_at lw_m4 28 rfl) rfl
theorem q842 : (Jvm.Cond.code ({ cls := "ThrowReports$Questions", name := "anew", desc := "(II)LThrowReports$Ways;" } : Jvm.MethodName) prog_6_method_9_code (3 : Nat) (Option.some (Jvm.ClassFile.FieldType.object "ThrowReports$Ways"))) ∈ lw_all := lw_g (lw_at lw_m4 29 rfl) rfl
theorem q843 : (Jvm.Cond.methodLinkNest "ThrowReports$Questions" (32 : Nat) ({ cls := "ThrowReports$State", name := "with", desc := "(II)LThrowReports$State;" } : Jvm.MethodName) "ThrowReports") ∈ lw_tbl := lw_at lw_m4 30 rfl
theorem q848 : (Jvm.Cond.methodLink "ThrowReports$Questions" (48 : Nat) ({ cls := "ThrowReports$Questions", name := "end", desc := "()LThrowReports$Ways;" } : Jvm.MethodName)) ∈ lw_all := lw_g (lw_at lw_m4 35 rfl) rfl
theorem q849 : (Jvm.Cond.privateMethod ({ cls := "ThrowReports$Questions", name := "end", desc := "()LThrowReports$Ways;" } : Jvm.MethodName)) ∈ lw_tbl := lw_at lw_m4 36 rfl
theorem q850 : (Jvm.Cond.instanceMethod ({ cls := "ThrowReports$Questions", name := "end", desc := "()LThrowReports$Ways;" } : Jvm.MethodName)) ∈ lw_all := lw_g (lw_at lw_m4 37 rfl) rfl
theorem q851 : (Jvm.Cond.code ({ cls := "ThrowReports$Questions", name := "end", desc := "()LThrowReports$Ways;" } : Jvm.MethodName) prog_6_method_8_code (1 : Nat) (Option.some (Jvm.ClassFile.FieldType.object "ThrowReports$Ways"))) ∈ lw_all := lw_g (lw_at lw_m4 38 rfl) rfl
theorem q853 : (Jvm.Cond.privateMethod ({ cls := "ThrowReports$Questions", name := "as", desc := "(II)LThrowReports$Questions;" } : Jvm.MethodName)) ∈ lw_tbl := lw_at lw_m4 40 rfl
theorem q854 : (Jvm.Cond.instanceMethod ({ cls := "ThrowReports$Questions", name := "as", desc := "(II)LThrowReports$Questions;" } : Jvm.MethodName)) ∈ lw_all := lw_g (lw_at lw_m4 41 rfl) rfl
theorem q855 : (Jvm.Cond.code ({ cls := "ThrowReports$Questions", name := "as", desc := "(II)LThrowReports$Questions;" } : Jvm.MethodName) prog_6_method_4_code (3 : Nat) (Option.some (Jvm.ClassFile.FieldType.object "ThrowReports$Questions"))) ∈ lw_all := lw_g (lw_at lw_m4 42 rfl) rfl
theorem q856 : (Jvm.Cond.methodLink "ThrowReports$Questions" (28 : Nat) ({ cls := "ThrowReports$Questions", name := "set", desc := "(I)I" } : Jvm.MethodName)) ∈ lw_all := lw_g (lw_at lw_m4 43 rfl) rfl
theorem q857 : (Jvm.Cond.privateMethod ({ cls := "ThrowReports$Questions", name := "set", desc := "(I)I" } : Jvm.MethodName)) ∈ lw_tbl := lw_at lw_m4 44 rfl
theorem q858 : (Jvm.Cond.instanceMethod ({ cls := "ThrowReports$Questions", name := "set", desc := "(I)I" } : Jvm.MethodName)) ∈ lw_all := lw_g (lw_at lw_m4 45 rfl) rfl
theorem q859 : (Jvm.Cond.code ({ cls := "ThrowReports$Questions", name := "set", desc := "(I)I" } : Jvm.MethodName) prog_6_method_2_code (2 : Nat) (Option.some Jvm.ClassFile.FieldType.int)) ∈ lw_all := lw_g (lw_at lw_m4 46 rfl) rfl
theorem q860 : (Jvm.Cond.methodLinkNest "ThrowReports$Questions" (40 : Nat) ({ cls := "ThrowReports", name := "thatAre", desc := "(II)I" } : Jvm.MethodName) "ThrowReports") ∈ lw_tbl := lw_at lw_m4 47 rfl
theorem q863 : (Jvm.Cond.methodLink "ThrowReports$Questions" (44 : Nat) ({ cls := "ThrowReports$Questions", name := "parts", desc := "(III)V" } : Jvm.MethodName)) ∈ lw_all := lw_g (lw_at lw_m4 50 rfl) rfl
theorem q864 : (Jvm.Cond.privateMethod ({ cls := "ThrowReports$Questions", name := "parts", desc := "(III)V" } : Jvm.MethodName)) ∈ lw_tbl := lw_at lw_m4 51 rfl
theorem q865 : (Jvm.Cond.instanceMethod ({ cls := "ThrowReports$Questions", name := "parts", desc := "(III)V" } : Jvm.MethodName)) ∈ lw_all := lw_g (lw_at lw_m4 52 rfl) rfl
theorem q866 : (Jvm.Cond.code ({ cls := "ThrowReports$Questions", name := "parts", desc := "(III)V" } : Jvm.MethodName) prog_6_method_3_code (5 : Nat) (Option.none : Option Jvm.ClassFile.FieldType)) ∈ lw_all := lw_g (lw_at lw_m4 53 rfl) rfl
theorem q869 : (Jvm.Cond.privateMethod ({ cls := "ThrowReports$Questions", name := "there", desc := "(I)LThrowReports$Questions;" } : Jvm.MethodName)) ∈ lw_tbl := lw_at lw_m4 56 rfl
theorem q870 : (Jvm.Cond.instanceMethod ({ cls := "ThrowReports$Questions", name := "there", desc := "(I)LThrowReports$Questions;" } : Jvm.MethodName)) ∈ lw_all := lw_g (lw_at lw_m4 57 rfl) rfl
theorem q871 : (Jvm.Cond.code ({ cls := "ThrowReports$Questions", name := "there", desc := "(I)LThrowReports$Questions;" } : Jvm.MethodName) prog_6_method_5_code (2 : Nat) (Option.some (Jvm.ClassFile.FieldType.object "ThrowReports$Questions"))) ∈ lw_all := lw_g (lw_at lw_m4 58 rfl) rfl
theorem in_X9 : ∀ w ∈ wsX90, w ∈ lw_all := lw_in wsX90 [812, 814] (by decide +kernel) (by decide +kernel)
/-! ThrowReports$Ways -/
set_option maxRecDepth 100000
def RX10 : String := "ThrowReports$Ways"
def TX10 : u_T := fun k => match k with
  | _ => ("ThrowReports$Ways", "by", "[LThrowReports$State;", true)
def tyX10 : Nat → FieldType := fun k => match k with
  | _ => .array (.object "ThrowReports$State")
abbrev wsX100 : List Cond := u_ws RX10 TX10 1
theorem nmX10 : ∀ a, a < 1 → ∀ b, b < 1 → a ≠ b → (TX10 a).2.1 ≠ (TX10 b).2.1 := by decide +kernel
theorem tyX10_ok : ∀ k, k < 1 → parseFieldDescriptor (TX10 k).2.2.1 = some (tyX10 k) := by decide +kernel
abbrev cX10_init : ByteArray := prog_13_method_1_code
def yX10_init : MethodName := ⟨RX10, "<init>", "()V"⟩
def dkwX10_init_0 : List UInt8 := [42, 183, 0, 3, 42, 16, 9, 189, 0, 9, 181, 0, 11, 177]
abbrev dktX10_init_0 : List UInt8 := dkwX10_init_0 ++ []
theorem dksX10_init_0 : cX10_init.data.toList.drop 0 = dktX10_init_0 := by decide +kernel
theorem dX10_init_0 : decode cX10_init 0 = .ok (.aload_n 0, 1) := dk_42 (dk_at dksX10_init_0 0 rfl rfl)
theorem dX10_init_1 : decode cX10_init 1 = .ok (.invokespecial 3, 3) := dk_183 0 3 (dk_at dksX10_init_0 1 rfl rfl)
theorem dX10_init_4 : decode cX10_init 4 = .ok (.aload_n 0, 1) := dk_42 (dk_at dksX10_init_0 4 rfl rfl)
theorem dX10_init_5 : decode cX10_init 5 = .ok (.bipush 9, 2) := dk_16 9 (dk_at dksX10_init_0 5 rfl rfl)
theorem dX10_init_7 : decode cX10_init 7 = .ok (.anewarray 9, 3) := dk_189 0 9 (dk_at dksX10_init_0 7 rfl rfl)
theorem dX10_init_10 : decode cX10_init 10 = .ok (.putfield 11, 3) := dk_181 0 11 (dk_at dksX10_init_0 10 rfl rfl)
theorem dX10_init_13 : decode cX10_init 13 = .ok (.return_, 1) := dk_177 (dk_at dksX10_init_0 13 rfl rfl)
abbrev cX10_add : ByteArray := prog_13_method_2_code
def yX10_add : MethodName := ⟨RX10, "add", "(ILThrowReports$State;)V"⟩
def dkwX10_add_0 : List UInt8 := [42, 180, 0, 11, 27, 42, 180, 0, 11, 27, 50, 44, 184, 0, 17, 83, 177]
abbrev dktX10_add_0 : List UInt8 := dkwX10_add_0 ++ []
theorem dksX10_add_0 : cX10_add.data.toList.drop 0 = dktX10_add_0 := by decide +kernel
theorem dX10_add_0 : decode cX10_add 0 = .ok (.aload_n 0, 1) := dk_42 (dk_at dksX10_add_0 0 rfl rfl)
theorem dX10_add_1 : decode cX10_add 1 = .ok (.getfield 11, 3) := dk_180 0 11 (dk_at dksX10_add_0 1 rfl rfl)
theorem dX10_add_4 : decode cX10_add 4 = .ok (.iload_n 1, 1) := dk_27 (dk_at dksX10_add_0 4 rfl rfl)
theorem dX10_add_5 : decode cX10_add 5 = .ok (.aload_n 0, 1) := dk_42 (dk_at dksX10_add_0 5 rfl rfl)
theorem dX10_add_6 : decode cX10_add 6 = .ok (.getfield 11, 3) := dk_180 0 11 (dk_at dksX10_add_0 6 rfl rfl)
theorem dX10_add_9 : decode cX10_add 9 = .ok (.iload_n 1, 1) := dk_27 (dk_at dksX10_add_0 9 rfl rfl)
theorem dX10_add_10 : decode cX10_add 10 = .ok (.aaload, 1) := dk_50 (dk_at dksX10_add_0 10 rfl rfl)
theorem dX10_add_11 : decode cX10_add 11 = .ok (.aload_n 2, 1) := dk_44 (dk_at dksX10_add_0 11 rfl rfl)
theorem dX10_add_12 : decode cX10_add 12 = .ok (.invokestatic 17, 3) := dk_184 0 17 (dk_at dksX10_add_0 12 rfl rfl)
theorem dX10_add_15 : decode cX10_add 15 = .ok (.aastore, 1) := dk_83 (dk_at dksX10_add_0 15 rfl rfl)
theorem dX10_add_16 : decode cX10_add 16 = .ok (.return_, 1) := dk_177 (dk_at dksX10_add_0 16 rfl rfl)
abbrev cX10_addAll : ByteArray := prog_13_method_3_code
def yX10_addAll : MethodName := ⟨RX10, "addAll", "(LThrowReports$Ways;)V"⟩
def dkwX10_addAll_1 : List UInt8 := [167, 255, 236, 177]
abbrev dktX10_addAll_1 : List UInt8 := dkwX10_addAll_1 ++ []
def dkwX10_addAll_0 : List UInt8 := [3, 61, 28, 16, 8, 163, 0, 20, 42, 28, 43, 180, 0, 11, 28, 50, 182, 0, 21, 132, 2, 1]
abbrev dktX10_addAll_0 : List UInt8 := dkwX10_addAll_0 ++ dktX10_addAll_1
theorem dksX10_addAll_0 : cX10_addAll.data.toList.drop 0 = dktX10_addAll_0 := by decide +kernel
theorem dksX10_addAll_1 : cX10_addAll.data.toList.drop 22 = dktX10_addAll_1 := dk_seg dksX10_addAll_0 22 rfl rfl
theorem dX10_addAll_0 : decode cX10_addAll 0 = .ok (.iconst 0, 1) := dk_3 (dk_at dksX10_addAll_0 0 rfl rfl)
theorem dX10_addAll_1 : decode cX10_addAll 1 = .ok (.istore_n 2, 1) := dk_61 (dk_at dksX10_addAll_0 1 rfl rfl)
theorem dX10_addAll_2 : decode cX10_addAll 2 = .ok (.iload_n 2, 1) := dk_28 (dk_at dksX10_addAll_0 2 rfl rfl)
theorem dX10_addAll_3 : decode cX10_addAll 3 = .ok (.bipush 8, 2) := dk_16 8 (dk_at dksX10_addAll_0 3 rfl rfl)
theorem dX10_addAll_5 : decode cX10_addAll 5 = .ok (.if_icmp .gt 20, 3) := dk_163 0 20 (dk_at dksX10_addAll_0 5 rfl rfl)
theorem dX10_addAll_8 : decode cX10_addAll 8 = .ok (.aload_n 0, 1) := dk_42 (dk_at dksX10_addAll_0 8 rfl rfl)
theorem dX10_addAll_9 : decode cX10_addAll 9 = .ok (.iload_n 2, 1) := dk_28 (dk_at dksX10_addAll_0 9 rfl rfl)
theorem dX10_addAll_10 : decode cX10_addAll 10 = .ok (.aload_n 1, 1) := dk_43 (dk_at dksX10_addAll_0 10 rfl rfl)
theorem dX10_addAll_11 : decode cX10_addAll 11 = .ok (.getfield 11, 3) := dk_180 0 11 (dk_at dksX10_addAll_0 11 rfl rfl)
theorem dX10_addAll_14 : decode cX10_addAll 14 = .ok (.iload_n 2, 1) := dk_28 (dk_at dksX10_addAll_0 14 rfl rfl)
theorem dX10_addAll_15 : decode cX10_addAll 15 = .ok (.aaload, 1) := dk_50 (dk_at dksX10_addAll_0 15 rfl rfl)
theorem dX10_addAll_16 : decode cX10_addAll 16 = .ok (.invokevirtual 21, 3) := dk_182 0 21 (dk_at dksX10_addAll_0 16 rfl rfl)
theorem dX10_addAll_19 : decode cX10_addAll 19 = .ok (.iinc 2 1, 3) := dk_132 2 1 (dk_at dksX10_addAll_0 19 rfl rfl)
theorem dX10_addAll_22 : decode cX10_addAll 22 = .ok (.goto (-20), 3) := dk_167 255 236 (dk_at dksX10_addAll_1 0 rfl rfl)
theorem dX10_addAll_25 : decode cX10_addAll 25 = .ok (.return_, 1) := dk_177 (dk_at dksX10_addAll_1 3 rfl rfl)
abbrev cX10_bits : ByteArray := prog_13_method_4_code
def yX10_bits : MethodName := ⟨RX10, "bits", "()I"⟩
def dkwX10_bits_1 : List UInt8 := [4, 28, 120, 128, 60, 132, 2, 1, 167, 255, 228, 27, 172]
abbrev dktX10_bits_1 : List UInt8 := dkwX10_bits_1 ++ []
def dkwX10_bits_0 : List UInt8 := [3, 60, 3, 61, 28, 16, 8, 163, 0, 28, 27, 42, 180, 0, 11, 28, 50, 199, 0, 7, 3, 167, 0, 6]
abbrev dktX10_bits_0 : List UInt8 := dkwX10_bits_0 ++ dktX10_bits_1
theorem dksX10_bits_0 : cX10_bits.data.toList.drop 0 = dktX10_bits_0 := by decide +kernel
theorem dksX10_bits_1 : cX10_bits.data.toList.drop 24 = dktX10_bits_1 := dk_seg dksX10_bits_0 24 rfl rfl
theorem dX10_bits_0 : decode cX10_bits 0 = .ok (.iconst 0, 1) := dk_3 (dk_at dksX10_bits_0 0 rfl rfl)
theorem dX10_bits_1 : decode cX10_bits 1 = .ok (.istore_n 1, 1) := dk_60 (dk_at dksX10_bits_0 1 rfl rfl)
theorem dX10_bits_2 : decode cX10_bits 2 = .ok (.iconst 0, 1) := dk_3 (dk_at dksX10_bits_0 2 rfl rfl)
theorem dX10_bits_3 : decode cX10_bits 3 = .ok (.istore_n 2, 1) := dk_61 (dk_at dksX10_bits_0 3 rfl rfl)
theorem dX10_bits_4 : decode cX10_bits 4 = .ok (.iload_n 2, 1) := dk_28 (dk_at dksX10_bits_0 4 rfl rfl)
theorem dX10_bits_5 : decode cX10_bits 5 = .ok (.bipush 8, 2) := dk_16 8 (dk_at dksX10_bits_0 5 rfl rfl)
theorem dX10_bits_7 : decode cX10_bits 7 = .ok (.if_icmp .gt 28, 3) := dk_163 0 28 (dk_at dksX10_bits_0 7 rfl rfl)
theorem dX10_bits_10 : decode cX10_bits 10 = .ok (.iload_n 1, 1) := dk_27 (dk_at dksX10_bits_0 10 rfl rfl)
theorem dX10_bits_11 : decode cX10_bits 11 = .ok (.aload_n 0, 1) := dk_42 (dk_at dksX10_bits_0 11 rfl rfl)
theorem dX10_bits_12 : decode cX10_bits 12 = .ok (.getfield 11, 3) := dk_180 0 11 (dk_at dksX10_bits_0 12 rfl rfl)
theorem dX10_bits_15 : decode cX10_bits 15 = .ok (.iload_n 2, 1) := dk_28 (dk_at dksX10_bits_0 15 rfl rfl)
theorem dX10_bits_16 : decode cX10_bits 16 = .ok (.aaload, 1) := dk_50 (dk_at dksX10_bits_0 16 rfl rfl)
theorem dX10_bits_17 : decode cX10_bits 17 = .ok (.ifnonnull 7, 3) := dk_199 0 7 (dk_at dksX10_bits_0 17 rfl rfl)
theorem dX10_bits_20 : decode cX10_bits 20 = .ok (.iconst 0, 1) := dk_3 (dk_at dksX10_bits_0 20 rfl rfl)
theorem dX10_bits_21 : decode cX10_bits 21 = .ok (.goto 6, 3) := dk_167 0 6 (dk_at dksX10_bits_0 21 rfl rfl)
theorem dX10_bits_24 : decode cX10_bits 24 = .ok (.iconst 1, 1) := dk_4 (dk_at dksX10_bits_1 0 rfl rfl)
theorem dX10_bits_25 : decode cX10_bits 25 = .ok (.iload_n 2, 1) := dk_28 (dk_at dksX10_bits_1 1 rfl rfl)
theorem dX10_bits_26 : decode cX10_bits 26 = .ok (.ishl, 1) := dk_120 (dk_at dksX10_bits_1 2 rfl rfl)
theorem dX10_bits_27 : decode cX10_bits 27 = .ok (.ior, 1) := dk_128 (dk_at dksX10_bits_1 3 rfl rfl)
theorem dX10_bits_28 : decode cX10_bits 28 = .ok (.istore_n 1, 1) := dk_60 (dk_at dksX10_bits_1 4 rfl rfl)
theorem dX10_bits_29 : decode cX10_bits 29 = .ok (.iinc 2 1, 3) := dk_132 2 1 (dk_at dksX10_bits_1 5 rfl rfl)
theorem dX10_bits_32 : decode cX10_bits 32 = .ok (.goto (-28), 3) := dk_167 255 228 (dk_at dksX10_bits_1 8 rfl rfl)
theorem dX10_bits_35 : decode cX10_bits 35 = .ok (.iload_n 1, 1) := dk_27 (dk_at dksX10_bits_1 11 rfl rfl)
theorem dX10_bits_36 : decode cX10_bits 36 = .ok (.ireturn, 1) := dk_172 (dk_at dksX10_bits_1 12 rfl rfl)
theorem q121 : (Jvm.Cond.initialized "ThrowReports$Ways") ∈ lw_all := lw_g (lw_at lw_m1 28 rfl) rfl
theorem q797 : (Jvm.Cond.instantiable "ThrowReports$Ways" (1 : Nat)) ∈ lw_all := lw_g (lw_at lw_m3 224 rfl) rfl
theorem q799 : (Jvm.Cond.instanceMethod ({ cls := "ThrowReports$Ways", name := "<init>", desc := "()V" } : Jvm.MethodName)) ∈ lw_all := lw_g (lw_at lw_m3 226 rfl) rfl
theorem q800 : (Jvm.Cond.code ({ cls := "ThrowReports$Ways", name := "<init>", desc := "()V" } : Jvm.MethodName) prog_13_method_1_code (1 : Nat) (Option.none : Option Jvm.ClassFile.FieldType)) ∈ lw_all := lw_g (lw_at lw_m3 227 rfl) rfl
theorem q801 : (Jvm.Cond.methodLink "ThrowReports$Ways" (3 : Nat) ({ cls := "java/lang/Object", name := "<init>", desc := "()V" } : Jvm.MethodName)) ∈ lw_all := lw_g (lw_at lw_m3 228 rfl) rfl
theorem q802 : (Jvm.Cond.classLink "ThrowReports$Ways" (9 : Nat) "ThrowReports$State") ∈ lw_all := lw_g (lw_at lw_m3 229 rfl) rfl
theorem q804 : (Jvm.Cond.fieldLink "ThrowReports$Ways" (11 : Nat) "ThrowReports$Ways" "by" "[LThrowReports$State;") ∈ lw_all := lw_g (lw_at lw_m3 231 rfl) rfl
theorem q806 : (Jvm.Cond.laysFinal "ThrowReports$Ways" "ThrowReports$Ways" "by" "[LThrowReports$State;") ∈ lw_all := lw_g (lw_at lw_m3 233 rfl) rfl
theorem q807 : (Jvm.Cond.soleField "ThrowReports$Ways" "by") ∈ lw_all := lw_g (lw_at lw_m3 234 rfl) rfl
theorem q808 : (Jvm.Cond.superclass "ThrowReports$Ways" "java/lang/Object") ∈ lw_all := lw_g (lw_at lw_m3 235 rfl) rfl
theorem q822 : (Jvm.Cond.privateMethod ({ cls := "ThrowReports$Ways", name := "add", desc := "(ILThrowReports$State;)V" } : Jvm.MethodName)) ∈ lw_tbl := lw_at lw_m4 9 rfl
theorem q823 : (Jvm.Cond.instanceMethod ({ cls := "ThrowReports$Ways", name := "add", desc := "(ILThrowReports$State;)V" } : Jvm.MethodName)) ∈ lw_all := lw_g (lw_at lw_m4 10 rfl) rfl
theorem q824 : (Jvm.Cond.code ({ cls := "ThrowReports$Ways", name := "add", desc := "(ILThrowReports$State;)V" } : Jvm.MethodName) prog_13_method_2_code (3 : Nat) (Option.none : Option Jvm.ClassFile.FieldType)) ∈ lw_all := lw_g (lw_at lw_m4 11 rfl) rfl
theorem q825 : (Jvm.Cond.methodLinkNest "ThrowReports$Ways" (17 : Nat) ({ cls := "ThrowReports", name := "together", desc := "(LThrowReports$State;LThrowReports$State;)LThrowReports$State;" } : Jvm.MethodName) "ThrowReports") ∈ lw_tbl := lw_at lw_m4 12 rfl
theorem q891 : (Jvm.Cond.privateMethod ({ cls := "ThrowReports$Ways", name := "addAll", desc := "(LThrowReports$Ways;)V" } : Jvm.MethodName)) ∈ lw_tbl := lw_at lw_m4 78 rfl
theorem q892 : (Jvm.Cond.instanceMethod ({ cls := "ThrowReports$Ways", name := "addAll", desc := "(LThrowReports$Ways;)V" } : Jvm.MethodName)) ∈ lw_all := lw_g (lw_at lw_m4 79 rfl) rfl
theorem q893 : (Jvm.Cond.code ({ cls := "ThrowReports$Ways", name := "addAll", desc := "(LThrowReports$Ways;)V" } : Jvm.MethodName) prog_13_method_3_code (3 : Nat) (Option.none : Option Jvm.ClassFile.FieldType)) ∈ lw_all := lw_g (lw_at lw_m4 80 rfl) rfl
theorem q894 : (Jvm.Cond.methodLink "ThrowReports$Ways" (21 : Nat) ({ cls := "ThrowReports$Ways", name := "add", desc := "(ILThrowReports$State;)V" } : Jvm.MethodName)) ∈ lw_all := lw_g (lw_at lw_m4 81 rfl) rfl
theorem q907 : (Jvm.Cond.privateMethod ({ cls := "ThrowReports$Ways", name := "bits", desc := "()I" } : Jvm.MethodName)) ∈ lw_tbl := lw_at lw_m4 94 rfl
theorem q908 : (Jvm.Cond.instanceMethod ({ cls := "ThrowReports$Ways", name := "bits", desc := "()I" } : Jvm.MethodName)) ∈ lw_all := lw_g (lw_at lw_m4 95 rfl) rfl
theorem q909 : (Jvm.Cond.code ({ cls := "ThrowReports$Ways", name := "bits", desc := "()I" } : Jvm.MethodName) prog_13_method_4_code (3 : Nat) (Option.some Jvm.ClassFile.FieldType.int)) ∈ lw_all := lw_g (lw_at lw_m4 96 rfl) rfl
theorem in_X10 : ∀ w ∈ wsX100, w ∈ lw_all := lw_in wsX100 [806] (by decide +kernel) (by decide +kernel)
/-! ThrowReports$Told -/
set_option maxRecDepth 100000
def RX11 : String := "ThrowReports$Told"
abbrev cX11_tells : ByteArray := prog_11_method_2_code
def yX11_tells : MethodName := ⟨RX11, "tells", "()I"⟩
theorem dX11_tells_0 : decode cX11_tells 0 = .ok (.aload_n 0, 1) := by decide +kernel
theorem dX11_tells_1 : decode cX11_tells 1 = .ok (.invokeinterface 1 1, 5) := by decide +kernel
theorem dX11_tells_6 : decode cX11_tells 6 = .ok (.ireturn, 1) := by decide +kernel
theorem q629 : (Jvm.Cond.interfaceMethod "ThrowReports$Told" "ThrowReports$Told" "tells" "()I") ∈ lw_tbl := lw_at lw_m3 56 rfl
theorem q630 : (Jvm.Cond.declares ({ cls := "ThrowReports$Told", name := "tells", desc := "()I" } : Jvm.MethodName)) ∈ lw_tbl := lw_at lw_m3 57 rfl
theorem q633 : (Jvm.Cond.instanceMethod ({ cls := "ThrowReports$Told", name := "tells", desc := "()I" } : Jvm.MethodName)) ∈ lw_all := lw_g (lw_at lw_m3 60 rfl) rfl
theorem q634 : (Jvm.Cond.publicMethod ({ cls := "ThrowReports$Told", name := "tells", desc := "()I" } : Jvm.MethodName)) ∈ lw_tbl := lw_at lw_m3 61 rfl
theorem q635 : (Jvm.Cond.code ({ cls := "ThrowReports$Told", name := "tells", desc := "()I" } : Jvm.MethodName) prog_11_method_2_code (1 : Nat) (Option.some Jvm.ClassFile.FieldType.int)) ∈ lw_all := lw_g (lw_at lw_m3 62 rfl) rfl
theorem q636 : (Jvm.Cond.interfaceEntry "ThrowReports$Told" (1 : Nat)) ∈ lw_tbl := lw_at lw_m3 63 rfl
theorem q637 : (Jvm.Cond.methodLink "ThrowReports$Told" (1 : Nat) ({ cls := "ThrowReports$Told", name := "number", desc := "()I" } : Jvm.MethodName)) ∈ lw_all := lw_g (lw_at lw_m3 64 rfl) rfl
theorem q638 : (Jvm.Cond.interfaceMethod "ThrowReports$Told" "ThrowReports$Told" "number" "()I") ∈ lw_tbl := lw_at lw_m3 65 rfl
theorem q639 : (Jvm.Cond.declares ({ cls := "ThrowReports$Told", name := "number", desc := "()I" } : Jvm.MethodName)) ∈ lw_tbl := lw_at lw_m3 66 rfl
theorem q654 : (Jvm.Cond.publicMethod ({ cls := "ThrowReports$Told", name := "number", desc := "()I" } : Jvm.MethodName)) ∈ lw_tbl := lw_at lw_m3 81 rfl
theorem q1384 : (Jvm.Cond.initialized "ThrowReports$Told") ∈ lw_all := lw_g (lw_at lw_m6 91 rfl) rfl
/-! ThrowReports$Twice -/
set_option maxRecDepth 100000
def RX12 : String := "ThrowReports$Twice"
abbrev cX12_tells : ByteArray := prog_12_method_1_code
def yX12_tells : MethodName := ⟨RX12, "tells", "()I"⟩
def dkwX12_tells_0 : List UInt8 := [5, 42, 185, 0, 1, 1, 0, 104, 4, 96, 172]
abbrev dktX12_tells_0 : List UInt8 := dkwX12_tells_0 ++ []
theorem dksX12_tells_0 : cX12_tells.data.toList.drop 0 = dktX12_tells_0 := by decide +kernel
theorem dX12_tells_0 : decode cX12_tells 0 = .ok (.iconst 2, 1) := dk_5 (dk_at dksX12_tells_0 0 rfl rfl)
theorem dX12_tells_1 : decode cX12_tells 1 = .ok (.aload_n 0, 1) := dk_42 (dk_at dksX12_tells_0 1 rfl rfl)
theorem dX12_tells_2 : decode cX12_tells 2 = .ok (.invokeinterface 1 1, 5) := by decide +kernel
theorem dX12_tells_7 : decode cX12_tells 7 = .ok (.imul, 1) := dk_104 (dk_at dksX12_tells_0 7 rfl rfl)
theorem dX12_tells_8 : decode cX12_tells 8 = .ok (.iconst 1, 1) := dk_4 (dk_at dksX12_tells_0 8 rfl rfl)
theorem dX12_tells_9 : decode cX12_tells 9 = .ok (.iadd, 1) := dk_96 (dk_at dksX12_tells_0 9 rfl rfl)
theorem dX12_tells_10 : decode cX12_tells 10 = .ok (.ireturn, 1) := dk_172 (dk_at dksX12_tells_0 10 rfl rfl)
theorem q648 : (Jvm.Cond.declares ({ cls := "ThrowReports$Twice", name := "tells", desc := "()I" } : Jvm.MethodName)) ∈ lw_tbl := lw_at lw_m3 75 rfl
theorem q650 : (Jvm.Cond.instanceMethod ({ cls := "ThrowReports$Twice", name := "tells", desc := "()I" } : Jvm.MethodName)) ∈ lw_all := lw_g (lw_at lw_m3 77 rfl) rfl
theorem q651 : (Jvm.Cond.publicMethod ({ cls := "ThrowReports$Twice", name := "tells", desc := "()I" } : Jvm.MethodName)) ∈ lw_tbl := lw_at lw_m3 78 rfl
theorem q652 : (Jvm.Cond.code ({ cls := "ThrowReports$Twice", name := "tells", desc := "()I" } : Jvm.MethodName) prog_12_method_1_code (1 : Nat) (Option.some Jvm.ClassFile.FieldType.int)) ∈ lw_all := lw_g (lw_at lw_m3 79 rfl) rfl
theorem q653 : (Jvm.Cond.interfaceEntry "ThrowReports$Twice" (1 : Nat)) ∈ lw_tbl := lw_at lw_m3 80 rfl
theorem q1385 : (Jvm.Cond.initialized "ThrowReports$Twice") ∈ lw_all := lw_g (lw_at lw_m6 92 rfl) rfl
/-! java/lang/Enum -/
set_option maxRecDepth 100000
def RJ0 : String := "java/lang/Enum"
abbrev cJ0_ordinal : ByteArray := prog_22_method_2_code
def yJ0_ordinal : MethodName := ⟨RJ0, "ordinal", "()I"⟩
theorem dJ0_ordinal_0 : decode cJ0_ordinal 0 = .ok (.aload_n 0, 1) := by decide +kernel
theorem dJ0_ordinal_1 : decode cJ0_ordinal 1 = .ok (.getfield 7, 3) := by decide +kernel
theorem dJ0_ordinal_4 : decode cJ0_ordinal 4 = .ok (.ireturn, 1) := by decide +kernel
theorem q99 : (Jvm.Cond.initialized "java/lang/Enum") ∈ lw_all := lw_g (lw_at lw_m1 6 rfl) rfl
theorem q499 : (Jvm.Cond.declares ({ cls := "java/lang/Enum", name := "ordinal", desc := "()I" } : Jvm.MethodName)) ∈ lw_tbl := lw_at lw_m2 166 rfl
theorem q501 : (Jvm.Cond.instanceMethod ({ cls := "java/lang/Enum", name := "ordinal", desc := "()I" } : Jvm.MethodName)) ∈ lw_all := lw_g (lw_at lw_m2 168 rfl) rfl
theorem q502 : (Jvm.Cond.code ({ cls := "java/lang/Enum", name := "ordinal", desc := "()I" } : Jvm.MethodName) prog_22_method_2_code (1 : Nat) (Option.some Jvm.ClassFile.FieldType.int)) ∈ lw_all := lw_g (lw_at lw_m2 169 rfl) rfl
theorem q1387 : (Jvm.Cond.fieldLink "java/lang/Enum" (7 : Nat) "java/lang/Enum" "ordinal" "I") ∈ lw_all := lw_g (lw_at lw_m6 94 rfl) rfl
/-! java/lang/Throwable -/
set_option maxRecDepth 100000
def RJ1 : String := "java/lang/Throwable"
def TJ1 : u_T := fun k => match k with
  | 0 => ("java/lang/Throwable", "cause", "Ljava/lang/Throwable;", false)
  | 1 => ("java/lang/Throwable", "stackTrace", "[Ljava/lang/StackTraceElement;", false)
  | 2 => ("java/lang/Throwable", "suppressedExceptions", "Ljava/util/List;", false)
  | 3 => ("java/lang/Throwable", "detailMessage", "Ljava/lang/String;", false)
  | _ => ("java/lang/Throwable", "backtrace", "Ljava/lang/Object;", false)
def tyJ1 : Nat → FieldType := fun k => match k with
  | 0 => .object "java/lang/Throwable"
  | 1 => .array (.object "java/lang/StackTraceElement")
  | 2 => .object "java/util/List"
  | 3 => .object "java/lang/String"
  | _ => .object "java/lang/Object"
abbrev wsJ10 : List Cond := u_ws RJ1 TJ1 5
theorem nmJ1 : ∀ a, a < 5 → ∀ b, b < 5 → a ≠ b → (TJ1 a).2.1 ≠ (TJ1 b).2.1 := by decide +kernel
theorem tyJ1_ok : ∀ k, k < 5 → parseFieldDescriptor (TJ1 k).2.2.1 = some (tyJ1 k) := by decide +kernel
abbrev cJ1_init : ByteArray := prog_32_method_1_code
def yJ1_init : MethodName := ⟨RJ1, "<init>", "()V"⟩
def dkwJ1_init_1 : List UInt8 := [182, 0, 27, 87, 177]
abbrev dktJ1_init_1 : List UInt8 := dkwJ1_init_1 ++ []
def dkwJ1_init_0 : List UInt8 := [42, 183, 0, 1, 42, 42, 181, 0, 7, 42, 178, 0, 13, 181, 0, 17, 42, 178, 0, 20, 181, 0, 24, 42]
abbrev dktJ1_init_0 : List UInt8 := dkwJ1_init_0 ++ dktJ1_init_1
theorem dksJ1_init_0 : cJ1_init.data.toList.drop 0 = dktJ1_init_0 := by decide +kernel
theorem dksJ1_init_1 : cJ1_init.data.toList.drop 24 = dktJ1_init_1 := dk_seg dksJ1_init_0 24 rfl rfl
theorem dJ1_init_0 : decode cJ1_init 0 = .ok (.aload_n 0, 1) := dk_42 (dk_at dksJ1_init_0 0 rfl rfl)
theorem dJ1_init_1 : decode cJ1_init 1 = .ok (.invokespecial 1, 3) := dk_183 0 1 (dk_at dksJ1_init_0 1 rfl rfl)
theorem dJ1_init_4 : decode cJ1_init 4 = .ok (.aload_n 0, 1) := dk_42 (dk_at dksJ1_init_0 4 rfl rfl)
theorem dJ1_init_5 : decode cJ1_init 5 = .ok (.aload_n 0, 1) := dk_42 (dk_at dksJ1_init_0 5 rfl rfl)
theorem dJ1_init_6 : decode cJ1_init 6 = .ok (.putfield 7, 3) := dk_181 0 7 (dk_at dksJ1_init_0 6 rfl rfl)
theorem dJ1_init_9 : decode cJ1_init 9 = .ok (.aload_n 0, 1) := dk_42 (dk_at dksJ1_init_0 9 rfl rfl)
theorem dJ1_init_10 : decode cJ1_init 10 = .ok (.getstatic 13, 3) := dk_178 0 13 (dk_at dksJ1_init_0 10 rfl rfl)
theorem dJ1_init_13 : decode cJ1_init 13 = .ok (.putfield 17, 3) := dk_181 0 17 (dk_at dksJ1_init_0 13 rfl rfl)
theorem dJ1_init_16 : decode cJ1_init 16 = .ok (.aload_n 0, 1) := dk_42 (dk_at dksJ1_init_0 16 rfl rfl)
theorem dJ1_init_17 : decode cJ1_init 17 = .ok (.getstatic 20, 3) := dk_178 0 20 (dk_at dksJ1_init_0 17 rfl rfl)
theorem dJ1_init_20 : decode cJ1_init 20 = .ok (.putfield 24, 3) := dk_181 0 24 (dk_at dksJ1_init_0 20 rfl rfl)
theorem dJ1_init_23 : decode cJ1_init 23 = .ok (.aload_n 0, 1) := dk_42 (dk_at dksJ1_init_0 23 rfl rfl)
theorem dJ1_init_24 : decode cJ1_init 24 = .ok (.invokevirtual 27, 3) := dk_182 0 27 (dk_at dksJ1_init_1 0 rfl rfl)
theorem dJ1_init_27 : decode cJ1_init 27 = .ok (.pop, 1) := dk_87 (dk_at dksJ1_init_1 3 rfl rfl)
theorem dJ1_init_28 : decode cJ1_init 28 = .ok (.return_, 1) := dk_177 (dk_at dksJ1_init_1 4 rfl rfl)
abbrev cJ1_init_2 : ByteArray := prog_32_method_2_code
def yJ1_init_2 : MethodName := ⟨RJ1, "<init>", "(Ljava/lang/String;)V"⟩
def dkwJ1_init_2_1 : List UInt8 := [182, 0, 27, 87, 42, 43, 181, 0, 31, 177]
abbrev dktJ1_init_2_1 : List UInt8 := dkwJ1_init_2_1 ++ []
def dkwJ1_init_2_0 : List UInt8 := [42, 183, 0, 1, 42, 42, 181, 0, 7, 42, 178, 0, 13, 181, 0, 17, 42, 178, 0, 20, 181, 0, 24, 42]
abbrev dktJ1_init_2_0 : List UInt8 := dkwJ1_init_2_0 ++ dktJ1_init_2_1
theorem dksJ1_init_2_0 : cJ1_init_2.data.toList.drop 0 = dktJ1_init_2_0 := by decide +kernel
theorem dksJ1_init_2_1 : cJ1_init_2.data.toList.drop 24 = dktJ1_init_2_1 := dk_seg dksJ1_init_2_0 24 rfl rfl
theorem dJ1_init_2_0 : decode cJ1_init_2 0 = .ok (.aload_n 0, 1) := dk_42 (dk_at dksJ1_init_2_0 0 rfl rfl)
theorem dJ1_init_2_1 : decode cJ1_init_2 1 = .ok (.invokespecial 1, 3) := dk_183 0 1 (dk_at dksJ1_init_2_0 1 rfl rfl)
theorem dJ1_init_2_4 : decode cJ1_init_2 4 = .ok (.aload_n 0, 1) := dk_42 (dk_at dksJ1_init_2_0 4 rfl rfl)
theorem dJ1_init_2_5 : decode cJ1_init_2 5 = .ok (.aload_n 0, 1) := dk_42 (dk_at dksJ1_init_2_0 5 rfl rfl)
theorem dJ1_init_2_6 : decode cJ1_init_2 6 = .ok (.putfield 7, 3) := dk_181 0 7 (dk_at dksJ1_init_2_0 6 rfl rfl)
theorem dJ1_init_2_9 : decode cJ1_init_2 9 = .ok (.aload_n 0, 1) := dk_42 (dk_at dksJ1_init_2_0 9 rfl rfl)
theorem dJ1_init_2_10 : decode cJ1_init_2 10 = .ok (.getstatic 13, 3) := dk_178 0 13 (dk_at dksJ1_init_2_0 10 rfl rfl)
theorem dJ1_init_2_13 : decode cJ1_init_2 13 = .ok (.putfield 17, 3) := dk_181 0 17 (dk_at dksJ1_init_2_0 13 rfl rfl)
theorem dJ1_init_2_16 : decode cJ1_init_2 16 = .ok (.aload_n 0, 1) := dk_42 (dk_at dksJ1_init_2_0 16 rfl rfl)
theorem dJ1_init_2_17 : decode cJ1_init_2 17 = .ok (.getstatic 20, 3) := dk_178 0 20 (dk_at dksJ1_init_2_0 17 rfl rfl)
theorem dJ1_init_2_20 : decode cJ1_init_2 20 = .ok (.putfield 24, 3) := dk_181 0 24 (dk_at dksJ1_init_2_0 20 rfl rfl)
theorem dJ1_init_2_23 : decode cJ1_init_2 23 = .ok (.aload_n 0, 1) := dk_42 (dk_at dksJ1_init_2_0 23 rfl rfl)
theorem dJ1_init_2_24 : decode cJ1_init_2 24 = .ok (.invokevirtual 27, 3) := dk_182 0 27 (dk_at dksJ1_init_2_1 0 rfl rfl)
theorem dJ1_init_2_27 : decode cJ1_init_2 27 = .ok (.pop, 1) := dk_87 (dk_at dksJ1_init_2_1 3 rfl rfl)
theorem dJ1_init_2_28 : decode cJ1_init_2 28 = .ok (.aload_n 0, 1) := dk_42 (dk_at dksJ1_init_2_1 4 rfl rfl)
theorem dJ1_init_2_29 : decode cJ1_init_2 29 = .ok (.aload_n 1, 1) := dk_43 (dk_at dksJ1_init_2_1 5 rfl rfl)
theorem dJ1_init_2_30 : decode cJ1_init_2 30 = .ok (.putfield 31, 3) := dk_181 0 31 (dk_at dksJ1_init_2_1 6 rfl rfl)
theorem dJ1_init_2_33 : decode cJ1_init_2 33 = .ok (.return_, 1) := dk_177 (dk_at dksJ1_init_2_1 9 rfl rfl)
abbrev cJ1_init_3 : ByteArray := prog_32_method_5_code
def yJ1_init_3 : MethodName := ⟨RJ1, "<init>", "(Ljava/lang/String;Ljava/lang/Throwable;ZZ)V"⟩
def dkwJ1_init_3_2 : List UInt8 := [44, 181, 0, 7, 29, 154, 0, 8, 42, 1, 181, 0, 24, 177]
abbrev dktJ1_init_3_2 : List UInt8 := dkwJ1_init_3_2 ++ []
def dkwJ1_init_3_1 : List UInt8 := [21, 4, 153, 0, 11, 42, 182, 0, 27, 87, 167, 0, 8, 42, 1, 181, 0, 17, 42, 43, 181, 0, 31, 42]
abbrev dktJ1_init_3_1 : List UInt8 := dkwJ1_init_3_1 ++ dktJ1_init_3_2
def dkwJ1_init_3_0 : List UInt8 := [42, 183, 0, 1, 42, 42, 181, 0, 7, 42, 178, 0, 13, 181, 0, 17, 42, 178, 0, 20, 181, 0, 24]
abbrev dktJ1_init_3_0 : List UInt8 := dkwJ1_init_3_0 ++ dktJ1_init_3_1
theorem dksJ1_init_3_0 : cJ1_init_3.data.toList.drop 0 = dktJ1_init_3_0 := by decide +kernel
theorem dksJ1_init_3_1 : cJ1_init_3.data.toList.drop 23 = dktJ1_init_3_1 := dk_seg dksJ1_init_3_0 23 rfl rfl
theorem dksJ1_init_3_2 : cJ1_init_3.data.toList.drop 47 = dktJ1_init_3_2 := dk_seg dksJ1_init_3_1 24 rfl rfl
theorem dJ1_init_3_0 : decode cJ1_init_3 0 = .ok (.aload_n 0, 1) := dk_42 (dk_at dksJ1_init_3_0 0 rfl rfl)
theorem dJ1_init_3_1 : decode cJ1_init_3 1 = .ok (.invokespecial 1, 3) := dk_183 0 1 (dk_at dksJ1_init_3_0 1 rfl rfl)
theorem dJ1_init_3_4 : decode cJ1_init_3 4 = .ok (.aload_n 0, 1) := dk_42 (dk_at dksJ1_init_3_0 4 rfl rfl)
theorem dJ1_init_3_5 : decode cJ1_init_3 5 = .ok (.aload_n 0, 1) := dk_42 (dk_at dksJ1_init_3_0 5 rfl rfl)
theorem dJ1_init_3_6 : decode cJ1_init_3 6 = .ok (.putfield 7, 3) := dk_181 0 7 (dk_at dksJ1_init_3_0 6 rfl rfl)
theorem dJ1_init_3_9 : decode cJ1_init_3 9 = .ok (.aload_n 0, 1) := dk_42 (dk_at dksJ1_init_3_0 9 rfl rfl)
theorem dJ1_init_3_10 : decode cJ1_init_3 10 = .ok (.getstatic 13, 3) := dk_178 0 13 (dk_at dksJ1_init_3_0 10 rfl rfl)
theorem dJ1_init_3_13 : decode cJ1_init_3 13 = .ok (.putfield 17, 3) := dk_181 0 17 (dk_at dksJ1_init_3_0 13 rfl rfl)
theorem dJ1_init_3_16 : decode cJ1_init_3 16 = .ok (.aload_n 0, 1) := dk_42 (dk_at dksJ1_init_3_0 16 rfl rfl)
theorem dJ1_init_3_17 : decode cJ1_init_3 17 = .ok (.getstatic 20, 3) := dk_178 0 20 (dk_at dksJ1_init_3_0 17 rfl rfl)
theorem dJ1_init_3_20 : decode cJ1_init_3 20 = .ok (.putfield 24, 3) := dk_181 0 24 (dk_at dksJ1_init_3_0 20 rfl rfl)
theorem dJ1_init_3_23 : decode cJ1_init_3 23 = .ok (.iload 4, 2) := dk_21 4 (dk_at dksJ1_init_3_1 0 rfl rfl)
theorem dJ1_init_3_25 : decode cJ1_init_3 25 = .ok (.ifCond .eq 11, 3) := dk_153 0 11 (dk_at dksJ1_init_3_1 2 rfl rfl)
theorem dJ1_init_3_28 : decode cJ1_init_3 28 = .ok (.aload_n 0, 1) := dk_42 (dk_at dksJ1_init_3_1 5 rfl rfl)
theorem dJ1_init_3_29 : decode cJ1_init_3 29 = .ok (.invokevirtual 27, 3) := dk_182 0 27 (dk_at dksJ1_init_3_1 6 rfl rfl)
theorem dJ1_init_3_32 : decode cJ1_init_3 32 = .ok (.pop, 1) := dk_87 (dk_at dksJ1_init_3_1 9 rfl rfl)
theorem dJ1_init_3_33 : decode cJ1_init_3 33 = .ok (.goto 8, 3) := dk_167 0 8 (dk_at dksJ1_init_3_1 10 rfl rfl)
theorem dJ1_init_3_36 : decode cJ1_init_3 36 = .ok (.aload_n 0, 1) := dk_42 (dk_at dksJ1_init_3_1 13 rfl rfl)
theorem dJ1_init_3_37 : decode cJ1_init_3 37 = .ok (.aconst_null, 1) := dk_1 (dk_at dksJ1_init_3_1 14 rfl rfl)
theorem dJ1_init_3_38 : decode cJ1_init_3 38 = .ok (.putfield 17, 3) := dk_181 0 17 (dk_at dksJ1_init_3_1 15 rfl rfl)
theorem dJ1_init_3_41 : decode cJ1_init_3 41 = .ok (.aload_n 0, 1) := dk_42 (dk_at dksJ1_init_3_1 18 rfl rfl)
theorem dJ1_init_3_42 : decode cJ1_init_3 42 = .ok (.aload_n 1, 1) := dk_43 (dk_at dksJ1_init_3_1 19 rfl rfl)
theorem dJ1_init_3_43 : decode cJ1_init_3 43 = .ok (.putfield 31, 3) := dk_181 0 31 (dk_at dksJ1_init_3_1 20 rfl rfl)
theorem dJ1_init_3_46 : decode cJ1_init_3 46 = .ok (.aload_n 0, 1) := dk_42 (dk_at dksJ1_init_3_1 23 rfl rfl)
theorem dJ1_init_3_47 : decode cJ1_init_3 47 = .ok (.aload_n 2, 1) := dk_44 (dk_at dksJ1_init_3_2 0 rfl rfl)
theorem dJ1_init_3_48 : decode cJ1_init_3 48 = .ok (.putfield 7, 3) := dk_181 0 7 (dk_at dksJ1_init_3_2 1 rfl rfl)
theorem dJ1_init_3_51 : decode cJ1_init_3 51 = .ok (.iload_n 3, 1) := dk_29 (dk_at dksJ1_init_3_2 4 rfl rfl)
theorem dJ1_init_3_52 : decode cJ1_init_3 52 = .ok (.ifCond .ne 8, 3) := dk_154 0 8 (dk_at dksJ1_init_3_2 5 rfl rfl)
theorem dJ1_init_3_55 : decode cJ1_init_3 55 = .ok (.aload_n 0, 1) := dk_42 (dk_at dksJ1_init_3_2 8 rfl rfl)
theorem dJ1_init_3_56 : decode cJ1_init_3 56 = .ok (.aconst_null, 1) := dk_1 (dk_at dksJ1_init_3_2 9 rfl rfl)
theorem dJ1_init_3_57 : decode cJ1_init_3 57 = .ok (.putfield 24, 3) := dk_181 0 24 (dk_at dksJ1_init_3_2 10 rfl rfl)
theorem dJ1_init_3_60 : decode cJ1_init_3 60 = .ok (.return_, 1) := dk_177 (dk_at dksJ1_init_3_2 13 rfl rfl)
theorem q101 : (Jvm.Cond.initialized "java/lang/Throwable") ∈ lw_all := lw_g (lw_at lw_m1 8 rfl) rfl
theorem q327 : (Jvm.Cond.instanceMethod ({ cls := "java/lang/Throwable", name := "<init>", desc := "()V" } : Jvm.MethodName)) ∈ lw_all := lw_g (lw_at lw_m1 234 rfl) rfl
theorem q328 : (Jvm.Cond.code ({ cls := "java/lang/Throwable", name := "<init>", desc := "()V" } : Jvm.MethodName) prog_32_method_1_code (1 : Nat) (Option.none : Option Jvm.ClassFile.FieldType)) ∈ lw_all := lw_g (lw_at lw_m1 235 rfl) rfl
theorem q329 : (Jvm.Cond.methodLink "java/lang/Throwable" (1 : Nat) ({ cls := "java/lang/Object", name := "<init>", desc := "()V" } : Jvm.MethodName)) ∈ lw_all := lw_g (lw_at lw_m1 236 rfl) rfl
theorem q330 : (Jvm.Cond.fieldLink "java/lang/Throwable" (13 : Nat) "java/lang/Throwable" "UNASSIGNED_STACK" "[Ljava/lang/StackTraceElement;") ∈ lw_all := lw_g (lw_at lw_m1 237 rfl) rfl
theorem q331 : (Jvm.Cond.laysStatic "java/lang/Throwable" "UNASSIGNED_STACK" "[Ljava/lang/StackTraceElement;") ∈ lw_tbl := lw_at lw_m1 238 rfl
theorem q332 : (Jvm.Cond.fieldLink "java/lang/Throwable" (20 : Nat) "java/lang/Throwable" "SUPPRESSED_SENTINEL" "Ljava/util/List;") ∈ lw_all := lw_g (lw_at lw_m1 239 rfl) rfl
theorem q333 : (Jvm.Cond.laysStatic "java/lang/Throwable" "SUPPRESSED_SENTINEL" "Ljava/util/List;") ∈ lw_tbl := lw_at lw_m2 0 rfl
theorem q334 : (Jvm.Cond.methodLink "java/lang/Throwable" (27 : Nat) ({ cls := "java/lang/Throwable", name := "fillInStackTrace", desc := "()Ljava/lang/Throwable;" } : Jvm.MethodName)) ∈ lw_all := lw_g (lw_at lw_m2 1 rfl) rfl
theorem q335 : (Jvm.Cond.instanceMethod ({ cls := "java/lang/Throwable", name := "fillInStackTrace", desc := "()Ljava/lang/Throwable;" } : Jvm.MethodName)) ∈ lw_all := lw_g (lw_at lw_m2 2 rfl) rfl
theorem q336 : (Jvm.Cond.sameMethod "java/lang/Throwable" "java/lang/Throwable" "fillInStackTrace" "()Ljava/lang/Throwable;") ∈ lw_all := lw_g (lw_at lw_m2 3 rfl) rfl
theorem q353 : (Jvm.Cond.declares ({ cls := "java/lang/Throwable", name := "fillInStackTrace", desc := "()Ljava/lang/Throwable;" } : Jvm.MethodName)) ∈ lw_tbl := lw_at lw_m2 20 rfl
theorem q357 : (Jvm.Cond.codeSync ({ cls := "java/lang/Throwable", name := "fillInStackTrace", desc := "()Ljava/lang/Throwable;" } : Jvm.MethodName) prog_32_method_18_code (1 : Nat) (Option.some (Jvm.ClassFile.FieldType.object "java/lang/Throwable"))) ∈ lw_all := lw_g (lw_at lw_m2 24 rfl) rfl
theorem q358 : (Jvm.Cond.methodLink "java/lang/Throwable" (202 : Nat) ({ cls := "java/lang/Throwable", name := "fillInStackTrace", desc := "(I)Ljava/lang/Throwable;" } : Jvm.MethodName)) ∈ lw_all := lw_g (lw_at lw_m2 25 rfl) rfl
theorem q359 : (Jvm.Cond.privateMethod ({ cls := "java/lang/Throwable", name := "fillInStackTrace", desc := "(I)Ljava/lang/Throwable;" } : Jvm.MethodName)) ∈ lw_tbl := lw_at lw_m2 26 rfl
theorem q360 : (Jvm.Cond.instanceMethod ({ cls := "java/lang/Throwable", name := "fillInStackTrace", desc := "(I)Ljava/lang/Throwable;" } : Jvm.MethodName)) ∈ lw_all := lw_g (lw_at lw_m2 27 rfl) rfl
theorem q361 : (Jvm.Cond.instantiable "java/lang/Throwable" (6 : Nat)) ∈ lw_all := lw_g (lw_at lw_m2 28 rfl) rfl
theorem q362 : (Jvm.Cond.native ({ cls := "java/lang/Throwable", name := "fillInStackTrace", desc := "(I)Ljava/lang/Throwable;" } : Jvm.MethodName)) ∈ lw_all := lw_g (lw_at lw_m2 29 rfl) rfl
theorem q365 : (Jvm.Cond.fieldLink "java/lang/Throwable" (198 : Nat) "java/lang/Throwable" "backtrace" "Ljava/lang/Object;") ∈ lw_all := lw_g (lw_at lw_m2 32 rfl) rfl
theorem q366 : (Jvm.Cond.fieldLink "java/lang/Throwable" (31 : Nat) "java/lang/Throwable" "detailMessage" "Ljava/lang/String;") ∈ lw_all := lw_g (lw_at lw_m2 33 rfl) rfl
theorem q367 : (Jvm.Cond.fieldLink "java/lang/Throwable" (7 : Nat) "java/lang/Throwable" "cause" "Ljava/lang/Throwable;") ∈ lw_all := lw_g (lw_at lw_m2 34 rfl) rfl
theorem q368 : (Jvm.Cond.fieldLink "java/lang/Throwable" (17 : Nat) "java/lang/Throwable" "stackTrace" "[Ljava/lang/StackTraceElement;") ∈ lw_all := lw_g (lw_at lw_m2 35 rfl) rfl
theorem q369 : (Jvm.Cond.fieldLink "java/lang/Throwable" (24 : Nat) "java/lang/Throwable" "suppressedExceptions" "Ljava/util/List;") ∈ lw_all := lw_g (lw_at lw_m2 36 rfl) rfl
theorem q375 : (Jvm.Cond.soleField "java/lang/Throwable" "backtrace") ∈ lw_all := lw_g (lw_at lw_m2 42 rfl) rfl
theorem q377 : (Jvm.Cond.soleField "java/lang/Throwable" "detailMessage") ∈ lw_all := lw_g (lw_at lw_m2 44 rfl) rfl
theorem q379 : (Jvm.Cond.soleField "java/lang/Throwable" "cause") ∈ lw_all := lw_g (lw_at lw_m2 46 rfl) rfl
theorem q381 : (Jvm.Cond.soleField "java/lang/Throwable" "stackTrace") ∈ lw_all := lw_g (lw_at lw_m2 48 rfl) rfl
theorem q383 : (Jvm.Cond.soleField "java/lang/Throwable" "depth") ∈ lw_all := lw_g (lw_at lw_m2 50 rfl) rfl
theorem q385 : (Jvm.Cond.soleField "java/lang/Throwable" "suppressedExceptions") ∈ lw_all := lw_g (lw_at lw_m2 52 rfl) rfl
theorem q391 : (Jvm.Cond.declares ({ cls := "java/lang/Throwable", name := "<init>", desc := "()V" } : Jvm.MethodName)) ∈ lw_tbl := lw_at lw_m2 58 rfl
theorem q392 : (Jvm.Cond.declares ({ cls := "java/lang/Throwable", name := "<init>", desc := "(Ljava/lang/String;)V" } : Jvm.MethodName)) ∈ lw_tbl := lw_at lw_m2 59 rfl
theorem q394 : (Jvm.Cond.lays "java/lang/Throwable" "java/lang/Throwable" "cause" "Ljava/lang/Throwable;") ∈ lw_all := lw_g (lw_at lw_m2 61 rfl) rfl
theorem q395 : (Jvm.Cond.lays "java/lang/Throwable" "java/lang/Throwable" "stackTrace" "[Ljava/lang/StackTraceElement;") ∈ lw_all := lw_g (lw_at lw_m2 62 rfl) rfl
theorem q396 : (Jvm.Cond.lays "java/lang/Throwable" "java/lang/Throwable" "suppressedExceptions" "Ljava/util/List;") ∈ lw_all := lw_g (lw_at lw_m2 63 rfl) rfl
theorem q397 : (Jvm.Cond.lays "java/lang/Throwable" "java/lang/Throwable" "detailMessage" "Ljava/lang/String;") ∈ lw_all := lw_g (lw_at lw_m2 64 rfl) rfl
theorem q398 : (Jvm.Cond.lays "java/lang/Throwable" "java/lang/Throwable" "backtrace" "Ljava/lang/Object;") ∈ lw_all := lw_g (lw_at lw_m2 65 rfl) rfl
theorem q399 : (Jvm.Cond.fieldLink "java/lang/Throwable" (198 : Nat) "java/lang/Throwable" "backtrace" "Ljava/lang/Object;") ∈ lw_all := lw_g (lw_at lw_m2 66 rfl) rfl
theorem q400 : (Jvm.Cond.superclass "java/lang/Throwable" "java/lang/Object") ∈ lw_all := lw_g (lw_at lw_m2 67 rfl) rfl
theorem q413 : (Jvm.Cond.instanceMethod ({ cls := "java/lang/Throwable", name := "<init>", desc := "(Ljava/lang/String;)V" } : Jvm.MethodName)) ∈ lw_all := lw_g (lw_at lw_m2 80 rfl) rfl
theorem q414 : (Jvm.Cond.code ({ cls := "java/lang/Throwable", name := "<init>", desc := "(Ljava/lang/String;)V" } : Jvm.MethodName) prog_32_method_2_code (2 : Nat) (Option.none : Option Jvm.ClassFile.FieldType)) ∈ lw_all := lw_g (lw_at lw_m2 81 rfl) rfl
theorem q542 : (Jvm.Cond.instanceMethod ({ cls := "java/lang/Throwable", name := "<init>", desc := "(Ljava/lang/String;Ljava/lang/Throwable;ZZ)V" } : Jvm.MethodName)) ∈ lw_all := lw_g (lw_at lw_m2 209 rfl) rfl
theorem q543 : (Jvm.Cond.code ({ cls := "java/lang/Throwable", name := "<init>", desc := "(Ljava/lang/String;Ljava/lang/Throwable;ZZ)V" } : Jvm.MethodName) prog_32_method_5_code (5 : Nat) (Option.none : Option Jvm.ClassFile.FieldType)) ∈ lw_all := lw_g (lw_at lw_m2 210 rfl) rfl
theorem q1379 : (Jvm.Cond.sameMethod "java/lang/Throwable" "java/lang/Throwable" "fillInStackTrace" "(I)Ljava/lang/Throwable;") ∈ lw_all := lw_g (lw_at lw_m6 86 rfl) rfl
theorem in_J1 : ∀ w ∈ wsJ10, w ∈ lw_all := lw_in wsJ10 [394, 395, 396, 397, 398] (by decide +kernel) (by decide +kernel)
/-! java/lang/ArrayStoreException -/
set_option maxRecDepth 100000
def RJ10 : String := "java/lang/ArrayStoreException"
def TJ10 : u_T := fun k => match k with
  | 0 => ("java/lang/Throwable", "backtrace", "Ljava/lang/Object;", false)
  | 1 => ("java/lang/Throwable", "detailMessage", "Ljava/lang/String;", false)
  | 2 => ("java/lang/Throwable", "cause", "Ljava/lang/Throwable;", false)
  | 3 => ("java/lang/Throwable", "stackTrace", "[Ljava/lang/StackTraceElement;", false)
  | 4 => ("java/lang/Throwable", "depth", "I", false)
  | _ => ("java/lang/Throwable", "suppressedExceptions", "Ljava/util/List;", false)
def tyJ10 : Nat → FieldType := fun k => match k with
  | 0 => .object "java/lang/Object"
  | 1 => .object "java/lang/String"
  | 2 => .object "java/lang/Throwable"
  | 3 => .array (.object "java/lang/StackTraceElement")
  | 4 => .int
  | _ => .object "java/util/List"
abbrev wsJ100 : List Cond := u_ws RJ10 TJ10 6
theorem nmJ10 : ∀ a, a < 6 → ∀ b, b < 6 → a ≠ b → (TJ10 a).2.1 ≠ (TJ10 b).2.1 := by decide +kernel
theorem tyJ10_ok : ∀ k, k < 6 → parseFieldDescriptor (TJ10 k).2.2.1 = some (tyJ10 k) := by decide +kernel
abbrev cJ10_init : ByteArray := prog_18_method_2_code
def yJ10_init : MethodName := ⟨RJ10, "<init>", "(Ljava/lang/String;)V"⟩
def dkwJ10_init_0 : List UInt8 := [42, 43, 183, 0, 7, 177]
abbrev dktJ10_init_0 : List UInt8 := dkwJ10_init_0 ++ []
theorem dksJ10_init_0 : cJ10_init.data.toList.drop 0 = dktJ10_init_0 := by decide +kernel
theorem dJ10_init_0 : decode cJ10_init 0 = .ok (.aload_n 0, 1) := dk_42 (dk_at dksJ10_init_0 0 rfl rfl)
theorem dJ10_init_1 : decode cJ10_init 1 = .ok (.aload_n 1, 1) := dk_43 (dk_at dksJ10_init_0 1 rfl rfl)
theorem dJ10_init_2 : decode cJ10_init 2 = .ok (.invokespecial 7, 3) := dk_183 0 7 (dk_at dksJ10_init_0 2 rfl rfl)
theorem dJ10_init_5 : decode cJ10_init 5 = .ok (.return_, 1) := dk_177 (dk_at dksJ10_init_0 5 rfl rfl)
theorem q110 : (Jvm.Cond.initialized "java/lang/ArrayStoreException") ∈ lw_all := lw_g (lw_at lw_m1 17 rfl) rfl
theorem q341 : (Jvm.Cond.selects "java/lang/ArrayStoreException" ({ cls := "java/lang/Throwable", name := "fillInStackTrace", desc := "()Ljava/lang/Throwable;" } : Jvm.MethodName) ({ cls := "java/lang/Throwable", name := "fillInStackTrace", desc := "()Ljava/lang/Throwable;" } : Jvm.MethodName)) ∈ lw_all := lw_g (lw_at lw_m2 8 rfl) rfl
theorem q464 : (Jvm.Cond.instantiable "java/lang/ArrayStoreException" (6 : Nat)) ∈ lw_all := lw_g (lw_at lw_m2 131 rfl) rfl
theorem q465 : (Jvm.Cond.instanceMethod ({ cls := "java/lang/ArrayStoreException", name := "<init>", desc := "(Ljava/lang/String;)V" } : Jvm.MethodName)) ∈ lw_all := lw_g (lw_at lw_m2 132 rfl) rfl
theorem q466 : (Jvm.Cond.code ({ cls := "java/lang/ArrayStoreException", name := "<init>", desc := "(Ljava/lang/String;)V" } : Jvm.MethodName) prog_18_method_2_code (2 : Nat) (Option.none : Option Jvm.ClassFile.FieldType)) ∈ lw_all := lw_g (lw_at lw_m2 133 rfl) rfl
theorem q467 : (Jvm.Cond.methodLink "java/lang/ArrayStoreException" (7 : Nat) ({ cls := "java/lang/RuntimeException", name := "<init>", desc := "(Ljava/lang/String;)V" } : Jvm.MethodName)) ∈ lw_all := lw_g (lw_at lw_m2 134 rfl) rfl
theorem q468 : (Jvm.Cond.lays "java/lang/ArrayStoreException" "java/lang/Throwable" "backtrace" "Ljava/lang/Object;") ∈ lw_all := lw_g (lw_at lw_m2 135 rfl) rfl
theorem q469 : (Jvm.Cond.lays "java/lang/ArrayStoreException" "java/lang/Throwable" "detailMessage" "Ljava/lang/String;") ∈ lw_all := lw_g (lw_at lw_m2 136 rfl) rfl
theorem q470 : (Jvm.Cond.lays "java/lang/ArrayStoreException" "java/lang/Throwable" "cause" "Ljava/lang/Throwable;") ∈ lw_all := lw_g (lw_at lw_m2 137 rfl) rfl
theorem q471 : (Jvm.Cond.lays "java/lang/ArrayStoreException" "java/lang/Throwable" "stackTrace" "[Ljava/lang/StackTraceElement;") ∈ lw_all := lw_g (lw_at lw_m2 138 rfl) rfl
theorem q472 : (Jvm.Cond.lays "java/lang/ArrayStoreException" "java/lang/Throwable" "depth" "I") ∈ lw_all := lw_g (lw_at lw_m2 139 rfl) rfl
theorem q473 : (Jvm.Cond.lays "java/lang/ArrayStoreException" "java/lang/Throwable" "suppressedExceptions" "Ljava/util/List;") ∈ lw_all := lw_g (lw_at lw_m2 140 rfl) rfl
theorem q474 : (Jvm.Cond.superclass "java/lang/ArrayStoreException" "java/lang/RuntimeException") ∈ lw_all := lw_g (lw_at lw_m2 141 rfl) rfl
theorem q475 : (Jvm.Cond.castable "java/lang/ArrayStoreException" "java/lang/ArrayStoreException") ∈ lw_tbl := lw_at lw_m2 142 rfl
theorem q476 : (Jvm.Cond.selects "java/lang/ArrayStoreException" ({ cls := "java/lang/Throwable", name := "fillInStackTrace", desc := "(I)Ljava/lang/Throwable;" } : Jvm.MethodName) ({ cls := "java/lang/Throwable", name := "fillInStackTrace", desc := "(I)Ljava/lang/Throwable;" } : Jvm.MethodName)) ∈ lw_all := lw_g (lw_at lw_m2 143 rfl) rfl
theorem in_J10 : ∀ w ∈ wsJ100, w ∈ lw_all := lw_in wsJ100 [468, 469, 470, 471, 472, 473] (by decide +kernel) (by decide +kernel)
/-! java/lang/ArithmeticException -/
set_option maxRecDepth 100000
def RJ11 : String := "java/lang/ArithmeticException"
def TJ11 : u_T := fun k => match k with
  | 0 => ("java/lang/Throwable", "backtrace", "Ljava/lang/Object;", false)
  | 1 => ("java/lang/Throwable", "detailMessage", "Ljava/lang/String;", false)
  | 2 => ("java/lang/Throwable", "cause", "Ljava/lang/Throwable;", false)
  | 3 => ("java/lang/Throwable", "stackTrace", "[Ljava/lang/StackTraceElement;", false)
  | 4 => ("java/lang/Throwable", "depth", "I", false)
  | _ => ("java/lang/Throwable", "suppressedExceptions", "Ljava/util/List;", false)
def tyJ11 : Nat → FieldType := fun k => match k with
  | 0 => .object "java/lang/Object"
  | 1 => .object "java/lang/String"
  | 2 => .object "java/lang/Throwable"
  | 3 => .array (.object "java/lang/StackTraceElement")
  | 4 => .int
  | _ => .object "java/util/List"
abbrev wsJ110 : List Cond := u_ws RJ11 TJ11 6
theorem nmJ11 : ∀ a, a < 6 → ∀ b, b < 6 → a ≠ b → (TJ11 a).2.1 ≠ (TJ11 b).2.1 := by decide +kernel
theorem tyJ11_ok : ∀ k, k < 6 → parseFieldDescriptor (TJ11 k).2.2.1 = some (tyJ11 k) := by decide +kernel
abbrev cJ11_init : ByteArray := prog_16_method_2_code
def yJ11_init : MethodName := ⟨RJ11, "<init>", "(Ljava/lang/String;)V"⟩
def dkwJ11_init_0 : List UInt8 := [42, 43, 183, 0, 7, 177]
abbrev dktJ11_init_0 : List UInt8 := dkwJ11_init_0 ++ []
theorem dksJ11_init_0 : cJ11_init.data.toList.drop 0 = dktJ11_init_0 := by decide +kernel
theorem dJ11_init_0 : decode cJ11_init 0 = .ok (.aload_n 0, 1) := dk_42 (dk_at dksJ11_init_0 0 rfl rfl)
theorem dJ11_init_1 : decode cJ11_init 1 = .ok (.aload_n 1, 1) := dk_43 (dk_at dksJ11_init_0 1 rfl rfl)
theorem dJ11_init_2 : decode cJ11_init 2 = .ok (.invokespecial 7, 3) := dk_183 0 7 (dk_at dksJ11_init_0 2 rfl rfl)
theorem dJ11_init_5 : decode cJ11_init 5 = .ok (.return_, 1) := dk_177 (dk_at dksJ11_init_0 5 rfl rfl)
theorem q111 : (Jvm.Cond.initialized "java/lang/ArithmeticException") ∈ lw_all := lw_g (lw_at lw_m1 18 rfl) rfl
theorem q339 : (Jvm.Cond.selects "java/lang/ArithmeticException" ({ cls := "java/lang/Throwable", name := "fillInStackTrace", desc := "()Ljava/lang/Throwable;" } : Jvm.MethodName) ({ cls := "java/lang/Throwable", name := "fillInStackTrace", desc := "()Ljava/lang/Throwable;" } : Jvm.MethodName)) ∈ lw_all := lw_g (lw_at lw_m2 6 rfl) rfl
theorem q478 : (Jvm.Cond.instantiable "java/lang/ArithmeticException" (6 : Nat)) ∈ lw_all := lw_g (lw_at lw_m2 145 rfl) rfl
theorem q479 : (Jvm.Cond.instanceMethod ({ cls := "java/lang/ArithmeticException", name := "<init>", desc := "(Ljava/lang/String;)V" } : Jvm.MethodName)) ∈ lw_all := lw_g (lw_at lw_m2 146 rfl) rfl
theorem q480 : (Jvm.Cond.code ({ cls := "java/lang/ArithmeticException", name := "<init>", desc := "(Ljava/lang/String;)V" } : Jvm.MethodName) prog_16_method_2_code (2 : Nat) (Option.none : Option Jvm.ClassFile.FieldType)) ∈ lw_all := lw_g (lw_at lw_m2 147 rfl) rfl
theorem q481 : (Jvm.Cond.methodLink "java/lang/ArithmeticException" (7 : Nat) ({ cls := "java/lang/RuntimeException", name := "<init>", desc := "(Ljava/lang/String;)V" } : Jvm.MethodName)) ∈ lw_all := lw_g (lw_at lw_m2 148 rfl) rfl
theorem q482 : (Jvm.Cond.lays "java/lang/ArithmeticException" "java/lang/Throwable" "backtrace" "Ljava/lang/Object;") ∈ lw_all := lw_g (lw_at lw_m2 149 rfl) rfl
theorem q483 : (Jvm.Cond.lays "java/lang/ArithmeticException" "java/lang/Throwable" "detailMessage" "Ljava/lang/String;") ∈ lw_all := lw_g (lw_at lw_m2 150 rfl) rfl
theorem q484 : (Jvm.Cond.lays "java/lang/ArithmeticException" "java/lang/Throwable" "cause" "Ljava/lang/Throwable;") ∈ lw_all := lw_g (lw_at lw_m2 151 rfl) rfl
theorem q485 : (Jvm.Cond.lays "java/lang/ArithmeticException" "java/lang/Throwable" "stackTrace" "[Ljava/lang/StackTraceElement;") ∈ lw_all := lw_g (lw_at lw_m2 152 rfl) rfl
theorem q486 : (Jvm.Cond.lays "java/lang/ArithmeticException" "java/lang/Throwable" "depth" "I") ∈ lw_all := lw_g (lw_at lw_m2 153 rfl) rfl
theorem q487 : (Jvm.Cond.lays "java/lang/ArithmeticException" "java/lang/Throwable" "suppressedExceptions" "Ljava/util/List;") ∈ lw_all := lw_g (lw_at lw_m2 154 rfl) rfl
theorem q488 : (Jvm.Cond.superclass "java/lang/ArithmeticException" "java/lang/RuntimeException") ∈ lw_all := lw_g (lw_at lw_m2 155 rfl) rfl
theorem q489 : (Jvm.Cond.castable "java/lang/ArithmeticException" "java/lang/ArithmeticException") ∈ lw_tbl := lw_at lw_m2 156 rfl
theorem q490 : (Jvm.Cond.selects "java/lang/ArithmeticException" ({ cls := "java/lang/Throwable", name := "fillInStackTrace", desc := "(I)Ljava/lang/Throwable;" } : Jvm.MethodName) ({ cls := "java/lang/Throwable", name := "fillInStackTrace", desc := "(I)Ljava/lang/Throwable;" } : Jvm.MethodName)) ∈ lw_all := lw_g (lw_at lw_m2 157 rfl) rfl
theorem in_J11 : ∀ w ∈ wsJ110, w ∈ lw_all := lw_in wsJ110 [482, 483, 484, 485, 486, 487] (by decide +kernel) (by decide +kernel)
/-! java/lang/Math -/
set_option maxRecDepth 100000
def RJ12 : String := "java/lang/Math"
abbrev cJ12_max : ByteArray := prog_25_method_65_code
def yJ12_max : MethodName := ⟨RJ12, "max", "(II)I"⟩
def dkwJ12_max_0 : List UInt8 := [26, 27, 161, 0, 7, 26, 167, 0, 4, 27, 172]
abbrev dktJ12_max_0 : List UInt8 := dkwJ12_max_0 ++ []
theorem dksJ12_max_0 : cJ12_max.data.toList.drop 0 = dktJ12_max_0 := by decide +kernel
theorem dJ12_max_0 : decode cJ12_max 0 = .ok (.iload_n 0, 1) := dk_26 (dk_at dksJ12_max_0 0 rfl rfl)
theorem dJ12_max_1 : decode cJ12_max 1 = .ok (.iload_n 1, 1) := dk_27 (dk_at dksJ12_max_0 1 rfl rfl)
theorem dJ12_max_2 : decode cJ12_max 2 = .ok (.if_icmp .lt 7, 3) := dk_161 0 7 (dk_at dksJ12_max_0 2 rfl rfl)
theorem dJ12_max_5 : decode cJ12_max 5 = .ok (.iload_n 0, 1) := dk_26 (dk_at dksJ12_max_0 5 rfl rfl)
theorem dJ12_max_6 : decode cJ12_max 6 = .ok (.goto 4, 3) := dk_167 0 4 (dk_at dksJ12_max_0 6 rfl rfl)
theorem dJ12_max_9 : decode cJ12_max 9 = .ok (.iload_n 1, 1) := dk_27 (dk_at dksJ12_max_0 9 rfl rfl)
theorem dJ12_max_10 : decode cJ12_max 10 = .ok (.ireturn, 1) := dk_172 (dk_at dksJ12_max_0 10 rfl rfl)
theorem q112 : (Jvm.Cond.initialized "java/lang/Math") ∈ lw_all := lw_g (lw_at lw_m1 19 rfl) rfl
theorem q516 : (Jvm.Cond.static ({ cls := "java/lang/Math", name := "max", desc := "(II)I" } : Jvm.MethodName)) ∈ lw_all := lw_g (lw_at lw_m2 183 rfl) rfl
theorem q517 : (Jvm.Cond.code ({ cls := "java/lang/Math", name := "max", desc := "(II)I" } : Jvm.MethodName) prog_25_method_65_code (2 : Nat) (Option.some Jvm.ClassFile.FieldType.int)) ∈ lw_all := lw_g (lw_at lw_m2 184 rfl) rfl
/-! java/lang/Double -/
set_option maxRecDepth 100000
def RJ13 : String := "java/lang/Double"
abbrev cJ13_doubleToLongBits : ByteArray := prog_21_method_23_code
def yJ13_doubleToLongBits : MethodName := ⟨RJ13, "doubleToLongBits", "(D)J"⟩
def dkwJ13_doubleToLongBits_0 : List UInt8 := [38, 184, 0, 122, 154, 0, 8, 38, 184, 0, 134, 173, 20, 0, 137, 173]
abbrev dktJ13_doubleToLongBits_0 : List UInt8 := dkwJ13_doubleToLongBits_0 ++ []
theorem dksJ13_doubleToLongBits_0 : cJ13_doubleToLongBits.data.toList.drop 0 = dktJ13_doubleToLongBits_0 := by decide +kernel
theorem dJ13_doubleToLongBits_0 : decode cJ13_doubleToLongBits 0 = .ok (.dload_n 0, 1) := dk_38 (dk_at dksJ13_doubleToLongBits_0 0 rfl rfl)
theorem dJ13_doubleToLongBits_1 : decode cJ13_doubleToLongBits 1 = .ok (.invokestatic 122, 3) := dk_184 0 122 (dk_at dksJ13_doubleToLongBits_0 1 rfl rfl)
theorem dJ13_doubleToLongBits_4 : decode cJ13_doubleToLongBits 4 = .ok (.ifCond .ne 8, 3) := dk_154 0 8 (dk_at dksJ13_doubleToLongBits_0 4 rfl rfl)
theorem dJ13_doubleToLongBits_7 : decode cJ13_doubleToLongBits 7 = .ok (.dload_n 0, 1) := dk_38 (dk_at dksJ13_doubleToLongBits_0 7 rfl rfl)
theorem dJ13_doubleToLongBits_8 : decode cJ13_doubleToLongBits 8 = .ok (.invokestatic 134, 3) := dk_184 0 134 (dk_at dksJ13_doubleToLongBits_0 8 rfl rfl)
theorem dJ13_doubleToLongBits_11 : decode cJ13_doubleToLongBits 11 = .ok (.lreturn, 1) := dk_173 (dk_at dksJ13_doubleToLongBits_0 11 rfl rfl)
theorem dJ13_doubleToLongBits_12 : decode cJ13_doubleToLongBits 12 = .ok (.ldc2_w 137, 3) := dk_20 0 137 (dk_at dksJ13_doubleToLongBits_0 12 rfl rfl)
theorem dJ13_doubleToLongBits_15 : decode cJ13_doubleToLongBits 15 = .ok (.lreturn, 1) := dk_173 (dk_at dksJ13_doubleToLongBits_0 15 rfl rfl)
abbrev cJ13_isNaN : ByteArray := prog_21_method_6_code
def yJ13_isNaN : MethodName := ⟨RJ13, "isNaN", "(D)Z"⟩
def dkwJ13_isNaN_0 : List UInt8 := [38, 38, 151, 153, 0, 7, 4, 167, 0, 4, 3, 172]
abbrev dktJ13_isNaN_0 : List UInt8 := dkwJ13_isNaN_0 ++ []
theorem dksJ13_isNaN_0 : cJ13_isNaN.data.toList.drop 0 = dktJ13_isNaN_0 := by decide +kernel
theorem dJ13_isNaN_0 : decode cJ13_isNaN 0 = .ok (.dload_n 0, 1) := dk_38 (dk_at dksJ13_isNaN_0 0 rfl rfl)
theorem dJ13_isNaN_1 : decode cJ13_isNaN 1 = .ok (.dload_n 0, 1) := dk_38 (dk_at dksJ13_isNaN_0 1 rfl rfl)
theorem dJ13_isNaN_2 : decode cJ13_isNaN 2 = .ok (.dcmp .l, 1) := dk_151 (dk_at dksJ13_isNaN_0 2 rfl rfl)
theorem dJ13_isNaN_3 : decode cJ13_isNaN 3 = .ok (.ifCond .eq 7, 3) := dk_153 0 7 (dk_at dksJ13_isNaN_0 3 rfl rfl)
theorem dJ13_isNaN_6 : decode cJ13_isNaN 6 = .ok (.iconst 1, 1) := dk_4 (dk_at dksJ13_isNaN_0 6 rfl rfl)
theorem dJ13_isNaN_7 : decode cJ13_isNaN 7 = .ok (.goto 4, 3) := dk_167 0 4 (dk_at dksJ13_isNaN_0 7 rfl rfl)
theorem dJ13_isNaN_10 : decode cJ13_isNaN 10 = .ok (.iconst 0, 1) := dk_3 (dk_at dksJ13_isNaN_0 10 rfl rfl)
theorem dJ13_isNaN_11 : decode cJ13_isNaN 11 = .ok (.ireturn, 1) := dk_172 (dk_at dksJ13_isNaN_0 11 rfl rfl)
theorem q117 : (Jvm.Cond.initialized "java/lang/Double") ∈ lw_all := lw_g (lw_at lw_m1 24 rfl) rfl
theorem q590 : (Jvm.Cond.static ({ cls := "java/lang/Double", name := "doubleToLongBits", desc := "(D)J" } : Jvm.MethodName)) ∈ lw_all := lw_g (lw_at lw_m3 17 rfl) rfl
theorem q591 : (Jvm.Cond.code ({ cls := "java/lang/Double", name := "doubleToLongBits", desc := "(D)J" } : Jvm.MethodName) prog_21_method_23_code (2 : Nat) (Option.some Jvm.ClassFile.FieldType.long)) ∈ lw_all := lw_g (lw_at lw_m3 18 rfl) rfl
theorem q592 : (Jvm.Cond.methodLink "java/lang/Double" (122 : Nat) ({ cls := "java/lang/Double", name := "isNaN", desc := "(D)Z" } : Jvm.MethodName)) ∈ lw_all := lw_g (lw_at lw_m3 19 rfl) rfl
theorem q593 : (Jvm.Cond.static ({ cls := "java/lang/Double", name := "isNaN", desc := "(D)Z" } : Jvm.MethodName)) ∈ lw_all := lw_g (lw_at lw_m3 20 rfl) rfl
theorem q594 : (Jvm.Cond.code ({ cls := "java/lang/Double", name := "isNaN", desc := "(D)Z" } : Jvm.MethodName) prog_21_method_6_code (2 : Nat) (Option.some Jvm.ClassFile.FieldType.boolean)) ∈ lw_all := lw_g (lw_at lw_m3 21 rfl) rfl
theorem q595 : (Jvm.Cond.methodLink "java/lang/Double" (134 : Nat) ({ cls := "java/lang/Double", name := "doubleToRawLongBits", desc := "(D)J" } : Jvm.MethodName)) ∈ lw_all := lw_g (lw_at lw_m3 22 rfl) rfl
theorem q596 : (Jvm.Cond.static ({ cls := "java/lang/Double", name := "doubleToRawLongBits", desc := "(D)J" } : Jvm.MethodName)) ∈ lw_all := lw_g (lw_at lw_m3 23 rfl) rfl
theorem q597 : (Jvm.Cond.native ({ cls := "java/lang/Double", name := "doubleToRawLongBits", desc := "(D)J" } : Jvm.MethodName)) ∈ lw_all := lw_g (lw_at lw_m3 24 rfl) rfl
theorem q598 : (Jvm.Cond.constantLong "java/lang/Double" (137 : Nat) (9221120237041090560 : Int64)) ∈ lw_all := lw_g (lw_at lw_m3 25 rfl) rfl
theorem q609 : (Jvm.Cond.static ({ cls := "java/lang/Double", name := "longBitsToDouble", desc := "(J)D" } : Jvm.MethodName)) ∈ lw_all := lw_g (lw_at lw_m3 36 rfl) rfl
theorem q610 : (Jvm.Cond.native ({ cls := "java/lang/Double", name := "longBitsToDouble", desc := "(J)D" } : Jvm.MethodName)) ∈ lw_all := lw_g (lw_at lw_m3 37 rfl) rfl
/-! java/lang/Object -/
set_option maxRecDepth 100000
def RJ14 : String := "java/lang/Object"
abbrev cJ14_init : ByteArray := object_method_1_code
def yJ14_init : MethodName := ⟨RJ14, "<init>", "()V"⟩
theorem dJ14_init_0 : decode cJ14_init 0 = .ok (.return_, 1) := by decide +kernel
theorem q128 : (Jvm.Cond.instanceMethod ({ cls := "java/lang/Object", name := "<init>", desc := "()V" } : Jvm.MethodName)) ∈ lw_all := lw_g (lw_at lw_m1 35 rfl) rfl
theorem q129 : (Jvm.Cond.code ({ cls := "java/lang/Object", name := "<init>", desc := "()V" } : Jvm.MethodName) object_method_1_code (1 : Nat) (Option.none : Option Jvm.ClassFile.FieldType)) ∈ lw_all := lw_g (lw_at lw_m1 36 rfl) rfl
theorem q623 : (Jvm.Cond.native ({ cls := "java/lang/Object", name := "clone", desc := "()Ljava/lang/Object;" } : Jvm.MethodName)) ∈ lw_all := lw_g (lw_at lw_m3 50 rfl) rfl
theorem q624 : (Jvm.Cond.instanceMethod ({ cls := "java/lang/Object", name := "clone", desc := "()Ljava/lang/Object;" } : Jvm.MethodName)) ∈ lw_all := lw_g (lw_at lw_m3 51 rfl) rfl
theorem q1383 : (Jvm.Cond.initialized "java/lang/Object") ∈ lw_all := lw_g (lw_at lw_m6 90 rfl) rfl
/-! java/lang/Exception -/
set_option maxRecDepth 100000
def RJ2 : String := "java/lang/Exception"
abbrev cJ2_init : ByteArray := prog_23_method_1_code
def yJ2_init : MethodName := ⟨RJ2, "<init>", "()V"⟩
theorem dJ2_init_0 : decode cJ2_init 0 = .ok (.aload_n 0, 1) := by decide +kernel
theorem dJ2_init_1 : decode cJ2_init 1 = .ok (.invokespecial 1, 3) := by decide +kernel
theorem dJ2_init_4 : decode cJ2_init 4 = .ok (.return_, 1) := by decide +kernel
abbrev cJ2_init_2 : ByteArray := prog_23_method_2_code
def yJ2_init_2 : MethodName := ⟨RJ2, "<init>", "(Ljava/lang/String;)V"⟩
def dkwJ2_init_2_0 : List UInt8 := [42, 43, 183, 0, 7, 177]
abbrev dktJ2_init_2_0 : List UInt8 := dkwJ2_init_2_0 ++ []
theorem dksJ2_init_2_0 : cJ2_init_2.data.toList.drop 0 = dktJ2_init_2_0 := by decide +kernel
theorem dJ2_init_2_0 : decode cJ2_init_2 0 = .ok (.aload_n 0, 1) := dk_42 (dk_at dksJ2_init_2_0 0 rfl rfl)
theorem dJ2_init_2_1 : decode cJ2_init_2 1 = .ok (.aload_n 1, 1) := dk_43 (dk_at dksJ2_init_2_0 1 rfl rfl)
theorem dJ2_init_2_2 : decode cJ2_init_2 2 = .ok (.invokespecial 7, 3) := dk_183 0 7 (dk_at dksJ2_init_2_0 2 rfl rfl)
theorem dJ2_init_2_5 : decode cJ2_init_2 5 = .ok (.return_, 1) := dk_177 (dk_at dksJ2_init_2_0 5 rfl rfl)
abbrev cJ2_init_3 : ByteArray := prog_23_method_5_code
def yJ2_init_3 : MethodName := ⟨RJ2, "<init>", "(Ljava/lang/String;Ljava/lang/Throwable;ZZ)V"⟩
def dkwJ2_init_3_0 : List UInt8 := [42, 43, 44, 29, 21, 4, 183, 0, 16, 177]
abbrev dktJ2_init_3_0 : List UInt8 := dkwJ2_init_3_0 ++ []
theorem dksJ2_init_3_0 : cJ2_init_3.data.toList.drop 0 = dktJ2_init_3_0 := by decide +kernel
theorem dJ2_init_3_0 : decode cJ2_init_3 0 = .ok (.aload_n 0, 1) := dk_42 (dk_at dksJ2_init_3_0 0 rfl rfl)
theorem dJ2_init_3_1 : decode cJ2_init_3 1 = .ok (.aload_n 1, 1) := dk_43 (dk_at dksJ2_init_3_0 1 rfl rfl)
theorem dJ2_init_3_2 : decode cJ2_init_3 2 = .ok (.aload_n 2, 1) := dk_44 (dk_at dksJ2_init_3_0 2 rfl rfl)
theorem dJ2_init_3_3 : decode cJ2_init_3 3 = .ok (.iload_n 3, 1) := dk_29 (dk_at dksJ2_init_3_0 3 rfl rfl)
theorem dJ2_init_3_4 : decode cJ2_init_3 4 = .ok (.iload 4, 2) := dk_21 4 (dk_at dksJ2_init_3_0 4 rfl rfl)
theorem dJ2_init_3_6 : decode cJ2_init_3 6 = .ok (.invokespecial 16, 3) := dk_183 0 16 (dk_at dksJ2_init_3_0 6 rfl rfl)
theorem dJ2_init_3_9 : decode cJ2_init_3 9 = .ok (.return_, 1) := dk_177 (dk_at dksJ2_init_3_0 9 rfl rfl)
theorem q102 : (Jvm.Cond.initialized "java/lang/Exception") ∈ lw_all := lw_g (lw_at lw_m1 9 rfl) rfl
theorem q324 : (Jvm.Cond.instanceMethod ({ cls := "java/lang/Exception", name := "<init>", desc := "()V" } : Jvm.MethodName)) ∈ lw_all := lw_g (lw_at lw_m1 231 rfl) rfl
theorem q325 : (Jvm.Cond.code ({ cls := "java/lang/Exception", name := "<init>", desc := "()V" } : Jvm.MethodName) prog_23_method_1_code (1 : Nat) (Option.none : Option Jvm.ClassFile.FieldType)) ∈ lw_all := lw_g (lw_at lw_m1 232 rfl) rfl
theorem q326 : (Jvm.Cond.methodLink "java/lang/Exception" (1 : Nat) ({ cls := "java/lang/Throwable", name := "<init>", desc := "()V" } : Jvm.MethodName)) ∈ lw_all := lw_g (lw_at lw_m1 233 rfl) rfl
theorem q356 : (Jvm.Cond.superclass "java/lang/Exception" "java/lang/Throwable") ∈ lw_all := lw_g (lw_at lw_m2 23 rfl) rfl
theorem q389 : (Jvm.Cond.declares ({ cls := "java/lang/Exception", name := "<init>", desc := "()V" } : Jvm.MethodName)) ∈ lw_tbl := lw_at lw_m2 56 rfl
theorem q390 : (Jvm.Cond.declares ({ cls := "java/lang/Exception", name := "<init>", desc := "(Ljava/lang/String;)V" } : Jvm.MethodName)) ∈ lw_tbl := lw_at lw_m2 57 rfl
theorem q410 : (Jvm.Cond.instanceMethod ({ cls := "java/lang/Exception", name := "<init>", desc := "(Ljava/lang/String;)V" } : Jvm.MethodName)) ∈ lw_all := lw_g (lw_at lw_m2 77 rfl) rfl
theorem q411 : (Jvm.Cond.code ({ cls := "java/lang/Exception", name := "<init>", desc := "(Ljava/lang/String;)V" } : Jvm.MethodName) prog_23_method_2_code (2 : Nat) (Option.none : Option Jvm.ClassFile.FieldType)) ∈ lw_all := lw_g (lw_at lw_m2 78 rfl) rfl
theorem q412 : (Jvm.Cond.methodLink "java/lang/Exception" (7 : Nat) ({ cls := "java/lang/Throwable", name := "<init>", desc := "(Ljava/lang/String;)V" } : Jvm.MethodName)) ∈ lw_all := lw_g (lw_at lw_m2 79 rfl) rfl
theorem q539 : (Jvm.Cond.instanceMethod ({ cls := "java/lang/Exception", name := "<init>", desc := "(Ljava/lang/String;Ljava/lang/Throwable;ZZ)V" } : Jvm.MethodName)) ∈ lw_all := lw_g (lw_at lw_m2 206 rfl) rfl
theorem q540 : (Jvm.Cond.code ({ cls := "java/lang/Exception", name := "<init>", desc := "(Ljava/lang/String;Ljava/lang/Throwable;ZZ)V" } : Jvm.MethodName) prog_23_method_5_code (5 : Nat) (Option.none : Option Jvm.ClassFile.FieldType)) ∈ lw_all := lw_g (lw_at lw_m2 207 rfl) rfl
theorem q541 : (Jvm.Cond.methodLink "java/lang/Exception" (16 : Nat) ({ cls := "java/lang/Throwable", name := "<init>", desc := "(Ljava/lang/String;Ljava/lang/Throwable;ZZ)V" } : Jvm.MethodName)) ∈ lw_all := lw_g (lw_at lw_m2 208 rfl) rfl
/-! java/lang/RuntimeException -/
set_option maxRecDepth 100000
def RJ3 : String := "java/lang/RuntimeException"
abbrev cJ3_init : ByteArray := prog_29_method_1_code
def yJ3_init : MethodName := ⟨RJ3, "<init>", "()V"⟩
theorem dJ3_init_0 : decode cJ3_init 0 = .ok (.aload_n 0, 1) := by decide +kernel
theorem dJ3_init_1 : decode cJ3_init 1 = .ok (.invokespecial 1, 3) := by decide +kernel
theorem dJ3_init_4 : decode cJ3_init 4 = .ok (.return_, 1) := by decide +kernel
abbrev cJ3_init_2 : ByteArray := prog_29_method_2_code
def yJ3_init_2 : MethodName := ⟨RJ3, "<init>", "(Ljava/lang/String;)V"⟩
def dkwJ3_init_2_0 : List UInt8 := [42, 43, 183, 0, 7, 177]
abbrev dktJ3_init_2_0 : List UInt8 := dkwJ3_init_2_0 ++ []
theorem dksJ3_init_2_0 : cJ3_init_2.data.toList.drop 0 = dktJ3_init_2_0 := by decide +kernel
theorem dJ3_init_2_0 : decode cJ3_init_2 0 = .ok (.aload_n 0, 1) := dk_42 (dk_at dksJ3_init_2_0 0 rfl rfl)
theorem dJ3_init_2_1 : decode cJ3_init_2 1 = .ok (.aload_n 1, 1) := dk_43 (dk_at dksJ3_init_2_0 1 rfl rfl)
theorem dJ3_init_2_2 : decode cJ3_init_2 2 = .ok (.invokespecial 7, 3) := dk_183 0 7 (dk_at dksJ3_init_2_0 2 rfl rfl)
theorem dJ3_init_2_5 : decode cJ3_init_2 5 = .ok (.return_, 1) := dk_177 (dk_at dksJ3_init_2_0 5 rfl rfl)
abbrev cJ3_init_3 : ByteArray := prog_29_method_5_code
def yJ3_init_3 : MethodName := ⟨RJ3, "<init>", "(Ljava/lang/String;Ljava/lang/Throwable;ZZ)V"⟩
def dkwJ3_init_3_0 : List UInt8 := [42, 43, 44, 29, 21, 4, 183, 0, 16, 177]
abbrev dktJ3_init_3_0 : List UInt8 := dkwJ3_init_3_0 ++ []
theorem dksJ3_init_3_0 : cJ3_init_3.data.toList.drop 0 = dktJ3_init_3_0 := by decide +kernel
theorem dJ3_init_3_0 : decode cJ3_init_3 0 = .ok (.aload_n 0, 1) := dk_42 (dk_at dksJ3_init_3_0 0 rfl rfl)
theorem dJ3_init_3_1 : decode cJ3_init_3 1 = .ok (.aload_n 1, 1) := dk_43 (dk_at dksJ3_init_3_0 1 rfl rfl)
theorem dJ3_init_3_2 : decode cJ3_init_3 2 = .ok (.aload_n 2, 1) := dk_44 (dk_at dksJ3_init_3_0 2 rfl rfl)
theorem dJ3_init_3_3 : decode cJ3_init_3 3 = .ok (.iload_n 3, 1) := dk_29 (dk_at dksJ3_init_3_0 3 rfl rfl)
theorem dJ3_init_3_4 : decode cJ3_init_3 4 = .ok (.iload 4, 2) := dk_21 4 (dk_at dksJ3_init_3_0 4 rfl rfl)
theorem dJ3_init_3_6 : decode cJ3_init_3 6 = .ok (.invokespecial 16, 3) := dk_183 0 16 (dk_at dksJ3_init_3_0 6 rfl rfl)
theorem dJ3_init_3_9 : decode cJ3_init_3 9 = .ok (.return_, 1) := dk_177 (dk_at dksJ3_init_3_0 9 rfl rfl)
theorem q103 : (Jvm.Cond.initialized "java/lang/RuntimeException") ∈ lw_all := lw_g (lw_at lw_m1 10 rfl) rfl
theorem q321 : (Jvm.Cond.instanceMethod ({ cls := "java/lang/RuntimeException", name := "<init>", desc := "()V" } : Jvm.MethodName)) ∈ lw_all := lw_g (lw_at lw_m1 228 rfl) rfl
theorem q322 : (Jvm.Cond.code ({ cls := "java/lang/RuntimeException", name := "<init>", desc := "()V" } : Jvm.MethodName) prog_29_method_1_code (1 : Nat) (Option.none : Option Jvm.ClassFile.FieldType)) ∈ lw_all := lw_g (lw_at lw_m1 229 rfl) rfl
theorem q323 : (Jvm.Cond.methodLink "java/lang/RuntimeException" (1 : Nat) ({ cls := "java/lang/Exception", name := "<init>", desc := "()V" } : Jvm.MethodName)) ∈ lw_all := lw_g (lw_at lw_m1 230 rfl) rfl
theorem q352 : (Jvm.Cond.sameMethod "java/lang/RuntimeException" "java/lang/Throwable" "fillInStackTrace" "()Ljava/lang/Throwable;") ∈ lw_all := lw_g (lw_at lw_m2 19 rfl) rfl
theorem q355 : (Jvm.Cond.superclass "java/lang/RuntimeException" "java/lang/Exception") ∈ lw_all := lw_g (lw_at lw_m2 22 rfl) rfl
theorem q387 : (Jvm.Cond.declares ({ cls := "java/lang/RuntimeException", name := "<init>", desc := "()V" } : Jvm.MethodName)) ∈ lw_tbl := lw_at lw_m2 54 rfl
theorem q388 : (Jvm.Cond.declares ({ cls := "java/lang/RuntimeException", name := "<init>", desc := "(Ljava/lang/String;)V" } : Jvm.MethodName)) ∈ lw_tbl := lw_at lw_m2 55 rfl
theorem q401 : (Jvm.Cond.castable "java/lang/RuntimeException" "java/lang/Throwable") ∈ lw_tbl := lw_at lw_m2 68 rfl
theorem q407 : (Jvm.Cond.instanceMethod ({ cls := "java/lang/RuntimeException", name := "<init>", desc := "(Ljava/lang/String;)V" } : Jvm.MethodName)) ∈ lw_all := lw_g (lw_at lw_m2 74 rfl) rfl
theorem q408 : (Jvm.Cond.code ({ cls := "java/lang/RuntimeException", name := "<init>", desc := "(Ljava/lang/String;)V" } : Jvm.MethodName) prog_29_method_2_code (2 : Nat) (Option.none : Option Jvm.ClassFile.FieldType)) ∈ lw_all := lw_g (lw_at lw_m2 75 rfl) rfl
theorem q409 : (Jvm.Cond.methodLink "java/lang/RuntimeException" (7 : Nat) ({ cls := "java/lang/Exception", name := "<init>", desc := "(Ljava/lang/String;)V" } : Jvm.MethodName)) ∈ lw_all := lw_g (lw_at lw_m2 76 rfl) rfl
theorem q536 : (Jvm.Cond.instanceMethod ({ cls := "java/lang/RuntimeException", name := "<init>", desc := "(Ljava/lang/String;Ljava/lang/Throwable;ZZ)V" } : Jvm.MethodName)) ∈ lw_all := lw_g (lw_at lw_m2 203 rfl) rfl
theorem q537 : (Jvm.Cond.code ({ cls := "java/lang/RuntimeException", name := "<init>", desc := "(Ljava/lang/String;Ljava/lang/Throwable;ZZ)V" } : Jvm.MethodName) prog_29_method_5_code (5 : Nat) (Option.none : Option Jvm.ClassFile.FieldType)) ∈ lw_all := lw_g (lw_at lw_m2 204 rfl) rfl
theorem q538 : (Jvm.Cond.methodLink "java/lang/RuntimeException" (16 : Nat) ({ cls := "java/lang/Exception", name := "<init>", desc := "(Ljava/lang/String;Ljava/lang/Throwable;ZZ)V" } : Jvm.MethodName)) ∈ lw_all := lw_g (lw_at lw_m2 205 rfl) rfl
/-! java/lang/NullPointerException -/
set_option maxRecDepth 100000
def RJ4 : String := "java/lang/NullPointerException"
def TJ4 : u_T := fun k => match k with
  | 0 => ("java/lang/Throwable", "backtrace", "Ljava/lang/Object;", false)
  | 1 => ("java/lang/Throwable", "detailMessage", "Ljava/lang/String;", false)
  | 2 => ("java/lang/Throwable", "cause", "Ljava/lang/Throwable;", false)
  | 3 => ("java/lang/Throwable", "stackTrace", "[Ljava/lang/StackTraceElement;", false)
  | 4 => ("java/lang/Throwable", "depth", "I", false)
  | 5 => ("java/lang/Throwable", "suppressedExceptions", "Ljava/util/List;", false)
  | 6 => ("java/lang/NullPointerException", "extendedMessageState", "I", false)
  | _ => ("java/lang/NullPointerException", "extendedMessage", "Ljava/lang/String;", false)
def tyJ4 : Nat → FieldType := fun k => match k with
  | 0 => .object "java/lang/Object"
  | 1 => .object "java/lang/String"
  | 2 => .object "java/lang/Throwable"
  | 3 => .array (.object "java/lang/StackTraceElement")
  | 4 => .int
  | 5 => .object "java/util/List"
  | 6 => .int
  | _ => .object "java/lang/String"
abbrev wsJ40 : List Cond := u_ws RJ4 TJ4 8
theorem nmJ4 : ∀ a, a < 8 → ∀ b, b < 8 → a ≠ b → (TJ4 a).2.1 ≠ (TJ4 b).2.1 := by decide +kernel
theorem tyJ4_ok : ∀ k, k < 8 → parseFieldDescriptor (TJ4 k).2.2.1 = some (tyJ4 k) := by decide +kernel
abbrev cJ4_init : ByteArray := prog_27_method_1_code
def yJ4_init : MethodName := ⟨RJ4, "<init>", "()V"⟩
theorem dJ4_init_0 : decode cJ4_init 0 = .ok (.aload_n 0, 1) := by decide +kernel
theorem dJ4_init_1 : decode cJ4_init 1 = .ok (.invokespecial 1, 3) := by decide +kernel
theorem dJ4_init_4 : decode cJ4_init 4 = .ok (.return_, 1) := by decide +kernel
theorem q104 : (Jvm.Cond.initialized "java/lang/NullPointerException") ∈ lw_all := lw_g (lw_at lw_m1 11 rfl) rfl
theorem q317 : (Jvm.Cond.instantiable "java/lang/NullPointerException" (8 : Nat)) ∈ lw_all := lw_g (lw_at lw_m1 224 rfl) rfl
theorem q318 : (Jvm.Cond.instanceMethod ({ cls := "java/lang/NullPointerException", name := "<init>", desc := "()V" } : Jvm.MethodName)) ∈ lw_all := lw_g (lw_at lw_m1 225 rfl) rfl
theorem q319 : (Jvm.Cond.code ({ cls := "java/lang/NullPointerException", name := "<init>", desc := "()V" } : Jvm.MethodName) prog_27_method_1_code (1 : Nat) (Option.none : Option Jvm.ClassFile.FieldType)) ∈ lw_all := lw_g (lw_at lw_m1 226 rfl) rfl
theorem q320 : (Jvm.Cond.methodLink "java/lang/NullPointerException" (1 : Nat) ({ cls := "java/lang/RuntimeException", name := "<init>", desc := "()V" } : Jvm.MethodName)) ∈ lw_all := lw_g (lw_at lw_m1 227 rfl) rfl
theorem q344 : (Jvm.Cond.selects "java/lang/NullPointerException" ({ cls := "java/lang/Throwable", name := "fillInStackTrace", desc := "()Ljava/lang/Throwable;" } : Jvm.MethodName) ({ cls := "java/lang/NullPointerException", name := "fillInStackTrace", desc := "()Ljava/lang/Throwable;" } : Jvm.MethodName)) ∈ lw_all := lw_g (lw_at lw_m2 11 rfl) rfl
theorem q345 : (Jvm.Cond.instanceMethod ({ cls := "java/lang/NullPointerException", name := "fillInStackTrace", desc := "()Ljava/lang/Throwable;" } : Jvm.MethodName)) ∈ lw_all := lw_g (lw_at lw_m2 12 rfl) rfl
theorem q346 : (Jvm.Cond.codeSync ({ cls := "java/lang/NullPointerException", name := "fillInStackTrace", desc := "()Ljava/lang/Throwable;" } : Jvm.MethodName) prog_27_method_3_code (1 : Nat) (Option.some (Jvm.ClassFile.FieldType.object "java/lang/Throwable"))) ∈ lw_all := lw_g (lw_at lw_m2 13 rfl) rfl
theorem q347 : (Jvm.Cond.methodLink "java/lang/NullPointerException" (16 : Nat) ({ cls := "java/lang/NullPointerException", name := "getExtendedNPEMessage", desc := "()Ljava/lang/String;" } : Jvm.MethodName)) ∈ lw_all := lw_g (lw_at lw_m2 14 rfl) rfl
theorem q348 : (Jvm.Cond.privateMethod ({ cls := "java/lang/NullPointerException", name := "getExtendedNPEMessage", desc := "()Ljava/lang/String;" } : Jvm.MethodName)) ∈ lw_tbl := lw_at lw_m2 15 rfl
theorem q349 : (Jvm.Cond.instanceMethod ({ cls := "java/lang/NullPointerException", name := "getExtendedNPEMessage", desc := "()Ljava/lang/String;" } : Jvm.MethodName)) ∈ lw_all := lw_g (lw_at lw_m2 16 rfl) rfl
theorem q350 : (Jvm.Cond.native ({ cls := "java/lang/NullPointerException", name := "getExtendedNPEMessage", desc := "()Ljava/lang/String;" } : Jvm.MethodName)) ∈ lw_all := lw_g (lw_at lw_m2 17 rfl) rfl
theorem q351 : (Jvm.Cond.methodLink "java/lang/NullPointerException" (24 : Nat) ({ cls := "java/lang/RuntimeException", name := "fillInStackTrace", desc := "()Ljava/lang/Throwable;" } : Jvm.MethodName)) ∈ lw_all := lw_g (lw_at lw_m2 18 rfl) rfl
theorem q354 : (Jvm.Cond.superclass "java/lang/NullPointerException" "java/lang/RuntimeException") ∈ lw_all := lw_g (lw_at lw_m2 21 rfl) rfl
theorem q363 : (Jvm.Cond.fieldLink "java/lang/NullPointerException" (10 : Nat) "java/lang/NullPointerException" "extendedMessageState" "I") ∈ lw_all := lw_g (lw_at lw_m2 30 rfl) rfl
theorem q364 : (Jvm.Cond.fieldLink "java/lang/NullPointerException" (20 : Nat) "java/lang/NullPointerException" "extendedMessage" "Ljava/lang/String;") ∈ lw_all := lw_g (lw_at lw_m2 31 rfl) rfl
theorem q370 : (Jvm.Cond.lays "java/lang/NullPointerException" "java/lang/NullPointerException" "extendedMessageState" "I") ∈ lw_all := lw_g (lw_at lw_m2 37 rfl) rfl
theorem q371 : (Jvm.Cond.soleField "java/lang/NullPointerException" "extendedMessageState") ∈ lw_all := lw_g (lw_at lw_m2 38 rfl) rfl
theorem q372 : (Jvm.Cond.lays "java/lang/NullPointerException" "java/lang/NullPointerException" "extendedMessage" "Ljava/lang/String;") ∈ lw_all := lw_g (lw_at lw_m2 39 rfl) rfl
theorem q373 : (Jvm.Cond.soleField "java/lang/NullPointerException" "extendedMessage") ∈ lw_all := lw_g (lw_at lw_m2 40 rfl) rfl
theorem q374 : (Jvm.Cond.lays "java/lang/NullPointerException" "java/lang/Throwable" "backtrace" "Ljava/lang/Object;") ∈ lw_all := lw_g (lw_at lw_m2 41 rfl) rfl
theorem q376 : (Jvm.Cond.lays "java/lang/NullPointerException" "java/lang/Throwable" "detailMessage" "Ljava/lang/String;") ∈ lw_all := lw_g (lw_at lw_m2 43 rfl) rfl
theorem q378 : (Jvm.Cond.lays "java/lang/NullPointerException" "java/lang/Throwable" "cause" "Ljava/lang/Throwable;") ∈ lw_all := lw_g (lw_at lw_m2 45 rfl) rfl
theorem q380 : (Jvm.Cond.lays "java/lang/NullPointerException" "java/lang/Throwable" "stackTrace" "[Ljava/lang/StackTraceElement;") ∈ lw_all := lw_g (lw_at lw_m2 47 rfl) rfl
theorem q382 : (Jvm.Cond.lays "java/lang/NullPointerException" "java/lang/Throwable" "depth" "I") ∈ lw_all := lw_g (lw_at lw_m2 49 rfl) rfl
theorem q384 : (Jvm.Cond.lays "java/lang/NullPointerException" "java/lang/Throwable" "suppressedExceptions" "Ljava/util/List;") ∈ lw_all := lw_g (lw_at lw_m2 51 rfl) rfl
theorem q386 : (Jvm.Cond.castable "java/lang/NullPointerException" "java/lang/NullPointerException") ∈ lw_tbl := lw_at lw_m2 53 rfl
theorem q393 : (Jvm.Cond.selects "java/lang/NullPointerException" ({ cls := "java/lang/Throwable", name := "fillInStackTrace", desc := "(I)Ljava/lang/Throwable;" } : Jvm.MethodName) ({ cls := "java/lang/Throwable", name := "fillInStackTrace", desc := "(I)Ljava/lang/Throwable;" } : Jvm.MethodName)) ∈ lw_all := lw_g (lw_at lw_m2 60 rfl) rfl
theorem in_J4 : ∀ w ∈ wsJ40, w ∈ lw_all := lw_in wsJ40 [374, 376, 378, 380, 382, 384, 370, 372] (by decide +kernel) (by decide +kernel)
/-! java/lang/ClassCastException -/
set_option maxRecDepth 100000
def RJ5 : String := "java/lang/ClassCastException"
def TJ5 : u_T := fun k => match k with
  | 0 => ("java/lang/Throwable", "backtrace", "Ljava/lang/Object;", false)
  | 1 => ("java/lang/Throwable", "detailMessage", "Ljava/lang/String;", false)
  | 2 => ("java/lang/Throwable", "cause", "Ljava/lang/Throwable;", false)
  | 3 => ("java/lang/Throwable", "stackTrace", "[Ljava/lang/StackTraceElement;", false)
  | 4 => ("java/lang/Throwable", "depth", "I", false)
  | _ => ("java/lang/Throwable", "suppressedExceptions", "Ljava/util/List;", false)
def tyJ5 : Nat → FieldType := fun k => match k with
  | 0 => .object "java/lang/Object"
  | 1 => .object "java/lang/String"
  | 2 => .object "java/lang/Throwable"
  | 3 => .array (.object "java/lang/StackTraceElement")
  | 4 => .int
  | _ => .object "java/util/List"
abbrev wsJ50 : List Cond := u_ws RJ5 TJ5 6
theorem nmJ5 : ∀ a, a < 6 → ∀ b, b < 6 → a ≠ b → (TJ5 a).2.1 ≠ (TJ5 b).2.1 := by decide +kernel
theorem tyJ5_ok : ∀ k, k < 6 → parseFieldDescriptor (TJ5 k).2.2.1 = some (tyJ5 k) := by decide +kernel
abbrev cJ5_init : ByteArray := prog_19_method_2_code
def yJ5_init : MethodName := ⟨RJ5, "<init>", "(Ljava/lang/String;)V"⟩
def dkwJ5_init_0 : List UInt8 := [42, 43, 183, 0, 7, 177]
abbrev dktJ5_init_0 : List UInt8 := dkwJ5_init_0 ++ []
theorem dksJ5_init_0 : cJ5_init.data.toList.drop 0 = dktJ5_init_0 := by decide +kernel
theorem dJ5_init_0 : decode cJ5_init 0 = .ok (.aload_n 0, 1) := dk_42 (dk_at dksJ5_init_0 0 rfl rfl)
theorem dJ5_init_1 : decode cJ5_init 1 = .ok (.aload_n 1, 1) := dk_43 (dk_at dksJ5_init_0 1 rfl rfl)
theorem dJ5_init_2 : decode cJ5_init 2 = .ok (.invokespecial 7, 3) := dk_183 0 7 (dk_at dksJ5_init_0 2 rfl rfl)
theorem dJ5_init_5 : decode cJ5_init 5 = .ok (.return_, 1) := dk_177 (dk_at dksJ5_init_0 5 rfl rfl)
theorem q105 : (Jvm.Cond.initialized "java/lang/ClassCastException") ∈ lw_all := lw_g (lw_at lw_m1 12 rfl) rfl
theorem q342 : (Jvm.Cond.selects "java/lang/ClassCastException" ({ cls := "java/lang/Throwable", name := "fillInStackTrace", desc := "()Ljava/lang/Throwable;" } : Jvm.MethodName) ({ cls := "java/lang/Throwable", name := "fillInStackTrace", desc := "()Ljava/lang/Throwable;" } : Jvm.MethodName)) ∈ lw_all := lw_g (lw_at lw_m2 9 rfl) rfl
theorem q403 : (Jvm.Cond.instantiable "java/lang/ClassCastException" (6 : Nat)) ∈ lw_all := lw_g (lw_at lw_m2 70 rfl) rfl
theorem q404 : (Jvm.Cond.instanceMethod ({ cls := "java/lang/ClassCastException", name := "<init>", desc := "(Ljava/lang/String;)V" } : Jvm.MethodName)) ∈ lw_all := lw_g (lw_at lw_m2 71 rfl) rfl
theorem q405 : (Jvm.Cond.code ({ cls := "java/lang/ClassCastException", name := "<init>", desc := "(Ljava/lang/String;)V" } : Jvm.MethodName) prog_19_method_2_code (2 : Nat) (Option.none : Option Jvm.ClassFile.FieldType)) ∈ lw_all := lw_g (lw_at lw_m2 72 rfl) rfl
theorem q406 : (Jvm.Cond.methodLink "java/lang/ClassCastException" (7 : Nat) ({ cls := "java/lang/RuntimeException", name := "<init>", desc := "(Ljava/lang/String;)V" } : Jvm.MethodName)) ∈ lw_all := lw_g (lw_at lw_m2 73 rfl) rfl
theorem q415 : (Jvm.Cond.lays "java/lang/ClassCastException" "java/lang/Throwable" "backtrace" "Ljava/lang/Object;") ∈ lw_all := lw_g (lw_at lw_m2 82 rfl) rfl
theorem q416 : (Jvm.Cond.lays "java/lang/ClassCastException" "java/lang/Throwable" "detailMessage" "Ljava/lang/String;") ∈ lw_all := lw_g (lw_at lw_m2 83 rfl) rfl
theorem q417 : (Jvm.Cond.lays "java/lang/ClassCastException" "java/lang/Throwable" "cause" "Ljava/lang/Throwable;") ∈ lw_all := lw_g (lw_at lw_m2 84 rfl) rfl
theorem q418 : (Jvm.Cond.lays "java/lang/ClassCastException" "java/lang/Throwable" "stackTrace" "[Ljava/lang/StackTraceElement;") ∈ lw_all := lw_g (lw_at lw_m2 85 rfl) rfl
theorem q419 : (Jvm.Cond.lays "java/lang/ClassCastException" "java/lang/Throwable" "depth" "I") ∈ lw_all := lw_g (lw_at lw_m2 86 rfl) rfl
theorem q420 : (Jvm.Cond.lays "java/lang/ClassCastException" "java/lang/Throwable" "suppressedExceptions" "Ljava/util/List;") ∈ lw_all := lw_g (lw_at lw_m2 87 rfl) rfl
theorem q421 : (Jvm.Cond.superclass "java/lang/ClassCastException" "java/lang/RuntimeException") ∈ lw_all := lw_g (lw_at lw_m2 88 rfl) rfl
theorem q422 : (Jvm.Cond.castable "java/lang/ClassCastException" "java/lang/ClassCastException") ∈ lw_tbl := lw_at lw_m2 89 rfl
theorem q423 : (Jvm.Cond.selects "java/lang/ClassCastException" ({ cls := "java/lang/Throwable", name := "fillInStackTrace", desc := "(I)Ljava/lang/Throwable;" } : Jvm.MethodName) ({ cls := "java/lang/Throwable", name := "fillInStackTrace", desc := "(I)Ljava/lang/Throwable;" } : Jvm.MethodName)) ∈ lw_all := lw_g (lw_at lw_m2 90 rfl) rfl
theorem in_J5 : ∀ w ∈ wsJ50, w ∈ lw_all := lw_in wsJ50 [415, 416, 417, 418, 419, 420] (by decide +kernel) (by decide +kernel)
/-! java/lang/String -/
set_option maxRecDepth 100000
def RJ6 : String := "java/lang/String"
def TJ6 : u_T := fun k => match k with
  | 0 => ("java/lang/String", "value", "[B", true)
  | _ => ("java/lang/String", "coder", "B", true)
def tyJ6 : Nat → FieldType := fun k => match k with
  | 0 => .array .byte
  | _ => .byte
abbrev wsJ60 : List Cond := u_ws RJ6 TJ6 2
theorem nmJ6 : ∀ a, a < 2 → ∀ b, b < 2 → a ≠ b → (TJ6 a).2.1 ≠ (TJ6 b).2.1 := by decide +kernel
theorem tyJ6_ok : ∀ k, k < 2 → parseFieldDescriptor (TJ6 k).2.2.1 = some (tyJ6 k) := by decide +kernel
theorem q106 : (Jvm.Cond.initialized "java/lang/String") ∈ lw_all := lw_g (lw_at lw_m1 13 rfl) rfl
theorem q424 : (Jvm.Cond.instantiable "java/lang/String" (4 : Nat)) ∈ lw_all := lw_g (lw_at lw_m2 91 rfl) rfl
theorem q426 : (Jvm.Cond.laysFinal "java/lang/String" "java/lang/String" "value" "[B") ∈ lw_all := lw_g (lw_at lw_m2 93 rfl) rfl
theorem q427 : (Jvm.Cond.soleField "java/lang/String" "value") ∈ lw_all := lw_g (lw_at lw_m2 94 rfl) rfl
theorem q428 : (Jvm.Cond.laysFinal "java/lang/String" "java/lang/String" "coder" "B") ∈ lw_all := lw_g (lw_at lw_m2 95 rfl) rfl
theorem q429 : (Jvm.Cond.soleField "java/lang/String" "coder") ∈ lw_all := lw_g (lw_at lw_m2 96 rfl) rfl
theorem in_J6 : ∀ w ∈ wsJ60, w ∈ lw_all := lw_in wsJ60 [426, 428] (by decide +kernel) (by decide +kernel)
/-! java/lang/IndexOutOfBoundsException -/
set_option maxRecDepth 100000
def RJ7 : String := "java/lang/IndexOutOfBoundsException"
abbrev cJ7_init : ByteArray := prog_24_method_2_code
def yJ7_init : MethodName := ⟨RJ7, "<init>", "(Ljava/lang/String;)V"⟩
def dkwJ7_init_0 : List UInt8 := [42, 43, 183, 0, 7, 177]
abbrev dktJ7_init_0 : List UInt8 := dkwJ7_init_0 ++ []
theorem dksJ7_init_0 : cJ7_init.data.toList.drop 0 = dktJ7_init_0 := by decide +kernel
theorem dJ7_init_0 : decode cJ7_init 0 = .ok (.aload_n 0, 1) := dk_42 (dk_at dksJ7_init_0 0 rfl rfl)
theorem dJ7_init_1 : decode cJ7_init 1 = .ok (.aload_n 1, 1) := dk_43 (dk_at dksJ7_init_0 1 rfl rfl)
theorem dJ7_init_2 : decode cJ7_init 2 = .ok (.invokespecial 7, 3) := dk_183 0 7 (dk_at dksJ7_init_0 2 rfl rfl)
theorem dJ7_init_5 : decode cJ7_init 5 = .ok (.return_, 1) := dk_177 (dk_at dksJ7_init_0 5 rfl rfl)
theorem q107 : (Jvm.Cond.initialized "java/lang/IndexOutOfBoundsException") ∈ lw_all := lw_g (lw_at lw_m1 14 rfl) rfl
theorem q435 : (Jvm.Cond.instanceMethod ({ cls := "java/lang/IndexOutOfBoundsException", name := "<init>", desc := "(Ljava/lang/String;)V" } : Jvm.MethodName)) ∈ lw_all := lw_g (lw_at lw_m2 102 rfl) rfl
theorem q436 : (Jvm.Cond.code ({ cls := "java/lang/IndexOutOfBoundsException", name := "<init>", desc := "(Ljava/lang/String;)V" } : Jvm.MethodName) prog_24_method_2_code (2 : Nat) (Option.none : Option Jvm.ClassFile.FieldType)) ∈ lw_all := lw_g (lw_at lw_m2 103 rfl) rfl
theorem q437 : (Jvm.Cond.methodLink "java/lang/IndexOutOfBoundsException" (7 : Nat) ({ cls := "java/lang/RuntimeException", name := "<init>", desc := "(Ljava/lang/String;)V" } : Jvm.MethodName)) ∈ lw_all := lw_g (lw_at lw_m2 104 rfl) rfl
theorem q446 : (Jvm.Cond.declares ({ cls := "java/lang/IndexOutOfBoundsException", name := "<init>", desc := "()V" } : Jvm.MethodName)) ∈ lw_tbl := lw_at lw_m2 113 rfl
theorem q447 : (Jvm.Cond.declares ({ cls := "java/lang/IndexOutOfBoundsException", name := "<init>", desc := "(Ljava/lang/String;)V" } : Jvm.MethodName)) ∈ lw_tbl := lw_at lw_m2 114 rfl
/-! java/lang/ArrayIndexOutOfBoundsException -/
set_option maxRecDepth 100000
def RJ8 : String := "java/lang/ArrayIndexOutOfBoundsException"
def TJ8 : u_T := fun k => match k with
  | 0 => ("java/lang/Throwable", "backtrace", "Ljava/lang/Object;", false)
  | 1 => ("java/lang/Throwable", "detailMessage", "Ljava/lang/String;", false)
  | 2 => ("java/lang/Throwable", "cause", "Ljava/lang/Throwable;", false)
  | 3 => ("java/lang/Throwable", "stackTrace", "[Ljava/lang/StackTraceElement;", false)
  | 4 => ("java/lang/Throwable", "depth", "I", false)
  | _ => ("java/lang/Throwable", "suppressedExceptions", "Ljava/util/List;", false)
def tyJ8 : Nat → FieldType := fun k => match k with
  | 0 => .object "java/lang/Object"
  | 1 => .object "java/lang/String"
  | 2 => .object "java/lang/Throwable"
  | 3 => .array (.object "java/lang/StackTraceElement")
  | 4 => .int
  | _ => .object "java/util/List"
abbrev wsJ80 : List Cond := u_ws RJ8 TJ8 6
theorem nmJ8 : ∀ a, a < 6 → ∀ b, b < 6 → a ≠ b → (TJ8 a).2.1 ≠ (TJ8 b).2.1 := by decide +kernel
theorem tyJ8_ok : ∀ k, k < 6 → parseFieldDescriptor (TJ8 k).2.2.1 = some (tyJ8 k) := by decide +kernel
abbrev cJ8_init : ByteArray := prog_17_method_2_code
def yJ8_init : MethodName := ⟨RJ8, "<init>", "(Ljava/lang/String;)V"⟩
def dkwJ8_init_0 : List UInt8 := [42, 43, 183, 0, 7, 177]
abbrev dktJ8_init_0 : List UInt8 := dkwJ8_init_0 ++ []
theorem dksJ8_init_0 : cJ8_init.data.toList.drop 0 = dktJ8_init_0 := by decide +kernel
theorem dJ8_init_0 : decode cJ8_init 0 = .ok (.aload_n 0, 1) := dk_42 (dk_at dksJ8_init_0 0 rfl rfl)
theorem dJ8_init_1 : decode cJ8_init 1 = .ok (.aload_n 1, 1) := dk_43 (dk_at dksJ8_init_0 1 rfl rfl)
theorem dJ8_init_2 : decode cJ8_init 2 = .ok (.invokespecial 7, 3) := dk_183 0 7 (dk_at dksJ8_init_0 2 rfl rfl)
theorem dJ8_init_5 : decode cJ8_init 5 = .ok (.return_, 1) := dk_177 (dk_at dksJ8_init_0 5 rfl rfl)
theorem q108 : (Jvm.Cond.initialized "java/lang/ArrayIndexOutOfBoundsException") ∈ lw_all := lw_g (lw_at lw_m1 15 rfl) rfl
theorem q340 : (Jvm.Cond.selects "java/lang/ArrayIndexOutOfBoundsException" ({ cls := "java/lang/Throwable", name := "fillInStackTrace", desc := "()Ljava/lang/Throwable;" } : Jvm.MethodName) ({ cls := "java/lang/Throwable", name := "fillInStackTrace", desc := "()Ljava/lang/Throwable;" } : Jvm.MethodName)) ∈ lw_all := lw_g (lw_at lw_m2 7 rfl) rfl
theorem q431 : (Jvm.Cond.instantiable "java/lang/ArrayIndexOutOfBoundsException" (6 : Nat)) ∈ lw_all := lw_g (lw_at lw_m2 98 rfl) rfl
theorem q432 : (Jvm.Cond.instanceMethod ({ cls := "java/lang/ArrayIndexOutOfBoundsException", name := "<init>", desc := "(Ljava/lang/String;)V" } : Jvm.MethodName)) ∈ lw_all := lw_g (lw_at lw_m2 99 rfl) rfl
theorem q433 : (Jvm.Cond.code ({ cls := "java/lang/ArrayIndexOutOfBoundsException", name := "<init>", desc := "(Ljava/lang/String;)V" } : Jvm.MethodName) prog_17_method_2_code (2 : Nat) (Option.none : Option Jvm.ClassFile.FieldType)) ∈ lw_all := lw_g (lw_at lw_m2 100 rfl) rfl
theorem q434 : (Jvm.Cond.methodLink "java/lang/ArrayIndexOutOfBoundsException" (7 : Nat) ({ cls := "java/lang/IndexOutOfBoundsException", name := "<init>", desc := "(Ljava/lang/String;)V" } : Jvm.MethodName)) ∈ lw_all := lw_g (lw_at lw_m2 101 rfl) rfl
theorem q438 : (Jvm.Cond.lays "java/lang/ArrayIndexOutOfBoundsException" "java/lang/Throwable" "backtrace" "Ljava/lang/Object;") ∈ lw_all := lw_g (lw_at lw_m2 105 rfl) rfl
theorem q439 : (Jvm.Cond.lays "java/lang/ArrayIndexOutOfBoundsException" "java/lang/Throwable" "detailMessage" "Ljava/lang/String;") ∈ lw_all := lw_g (lw_at lw_m2 106 rfl) rfl
theorem q440 : (Jvm.Cond.lays "java/lang/ArrayIndexOutOfBoundsException" "java/lang/Throwable" "cause" "Ljava/lang/Throwable;") ∈ lw_all := lw_g (lw_at lw_m2 107 rfl) rfl
theorem q441 : (Jvm.Cond.lays "java/lang/ArrayIndexOutOfBoundsException" "java/lang/Throwable" "stackTrace" "[Ljava/lang/StackTraceElement;") ∈ lw_all := lw_g (lw_at lw_m2 108 rfl) rfl
theorem q442 : (Jvm.Cond.lays "java/lang/ArrayIndexOutOfBoundsException" "java/lang/Throwable" "depth" "I") ∈ lw_all := lw_g (lw_at lw_m2 109 rfl) rfl
theorem q443 : (Jvm.Cond.lays "java/lang/ArrayIndexOutOfBoundsException" "java/lang/Throwable" "suppressedExceptions" "Ljava/util/List;") ∈ lw_all := lw_g (lw_at lw_m2 110 rfl) rfl
theorem q444 : (Jvm.Cond.superclass "java/lang/ArrayIndexOutOfBoundsException" "java/lang/IndexOutOfBoundsException") ∈ lw_all := lw_g (lw_at lw_m2 111 rfl) rfl
theorem q445 : (Jvm.Cond.castable "java/lang/ArrayIndexOutOfBoundsException" "java/lang/ArrayIndexOutOfBoundsException") ∈ lw_tbl := lw_at lw_m2 112 rfl
theorem q448 : (Jvm.Cond.selects "java/lang/ArrayIndexOutOfBoundsException" ({ cls := "java/lang/Throwable", name := "fillInStackTrace", desc := "(I)Ljava/lang/Throwable;" } : Jvm.MethodName) ({ cls := "java/lang/Throwable", name := "fillInStackTrace", desc := "(I)Ljava/lang/Throwable;" } : Jvm.MethodName)) ∈ lw_all := lw_g (lw_at lw_m2 115 rfl) rfl
theorem in_J8 : ∀ w ∈ wsJ80, w ∈ lw_all := lw_in wsJ80 [438, 439, 440, 441, 442, 443] (by decide +kernel) (by decide +kernel)
/-! java/lang/NegativeArraySizeException -/
set_option maxRecDepth 100000
def RJ9 : String := "java/lang/NegativeArraySizeException"
def TJ9 : u_T := fun k => match k with
  | 0 => ("java/lang/Throwable", "backtrace", "Ljava/lang/Object;", false)
  | 1 => ("java/lang/Throwable", "detailMessage", "Ljava/lang/String;", false)
  | 2 => ("java/lang/Throwable", "cause", "Ljava/lang/Throwable;", false)
  | 3 => ("java/lang/Throwable", "stackTrace", "[Ljava/lang/StackTraceElement;", false)
  | 4 => ("java/lang/Throwable", "depth", "I", false)
  | _ => ("java/lang/Throwable", "suppressedExceptions", "Ljava/util/List;", false)
def tyJ9 : Nat → FieldType := fun k => match k with
  | 0 => .object "java/lang/Object"
  | 1 => .object "java/lang/String"
  | 2 => .object "java/lang/Throwable"
  | 3 => .array (.object "java/lang/StackTraceElement")
  | 4 => .int
  | _ => .object "java/util/List"
abbrev wsJ90 : List Cond := u_ws RJ9 TJ9 6
theorem nmJ9 : ∀ a, a < 6 → ∀ b, b < 6 → a ≠ b → (TJ9 a).2.1 ≠ (TJ9 b).2.1 := by decide +kernel
theorem tyJ9_ok : ∀ k, k < 6 → parseFieldDescriptor (TJ9 k).2.2.1 = some (tyJ9 k) := by decide +kernel
abbrev cJ9_init : ByteArray := prog_26_method_2_code
def yJ9_init : MethodName := ⟨RJ9, "<init>", "(Ljava/lang/String;)V"⟩
def dkwJ9_init_0 : List UInt8 := [42, 43, 183, 0, 7, 177]
abbrev dktJ9_init_0 : List UInt8 := dkwJ9_init_0 ++ []
theorem dksJ9_init_0 : cJ9_init.data.toList.drop 0 = dktJ9_init_0 := by decide +kernel
theorem dJ9_init_0 : decode cJ9_init 0 = .ok (.aload_n 0, 1) := dk_42 (dk_at dksJ9_init_0 0 rfl rfl)
theorem dJ9_init_1 : decode cJ9_init 1 = .ok (.aload_n 1, 1) := dk_43 (dk_at dksJ9_init_0 1 rfl rfl)
theorem dJ9_init_2 : decode cJ9_init 2 = .ok (.invokespecial 7, 3) := dk_183 0 7 (dk_at dksJ9_init_0 2 rfl rfl)
theorem dJ9_init_5 : decode cJ9_init 5 = .ok (.return_, 1) := dk_177 (dk_at dksJ9_init_0 5 rfl rfl)
theorem q109 : (Jvm.Cond.initialized "java/lang/NegativeArraySizeException") ∈ lw_all := lw_g (lw_at lw_m1 16 rfl) rfl
theorem q343 : (Jvm.Cond.selects "java/lang/NegativeArraySizeException" ({ cls := "java/lang/Throwable", name := "fillInStackTrace", desc := "()Ljava/lang/Throwable;" } : Jvm.MethodName) ({ cls := "java/lang/Throwable", name := "fillInStackTrace", desc := "()Ljava/lang/Throwable;" } : Jvm.MethodName)) ∈ lw_all := lw_g (lw_at lw_m2 10 rfl) rfl
theorem q450 : (Jvm.Cond.instantiable "java/lang/NegativeArraySizeException" (6 : Nat)) ∈ lw_all := lw_g (lw_at lw_m2 117 rfl) rfl
theorem q451 : (Jvm.Cond.instanceMethod ({ cls := "java/lang/NegativeArraySizeException", name := "<init>", desc := "(Ljava/lang/String;)V" } : Jvm.MethodName)) ∈ lw_all := lw_g (lw_at lw_m2 118 rfl) rfl
theorem q452 : (Jvm.Cond.code ({ cls := "java/lang/NegativeArraySizeException", name := "<init>", desc := "(Ljava/lang/String;)V" } : Jvm.MethodName) prog_26_method_2_code (2 : Nat) (Option.none : Option Jvm.ClassFile.FieldType)) ∈ lw_all := lw_g (lw_at lw_m2 119 rfl) rfl
theorem q453 : (Jvm.Cond.methodLink "java/lang/NegativeArraySizeException" (7 : Nat) ({ cls := "java/lang/RuntimeException", name := "<init>", desc := "(Ljava/lang/String;)V" } : Jvm.MethodName)) ∈ lw_all := lw_g (lw_at lw_m2 120 rfl) rfl
theorem q454 : (Jvm.Cond.lays "java/lang/NegativeArraySizeException" "java/lang/Throwable" "backtrace" "Ljava/lang/Object;") ∈ lw_all := lw_g (lw_at lw_m2 121 rfl) rfl
theorem q455 : (Jvm.Cond.lays "java/lang/NegativeArraySizeException" "java/lang/Throwable" "detailMessage" "Ljava/lang/String;") ∈ lw_all := lw_g (lw_at lw_m2 122 rfl) rfl
theorem q456 : (Jvm.Cond.lays "java/lang/NegativeArraySizeException" "java/lang/Throwable" "cause" "Ljava/lang/Throwable;") ∈ lw_all := lw_g (lw_at lw_m2 123 rfl) rfl
theorem q457 : (Jvm.Cond.lays "java/lang/NegativeArraySizeException" "java/lang/Throwable" "stackTrace" "[Ljava/lang/StackTraceElement;") ∈ lw_all := lw_g (lw_at lw_m2 124 rfl) rfl
theorem q458 : (Jvm.Cond.lays "java/lang/NegativeArraySizeException" "java/lang/Throwable" "depth" "I") ∈ lw_all := lw_g (lw_at lw_m2 125 rfl) rfl
theorem q459 : (Jvm.Cond.lays "java/lang/NegativeArraySizeException" "java/lang/Throwable" "suppressedExceptions" "Ljava/util/List;") ∈ lw_all := lw_g (lw_at lw_m2 126 rfl) rfl
theorem q460 : (Jvm.Cond.superclass "java/lang/NegativeArraySizeException" "java/lang/RuntimeException") ∈ lw_all := lw_g (lw_at lw_m2 127 rfl) rfl
theorem q461 : (Jvm.Cond.castable "java/lang/NegativeArraySizeException" "java/lang/NegativeArraySizeException") ∈ lw_tbl := lw_at lw_m2 128 rfl
theorem q462 : (Jvm.Cond.selects "java/lang/NegativeArraySizeException" ({ cls := "java/lang/Throwable", name := "fillInStackTrace", desc := "(I)Ljava/lang/Throwable;" } : Jvm.MethodName) ({ cls := "java/lang/Throwable", name := "fillInStackTrace", desc := "(I)Ljava/lang/Throwable;" } : Jvm.MethodName)) ∈ lw_all := lw_g (lw_at lw_m2 129 rfl) rfl
theorem in_J9 : ∀ w ∈ wsJ90, w ∈ lw_all := lw_in wsJ90 [454, 455, 456, 457, 458, 459] (by decide +kernel) (by decide +kernel)
theorem q93 : (Jvm.Cond.initialized "ThrowReportsLaw") ∈ lw_all := lw_g (lw_at lw_m1 0 rfl) rfl
set_option maxRecDepth 100000
theorem q122 : (Jvm.Cond.classLink "ThrowReportsLaw" (7 : Nat) "ThrowReports") ∈ lw_all := lw_g (lw_at lw_m1 29 rfl) rfl
theorem q124 : (Jvm.Cond.methodLink "ThrowReportsLaw" (9 : Nat) ({ cls := "ThrowReports", name := "<init>", desc := "()V" } : Jvm.MethodName)) ∈ lw_all := lw_g (lw_at lw_m1 31 rfl) rfl
theorem q201 : (Jvm.Cond.methodLink "ThrowReportsLaw" (13 : Nat) ({ cls := "ThrowReports", name := "act", desc := "(IIIII)I" } : Jvm.MethodName)) ∈ lw_all := lw_g (lw_at lw_m1 108 rfl) rfl
theorem q286 : (Jvm.Cond.methodLink "ThrowReportsLaw" (18 : Nat) ({ cls := "ThrowReports", name := "both", desc := "(II)I" } : Jvm.MethodName)) ∈ lw_all := lw_g (lw_at lw_m1 193 rfl) rfl
theorem q296 : (Jvm.Cond.methodLink "ThrowReportsLaw" (23 : Nat) ({ cls := "ThrowReports", name := "choice", desc := "(IIII)I" } : Jvm.MethodName)) ∈ lw_all := lw_g (lw_at lw_m1 203 rfl) rfl
theorem q302 : (Jvm.Cond.methodLink "ThrowReportsLaw" (28 : Nat) ({ cls := "ThrowReports", name := "guard", desc := "(IIII)I" } : Jvm.MethodName)) ∈ lw_all := lw_g (lw_at lw_m1 209 rfl) rfl
theorem q308 : (Jvm.Cond.methodLink "ThrowReportsLaw" (32 : Nat) ({ cls := "ThrowReports", name := "forget", desc := "()I" } : Jvm.MethodName)) ∈ lw_all := lw_g (lw_at lw_m1 215 rfl) rfl
theorem q312 : (Jvm.Cond.methodLink "ThrowReportsLaw" (37 : Nat) ({ cls := "ThrowReports", name := "run", desc := "(I)I" } : Jvm.MethodName)) ∈ lw_all := lw_g (lw_at lw_m1 219 rfl) rfl
theorem q732 : (Jvm.Cond.methodLink "ThrowReportsLaw" (42 : Nat) ({ cls := "ThrowReports", name := "ran", desc := "(I)I" } : Jvm.MethodName)) ∈ lw_all := lw_g (lw_at lw_m3 159 rfl) rfl
theorem q736 : (Jvm.Cond.methodLink "ThrowReportsLaw" (46 : Nat) ({ cls := "ThrowReports", name := "clear", desc := "()I" } : Jvm.MethodName)) ∈ lw_all := lw_g (lw_at lw_m3 163 rfl) rfl
theorem q740 : (Jvm.Cond.methodLink "ThrowReportsLaw" (50 : Nat) ({ cls := "ThrowReports", name := "count", desc := "(I)I" } : Jvm.MethodName)) ∈ lw_all := lw_g (lw_at lw_m3 167 rfl) rfl
theorem q744 : (Jvm.Cond.methodLink "ThrowReportsLaw" (54 : Nat) ({ cls := "ThrowReports", name := "slot", desc := "(II)I" } : Jvm.MethodName)) ∈ lw_all := lw_g (lw_at lw_m3 171 rfl) rfl
theorem q752 : (Jvm.Cond.methodLink "ThrowReportsLaw" (58 : Nat) ({ cls := "ThrowReports", name := "item", desc := "(II)J" } : Jvm.MethodName)) ∈ lw_all := lw_g (lw_at lw_m3 179 rfl) rfl
theorem q756 : (Jvm.Cond.methodLink "ThrowReportsLaw" (63 : Nat) ({ cls := "ThrowReports", name := "register", desc := "(I)J" } : Jvm.MethodName)) ∈ lw_all := lw_g (lw_at lw_m3 183 rfl) rfl
theorem q760 : (Jvm.Cond.methodLink "ThrowReportsLaw" (68 : Nat) ({ cls := "ThrowReports", name := "alike", desc := "(II)I" } : Jvm.MethodName)) ∈ lw_all := lw_g (lw_at lw_m3 187 rfl) rfl
theorem q771 : (Jvm.Cond.methodLink "ThrowReportsLaw" (72 : Nat) ({ cls := "ThrowReports", name := "given", desc := "(II)I" } : Jvm.MethodName)) ∈ lw_all := lw_g (lw_at lw_m3 198 rfl) rfl
theorem q775 : (Jvm.Cond.methodLink "ThrowReportsLaw" (76 : Nat) ({ cls := "ThrowReports", name := "report", desc := "(I)I" } : Jvm.MethodName)) ∈ lw_all := lw_g (lw_at lw_m3 202 rfl) rfl
theorem q916 : (Jvm.Cond.methodLink "ThrowReportsLaw" (80 : Nat) ({ cls := "ThrowReports", name := "reached", desc := "(I)I" } : Jvm.MethodName)) ∈ lw_all := lw_g (lw_at lw_m4 103 rfl) rfl
theorem q920 : (Jvm.Cond.methodLink "ThrowReportsLaw" (84 : Nat) ({ cls := "ThrowReports", name := "may", desc := "(I)I" } : Jvm.MethodName)) ∈ lw_all := lw_g (lw_at lw_m4 107 rfl) rfl
theorem q924 : (Jvm.Cond.methodLink "ThrowReportsLaw" (88 : Nat) ({ cls := "ThrowReports", name := "ahead", desc := "(II)I" } : Jvm.MethodName)) ∈ lw_all := lw_g (lw_at lw_m4 111 rfl) rfl
theorem q928 : (Jvm.Cond.methodLink "ThrowReportsLaw" (92 : Nat) ({ cls := "ThrowReports", name := "guarded", desc := "(II)I" } : Jvm.MethodName)) ∈ lw_all := lw_g (lw_at lw_m4 115 rfl) rfl
theorem q932 : (Jvm.Cond.classLink "ThrowReportsLaw" (10 : Nat) "ThrowReportsModel") ∈ lw_all := lw_g (lw_at lw_m4 119 rfl) rfl
theorem q934 : (Jvm.Cond.methodLink "ThrowReportsLaw" (12 : Nat) ({ cls := "ThrowReportsModel", name := "<init>", desc := "()V" } : Jvm.MethodName)) ∈ lw_all := lw_g (lw_at lw_m4 121 rfl) rfl
theorem q1060 : (Jvm.Cond.methodLink "ThrowReportsLaw" (17 : Nat) ({ cls := "ThrowReportsModel", name := "act", desc := "(IIIII)I" } : Jvm.MethodName)) ∈ lw_all := lw_g (lw_at lw_m5 7 rfl) rfl
theorem q1080 : (Jvm.Cond.methodLink "ThrowReportsLaw" (22 : Nat) ({ cls := "ThrowReportsModel", name := "both", desc := "(II)I" } : Jvm.MethodName)) ∈ lw_all := lw_g (lw_at lw_m5 27 rfl) rfl
theorem q1088 : (Jvm.Cond.methodLink "ThrowReportsLaw" (27 : Nat) ({ cls := "ThrowReportsModel", name := "choice", desc := "(IIII)I" } : Jvm.MethodName)) ∈ lw_all := lw_g (lw_at lw_m5 35 rfl) rfl
theorem q1092 : (Jvm.Cond.methodLink "ThrowReportsLaw" (31 : Nat) ({ cls := "ThrowReportsModel", name := "guard", desc := "(IIII)I" } : Jvm.MethodName)) ∈ lw_all := lw_g (lw_at lw_m5 39 rfl) rfl
theorem q1096 : (Jvm.Cond.methodLink "ThrowReportsLaw" (36 : Nat) ({ cls := "ThrowReportsModel", name := "forget", desc := "()I" } : Jvm.MethodName)) ∈ lw_all := lw_g (lw_at lw_m5 43 rfl) rfl
theorem q1100 : (Jvm.Cond.methodLink "ThrowReportsLaw" (41 : Nat) ({ cls := "ThrowReportsModel", name := "run", desc := "(I)I" } : Jvm.MethodName)) ∈ lw_all := lw_g (lw_at lw_m5 47 rfl) rfl
theorem q1223 : (Jvm.Cond.methodLink "ThrowReportsLaw" (45 : Nat) ({ cls := "ThrowReportsModel", name := "ran", desc := "(I)I" } : Jvm.MethodName)) ∈ lw_all := lw_g (lw_at lw_m5 170 rfl) rfl
theorem q1227 : (Jvm.Cond.methodLink "ThrowReportsLaw" (49 : Nat) ({ cls := "ThrowReportsModel", name := "clear", desc := "()I" } : Jvm.MethodName)) ∈ lw_all := lw_g (lw_at lw_m5 174 rfl) rfl
theorem q1231 : (Jvm.Cond.methodLink "ThrowReportsLaw" (53 : Nat) ({ cls := "ThrowReportsModel", name := "count", desc := "(I)I" } : Jvm.MethodName)) ∈ lw_all := lw_g (lw_at lw_m5 178 rfl) rfl
theorem q1235 : (Jvm.Cond.methodLink "ThrowReportsLaw" (57 : Nat) ({ cls := "ThrowReportsModel", name := "slot", desc := "(II)I" } : Jvm.MethodName)) ∈ lw_all := lw_g (lw_at lw_m5 182 rfl) rfl
theorem q1239 : (Jvm.Cond.methodLink "ThrowReportsLaw" (62 : Nat) ({ cls := "ThrowReportsModel", name := "item", desc := "(II)J" } : Jvm.MethodName)) ∈ lw_all := lw_g (lw_at lw_m5 186 rfl) rfl
theorem q1243 : (Jvm.Cond.methodLink "ThrowReportsLaw" (67 : Nat) ({ cls := "ThrowReportsModel", name := "register", desc := "(I)J" } : Jvm.MethodName)) ∈ lw_all := lw_g (lw_at lw_m5 190 rfl) rfl
theorem q1247 : (Jvm.Cond.methodLink "ThrowReportsLaw" (71 : Nat) ({ cls := "ThrowReportsModel", name := "alike", desc := "(II)I" } : Jvm.MethodName)) ∈ lw_all := lw_g (lw_at lw_m5 194 rfl) rfl
theorem q1259 : (Jvm.Cond.methodLink "ThrowReportsLaw" (75 : Nat) ({ cls := "ThrowReportsModel", name := "given", desc := "(II)I" } : Jvm.MethodName)) ∈ lw_all := lw_g (lw_at lw_m5 206 rfl) rfl
theorem q1267 : (Jvm.Cond.methodLink "ThrowReportsLaw" (79 : Nat) ({ cls := "ThrowReportsModel", name := "report", desc := "(I)I" } : Jvm.MethodName)) ∈ lw_all := lw_g (lw_at lw_m5 214 rfl) rfl
theorem q1359 : (Jvm.Cond.methodLink "ThrowReportsLaw" (83 : Nat) ({ cls := "ThrowReportsModel", name := "reached", desc := "(I)I" } : Jvm.MethodName)) ∈ lw_all := lw_g (lw_at lw_m6 66 rfl) rfl
theorem q1367 : (Jvm.Cond.methodLink "ThrowReportsLaw" (87 : Nat) ({ cls := "ThrowReportsModel", name := "may", desc := "(I)I" } : Jvm.MethodName)) ∈ lw_all := lw_g (lw_at lw_m6 74 rfl) rfl
theorem q1371 : (Jvm.Cond.methodLink "ThrowReportsLaw" (91 : Nat) ({ cls := "ThrowReportsModel", name := "ahead", desc := "(II)I" } : Jvm.MethodName)) ∈ lw_all := lw_g (lw_at lw_m6 78 rfl) rfl
theorem q1375 : (Jvm.Cond.methodLink "ThrowReportsLaw" (95 : Nat) ({ cls := "ThrowReportsModel", name := "guarded", desc := "(II)I" } : Jvm.MethodName)) ∈ lw_all := lw_g (lw_at lw_m6 82 rfl) rfl
theorem q100 : (Jvm.Cond.initialized "ThrowReports$Sort") ∈ lw_all := lw_g (lw_at lw_m1 7 rfl) rfl
set_option maxRecDepth 100000
theorem q219 : (Jvm.Cond.laysStatic "ThrowReports$Sort" "ACT" "LThrowReports$Sort;") ∈ lw_tbl := lw_at lw_m1 126 rfl
theorem q295 : (Jvm.Cond.laysStatic "ThrowReports$Sort" "BOTH" "LThrowReports$Sort;") ∈ lw_tbl := lw_at lw_m1 202 rfl
theorem q301 : (Jvm.Cond.laysStatic "ThrowReports$Sort" "CHOICE" "LThrowReports$Sort;") ∈ lw_tbl := lw_at lw_m1 208 rfl
theorem q307 : (Jvm.Cond.laysStatic "ThrowReports$Sort" "GUARD" "LThrowReports$Sort;") ∈ lw_tbl := lw_at lw_m1 214 rfl
theorem q498 : (Jvm.Cond.sameMethod "ThrowReports$Sort" "java/lang/Enum" "ordinal" "()I") ∈ lw_all := lw_g (lw_at lw_m2 165 rfl) rfl
theorem q500 : (Jvm.Cond.selects "ThrowReports$Sort" ({ cls := "ThrowReports$Sort", name := "ordinal", desc := "()I" } : Jvm.MethodName) ({ cls := "java/lang/Enum", name := "ordinal", desc := "()I" } : Jvm.MethodName)) ∈ lw_all := lw_g (lw_at lw_m2 167 rfl) rfl
theorem q622 : (Jvm.Cond.sameMethod "[I" "java/lang/Object" "clone" "()Ljava/lang/Object;") ∈ lw_all := lw_g (lw_at lw_m3 49 rfl) rfl
set_option maxRecDepth 100000
theorem q625 : (Jvm.Cond.selects "[I" ({ cls := "[I", name := "clone", desc := "()Ljava/lang/Object;" } : Jvm.MethodName) ({ cls := "java/lang/Object", name := "clone", desc := "()Ljava/lang/Object;" } : Jvm.MethodName)) ∈ lw_all := lw_g (lw_at lw_m3 52 rfl) rfl
theorem q626 : (Jvm.Cond.castable "[I" "java/lang/Cloneable") ∈ lw_tbl := lw_at lw_m3 53 rfl
theorem q116 : (Jvm.Cond.initialized "java/lang/Number") ∈ lw_all := lw_g (lw_at lw_m1 23 rfl) rfl
set_option maxRecDepth 100000
theorem q118 : (Jvm.Cond.initialized "java/lang/System") ∈ lw_all := lw_g (lw_at lw_m1 25 rfl) rfl
set_option maxRecDepth 100000
theorem q661 : (Jvm.Cond.static ({ cls := "java/lang/System", name := "arraycopy", desc := "(Ljava/lang/Object;ILjava/lang/Object;II)V" } : Jvm.MethodName)) ∈ lw_all := lw_g (lw_at lw_m3 88 rfl) rfl
theorem q662 : (Jvm.Cond.native ({ cls := "java/lang/System", name := "arraycopy", desc := "(Ljava/lang/Object;ILjava/lang/Object;II)V" } : Jvm.MethodName)) ∈ lw_all := lw_g (lw_at lw_m3 89 rfl) rfl
theorem q131 : (Jvm.Cond.arrayOver (Jvm.ClassFile.FieldType.object "ThrowReports$Holder")) ∈ lw_tbl := lw_at lw_m1 38 rfl
set_option maxRecDepth 100000
theorem q133 : (Jvm.Cond.arrayOver (Jvm.ClassFile.FieldType.object "ThrowReports$Node")) ∈ lw_tbl := lw_at lw_m1 40 rfl
theorem q146 : (Jvm.Cond.arrayClass Jvm.ClassFile.FieldType.long) ∈ lw_all := lw_g (lw_at lw_m1 53 rfl) rfl
theorem q147 : (Jvm.Cond.arrayClass Jvm.ClassFile.FieldType.int) ∈ lw_all := lw_g (lw_at lw_m1 54 rfl) rfl
theorem q425 : (Jvm.Cond.arrayClass Jvm.ClassFile.FieldType.byte) ∈ lw_all := lw_g (lw_at lw_m2 92 rfl) rfl
theorem q547 : (Jvm.Cond.arrayOver (Jvm.ClassFile.FieldType.object "ThrowReports$Figure")) ∈ lw_tbl := lw_at lw_m2 214 rfl
theorem q549 : (Jvm.Cond.arrayOver (Jvm.ClassFile.FieldType.object "ThrowReports$Round")) ∈ lw_tbl := lw_at lw_m2 216 rfl
theorem q559 : (Jvm.Cond.arrayOver (Jvm.ClassFile.FieldType.array Jvm.ClassFile.FieldType.int)) ∈ lw_tbl := lw_at lw_m2 226 rfl
theorem q570 : (Jvm.Cond.arrayClass Jvm.ClassFile.FieldType.double) ∈ lw_all := lw_g (lw_at lw_m2 237 rfl) rfl
theorem q803 : (Jvm.Cond.arrayOver (Jvm.ClassFile.FieldType.object "ThrowReports$State")) ∈ lw_tbl := lw_at lw_m3 230 rfl
theorem q1059 : (Jvm.Cond.arrayClass Jvm.ClassFile.FieldType.boolean) ∈ lw_all := lw_g (lw_at lw_m5 6 rfl) rfl
/-! the law's own entry -/
set_option maxRecDepth 100000
abbrev cL_law : ByteArray := code
def dkwL_law_28 : List UInt8 := [132, 3, 6, 167, 253, 70, 4, 172]
abbrev dktL_law_28 : List UInt8 := dkwL_law_28 ++ []
def dkwL_law_27 : List UInt8 := [46, 182, 0, 92, 44, 42, 29, 4, 96, 46, 42, 29, 5, 96, 46, 182, 0, 95, 159, 0, 5, 3, 172]
abbrev dktL_law_27 : List UInt8 := dkwL_law_27 ++ dktL_law_28
def dkwL_law_26 : List UInt8 := [46, 42, 29, 5, 96, 46, 182, 0, 91, 159, 0, 38, 3, 172, 43, 42, 29, 4, 96, 46, 42, 29, 5, 96]
abbrev dktL_law_26 : List UInt8 := dkwL_law_26 ++ dktL_law_27
def dkwL_law_25 : List UInt8 := [159, 0, 71, 3, 172, 43, 42, 29, 4, 96, 46, 42, 29, 5, 96, 46, 182, 0, 88, 44, 42, 29, 4, 96]
abbrev dktL_law_25 : List UInt8 := dkwL_law_25 ++ dktL_law_26
def dkwL_law_24 : List UInt8 := [159, 0, 94, 3, 172, 43, 42, 29, 4, 96, 46, 182, 0, 84, 44, 42, 29, 4, 96, 46, 182, 0, 87]
abbrev dktL_law_24 : List UInt8 := dkwL_law_24 ++ dktL_law_25
def dkwL_law_23 : List UInt8 := [159, 0, 117, 3, 172, 43, 42, 29, 4, 96, 46, 182, 0, 80, 44, 42, 29, 4, 96, 46, 182, 0, 83]
abbrev dktL_law_23 : List UInt8 := dkwL_law_23 ++ dktL_law_24
def dkwL_law_22 : List UInt8 := [159, 0, 140, 3, 172, 43, 42, 29, 4, 96, 46, 182, 0, 76, 44, 42, 29, 4, 96, 46, 182, 0, 79]
abbrev dktL_law_22 : List UInt8 := dkwL_law_22 ++ dktL_law_23
def dkwL_law_21 : List UInt8 := [42, 29, 5, 96, 46, 182, 0, 72, 44, 42, 29, 4, 96, 46, 42, 29, 5, 96, 46, 182, 0, 75]
abbrev dktL_law_21 : List UInt8 := dkwL_law_21 ++ dktL_law_22
def dkwL_law_20 : List UInt8 := [42, 29, 4, 96, 46, 42, 29, 5, 96, 46, 182, 0, 71, 159, 0, 173, 3, 172, 43, 42, 29, 4, 96, 46]
abbrev dktL_law_20 : List UInt8 := dkwL_law_20 ++ dktL_law_21
def dkwL_law_19 : List UInt8 := [182, 0, 67, 148, 153, 0, 206, 3, 172, 43, 42, 29, 4, 96, 46, 42, 29, 5, 96, 46, 182, 0, 68, 44]
abbrev dktL_law_19 : List UInt8 := dkwL_law_19 ++ dktL_law_20
def dkwL_law_18 : List UInt8 := [182, 0, 62, 148, 153, 0, 230, 3, 172, 43, 42, 29, 4, 96, 46, 182, 0, 63, 44, 42, 29, 4, 96, 46]
abbrev dktL_law_18 : List UInt8 := dkwL_law_18 ++ dktL_law_19
def dkwL_law_17 : List UInt8 := [29, 4, 96, 46, 42, 29, 5, 96, 46, 182, 0, 58, 44, 42, 29, 4, 96, 46, 42, 29, 5, 96, 46]
abbrev dktL_law_17 : List UInt8 := dkwL_law_17 ++ dktL_law_18
def dkwL_law_16 : List UInt8 := [182, 0, 54, 44, 42, 29, 4, 96, 46, 42, 29, 5, 96, 46, 182, 0, 57, 159, 1, 8, 3, 172, 43, 42]
abbrev dktL_law_16 : List UInt8 := dkwL_law_16 ++ dktL_law_17
def dkwL_law_15 : List UInt8 := [4, 96, 46, 182, 0, 53, 159, 1, 41, 3, 172, 43, 42, 29, 4, 96, 46, 42, 29, 5, 96, 46]
abbrev dktL_law_15 : List UInt8 := dkwL_law_15 ++ dktL_law_16
def dkwL_law_14 : List UInt8 := [182, 0, 46, 44, 182, 0, 49, 159, 1, 64, 3, 172, 43, 42, 29, 4, 96, 46, 182, 0, 50, 44, 42, 29]
abbrev dktL_law_14 : List UInt8 := dkwL_law_14 ++ dktL_law_15
def dkwL_law_13 : List UInt8 := [29, 4, 96, 46, 182, 0, 42, 44, 42, 29, 4, 96, 46, 182, 0, 45, 159, 1, 77, 3, 172, 43]
abbrev dktL_law_13 : List UInt8 := dkwL_law_13 ++ dktL_law_14
def dkwL_law_12 : List UInt8 := [42, 29, 4, 96, 46, 182, 0, 37, 44, 42, 29, 4, 96, 46, 182, 0, 41, 159, 1, 100, 3, 172, 43, 42]
abbrev dktL_law_12 : List UInt8 := dkwL_law_12 ++ dktL_law_13
def dkwL_law_11 : List UInt8 := [96, 46, 182, 0, 31, 159, 1, 136, 3, 172, 43, 182, 0, 32, 44, 182, 0, 36, 159, 1, 123, 3, 172, 43]
abbrev dktL_law_11 : List UInt8 := dkwL_law_11 ++ dktL_law_12
def dkwL_law_10 : List UInt8 := [96, 46, 182, 0, 28, 44, 42, 29, 4, 96, 46, 42, 29, 5, 96, 46, 42, 29, 6, 96, 46, 42, 29, 7]
abbrev dktL_law_10 : List UInt8 := dkwL_law_10 ++ dktL_law_11
def dkwL_law_9 : List UInt8 := [159, 1, 189, 3, 172, 43, 42, 29, 4, 96, 46, 42, 29, 5, 96, 46, 42, 29, 6, 96, 46, 42, 29, 7]
abbrev dktL_law_9 : List UInt8 := dkwL_law_9 ++ dktL_law_10
def dkwL_law_8 : List UInt8 := [44, 42, 29, 4, 96, 46, 42, 29, 5, 96, 46, 42, 29, 6, 96, 46, 42, 29, 7, 96, 46, 182, 0, 27]
abbrev dktL_law_8 : List UInt8 := dkwL_law_8 ++ dktL_law_9
def dkwL_law_7 : List UInt8 := [43, 42, 29, 4, 96, 46, 42, 29, 5, 96, 46, 42, 29, 6, 96, 46, 42, 29, 7, 96, 46, 182, 0, 23]
abbrev dktL_law_7 : List UInt8 := dkwL_law_7 ++ dktL_law_8
def dkwL_law_6 : List UInt8 := [96, 46, 182, 0, 18, 44, 42, 29, 4, 96, 46, 42, 29, 5, 96, 46, 182, 0, 22, 159, 1, 242, 3, 172]
abbrev dktL_law_6 : List UInt8 := dkwL_law_6 ++ dktL_law_7
def dkwL_law_5 : List UInt8 := [96, 46, 42, 29, 8, 96, 46, 182, 0, 17, 159, 2, 19, 3, 172, 43, 42, 29, 4, 96, 46, 42, 29, 5]
abbrev dktL_law_5 : List UInt8 := dkwL_law_5 ++ dktL_law_6
def dkwL_law_4 : List UInt8 := [96, 46, 182, 0, 13, 44, 42, 29, 4, 96, 46, 42, 29, 5, 96, 46, 42, 29, 6, 96, 46, 42, 29, 7]
abbrev dktL_law_4 : List UInt8 := dkwL_law_4 ++ dktL_law_5
def dkwL_law_3 : List UInt8 := [43, 42, 29, 4, 96, 46, 42, 29, 5, 96, 46, 42, 29, 6, 96, 46, 42, 29, 7, 96, 46, 42, 29, 8]
abbrev dktL_law_3 : List UInt8 := dkwL_law_3 ++ dktL_law_4
def dkwL_law_2 : List UInt8 := [170, 0, 0, 0, 0, 2, 168, 0, 0, 0, 0, 0, 0, 0, 18, 0, 0, 0, 91, 0, 0, 0, 154, 0, 0, 0, 187, 0, 0, 0, 240, 0, 0, 1, 37, 0, 0, 1, 50, 0, 0, 1, 73, 0, 0, 1, 96, 0, 0, 1, 109, 0, 0, 1, 132, 0, 0, 1, 165, 0, 0, 1, 199, 0, 0, 1, 223, 0, 0, 2, 0, 0, 0, 2, 33, 0, 0, 2, 56, 0, 0, 2, 79, 0, 0, 2, 102, 0, 0, 2, 135]
abbrev dktL_law_2 : List UInt8 := dkwL_law_2 ++ dktL_law_3
def dkwL_law_1 : List UInt8 := [163, 2, 183, 42, 29, 46, 16, 31, 126]
abbrev dktL_law_1 : List UInt8 := dkwL_law_1 ++ dktL_law_2
def dkwL_law_0 : List UInt8 := [187, 0, 7, 89, 183, 0, 9, 76, 187, 0, 10, 89, 183, 0, 12, 77, 3, 62, 29, 42, 190, 16, 6, 100]
abbrev dktL_law_0 : List UInt8 := dkwL_law_0 ++ dktL_law_1
theorem dksL_law_0 : cL_law.data.toList.drop 0 = dktL_law_0 := by decide +kernel
theorem dksL_law_1 : cL_law.data.toList.drop 24 = dktL_law_1 := dk_seg dksL_law_0 24 rfl rfl
theorem dksL_law_2 : cL_law.data.toList.drop 33 = dktL_law_2 := dk_seg dksL_law_1 9 rfl rfl
theorem dksL_law_3 : cL_law.data.toList.drop 124 = dktL_law_3 := dk_seg dksL_law_2 91 rfl rfl
theorem dksL_law_4 : cL_law.data.toList.drop 148 = dktL_law_4 := dk_seg dksL_law_3 24 rfl rfl
theorem dksL_law_5 : cL_law.data.toList.drop 172 = dktL_law_5 := dk_seg dksL_law_4 24 rfl rfl
theorem dksL_law_6 : cL_law.data.toList.drop 196 = dktL_law_6 := dk_seg dksL_law_5 24 rfl rfl
theorem dksL_law_7 : cL_law.data.toList.drop 220 = dktL_law_7 := dk_seg dksL_law_6 24 rfl rfl
theorem dksL_law_8 : cL_law.data.toList.drop 244 = dktL_law_8 := dk_seg dksL_law_7 24 rfl rfl
theorem dksL_law_9 : cL_law.data.toList.drop 268 = dktL_law_9 := dk_seg dksL_law_8 24 rfl rfl
theorem dksL_law_10 : cL_law.data.toList.drop 292 = dktL_law_10 := dk_seg dksL_law_9 24 rfl rfl
theorem dksL_law_11 : cL_law.data.toList.drop 316 = dktL_law_11 := dk_seg dksL_law_10 24 rfl rfl
theorem dksL_law_12 : cL_law.data.toList.drop 340 = dktL_law_12 := dk_seg dksL_law_11 24 rfl rfl
theorem dksL_law_13 : cL_law.data.toList.drop 364 = dktL_law_13 := dk_seg dksL_law_12 24 rfl rfl
theorem dksL_law_14 : cL_law.data.toList.drop 386 = dktL_law_14 := dk_seg dksL_law_13 22 rfl rfl
theorem dksL_law_15 : cL_law.data.toList.drop 410 = dktL_law_15 := dk_seg dksL_law_14 24 rfl rfl
theorem dksL_law_16 : cL_law.data.toList.drop 432 = dktL_law_16 := dk_seg dksL_law_15 22 rfl rfl
theorem dksL_law_17 : cL_law.data.toList.drop 456 = dktL_law_17 := dk_seg dksL_law_16 24 rfl rfl
theorem dksL_law_18 : cL_law.data.toList.drop 479 = dktL_law_18 := dk_seg dksL_law_17 23 rfl rfl
theorem dksL_law_19 : cL_law.data.toList.drop 503 = dktL_law_19 := dk_seg dksL_law_18 24 rfl rfl
theorem dksL_law_20 : cL_law.data.toList.drop 527 = dktL_law_20 := dk_seg dksL_law_19 24 rfl rfl
theorem dksL_law_21 : cL_law.data.toList.drop 551 = dktL_law_21 := dk_seg dksL_law_20 24 rfl rfl
theorem dksL_law_22 : cL_law.data.toList.drop 573 = dktL_law_22 := dk_seg dksL_law_21 22 rfl rfl
theorem dksL_law_23 : cL_law.data.toList.drop 596 = dktL_law_23 := dk_seg dksL_law_22 23 rfl rfl
theorem dksL_law_24 : cL_law.data.toList.drop 619 = dktL_law_24 := dk_seg dksL_law_23 23 rfl rfl
theorem dksL_law_25 : cL_law.data.toList.drop 642 = dktL_law_25 := dk_seg dksL_law_24 23 rfl rfl
theorem dksL_law_26 : cL_law.data.toList.drop 666 = dktL_law_26 := dk_seg dksL_law_25 24 rfl rfl
theorem dksL_law_27 : cL_law.data.toList.drop 690 = dktL_law_27 := dk_seg dksL_law_26 24 rfl rfl
theorem dksL_law_28 : cL_law.data.toList.drop 713 = dktL_law_28 := dk_seg dksL_law_27 23 rfl rfl
theorem dL_law_0 : decode cL_law 0 = .ok (.new 7, 3) := dk_187 0 7 (dk_at dksL_law_0 0 rfl rfl)
theorem dL_law_3 : decode cL_law 3 = .ok (.dup, 1) := dk_89 (dk_at dksL_law_0 3 rfl rfl)
theorem dL_law_4 : decode cL_law 4 = .ok (.invokespecial 9, 3) := dk_183 0 9 (dk_at dksL_law_0 4 rfl rfl)
theorem dL_law_7 : decode cL_law 7 = .ok (.astore_n 1, 1) := dk_76 (dk_at dksL_law_0 7 rfl rfl)
theorem dL_law_8 : decode cL_law 8 = .ok (.new 10, 3) := dk_187 0 10 (dk_at dksL_law_0 8 rfl rfl)
theorem dL_law_11 : decode cL_law 11 = .ok (.dup, 1) := dk_89 (dk_at dksL_law_0 11 rfl rfl)
theorem dL_law_12 : decode cL_law 12 = .ok (.invokespecial 12, 3) := dk_183 0 12 (dk_at dksL_law_0 12 rfl rfl)
theorem dL_law_15 : decode cL_law 15 = .ok (.astore_n 2, 1) := dk_77 (dk_at dksL_law_0 15 rfl rfl)
theorem dL_law_16 : decode cL_law 16 = .ok (.iconst 0, 1) := dk_3 (dk_at dksL_law_0 16 rfl rfl)
theorem dL_law_17 : decode cL_law 17 = .ok (.istore_n 3, 1) := dk_62 (dk_at dksL_law_0 17 rfl rfl)
theorem dL_law_18 : decode cL_law 18 = .ok (.iload_n 3, 1) := dk_29 (dk_at dksL_law_0 18 rfl rfl)
theorem dL_law_19 : decode cL_law 19 = .ok (.aload_n 0, 1) := dk_42 (dk_at dksL_law_0 19 rfl rfl)
theorem dL_law_20 : decode cL_law 20 = .ok (.arraylength, 1) := dk_190 (dk_at dksL_law_0 20 rfl rfl)
theorem dL_law_21 : decode cL_law 21 = .ok (.bipush 6, 2) := dk_16 6 (dk_at dksL_law_0 21 rfl rfl)
theorem dL_law_23 : decode cL_law 23 = .ok (.isub, 1) := dk_100 (dk_at dksL_law_0 23 rfl rfl)
theorem dL_law_24 : decode cL_law 24 = .ok (.if_icmp .gt 695, 3) := dk_163 2 183 (dk_at dksL_law_1 0 rfl rfl)
theorem dL_law_27 : decode cL_law 27 = .ok (.aload_n 0, 1) := dk_42 (dk_at dksL_law_1 3 rfl rfl)
theorem dL_law_28 : decode cL_law 28 = .ok (.iload_n 3, 1) := dk_29 (dk_at dksL_law_1 4 rfl rfl)
theorem dL_law_29 : decode cL_law 29 = .ok (.iaload, 1) := dk_46 (dk_at dksL_law_1 5 rfl rfl)
theorem dL_law_30 : decode cL_law 30 = .ok (.bipush 31, 2) := dk_16 31 (dk_at dksL_law_1 6 rfl rfl)
theorem dL_law_32 : decode cL_law 32 = .ok (.iand, 1) := dk_126 (dk_at dksL_law_1 8 rfl rfl)
theorem dL_law_33 : decode cL_law 33 = .ok (.tableswitch 680 0 18 #[91, 154, 187, 240, 293, 306, 329, 352, 365, 388, 421, 455, 479, 512, 545, 568, 591, 614, 647], 91) := by decide +kernel
theorem dL_law_124 : decode cL_law 124 = .ok (.aload_n 1, 1) := dk_43 (dk_at dksL_law_3 0 rfl rfl)
theorem dL_law_125 : decode cL_law 125 = .ok (.aload_n 0, 1) := dk_42 (dk_at dksL_law_3 1 rfl rfl)
theorem dL_law_126 : decode cL_law 126 = .ok (.iload_n 3, 1) := dk_29 (dk_at dksL_law_3 2 rfl rfl)
theorem dL_law_127 : decode cL_law 127 = .ok (.iconst 1, 1) := dk_4 (dk_at dksL_law_3 3 rfl rfl)
theorem dL_law_128 : decode cL_law 128 = .ok (.iadd, 1) := dk_96 (dk_at dksL_law_3 4 rfl rfl)
theorem dL_law_129 : decode cL_law 129 = .ok (.iaload, 1) := dk_46 (dk_at dksL_law_3 5 rfl rfl)
theorem dL_law_130 : decode cL_law 130 = .ok (.aload_n 0, 1) := dk_42 (dk_at dksL_law_3 6 rfl rfl)
theorem dL_law_131 : decode cL_law 131 = .ok (.iload_n 3, 1) := dk_29 (dk_at dksL_law_3 7 rfl rfl)
theorem dL_law_132 : decode cL_law 132 = .ok (.iconst 2, 1) := dk_5 (dk_at dksL_law_3 8 rfl rfl)
theorem dL_law_133 : decode cL_law 133 = .ok (.iadd, 1) := dk_96 (dk_at dksL_law_3 9 rfl rfl)
theorem dL_law_134 : decode cL_law 134 = .ok (.iaload, 1) := dk_46 (dk_at dksL_law_3 10 rfl rfl)
theorem dL_law_135 : decode cL_law 135 = .ok (.aload_n 0, 1) := dk_42 (dk_at dksL_law_3 11 rfl rfl)
theorem dL_law_136 : decode cL_law 136 = .ok (.iload_n 3, 1) := dk_29 (dk_at dksL_law_3 12 rfl rfl)
theorem dL_law_137 : decode cL_law 137 = .ok (.iconst 3, 1) := dk_6 (dk_at dksL_law_3 13 rfl rfl)
theorem dL_law_138 : decode cL_law 138 = .ok (.iadd, 1) := dk_96 (dk_at dksL_law_3 14 rfl rfl)
theorem dL_law_139 : decode cL_law 139 = .ok (.iaload, 1) := dk_46 (dk_at dksL_law_3 15 rfl rfl)
theorem dL_law_140 : decode cL_law 140 = .ok (.aload_n 0, 1) := dk_42 (dk_at dksL_law_3 16 rfl rfl)
theorem dL_law_141 : decode cL_law 141 = .ok (.iload_n 3, 1) := dk_29 (dk_at dksL_law_3 17 rfl rfl)
theorem dL_law_142 : decode cL_law 142 = .ok (.iconst 4, 1) := dk_7 (dk_at dksL_law_3 18 rfl rfl)
theorem dL_law_143 : decode cL_law 143 = .ok (.iadd, 1) := dk_96 (dk_at dksL_law_3 19 rfl rfl)
theorem dL_law_144 : decode cL_law 144 = .ok (.iaload, 1) := dk_46 (dk_at dksL_law_3 20 rfl rfl)
theorem dL_law_145 : decode cL_law 145 = .ok (.aload_n 0, 1) := dk_42 (dk_at dksL_law_3 21 rfl rfl)
theorem dL_law_146 : decode cL_law 146 = .ok (.iload_n 3, 1) := dk_29 (dk_at dksL_law_3 22 rfl rfl)
theorem dL_law_147 : decode cL_law 147 = .ok (.iconst 5, 1) := dk_8 (dk_at dksL_law_3 23 rfl rfl)
theorem dL_law_148 : decode cL_law 148 = .ok (.iadd, 1) := dk_96 (dk_at dksL_law_4 0 rfl rfl)
theorem dL_law_149 : decode cL_law 149 = .ok (.iaload, 1) := dk_46 (dk_at dksL_law_4 1 rfl rfl)
theorem dL_law_150 : decode cL_law 150 = .ok (.invokevirtual 13, 3) := dk_182 0 13 (dk_at dksL_law_4 2 rfl rfl)
theorem dL_law_153 : decode cL_law 153 = .ok (.aload_n 2, 1) := dk_44 (dk_at dksL_law_4 5 rfl rfl)
theorem dL_law_154 : decode cL_law 154 = .ok (.aload_n 0, 1) := dk_42 (dk_at dksL_law_4 6 rfl rfl)
theorem dL_law_155 : decode cL_law 155 = .ok (.iload_n 3, 1) := dk_29 (dk_at dksL_law_4 7 rfl rfl)
theorem dL_law_156 : decode cL_law 156 = .ok (.iconst 1, 1) := dk_4 (dk_at dksL_law_4 8 rfl rfl)
theorem dL_law_157 : decode cL_law 157 = .ok (.iadd, 1) := dk_96 (dk_at dksL_law_4 9 rfl rfl)
theorem dL_law_158 : decode cL_law 158 = .ok (.iaload, 1) := dk_46 (dk_at dksL_law_4 10 rfl rfl)
theorem dL_law_159 : decode cL_law 159 = .ok (.aload_n 0, 1) := dk_42 (dk_at dksL_law_4 11 rfl rfl)
theorem dL_law_160 : decode cL_law 160 = .ok (.iload_n 3, 1) := dk_29 (dk_at dksL_law_4 12 rfl rfl)
theorem dL_law_161 : decode cL_law 161 = .ok (.iconst 2, 1) := dk_5 (dk_at dksL_law_4 13 rfl rfl)
theorem dL_law_162 : decode cL_law 162 = .ok (.iadd, 1) := dk_96 (dk_at dksL_law_4 14 rfl rfl)
theorem dL_law_163 : decode cL_law 163 = .ok (.iaload, 1) := dk_46 (dk_at dksL_law_4 15 rfl rfl)
theorem dL_law_164 : decode cL_law 164 = .ok (.aload_n 0, 1) := dk_42 (dk_at dksL_law_4 16 rfl rfl)
theorem dL_law_165 : decode cL_law 165 = .ok (.iload_n 3, 1) := dk_29 (dk_at dksL_law_4 17 rfl rfl)
theorem dL_law_166 : decode cL_law 166 = .ok (.iconst 3, 1) := dk_6 (dk_at dksL_law_4 18 rfl rfl)
theorem dL_law_167 : decode cL_law 167 = .ok (.iadd, 1) := dk_96 (dk_at dksL_law_4 19 rfl rfl)
theorem dL_law_168 : decode cL_law 168 = .ok (.iaload, 1) := dk_46 (dk_at dksL_law_4 20 rfl rfl)
theorem dL_law_169 : decode cL_law 169 = .ok (.aload_n 0, 1) := dk_42 (dk_at dksL_law_4 21 rfl rfl)
theorem dL_law_170 : decode cL_law 170 = .ok (.iload_n 3, 1) := dk_29 (dk_at dksL_law_4 22 rfl rfl)
theorem dL_law_171 : decode cL_law 171 = .ok (.iconst 4, 1) := dk_7 (dk_at dksL_law_4 23 rfl rfl)
theorem dL_law_172 : decode cL_law 172 = .ok (.iadd, 1) := dk_96 (dk_at dksL_law_5 0 rfl rfl)
theorem dL_law_173 : decode cL_law 173 = .ok (.iaload, 1) := dk_46 (dk_at dksL_law_5 1 rfl rfl)
theorem dL_law_174 : decode cL_law 174 = .ok (.aload_n 0, 1) := dk_42 (dk_at dksL_law_5 2 rfl rfl)
theorem dL_law_175 : decode cL_law 175 = .ok (.iload_n 3, 1) := dk_29 (dk_at dksL_law_5 3 rfl rfl)
theorem dL_law_176 : decode cL_law 176 = .ok (.iconst 5, 1) := dk_8 (dk_at dksL_law_5 4 rfl rfl)
theorem dL_law_177 : decode cL_law 177 = .ok (.iadd, 1) := dk_96 (dk_at dksL_law_5 5 rfl rfl)
theorem dL_law_178 : decode cL_law 178 = .ok (.iaload, 1) := dk_46 (dk_at dksL_law_5 6 rfl rfl)
theorem dL_law_179 : decode cL_law 179 = .ok (.invokevirtual 17, 3) := dk_182 0 17 (dk_at dksL_law_5 7 rfl rfl)
theorem dL_law_182 : decode cL_law 182 = .ok (.if_icmp .eq 531, 3) := dk_159 2 19 (dk_at dksL_law_5 10 rfl rfl)
theorem dL_law_185 : decode cL_law 185 = .ok (.iconst 0, 1) := dk_3 (dk_at dksL_law_5 13 rfl rfl)
theorem dL_law_186 : decode cL_law 186 = .ok (.ireturn, 1) := dk_172 (dk_at dksL_law_5 14 rfl rfl)
theorem dL_law_187 : decode cL_law 187 = .ok (.aload_n 1, 1) := dk_43 (dk_at dksL_law_5 15 rfl rfl)
theorem dL_law_188 : decode cL_law 188 = .ok (.aload_n 0, 1) := dk_42 (dk_at dksL_law_5 16 rfl rfl)
theorem dL_law_189 : decode cL_law 189 = .ok (.iload_n 3, 1) := dk_29 (dk_at dksL_law_5 17 rfl rfl)
theorem dL_law_190 : decode cL_law 190 = .ok (.iconst 1, 1) := dk_4 (dk_at dksL_law_5 18 rfl rfl)
theorem dL_law_191 : decode cL_law 191 = .ok (.iadd, 1) := dk_96 (dk_at dksL_law_5 19 rfl rfl)
theorem dL_law_192 : decode cL_law 192 = .ok (.iaload, 1) := dk_46 (dk_at dksL_law_5 20 rfl rfl)
theorem dL_law_193 : decode cL_law 193 = .ok (.aload_n 0, 1) := dk_42 (dk_at dksL_law_5 21 rfl rfl)
theorem dL_law_194 : decode cL_law 194 = .ok (.iload_n 3, 1) := dk_29 (dk_at dksL_law_5 22 rfl rfl)
theorem dL_law_195 : decode cL_law 195 = .ok (.iconst 2, 1) := dk_5 (dk_at dksL_law_5 23 rfl rfl)
theorem dL_law_196 : decode cL_law 196 = .ok (.iadd, 1) := dk_96 (dk_at dksL_law_6 0 rfl rfl)
theorem dL_law_197 : decode cL_law 197 = .ok (.iaload, 1) := dk_46 (dk_at dksL_law_6 1 rfl rfl)
theorem dL_law_198 : decode cL_law 198 = .ok (.invokevirtual 18, 3) := dk_182 0 18 (dk_at dksL_law_6 2 rfl rfl)
theorem dL_law_201 : decode cL_law 201 = .ok (.aload_n 2, 1) := dk_44 (dk_at dksL_law_6 5 rfl rfl)
theorem dL_law_202 : decode cL_law 202 = .ok (.aload_n 0, 1) := dk_42 (dk_at dksL_law_6 6 rfl rfl)
theorem dL_law_203 : decode cL_law 203 = .ok (.iload_n 3, 1) := dk_29 (dk_at dksL_law_6 7 rfl rfl)
theorem dL_law_204 : decode cL_law 204 = .ok (.iconst 1, 1) := dk_4 (dk_at dksL_law_6 8 rfl rfl)
theorem dL_law_205 : decode cL_law 205 = .ok (.iadd, 1) := dk_96 (dk_at dksL_law_6 9 rfl rfl)
theorem dL_law_206 : decode cL_law 206 = .ok (.iaload, 1) := dk_46 (dk_at dksL_law_6 10 rfl rfl)
theorem dL_law_207 : decode cL_law 207 = .ok (.aload_n 0, 1) := dk_42 (dk_at dksL_law_6 11 rfl rfl)
theorem dL_law_208 : decode cL_law 208 = .ok (.iload_n 3, 1) := dk_29 (dk_at dksL_law_6 12 rfl rfl)
theorem dL_law_209 : decode cL_law 209 = .ok (.iconst 2, 1) := dk_5 (dk_at dksL_law_6 13 rfl rfl)
theorem dL_law_210 : decode cL_law 210 = .ok (.iadd, 1) := dk_96 (dk_at dksL_law_6 14 rfl rfl)
theorem dL_law_211 : decode cL_law 211 = .ok (.iaload, 1) := dk_46 (dk_at dksL_law_6 15 rfl rfl)
theorem dL_law_212 : decode cL_law 212 = .ok (.invokevirtual 22, 3) := dk_182 0 22 (dk_at dksL_law_6 16 rfl rfl)
theorem dL_law_215 : decode cL_law 215 = .ok (.if_icmp .eq 498, 3) := dk_159 1 242 (dk_at dksL_law_6 19 rfl rfl)
theorem dL_law_218 : decode cL_law 218 = .ok (.iconst 0, 1) := dk_3 (dk_at dksL_law_6 22 rfl rfl)
theorem dL_law_219 : decode cL_law 219 = .ok (.ireturn, 1) := dk_172 (dk_at dksL_law_6 23 rfl rfl)
theorem dL_law_220 : decode cL_law 220 = .ok (.aload_n 1, 1) := dk_43 (dk_at dksL_law_7 0 rfl rfl)
theorem dL_law_221 : decode cL_law 221 = .ok (.aload_n 0, 1) := dk_42 (dk_at dksL_law_7 1 rfl rfl)
theorem dL_law_222 : decode cL_law 222 = .ok (.iload_n 3, 1) := dk_29 (dk_at dksL_law_7 2 rfl rfl)
theorem dL_law_223 : decode cL_law 223 = .ok (.iconst 1, 1) := dk_4 (dk_at dksL_law_7 3 rfl rfl)
theorem dL_law_224 : decode cL_law 224 = .ok (.iadd, 1) := dk_96 (dk_at dksL_law_7 4 rfl rfl)
theorem dL_law_225 : decode cL_law 225 = .ok (.iaload, 1) := dk_46 (dk_at dksL_law_7 5 rfl rfl)
theorem dL_law_226 : decode cL_law 226 = .ok (.aload_n 0, 1) := dk_42 (dk_at dksL_law_7 6 rfl rfl)
theorem dL_law_227 : decode cL_law 227 = .ok (.iload_n 3, 1) := dk_29 (dk_at dksL_law_7 7 rfl rfl)
theorem dL_law_228 : decode cL_law 228 = .ok (.iconst 2, 1) := dk_5 (dk_at dksL_law_7 8 rfl rfl)
theorem dL_law_229 : decode cL_law 229 = .ok (.iadd, 1) := dk_96 (dk_at dksL_law_7 9 rfl rfl)
theorem dL_law_230 : decode cL_law 230 = .ok (.iaload, 1) := dk_46 (dk_at dksL_law_7 10 rfl rfl)
theorem dL_law_231 : decode cL_law 231 = .ok (.aload_n 0, 1) := dk_42 (dk_at dksL_law_7 11 rfl rfl)
theorem dL_law_232 : decode cL_law 232 = .ok (.iload_n 3, 1) := dk_29 (dk_at dksL_law_7 12 rfl rfl)
theorem dL_law_233 : decode cL_law 233 = .ok (.iconst 3, 1) := dk_6 (dk_at dksL_law_7 13 rfl rfl)
theorem dL_law_234 : decode cL_law 234 = .ok (.iadd, 1) := dk_96 (dk_at dksL_law_7 14 rfl rfl)
theorem dL_law_235 : decode cL_law 235 = .ok (.iaload, 1) := dk_46 (dk_at dksL_law_7 15 rfl rfl)
theorem dL_law_236 : decode cL_law 236 = .ok (.aload_n 0, 1) := dk_42 (dk_at dksL_law_7 16 rfl rfl)
theorem dL_law_237 : decode cL_law 237 = .ok (.iload_n 3, 1) := dk_29 (dk_at dksL_law_7 17 rfl rfl)
theorem dL_law_238 : decode cL_law 238 = .ok (.iconst 4, 1) := dk_7 (dk_at dksL_law_7 18 rfl rfl)
theorem dL_law_239 : decode cL_law 239 = .ok (.iadd, 1) := dk_96 (dk_at dksL_law_7 19 rfl rfl)
theorem dL_law_240 : decode cL_law 240 = .ok (.iaload, 1) := dk_46 (dk_at dksL_law_7 20 rfl rfl)
theorem dL_law_241 : decode cL_law 241 = .ok (.invokevirtual 23, 3) := dk_182 0 23 (dk_at dksL_law_7 21 rfl rfl)
theorem dL_law_244 : decode cL_law 244 = .ok (.aload_n 2, 1) := dk_44 (dk_at dksL_law_8 0 rfl rfl)
theorem dL_law_245 : decode cL_law 245 = .ok (.aload_n 0, 1) := dk_42 (dk_at dksL_law_8 1 rfl rfl)
theorem dL_law_246 : decode cL_law 246 = .ok (.iload_n 3, 1) := dk_29 (dk_at dksL_law_8 2 rfl rfl)
theorem dL_law_247 : decode cL_law 247 = .ok (.iconst 1, 1) := dk_4 (dk_at dksL_law_8 3 rfl rfl)
theorem dL_law_248 : decode cL_law 248 = .ok (.iadd, 1) := dk_96 (dk_at dksL_law_8 4 rfl rfl)
theorem dL_law_249 : decode cL_law 249 = .ok (.iaload, 1) := dk_46 (dk_at dksL_law_8 5 rfl rfl)
theorem dL_law_250 : decode cL_law 250 = .ok (.aload_n 0, 1) := dk_42 (dk_at dksL_law_8 6 rfl rfl)
theorem dL_law_251 : decode cL_law 251 = .ok (.iload_n 3, 1) := dk_29 (dk_at dksL_law_8 7 rfl rfl)
theorem dL_law_252 : decode cL_law 252 = .ok (.iconst 2, 1) := dk_5 (dk_at dksL_law_8 8 rfl rfl)
theorem dL_law_253 : decode cL_law 253 = .ok (.iadd, 1) := dk_96 (dk_at dksL_law_8 9 rfl rfl)
theorem dL_law_254 : decode cL_law 254 = .ok (.iaload, 1) := dk_46 (dk_at dksL_law_8 10 rfl rfl)
theorem dL_law_255 : decode cL_law 255 = .ok (.aload_n 0, 1) := dk_42 (dk_at dksL_law_8 11 rfl rfl)
theorem dL_law_256 : decode cL_law 256 = .ok (.iload_n 3, 1) := dk_29 (dk_at dksL_law_8 12 rfl rfl)
theorem dL_law_257 : decode cL_law 257 = .ok (.iconst 3, 1) := dk_6 (dk_at dksL_law_8 13 rfl rfl)
theorem dL_law_258 : decode cL_law 258 = .ok (.iadd, 1) := dk_96 (dk_at dksL_law_8 14 rfl rfl)
theorem dL_law_259 : decode cL_law 259 = .ok (.iaload, 1) := dk_46 (dk_at dksL_law_8 15 rfl rfl)
theorem dL_law_260 : decode cL_law 260 = .ok (.aload_n 0, 1) := dk_42 (dk_at dksL_law_8 16 rfl rfl)
theorem dL_law_261 : decode cL_law 261 = .ok (.iload_n 3, 1) := dk_29 (dk_at dksL_law_8 17 rfl rfl)
theorem dL_law_262 : decode cL_law 262 = .ok (.iconst 4, 1) := dk_7 (dk_at dksL_law_8 18 rfl rfl)
theorem dL_law_263 : decode cL_law 263 = .ok (.iadd, 1) := dk_96 (dk_at dksL_law_8 19 rfl rfl)
theorem dL_law_264 : decode cL_law 264 = .ok (.iaload, 1) := dk_46 (dk_at dksL_law_8 20 rfl rfl)
theorem dL_law_265 : decode cL_law 265 = .ok (.invokevirtual 27, 3) := dk_182 0 27 (dk_at dksL_law_8 21 rfl rfl)
theorem dL_law_268 : decode cL_law 268 = .ok (.if_icmp .eq 445, 3) := dk_159 1 189 (dk_at dksL_law_9 0 rfl rfl)
theorem dL_law_271 : decode cL_law 271 = .ok (.iconst 0, 1) := dk_3 (dk_at dksL_law_9 3 rfl rfl)
theorem dL_law_272 : decode cL_law 272 = .ok (.ireturn, 1) := dk_172 (dk_at dksL_law_9 4 rfl rfl)
theorem dL_law_273 : decode cL_law 273 = .ok (.aload_n 1, 1) := dk_43 (dk_at dksL_law_9 5 rfl rfl)
theorem dL_law_274 : decode cL_law 274 = .ok (.aload_n 0, 1) := dk_42 (dk_at dksL_law_9 6 rfl rfl)
theorem dL_law_275 : decode cL_law 275 = .ok (.iload_n 3, 1) := dk_29 (dk_at dksL_law_9 7 rfl rfl)
theorem dL_law_276 : decode cL_law 276 = .ok (.iconst 1, 1) := dk_4 (dk_at dksL_law_9 8 rfl rfl)
theorem dL_law_277 : decode cL_law 277 = .ok (.iadd, 1) := dk_96 (dk_at dksL_law_9 9 rfl rfl)
theorem dL_law_278 : decode cL_law 278 = .ok (.iaload, 1) := dk_46 (dk_at dksL_law_9 10 rfl rfl)
theorem dL_law_279 : decode cL_law 279 = .ok (.aload_n 0, 1) := dk_42 (dk_at dksL_law_9 11 rfl rfl)
theorem dL_law_280 : decode cL_law 280 = .ok (.iload_n 3, 1) := dk_29 (dk_at dksL_law_9 12 rfl rfl)
theorem dL_law_281 : decode cL_law 281 = .ok (.iconst 2, 1) := dk_5 (dk_at dksL_law_9 13 rfl rfl)
theorem dL_law_282 : decode cL_law 282 = .ok (.iadd, 1) := dk_96 (dk_at dksL_law_9 14 rfl rfl)
theorem dL_law_283 : decode cL_law 283 = .ok (.iaload, 1) := dk_46 (dk_at dksL_law_9 15 rfl rfl)
theorem dL_law_284 : decode cL_law 284 = .ok (.aload_n 0, 1) := dk_42 (dk_at dksL_law_9 16 rfl rfl)
theorem dL_law_285 : decode cL_law 285 = .ok (.iload_n 3, 1) := dk_29 (dk_at dksL_law_9 17 rfl rfl)
theorem dL_law_286 : decode cL_law 286 = .ok (.iconst 3, 1) := dk_6 (dk_at dksL_law_9 18 rfl rfl)
theorem dL_law_287 : decode cL_law 287 = .ok (.iadd, 1) := dk_96 (dk_at dksL_law_9 19 rfl rfl)
theorem dL_law_288 : decode cL_law 288 = .ok (.iaload, 1) := dk_46 (dk_at dksL_law_9 20 rfl rfl)
theorem dL_law_289 : decode cL_law 289 = .ok (.aload_n 0, 1) := dk_42 (dk_at dksL_law_9 21 rfl rfl)
theorem dL_law_290 : decode cL_law 290 = .ok (.iload_n 3, 1) := dk_29 (dk_at dksL_law_9 22 rfl rfl)
theorem dL_law_291 : decode cL_law 291 = .ok (.iconst 4, 1) := dk_7 (dk_at dksL_law_9 23 rfl rfl)
theorem dL_law_292 : decode cL_law 292 = .ok (.iadd, 1) := dk_96 (dk_at dksL_law_10 0 rfl rfl)
theorem dL_law_293 : decode cL_law 293 = .ok (.iaload, 1) := dk_46 (dk_at dksL_law_10 1 rfl rfl)
theorem dL_law_294 : decode cL_law 294 = .ok (.invokevirtual 28, 3) := dk_182 0 28 (dk_at dksL_law_10 2 rfl rfl)
theorem dL_law_297 : decode cL_law 297 = .ok (.aload_n 2, 1) := dk_44 (dk_at dksL_law_10 5 rfl rfl)
theorem dL_law_298 : decode cL_law 298 = .ok (.aload_n 0, 1) := dk_42 (dk_at dksL_law_10 6 rfl rfl)
theorem dL_law_299 : decode cL_law 299 = .ok (.iload_n 3, 1) := dk_29 (dk_at dksL_law_10 7 rfl rfl)
theorem dL_law_300 : decode cL_law 300 = .ok (.iconst 1, 1) := dk_4 (dk_at dksL_law_10 8 rfl rfl)
theorem dL_law_301 : decode cL_law 301 = .ok (.iadd, 1) := dk_96 (dk_at dksL_law_10 9 rfl rfl)
theorem dL_law_302 : decode cL_law 302 = .ok (.iaload, 1) := dk_46 (dk_at dksL_law_10 10 rfl rfl)
theorem dL_law_303 : decode cL_law 303 = .ok (.aload_n 0, 1) := dk_42 (dk_at dksL_law_10 11 rfl rfl)
theorem dL_law_304 : decode cL_law 304 = .ok (.iload_n 3, 1) := dk_29 (dk_at dksL_law_10 12 rfl rfl)
theorem dL_law_305 : decode cL_law 305 = .ok (.iconst 2, 1) := dk_5 (dk_at dksL_law_10 13 rfl rfl)
theorem dL_law_306 : decode cL_law 306 = .ok (.iadd, 1) := dk_96 (dk_at dksL_law_10 14 rfl rfl)
theorem dL_law_307 : decode cL_law 307 = .ok (.iaload, 1) := dk_46 (dk_at dksL_law_10 15 rfl rfl)
theorem dL_law_308 : decode cL_law 308 = .ok (.aload_n 0, 1) := dk_42 (dk_at dksL_law_10 16 rfl rfl)
theorem dL_law_309 : decode cL_law 309 = .ok (.iload_n 3, 1) := dk_29 (dk_at dksL_law_10 17 rfl rfl)
theorem dL_law_310 : decode cL_law 310 = .ok (.iconst 3, 1) := dk_6 (dk_at dksL_law_10 18 rfl rfl)
theorem dL_law_311 : decode cL_law 311 = .ok (.iadd, 1) := dk_96 (dk_at dksL_law_10 19 rfl rfl)
theorem dL_law_312 : decode cL_law 312 = .ok (.iaload, 1) := dk_46 (dk_at dksL_law_10 20 rfl rfl)
theorem dL_law_313 : decode cL_law 313 = .ok (.aload_n 0, 1) := dk_42 (dk_at dksL_law_10 21 rfl rfl)
theorem dL_law_314 : decode cL_law 314 = .ok (.iload_n 3, 1) := dk_29 (dk_at dksL_law_10 22 rfl rfl)
theorem dL_law_315 : decode cL_law 315 = .ok (.iconst 4, 1) := dk_7 (dk_at dksL_law_10 23 rfl rfl)
theorem dL_law_316 : decode cL_law 316 = .ok (.iadd, 1) := dk_96 (dk_at dksL_law_11 0 rfl rfl)
theorem dL_law_317 : decode cL_law 317 = .ok (.iaload, 1) := dk_46 (dk_at dksL_law_11 1 rfl rfl)
theorem dL_law_318 : decode cL_law 318 = .ok (.invokevirtual 31, 3) := dk_182 0 31 (dk_at dksL_law_11 2 rfl rfl)
theorem dL_law_321 : decode cL_law 321 = .ok (.if_icmp .eq 392, 3) := dk_159 1 136 (dk_at dksL_law_11 5 rfl rfl)
theorem dL_law_324 : decode cL_law 324 = .ok (.iconst 0, 1) := dk_3 (dk_at dksL_law_11 8 rfl rfl)
theorem dL_law_325 : decode cL_law 325 = .ok (.ireturn, 1) := dk_172 (dk_at dksL_law_11 9 rfl rfl)
theorem dL_law_326 : decode cL_law 326 = .ok (.aload_n 1, 1) := dk_43 (dk_at dksL_law_11 10 rfl rfl)
theorem dL_law_327 : decode cL_law 327 = .ok (.invokevirtual 32, 3) := dk_182 0 32 (dk_at dksL_law_11 11 rfl rfl)
theorem dL_law_330 : decode cL_law 330 = .ok (.aload_n 2, 1) := dk_44 (dk_at dksL_law_11 14 rfl rfl)
theorem dL_law_331 : decode cL_law 331 = .ok (.invokevirtual 36, 3) := dk_182 0 36 (dk_at dksL_law_11 15 rfl rfl)
theorem dL_law_334 : decode cL_law 334 = .ok (.if_icmp .eq 379, 3) := dk_159 1 123 (dk_at dksL_law_11 18 rfl rfl)
theorem dL_law_337 : decode cL_law 337 = .ok (.iconst 0, 1) := dk_3 (dk_at dksL_law_11 21 rfl rfl)
theorem dL_law_338 : decode cL_law 338 = .ok (.ireturn, 1) := dk_172 (dk_at dksL_law_11 22 rfl rfl)
theorem dL_law_339 : decode cL_law 339 = .ok (.aload_n 1, 1) := dk_43 (dk_at dksL_law_11 23 rfl rfl)
theorem dL_law_340 : decode cL_law 340 = .ok (.aload_n 0, 1) := dk_42 (dk_at dksL_law_12 0 rfl rfl)
theorem dL_law_341 : decode cL_law 341 = .ok (.iload_n 3, 1) := dk_29 (dk_at dksL_law_12 1 rfl rfl)
theorem dL_law_342 : decode cL_law 342 = .ok (.iconst 1, 1) := dk_4 (dk_at dksL_law_12 2 rfl rfl)
theorem dL_law_343 : decode cL_law 343 = .ok (.iadd, 1) := dk_96 (dk_at dksL_law_12 3 rfl rfl)
theorem dL_law_344 : decode cL_law 344 = .ok (.iaload, 1) := dk_46 (dk_at dksL_law_12 4 rfl rfl)
theorem dL_law_345 : decode cL_law 345 = .ok (.invokevirtual 37, 3) := dk_182 0 37 (dk_at dksL_law_12 5 rfl rfl)
theorem dL_law_348 : decode cL_law 348 = .ok (.aload_n 2, 1) := dk_44 (dk_at dksL_law_12 8 rfl rfl)
theorem dL_law_349 : decode cL_law 349 = .ok (.aload_n 0, 1) := dk_42 (dk_at dksL_law_12 9 rfl rfl)
theorem dL_law_350 : decode cL_law 350 = .ok (.iload_n 3, 1) := dk_29 (dk_at dksL_law_12 10 rfl rfl)
theorem dL_law_351 : decode cL_law 351 = .ok (.iconst 1, 1) := dk_4 (dk_at dksL_law_12 11 rfl rfl)
theorem dL_law_352 : decode cL_law 352 = .ok (.iadd, 1) := dk_96 (dk_at dksL_law_12 12 rfl rfl)
theorem dL_law_353 : decode cL_law 353 = .ok (.iaload, 1) := dk_46 (dk_at dksL_law_12 13 rfl rfl)
theorem dL_law_354 : decode cL_law 354 = .ok (.invokevirtual 41, 3) := dk_182 0 41 (dk_at dksL_law_12 14 rfl rfl)
theorem dL_law_357 : decode cL_law 357 = .ok (.if_icmp .eq 356, 3) := dk_159 1 100 (dk_at dksL_law_12 17 rfl rfl)
theorem dL_law_360 : decode cL_law 360 = .ok (.iconst 0, 1) := dk_3 (dk_at dksL_law_12 20 rfl rfl)
theorem dL_law_361 : decode cL_law 361 = .ok (.ireturn, 1) := dk_172 (dk_at dksL_law_12 21 rfl rfl)
theorem dL_law_362 : decode cL_law 362 = .ok (.aload_n 1, 1) := dk_43 (dk_at dksL_law_12 22 rfl rfl)
theorem dL_law_363 : decode cL_law 363 = .ok (.aload_n 0, 1) := dk_42 (dk_at dksL_law_12 23 rfl rfl)
theorem dL_law_364 : decode cL_law 364 = .ok (.iload_n 3, 1) := dk_29 (dk_at dksL_law_13 0 rfl rfl)
theorem dL_law_365 : decode cL_law 365 = .ok (.iconst 1, 1) := dk_4 (dk_at dksL_law_13 1 rfl rfl)
theorem dL_law_366 : decode cL_law 366 = .ok (.iadd, 1) := dk_96 (dk_at dksL_law_13 2 rfl rfl)
theorem dL_law_367 : decode cL_law 367 = .ok (.iaload, 1) := dk_46 (dk_at dksL_law_13 3 rfl rfl)
theorem dL_law_368 : decode cL_law 368 = .ok (.invokevirtual 42, 3) := dk_182 0 42 (dk_at dksL_law_13 4 rfl rfl)
theorem dL_law_371 : decode cL_law 371 = .ok (.aload_n 2, 1) := dk_44 (dk_at dksL_law_13 7 rfl rfl)
theorem dL_law_372 : decode cL_law 372 = .ok (.aload_n 0, 1) := dk_42 (dk_at dksL_law_13 8 rfl rfl)
theorem dL_law_373 : decode cL_law 373 = .ok (.iload_n 3, 1) := dk_29 (dk_at dksL_law_13 9 rfl rfl)
theorem dL_law_374 : decode cL_law 374 = .ok (.iconst 1, 1) := dk_4 (dk_at dksL_law_13 10 rfl rfl)
theorem dL_law_375 : decode cL_law 375 = .ok (.iadd, 1) := dk_96 (dk_at dksL_law_13 11 rfl rfl)
theorem dL_law_376 : decode cL_law 376 = .ok (.iaload, 1) := dk_46 (dk_at dksL_law_13 12 rfl rfl)
theorem dL_law_377 : decode cL_law 377 = .ok (.invokevirtual 45, 3) := dk_182 0 45 (dk_at dksL_law_13 13 rfl rfl)
theorem dL_law_380 : decode cL_law 380 = .ok (.if_icmp .eq 333, 3) := dk_159 1 77 (dk_at dksL_law_13 16 rfl rfl)
theorem dL_law_383 : decode cL_law 383 = .ok (.iconst 0, 1) := dk_3 (dk_at dksL_law_13 19 rfl rfl)
theorem dL_law_384 : decode cL_law 384 = .ok (.ireturn, 1) := dk_172 (dk_at dksL_law_13 20 rfl rfl)
theorem dL_law_385 : decode cL_law 385 = .ok (.aload_n 1, 1) := dk_43 (dk_at dksL_law_13 21 rfl rfl)
theorem dL_law_386 : decode cL_law 386 = .ok (.invokevirtual 46, 3) := dk_182 0 46 (dk_at dksL_law_14 0 rfl rfl)
theorem dL_law_389 : decode cL_law 389 = .ok (.aload_n 2, 1) := dk_44 (dk_at dksL_law_14 3 rfl rfl)
theorem dL_law_390 : decode cL_law 390 = .ok (.invokevirtual 49, 3) := dk_182 0 49 (dk_at dksL_law_14 4 rfl rfl)
theorem dL_law_393 : decode cL_law 393 = .ok (.if_icmp .eq 320, 3) := dk_159 1 64 (dk_at dksL_law_14 7 rfl rfl)
theorem dL_law_396 : decode cL_law 396 = .ok (.iconst 0, 1) := dk_3 (dk_at dksL_law_14 10 rfl rfl)
theorem dL_law_397 : decode cL_law 397 = .ok (.ireturn, 1) := dk_172 (dk_at dksL_law_14 11 rfl rfl)
theorem dL_law_398 : decode cL_law 398 = .ok (.aload_n 1, 1) := dk_43 (dk_at dksL_law_14 12 rfl rfl)
theorem dL_law_399 : decode cL_law 399 = .ok (.aload_n 0, 1) := dk_42 (dk_at dksL_law_14 13 rfl rfl)
theorem dL_law_400 : decode cL_law 400 = .ok (.iload_n 3, 1) := dk_29 (dk_at dksL_law_14 14 rfl rfl)
theorem dL_law_401 : decode cL_law 401 = .ok (.iconst 1, 1) := dk_4 (dk_at dksL_law_14 15 rfl rfl)
theorem dL_law_402 : decode cL_law 402 = .ok (.iadd, 1) := dk_96 (dk_at dksL_law_14 16 rfl rfl)
theorem dL_law_403 : decode cL_law 403 = .ok (.iaload, 1) := dk_46 (dk_at dksL_law_14 17 rfl rfl)
theorem dL_law_404 : decode cL_law 404 = .ok (.invokevirtual 50, 3) := dk_182 0 50 (dk_at dksL_law_14 18 rfl rfl)
theorem dL_law_407 : decode cL_law 407 = .ok (.aload_n 2, 1) := dk_44 (dk_at dksL_law_14 21 rfl rfl)
theorem dL_law_408 : decode cL_law 408 = .ok (.aload_n 0, 1) := dk_42 (dk_at dksL_law_14 22 rfl rfl)
theorem dL_law_409 : decode cL_law 409 = .ok (.iload_n 3, 1) := dk_29 (dk_at dksL_law_14 23 rfl rfl)
theorem dL_law_410 : decode cL_law 410 = .ok (.iconst 1, 1) := dk_4 (dk_at dksL_law_15 0 rfl rfl)
theorem dL_law_411 : decode cL_law 411 = .ok (.iadd, 1) := dk_96 (dk_at dksL_law_15 1 rfl rfl)
theorem dL_law_412 : decode cL_law 412 = .ok (.iaload, 1) := dk_46 (dk_at dksL_law_15 2 rfl rfl)
theorem dL_law_413 : decode cL_law 413 = .ok (.invokevirtual 53, 3) := dk_182 0 53 (dk_at dksL_law_15 3 rfl rfl)
theorem dL_law_416 : decode cL_law 416 = .ok (.if_icmp .eq 297, 3) := dk_159 1 41 (dk_at dksL_law_15 6 rfl rfl)
theorem dL_law_419 : decode cL_law 419 = .ok (.iconst 0, 1) := dk_3 (dk_at dksL_law_15 9 rfl rfl)
theorem dL_law_420 : decode cL_law 420 = .ok (.ireturn, 1) := dk_172 (dk_at dksL_law_15 10 rfl rfl)
theorem dL_law_421 : decode cL_law 421 = .ok (.aload_n 1, 1) := dk_43 (dk_at dksL_law_15 11 rfl rfl)
theorem dL_law_422 : decode cL_law 422 = .ok (.aload_n 0, 1) := dk_42 (dk_at dksL_law_15 12 rfl rfl)
theorem dL_law_423 : decode cL_law 423 = .ok (.iload_n 3, 1) := dk_29 (dk_at dksL_law_15 13 rfl rfl)
theorem dL_law_424 : decode cL_law 424 = .ok (.iconst 1, 1) := dk_4 (dk_at dksL_law_15 14 rfl rfl)
theorem dL_law_425 : decode cL_law 425 = .ok (.iadd, 1) := dk_96 (dk_at dksL_law_15 15 rfl rfl)
theorem dL_law_426 : decode cL_law 426 = .ok (.iaload, 1) := dk_46 (dk_at dksL_law_15 16 rfl rfl)
theorem dL_law_427 : decode cL_law 427 = .ok (.aload_n 0, 1) := dk_42 (dk_at dksL_law_15 17 rfl rfl)
theorem dL_law_428 : decode cL_law 428 = .ok (.iload_n 3, 1) := dk_29 (dk_at dksL_law_15 18 rfl rfl)
theorem dL_law_429 : decode cL_law 429 = .ok (.iconst 2, 1) := dk_5 (dk_at dksL_law_15 19 rfl rfl)
theorem dL_law_430 : decode cL_law 430 = .ok (.iadd, 1) := dk_96 (dk_at dksL_law_15 20 rfl rfl)
theorem dL_law_431 : decode cL_law 431 = .ok (.iaload, 1) := dk_46 (dk_at dksL_law_15 21 rfl rfl)
theorem dL_law_432 : decode cL_law 432 = .ok (.invokevirtual 54, 3) := dk_182 0 54 (dk_at dksL_law_16 0 rfl rfl)
theorem dL_law_435 : decode cL_law 435 = .ok (.aload_n 2, 1) := dk_44 (dk_at dksL_law_16 3 rfl rfl)
theorem dL_law_436 : decode cL_law 436 = .ok (.aload_n 0, 1) := dk_42 (dk_at dksL_law_16 4 rfl rfl)
theorem dL_law_437 : decode cL_law 437 = .ok (.iload_n 3, 1) := dk_29 (dk_at dksL_law_16 5 rfl rfl)
theorem dL_law_438 : decode cL_law 438 = .ok (.iconst 1, 1) := dk_4 (dk_at dksL_law_16 6 rfl rfl)
theorem dL_law_439 : decode cL_law 439 = .ok (.iadd, 1) := dk_96 (dk_at dksL_law_16 7 rfl rfl)
theorem dL_law_440 : decode cL_law 440 = .ok (.iaload, 1) := dk_46 (dk_at dksL_law_16 8 rfl rfl)
theorem dL_law_441 : decode cL_law 441 = .ok (.aload_n 0, 1) := dk_42 (dk_at dksL_law_16 9 rfl rfl)
theorem dL_law_442 : decode cL_law 442 = .ok (.iload_n 3, 1) := dk_29 (dk_at dksL_law_16 10 rfl rfl)
theorem dL_law_443 : decode cL_law 443 = .ok (.iconst 2, 1) := dk_5 (dk_at dksL_law_16 11 rfl rfl)
theorem dL_law_444 : decode cL_law 444 = .ok (.iadd, 1) := dk_96 (dk_at dksL_law_16 12 rfl rfl)
theorem dL_law_445 : decode cL_law 445 = .ok (.iaload, 1) := dk_46 (dk_at dksL_law_16 13 rfl rfl)
theorem dL_law_446 : decode cL_law 446 = .ok (.invokevirtual 57, 3) := dk_182 0 57 (dk_at dksL_law_16 14 rfl rfl)
theorem dL_law_449 : decode cL_law 449 = .ok (.if_icmp .eq 264, 3) := dk_159 1 8 (dk_at dksL_law_16 17 rfl rfl)
theorem dL_law_452 : decode cL_law 452 = .ok (.iconst 0, 1) := dk_3 (dk_at dksL_law_16 20 rfl rfl)
theorem dL_law_453 : decode cL_law 453 = .ok (.ireturn, 1) := dk_172 (dk_at dksL_law_16 21 rfl rfl)
theorem dL_law_454 : decode cL_law 454 = .ok (.aload_n 1, 1) := dk_43 (dk_at dksL_law_16 22 rfl rfl)
theorem dL_law_455 : decode cL_law 455 = .ok (.aload_n 0, 1) := dk_42 (dk_at dksL_law_16 23 rfl rfl)
theorem dL_law_456 : decode cL_law 456 = .ok (.iload_n 3, 1) := dk_29 (dk_at dksL_law_17 0 rfl rfl)
theorem dL_law_457 : decode cL_law 457 = .ok (.iconst 1, 1) := dk_4 (dk_at dksL_law_17 1 rfl rfl)
theorem dL_law_458 : decode cL_law 458 = .ok (.iadd, 1) := dk_96 (dk_at dksL_law_17 2 rfl rfl)
theorem dL_law_459 : decode cL_law 459 = .ok (.iaload, 1) := dk_46 (dk_at dksL_law_17 3 rfl rfl)
theorem dL_law_460 : decode cL_law 460 = .ok (.aload_n 0, 1) := dk_42 (dk_at dksL_law_17 4 rfl rfl)
theorem dL_law_461 : decode cL_law 461 = .ok (.iload_n 3, 1) := dk_29 (dk_at dksL_law_17 5 rfl rfl)
theorem dL_law_462 : decode cL_law 462 = .ok (.iconst 2, 1) := dk_5 (dk_at dksL_law_17 6 rfl rfl)
theorem dL_law_463 : decode cL_law 463 = .ok (.iadd, 1) := dk_96 (dk_at dksL_law_17 7 rfl rfl)
theorem dL_law_464 : decode cL_law 464 = .ok (.iaload, 1) := dk_46 (dk_at dksL_law_17 8 rfl rfl)
theorem dL_law_465 : decode cL_law 465 = .ok (.invokevirtual 58, 3) := dk_182 0 58 (dk_at dksL_law_17 9 rfl rfl)
theorem dL_law_468 : decode cL_law 468 = .ok (.aload_n 2, 1) := dk_44 (dk_at dksL_law_17 12 rfl rfl)
theorem dL_law_469 : decode cL_law 469 = .ok (.aload_n 0, 1) := dk_42 (dk_at dksL_law_17 13 rfl rfl)
theorem dL_law_470 : decode cL_law 470 = .ok (.iload_n 3, 1) := dk_29 (dk_at dksL_law_17 14 rfl rfl)
theorem dL_law_471 : decode cL_law 471 = .ok (.iconst 1, 1) := dk_4 (dk_at dksL_law_17 15 rfl rfl)
theorem dL_law_472 : decode cL_law 472 = .ok (.iadd, 1) := dk_96 (dk_at dksL_law_17 16 rfl rfl)
theorem dL_law_473 : decode cL_law 473 = .ok (.iaload, 1) := dk_46 (dk_at dksL_law_17 17 rfl rfl)
theorem dL_law_474 : decode cL_law 474 = .ok (.aload_n 0, 1) := dk_42 (dk_at dksL_law_17 18 rfl rfl)
theorem dL_law_475 : decode cL_law 475 = .ok (.iload_n 3, 1) := dk_29 (dk_at dksL_law_17 19 rfl rfl)
theorem dL_law_476 : decode cL_law 476 = .ok (.iconst 2, 1) := dk_5 (dk_at dksL_law_17 20 rfl rfl)
theorem dL_law_477 : decode cL_law 477 = .ok (.iadd, 1) := dk_96 (dk_at dksL_law_17 21 rfl rfl)
theorem dL_law_478 : decode cL_law 478 = .ok (.iaload, 1) := dk_46 (dk_at dksL_law_17 22 rfl rfl)
theorem dL_law_479 : decode cL_law 479 = .ok (.invokevirtual 62, 3) := dk_182 0 62 (dk_at dksL_law_18 0 rfl rfl)
theorem dL_law_482 : decode cL_law 482 = .ok (.lcmp, 1) := dk_148 (dk_at dksL_law_18 3 rfl rfl)
theorem dL_law_483 : decode cL_law 483 = .ok (.ifCond .eq 230, 3) := dk_153 0 230 (dk_at dksL_law_18 4 rfl rfl)
theorem dL_law_486 : decode cL_law 486 = .ok (.iconst 0, 1) := dk_3 (dk_at dksL_law_18 7 rfl rfl)
theorem dL_law_487 : decode cL_law 487 = .ok (.ireturn, 1) := dk_172 (dk_at dksL_law_18 8 rfl rfl)
theorem dL_law_488 : decode cL_law 488 = .ok (.aload_n 1, 1) := dk_43 (dk_at dksL_law_18 9 rfl rfl)
theorem dL_law_489 : decode cL_law 489 = .ok (.aload_n 0, 1) := dk_42 (dk_at dksL_law_18 10 rfl rfl)
theorem dL_law_490 : decode cL_law 490 = .ok (.iload_n 3, 1) := dk_29 (dk_at dksL_law_18 11 rfl rfl)
theorem dL_law_491 : decode cL_law 491 = .ok (.iconst 1, 1) := dk_4 (dk_at dksL_law_18 12 rfl rfl)
theorem dL_law_492 : decode cL_law 492 = .ok (.iadd, 1) := dk_96 (dk_at dksL_law_18 13 rfl rfl)
theorem dL_law_493 : decode cL_law 493 = .ok (.iaload, 1) := dk_46 (dk_at dksL_law_18 14 rfl rfl)
theorem dL_law_494 : decode cL_law 494 = .ok (.invokevirtual 63, 3) := dk_182 0 63 (dk_at dksL_law_18 15 rfl rfl)
theorem dL_law_497 : decode cL_law 497 = .ok (.aload_n 2, 1) := dk_44 (dk_at dksL_law_18 18 rfl rfl)
theorem dL_law_498 : decode cL_law 498 = .ok (.aload_n 0, 1) := dk_42 (dk_at dksL_law_18 19 rfl rfl)
theorem dL_law_499 : decode cL_law 499 = .ok (.iload_n 3, 1) := dk_29 (dk_at dksL_law_18 20 rfl rfl)
theorem dL_law_500 : decode cL_law 500 = .ok (.iconst 1, 1) := dk_4 (dk_at dksL_law_18 21 rfl rfl)
theorem dL_law_501 : decode cL_law 501 = .ok (.iadd, 1) := dk_96 (dk_at dksL_law_18 22 rfl rfl)
theorem dL_law_502 : decode cL_law 502 = .ok (.iaload, 1) := dk_46 (dk_at dksL_law_18 23 rfl rfl)
theorem dL_law_503 : decode cL_law 503 = .ok (.invokevirtual 67, 3) := dk_182 0 67 (dk_at dksL_law_19 0 rfl rfl)
theorem dL_law_506 : decode cL_law 506 = .ok (.lcmp, 1) := dk_148 (dk_at dksL_law_19 3 rfl rfl)
theorem dL_law_507 : decode cL_law 507 = .ok (.ifCond .eq 206, 3) := dk_153 0 206 (dk_at dksL_law_19 4 rfl rfl)
theorem dL_law_510 : decode cL_law 510 = .ok (.iconst 0, 1) := dk_3 (dk_at dksL_law_19 7 rfl rfl)
theorem dL_law_511 : decode cL_law 511 = .ok (.ireturn, 1) := dk_172 (dk_at dksL_law_19 8 rfl rfl)
theorem dL_law_512 : decode cL_law 512 = .ok (.aload_n 1, 1) := dk_43 (dk_at dksL_law_19 9 rfl rfl)
theorem dL_law_513 : decode cL_law 513 = .ok (.aload_n 0, 1) := dk_42 (dk_at dksL_law_19 10 rfl rfl)
theorem dL_law_514 : decode cL_law 514 = .ok (.iload_n 3, 1) := dk_29 (dk_at dksL_law_19 11 rfl rfl)
theorem dL_law_515 : decode cL_law 515 = .ok (.iconst 1, 1) := dk_4 (dk_at dksL_law_19 12 rfl rfl)
theorem dL_law_516 : decode cL_law 516 = .ok (.iadd, 1) := dk_96 (dk_at dksL_law_19 13 rfl rfl)
theorem dL_law_517 : decode cL_law 517 = .ok (.iaload, 1) := dk_46 (dk_at dksL_law_19 14 rfl rfl)
theorem dL_law_518 : decode cL_law 518 = .ok (.aload_n 0, 1) := dk_42 (dk_at dksL_law_19 15 rfl rfl)
theorem dL_law_519 : decode cL_law 519 = .ok (.iload_n 3, 1) := dk_29 (dk_at dksL_law_19 16 rfl rfl)
theorem dL_law_520 : decode cL_law 520 = .ok (.iconst 2, 1) := dk_5 (dk_at dksL_law_19 17 rfl rfl)
theorem dL_law_521 : decode cL_law 521 = .ok (.iadd, 1) := dk_96 (dk_at dksL_law_19 18 rfl rfl)
theorem dL_law_522 : decode cL_law 522 = .ok (.iaload, 1) := dk_46 (dk_at dksL_law_19 19 rfl rfl)
theorem dL_law_523 : decode cL_law 523 = .ok (.invokevirtual 68, 3) := dk_182 0 68 (dk_at dksL_law_19 20 rfl rfl)
theorem dL_law_526 : decode cL_law 526 = .ok (.aload_n 2, 1) := dk_44 (dk_at dksL_law_19 23 rfl rfl)
theorem dL_law_527 : decode cL_law 527 = .ok (.aload_n 0, 1) := dk_42 (dk_at dksL_law_20 0 rfl rfl)
theorem dL_law_528 : decode cL_law 528 = .ok (.iload_n 3, 1) := dk_29 (dk_at dksL_law_20 1 rfl rfl)
theorem dL_law_529 : decode cL_law 529 = .ok (.iconst 1, 1) := dk_4 (dk_at dksL_law_20 2 rfl rfl)
theorem dL_law_530 : decode cL_law 530 = .ok (.iadd, 1) := dk_96 (dk_at dksL_law_20 3 rfl rfl)
theorem dL_law_531 : decode cL_law 531 = .ok (.iaload, 1) := dk_46 (dk_at dksL_law_20 4 rfl rfl)
theorem dL_law_532 : decode cL_law 532 = .ok (.aload_n 0, 1) := dk_42 (dk_at dksL_law_20 5 rfl rfl)
theorem dL_law_533 : decode cL_law 533 = .ok (.iload_n 3, 1) := dk_29 (dk_at dksL_law_20 6 rfl rfl)
theorem dL_law_534 : decode cL_law 534 = .ok (.iconst 2, 1) := dk_5 (dk_at dksL_law_20 7 rfl rfl)
theorem dL_law_535 : decode cL_law 535 = .ok (.iadd, 1) := dk_96 (dk_at dksL_law_20 8 rfl rfl)
theorem dL_law_536 : decode cL_law 536 = .ok (.iaload, 1) := dk_46 (dk_at dksL_law_20 9 rfl rfl)
theorem dL_law_537 : decode cL_law 537 = .ok (.invokevirtual 71, 3) := dk_182 0 71 (dk_at dksL_law_20 10 rfl rfl)
theorem dL_law_540 : decode cL_law 540 = .ok (.if_icmp .eq 173, 3) := dk_159 0 173 (dk_at dksL_law_20 13 rfl rfl)
theorem dL_law_543 : decode cL_law 543 = .ok (.iconst 0, 1) := dk_3 (dk_at dksL_law_20 16 rfl rfl)
theorem dL_law_544 : decode cL_law 544 = .ok (.ireturn, 1) := dk_172 (dk_at dksL_law_20 17 rfl rfl)
theorem dL_law_545 : decode cL_law 545 = .ok (.aload_n 1, 1) := dk_43 (dk_at dksL_law_20 18 rfl rfl)
theorem dL_law_546 : decode cL_law 546 = .ok (.aload_n 0, 1) := dk_42 (dk_at dksL_law_20 19 rfl rfl)
theorem dL_law_547 : decode cL_law 547 = .ok (.iload_n 3, 1) := dk_29 (dk_at dksL_law_20 20 rfl rfl)
theorem dL_law_548 : decode cL_law 548 = .ok (.iconst 1, 1) := dk_4 (dk_at dksL_law_20 21 rfl rfl)
theorem dL_law_549 : decode cL_law 549 = .ok (.iadd, 1) := dk_96 (dk_at dksL_law_20 22 rfl rfl)
theorem dL_law_550 : decode cL_law 550 = .ok (.iaload, 1) := dk_46 (dk_at dksL_law_20 23 rfl rfl)
theorem dL_law_551 : decode cL_law 551 = .ok (.aload_n 0, 1) := dk_42 (dk_at dksL_law_21 0 rfl rfl)
theorem dL_law_552 : decode cL_law 552 = .ok (.iload_n 3, 1) := dk_29 (dk_at dksL_law_21 1 rfl rfl)
theorem dL_law_553 : decode cL_law 553 = .ok (.iconst 2, 1) := dk_5 (dk_at dksL_law_21 2 rfl rfl)
theorem dL_law_554 : decode cL_law 554 = .ok (.iadd, 1) := dk_96 (dk_at dksL_law_21 3 rfl rfl)
theorem dL_law_555 : decode cL_law 555 = .ok (.iaload, 1) := dk_46 (dk_at dksL_law_21 4 rfl rfl)
theorem dL_law_556 : decode cL_law 556 = .ok (.invokevirtual 72, 3) := dk_182 0 72 (dk_at dksL_law_21 5 rfl rfl)
theorem dL_law_559 : decode cL_law 559 = .ok (.aload_n 2, 1) := dk_44 (dk_at dksL_law_21 8 rfl rfl)
theorem dL_law_560 : decode cL_law 560 = .ok (.aload_n 0, 1) := dk_42 (dk_at dksL_law_21 9 rfl rfl)
theorem dL_law_561 : decode cL_law 561 = .ok (.iload_n 3, 1) := dk_29 (dk_at dksL_law_21 10 rfl rfl)
theorem dL_law_562 : decode cL_law 562 = .ok (.iconst 1, 1) := dk_4 (dk_at dksL_law_21 11 rfl rfl)
theorem dL_law_563 : decode cL_law 563 = .ok (.iadd, 1) := dk_96 (dk_at dksL_law_21 12 rfl rfl)
theorem dL_law_564 : decode cL_law 564 = .ok (.iaload, 1) := dk_46 (dk_at dksL_law_21 13 rfl rfl)
theorem dL_law_565 : decode cL_law 565 = .ok (.aload_n 0, 1) := dk_42 (dk_at dksL_law_21 14 rfl rfl)
theorem dL_law_566 : decode cL_law 566 = .ok (.iload_n 3, 1) := dk_29 (dk_at dksL_law_21 15 rfl rfl)
theorem dL_law_567 : decode cL_law 567 = .ok (.iconst 2, 1) := dk_5 (dk_at dksL_law_21 16 rfl rfl)
theorem dL_law_568 : decode cL_law 568 = .ok (.iadd, 1) := dk_96 (dk_at dksL_law_21 17 rfl rfl)
theorem dL_law_569 : decode cL_law 569 = .ok (.iaload, 1) := dk_46 (dk_at dksL_law_21 18 rfl rfl)
theorem dL_law_570 : decode cL_law 570 = .ok (.invokevirtual 75, 3) := dk_182 0 75 (dk_at dksL_law_21 19 rfl rfl)
theorem dL_law_573 : decode cL_law 573 = .ok (.if_icmp .eq 140, 3) := dk_159 0 140 (dk_at dksL_law_22 0 rfl rfl)
theorem dL_law_576 : decode cL_law 576 = .ok (.iconst 0, 1) := dk_3 (dk_at dksL_law_22 3 rfl rfl)
theorem dL_law_577 : decode cL_law 577 = .ok (.ireturn, 1) := dk_172 (dk_at dksL_law_22 4 rfl rfl)
theorem dL_law_578 : decode cL_law 578 = .ok (.aload_n 1, 1) := dk_43 (dk_at dksL_law_22 5 rfl rfl)
theorem dL_law_579 : decode cL_law 579 = .ok (.aload_n 0, 1) := dk_42 (dk_at dksL_law_22 6 rfl rfl)
theorem dL_law_580 : decode cL_law 580 = .ok (.iload_n 3, 1) := dk_29 (dk_at dksL_law_22 7 rfl rfl)
theorem dL_law_581 : decode cL_law 581 = .ok (.iconst 1, 1) := dk_4 (dk_at dksL_law_22 8 rfl rfl)
theorem dL_law_582 : decode cL_law 582 = .ok (.iadd, 1) := dk_96 (dk_at dksL_law_22 9 rfl rfl)
theorem dL_law_583 : decode cL_law 583 = .ok (.iaload, 1) := dk_46 (dk_at dksL_law_22 10 rfl rfl)
theorem dL_law_584 : decode cL_law 584 = .ok (.invokevirtual 76, 3) := dk_182 0 76 (dk_at dksL_law_22 11 rfl rfl)
theorem dL_law_587 : decode cL_law 587 = .ok (.aload_n 2, 1) := dk_44 (dk_at dksL_law_22 14 rfl rfl)
theorem dL_law_588 : decode cL_law 588 = .ok (.aload_n 0, 1) := dk_42 (dk_at dksL_law_22 15 rfl rfl)
theorem dL_law_589 : decode cL_law 589 = .ok (.iload_n 3, 1) := dk_29 (dk_at dksL_law_22 16 rfl rfl)
theorem dL_law_590 : decode cL_law 590 = .ok (.iconst 1, 1) := dk_4 (dk_at dksL_law_22 17 rfl rfl)
theorem dL_law_591 : decode cL_law 591 = .ok (.iadd, 1) := dk_96 (dk_at dksL_law_22 18 rfl rfl)
theorem dL_law_592 : decode cL_law 592 = .ok (.iaload, 1) := dk_46 (dk_at dksL_law_22 19 rfl rfl)
theorem dL_law_593 : decode cL_law 593 = .ok (.invokevirtual 79, 3) := dk_182 0 79 (dk_at dksL_law_22 20 rfl rfl)
theorem dL_law_596 : decode cL_law 596 = .ok (.if_icmp .eq 117, 3) := dk_159 0 117 (dk_at dksL_law_23 0 rfl rfl)
theorem dL_law_599 : decode cL_law 599 = .ok (.iconst 0, 1) := dk_3 (dk_at dksL_law_23 3 rfl rfl)
theorem dL_law_600 : decode cL_law 600 = .ok (.ireturn, 1) := dk_172 (dk_at dksL_law_23 4 rfl rfl)
theorem dL_law_601 : decode cL_law 601 = .ok (.aload_n 1, 1) := dk_43 (dk_at dksL_law_23 5 rfl rfl)
theorem dL_law_602 : decode cL_law 602 = .ok (.aload_n 0, 1) := dk_42 (dk_at dksL_law_23 6 rfl rfl)
theorem dL_law_603 : decode cL_law 603 = .ok (.iload_n 3, 1) := dk_29 (dk_at dksL_law_23 7 rfl rfl)
theorem dL_law_604 : decode cL_law 604 = .ok (.iconst 1, 1) := dk_4 (dk_at dksL_law_23 8 rfl rfl)
theorem dL_law_605 : decode cL_law 605 = .ok (.iadd, 1) := dk_96 (dk_at dksL_law_23 9 rfl rfl)
theorem dL_law_606 : decode cL_law 606 = .ok (.iaload, 1) := dk_46 (dk_at dksL_law_23 10 rfl rfl)
theorem dL_law_607 : decode cL_law 607 = .ok (.invokevirtual 80, 3) := dk_182 0 80 (dk_at dksL_law_23 11 rfl rfl)
theorem dL_law_610 : decode cL_law 610 = .ok (.aload_n 2, 1) := dk_44 (dk_at dksL_law_23 14 rfl rfl)
theorem dL_law_611 : decode cL_law 611 = .ok (.aload_n 0, 1) := dk_42 (dk_at dksL_law_23 15 rfl rfl)
theorem dL_law_612 : decode cL_law 612 = .ok (.iload_n 3, 1) := dk_29 (dk_at dksL_law_23 16 rfl rfl)
theorem dL_law_613 : decode cL_law 613 = .ok (.iconst 1, 1) := dk_4 (dk_at dksL_law_23 17 rfl rfl)
theorem dL_law_614 : decode cL_law 614 = .ok (.iadd, 1) := dk_96 (dk_at dksL_law_23 18 rfl rfl)
theorem dL_law_615 : decode cL_law 615 = .ok (.iaload, 1) := dk_46 (dk_at dksL_law_23 19 rfl rfl)
theorem dL_law_616 : decode cL_law 616 = .ok (.invokevirtual 83, 3) := dk_182 0 83 (dk_at dksL_law_23 20 rfl rfl)
theorem dL_law_619 : decode cL_law 619 = .ok (.if_icmp .eq 94, 3) := dk_159 0 94 (dk_at dksL_law_24 0 rfl rfl)
theorem dL_law_622 : decode cL_law 622 = .ok (.iconst 0, 1) := dk_3 (dk_at dksL_law_24 3 rfl rfl)
theorem dL_law_623 : decode cL_law 623 = .ok (.ireturn, 1) := dk_172 (dk_at dksL_law_24 4 rfl rfl)
theorem dL_law_624 : decode cL_law 624 = .ok (.aload_n 1, 1) := dk_43 (dk_at dksL_law_24 5 rfl rfl)
theorem dL_law_625 : decode cL_law 625 = .ok (.aload_n 0, 1) := dk_42 (dk_at dksL_law_24 6 rfl rfl)
theorem dL_law_626 : decode cL_law 626 = .ok (.iload_n 3, 1) := dk_29 (dk_at dksL_law_24 7 rfl rfl)
theorem dL_law_627 : decode cL_law 627 = .ok (.iconst 1, 1) := dk_4 (dk_at dksL_law_24 8 rfl rfl)
theorem dL_law_628 : decode cL_law 628 = .ok (.iadd, 1) := dk_96 (dk_at dksL_law_24 9 rfl rfl)
theorem dL_law_629 : decode cL_law 629 = .ok (.iaload, 1) := dk_46 (dk_at dksL_law_24 10 rfl rfl)
theorem dL_law_630 : decode cL_law 630 = .ok (.invokevirtual 84, 3) := dk_182 0 84 (dk_at dksL_law_24 11 rfl rfl)
theorem dL_law_633 : decode cL_law 633 = .ok (.aload_n 2, 1) := dk_44 (dk_at dksL_law_24 14 rfl rfl)
theorem dL_law_634 : decode cL_law 634 = .ok (.aload_n 0, 1) := dk_42 (dk_at dksL_law_24 15 rfl rfl)
theorem dL_law_635 : decode cL_law 635 = .ok (.iload_n 3, 1) := dk_29 (dk_at dksL_law_24 16 rfl rfl)
theorem dL_law_636 : decode cL_law 636 = .ok (.iconst 1, 1) := dk_4 (dk_at dksL_law_24 17 rfl rfl)
theorem dL_law_637 : decode cL_law 637 = .ok (.iadd, 1) := dk_96 (dk_at dksL_law_24 18 rfl rfl)
theorem dL_law_638 : decode cL_law 638 = .ok (.iaload, 1) := dk_46 (dk_at dksL_law_24 19 rfl rfl)
theorem dL_law_639 : decode cL_law 639 = .ok (.invokevirtual 87, 3) := dk_182 0 87 (dk_at dksL_law_24 20 rfl rfl)
theorem dL_law_642 : decode cL_law 642 = .ok (.if_icmp .eq 71, 3) := dk_159 0 71 (dk_at dksL_law_25 0 rfl rfl)
theorem dL_law_645 : decode cL_law 645 = .ok (.iconst 0, 1) := dk_3 (dk_at dksL_law_25 3 rfl rfl)
theorem dL_law_646 : decode cL_law 646 = .ok (.ireturn, 1) := dk_172 (dk_at dksL_law_25 4 rfl rfl)
theorem dL_law_647 : decode cL_law 647 = .ok (.aload_n 1, 1) := dk_43 (dk_at dksL_law_25 5 rfl rfl)
theorem dL_law_648 : decode cL_law 648 = .ok (.aload_n 0, 1) := dk_42 (dk_at dksL_law_25 6 rfl rfl)
theorem dL_law_649 : decode cL_law 649 = .ok (.iload_n 3, 1) := dk_29 (dk_at dksL_law_25 7 rfl rfl)
theorem dL_law_650 : decode cL_law 650 = .ok (.iconst 1, 1) := dk_4 (dk_at dksL_law_25 8 rfl rfl)
theorem dL_law_651 : decode cL_law 651 = .ok (.iadd, 1) := dk_96 (dk_at dksL_law_25 9 rfl rfl)
theorem dL_law_652 : decode cL_law 652 = .ok (.iaload, 1) := dk_46 (dk_at dksL_law_25 10 rfl rfl)
theorem dL_law_653 : decode cL_law 653 = .ok (.aload_n 0, 1) := dk_42 (dk_at dksL_law_25 11 rfl rfl)
theorem dL_law_654 : decode cL_law 654 = .ok (.iload_n 3, 1) := dk_29 (dk_at dksL_law_25 12 rfl rfl)
theorem dL_law_655 : decode cL_law 655 = .ok (.iconst 2, 1) := dk_5 (dk_at dksL_law_25 13 rfl rfl)
theorem dL_law_656 : decode cL_law 656 = .ok (.iadd, 1) := dk_96 (dk_at dksL_law_25 14 rfl rfl)
theorem dL_law_657 : decode cL_law 657 = .ok (.iaload, 1) := dk_46 (dk_at dksL_law_25 15 rfl rfl)
theorem dL_law_658 : decode cL_law 658 = .ok (.invokevirtual 88, 3) := dk_182 0 88 (dk_at dksL_law_25 16 rfl rfl)
theorem dL_law_661 : decode cL_law 661 = .ok (.aload_n 2, 1) := dk_44 (dk_at dksL_law_25 19 rfl rfl)
theorem dL_law_662 : decode cL_law 662 = .ok (.aload_n 0, 1) := dk_42 (dk_at dksL_law_25 20 rfl rfl)
theorem dL_law_663 : decode cL_law 663 = .ok (.iload_n 3, 1) := dk_29 (dk_at dksL_law_25 21 rfl rfl)
theorem dL_law_664 : decode cL_law 664 = .ok (.iconst 1, 1) := dk_4 (dk_at dksL_law_25 22 rfl rfl)
theorem dL_law_665 : decode cL_law 665 = .ok (.iadd, 1) := dk_96 (dk_at dksL_law_25 23 rfl rfl)
theorem dL_law_666 : decode cL_law 666 = .ok (.iaload, 1) := dk_46 (dk_at dksL_law_26 0 rfl rfl)
theorem dL_law_667 : decode cL_law 667 = .ok (.aload_n 0, 1) := dk_42 (dk_at dksL_law_26 1 rfl rfl)
theorem dL_law_668 : decode cL_law 668 = .ok (.iload_n 3, 1) := dk_29 (dk_at dksL_law_26 2 rfl rfl)
theorem dL_law_669 : decode cL_law 669 = .ok (.iconst 2, 1) := dk_5 (dk_at dksL_law_26 3 rfl rfl)
theorem dL_law_670 : decode cL_law 670 = .ok (.iadd, 1) := dk_96 (dk_at dksL_law_26 4 rfl rfl)
theorem dL_law_671 : decode cL_law 671 = .ok (.iaload, 1) := dk_46 (dk_at dksL_law_26 5 rfl rfl)
theorem dL_law_672 : decode cL_law 672 = .ok (.invokevirtual 91, 3) := dk_182 0 91 (dk_at dksL_law_26 6 rfl rfl)
theorem dL_law_675 : decode cL_law 675 = .ok (.if_icmp .eq 38, 3) := dk_159 0 38 (dk_at dksL_law_26 9 rfl rfl)
theorem dL_law_678 : decode cL_law 678 = .ok (.iconst 0, 1) := dk_3 (dk_at dksL_law_26 12 rfl rfl)
theorem dL_law_679 : decode cL_law 679 = .ok (.ireturn, 1) := dk_172 (dk_at dksL_law_26 13 rfl rfl)
theorem dL_law_680 : decode cL_law 680 = .ok (.aload_n 1, 1) := dk_43 (dk_at dksL_law_26 14 rfl rfl)
theorem dL_law_681 : decode cL_law 681 = .ok (.aload_n 0, 1) := dk_42 (dk_at dksL_law_26 15 rfl rfl)
theorem dL_law_682 : decode cL_law 682 = .ok (.iload_n 3, 1) := dk_29 (dk_at dksL_law_26 16 rfl rfl)
theorem dL_law_683 : decode cL_law 683 = .ok (.iconst 1, 1) := dk_4 (dk_at dksL_law_26 17 rfl rfl)
theorem dL_law_684 : decode cL_law 684 = .ok (.iadd, 1) := dk_96 (dk_at dksL_law_26 18 rfl rfl)
theorem dL_law_685 : decode cL_law 685 = .ok (.iaload, 1) := dk_46 (dk_at dksL_law_26 19 rfl rfl)
theorem dL_law_686 : decode cL_law 686 = .ok (.aload_n 0, 1) := dk_42 (dk_at dksL_law_26 20 rfl rfl)
theorem dL_law_687 : decode cL_law 687 = .ok (.iload_n 3, 1) := dk_29 (dk_at dksL_law_26 21 rfl rfl)
theorem dL_law_688 : decode cL_law 688 = .ok (.iconst 2, 1) := dk_5 (dk_at dksL_law_26 22 rfl rfl)
theorem dL_law_689 : decode cL_law 689 = .ok (.iadd, 1) := dk_96 (dk_at dksL_law_26 23 rfl rfl)
theorem dL_law_690 : decode cL_law 690 = .ok (.iaload, 1) := dk_46 (dk_at dksL_law_27 0 rfl rfl)
theorem dL_law_691 : decode cL_law 691 = .ok (.invokevirtual 92, 3) := dk_182 0 92 (dk_at dksL_law_27 1 rfl rfl)
theorem dL_law_694 : decode cL_law 694 = .ok (.aload_n 2, 1) := dk_44 (dk_at dksL_law_27 4 rfl rfl)
theorem dL_law_695 : decode cL_law 695 = .ok (.aload_n 0, 1) := dk_42 (dk_at dksL_law_27 5 rfl rfl)
theorem dL_law_696 : decode cL_law 696 = .ok (.iload_n 3, 1) := dk_29 (dk_at dksL_law_27 6 rfl rfl)
theorem dL_law_697 : decode cL_law 697 = .ok (.iconst 1, 1) := dk_4 (dk_at dksL_law_27 7 rfl rfl)
theorem dL_law_698 : decode cL_law 698 = .ok (.iadd, 1) := dk_96 (dk_at dksL_law_27 8 rfl rfl)
theorem dL_law_699 : decode cL_law 699 = .ok (.iaload, 1) := dk_46 (dk_at dksL_law_27 9 rfl rfl)
theorem dL_law_700 : decode cL_law 700 = .ok (.aload_n 0, 1) := dk_42 (dk_at dksL_law_27 10 rfl rfl)
theorem dL_law_701 : decode cL_law 701 = .ok (.iload_n 3, 1) := dk_29 (dk_at dksL_law_27 11 rfl rfl)
theorem dL_law_702 : decode cL_law 702 = .ok (.iconst 2, 1) := dk_5 (dk_at dksL_law_27 12 rfl rfl)
theorem dL_law_703 : decode cL_law 703 = .ok (.iadd, 1) := dk_96 (dk_at dksL_law_27 13 rfl rfl)
theorem dL_law_704 : decode cL_law 704 = .ok (.iaload, 1) := dk_46 (dk_at dksL_law_27 14 rfl rfl)
theorem dL_law_705 : decode cL_law 705 = .ok (.invokevirtual 95, 3) := dk_182 0 95 (dk_at dksL_law_27 15 rfl rfl)
theorem dL_law_708 : decode cL_law 708 = .ok (.if_icmp .eq 5, 3) := dk_159 0 5 (dk_at dksL_law_27 18 rfl rfl)
theorem dL_law_711 : decode cL_law 711 = .ok (.iconst 0, 1) := dk_3 (dk_at dksL_law_27 21 rfl rfl)
theorem dL_law_712 : decode cL_law 712 = .ok (.ireturn, 1) := dk_172 (dk_at dksL_law_27 22 rfl rfl)
theorem dL_law_713 : decode cL_law 713 = .ok (.iinc 3 6, 3) := dk_132 3 6 (dk_at dksL_law_28 0 rfl rfl)
theorem dL_law_716 : decode cL_law 716 = .ok (.goto (-698), 3) := dk_167 253 70 (dk_at dksL_law_28 3 rfl rfl)
theorem dL_law_719 : decode cL_law 719 = .ok (.iconst 1, 1) := dk_4 (dk_at dksL_law_28 6 rfl rfl)
theorem dL_law_720 : decode cL_law 720 = .ok (.ireturn, 1) := dk_172 (dk_at dksL_law_28 7 rfl rfl)
