/-! ThrowReports -/
set_option maxRecDepth 100000
def RX0 : String := "ThrowReports"
def TX0 : u_T := fun k => match k with
  | 0 => ("ThrowReports", "things", "[LThrowReports$Holder;", true)
  | 1 => ("ThrowReports", "made", "I", false)
  | 2 => ("ThrowReports", "items", "I", false)
  | 3 => ("ThrowReports", "slots", "[LThrowReports$Holder;", true)
  | 4 => ("ThrowReports", "registers", "[J", true)
  | 5 => ("ThrowReports", "nodes", "[LThrowReports$Node;", true)
  | 6 => ("ThrowReports", "many", "I", false)
  | 7 => ("ThrowReports", "begun", "I", false)
  | 8 => ("ThrowReports", "failed", "I", false)
  | 9 => ("ThrowReports", "came", "I", false)
  | 10 => ("ThrowReports", "lasts", "I", false)
  | 11 => ("ThrowReports", "lost", "I", false)
  | 12 => ("ThrowReports", "failedNode", "I", false)
  | _ => ("ThrowReports", "start", "LThrowReports$State;", true)
def tyX0 : Nat → FieldType := fun k => match k with
  | 0 => .array (.object "ThrowReports$Holder")
  | 1 => .int
  | 2 => .int
  | 3 => .array (.object "ThrowReports$Holder")
  | 4 => .array .long
  | 5 => .array (.object "ThrowReports$Node")
  | 6 => .int
  | 7 => .int
  | 8 => .int
  | 9 => .int
  | 10 => .int
  | 11 => .int
  | 12 => .int
  | _ => .object "ThrowReports$State"
abbrev wsX00 : List Cond := u_ws RX0 TX0 14
set_option maxRecDepth 100000 in
theorem nmX0 : ∀ a, a < 14 → ∀ b, b < 14 → a ≠ b → (TX0 a).2.1 ≠ (TX0 b).2.1 := by decide +kernel
set_option maxRecDepth 100000 in
theorem tyX0_ok : ∀ k, k < 14 → parseFieldDescriptor (TX0 k).2.2.1 = some (tyX0 k) := by decide +kernel
abbrev cX0_init : ByteArray := prog_1_method_2_code
def yX0_init : MethodName := ⟨RX0, "<init>", "()V"⟩
def dkwX0_init_5 : List UInt8 := [132, 1, 1, 167, 255, 224, 177]
abbrev dktX0_init_5 : List UInt8 := dkwX0_init_5 ++ []
def dkwX0_init_4 : List UInt8 := [180, 0, 15, 27, 187, 0, 9, 89, 183, 0, 39, 83, 42, 180, 0, 35, 180, 0, 40, 27, 4, 79]
abbrev dktX0_init_4 : List UInt8 := dkwX0_init_4 ++ dktX0_init_5
def dkwX0_init_3 : List UInt8 := [187, 0, 9, 89, 183, 0, 39, 83, 132, 1, 1, 167, 255, 233, 3, 60, 27, 16, 12, 162, 0, 32, 42]
abbrev dktX0_init_3 : List UInt8 := dkwX0_init_3 ++ dktX0_init_4
def dkwX0_init_2 : List UInt8 := [187, 0, 32, 89, 183, 0, 34, 181, 0, 35, 3, 60, 27, 17, 0, 200, 162, 0, 22, 42, 180, 0, 11, 27]
abbrev dktX0_init_2 : List UInt8 := dkwX0_init_2 ++ dktX0_init_3
def dkwX0_init_1 : List UInt8 := [16, 8, 188, 11, 181, 0, 18, 42, 16, 80, 189, 0, 22, 181, 0, 24, 42, 2, 181, 0, 28, 42]
abbrev dktX0_init_1 : List UInt8 := dkwX0_init_1 ++ dktX0_init_2
def dkwX0_init_0 : List UInt8 := [42, 183, 0, 1, 42, 17, 0, 200, 189, 0, 9, 181, 0, 11, 42, 16, 12, 189, 0, 9, 181, 0, 15, 42]
abbrev dktX0_init_0 : List UInt8 := dkwX0_init_0 ++ dktX0_init_1
theorem dksX0_init_0 : cX0_init.data.toList.drop 0 = dktX0_init_0 := by decide +kernel
theorem dksX0_init_1 : cX0_init.data.toList.drop 24 = dktX0_init_1 := dk_seg dksX0_init_0 24 rfl rfl
theorem dksX0_init_2 : cX0_init.data.toList.drop 46 = dktX0_init_2 := dk_seg dksX0_init_1 22 rfl rfl
theorem dksX0_init_3 : cX0_init.data.toList.drop 70 = dktX0_init_3 := dk_seg dksX0_init_2 24 rfl rfl
theorem dksX0_init_4 : cX0_init.data.toList.drop 93 = dktX0_init_4 := dk_seg dksX0_init_3 23 rfl rfl
theorem dksX0_init_5 : cX0_init.data.toList.drop 115 = dktX0_init_5 := dk_seg dksX0_init_4 22 rfl rfl
theorem dX0_init_0 : decode cX0_init 0 = .ok (.aload_n 0, 1) := dk_42 (dk_at dksX0_init_0 0 rfl rfl)
theorem dX0_init_1 : decode cX0_init 1 = .ok (.invokespecial 1, 3) := dk_183 0 1 (dk_at dksX0_init_0 1 rfl rfl)
theorem dX0_init_4 : decode cX0_init 4 = .ok (.aload_n 0, 1) := dk_42 (dk_at dksX0_init_0 4 rfl rfl)
theorem dX0_init_5 : decode cX0_init 5 = .ok (.sipush 200, 3) := dk_17 0 200 (dk_at dksX0_init_0 5 rfl rfl)
theorem dX0_init_8 : decode cX0_init 8 = .ok (.anewarray 9, 3) := dk_189 0 9 (dk_at dksX0_init_0 8 rfl rfl)
theorem dX0_init_11 : decode cX0_init 11 = .ok (.putfield 11, 3) := dk_181 0 11 (dk_at dksX0_init_0 11 rfl rfl)
theorem dX0_init_14 : decode cX0_init 14 = .ok (.aload_n 0, 1) := dk_42 (dk_at dksX0_init_0 14 rfl rfl)
theorem dX0_init_15 : decode cX0_init 15 = .ok (.bipush 12, 2) := dk_16 12 (dk_at dksX0_init_0 15 rfl rfl)
theorem dX0_init_17 : decode cX0_init 17 = .ok (.anewarray 9, 3) := dk_189 0 9 (dk_at dksX0_init_0 17 rfl rfl)
theorem dX0_init_20 : decode cX0_init 20 = .ok (.putfield 15, 3) := dk_181 0 15 (dk_at dksX0_init_0 20 rfl rfl)
theorem dX0_init_23 : decode cX0_init 23 = .ok (.aload_n 0, 1) := dk_42 (dk_at dksX0_init_0 23 rfl rfl)
theorem dX0_init_24 : decode cX0_init 24 = .ok (.bipush 8, 2) := dk_16 8 (dk_at dksX0_init_1 0 rfl rfl)
theorem dX0_init_26 : decode cX0_init 26 = .ok (.newarray .long, 2) := dk_188_11 (dk_at dksX0_init_1 2 rfl rfl)
theorem dX0_init_28 : decode cX0_init 28 = .ok (.putfield 18, 3) := dk_181 0 18 (dk_at dksX0_init_1 4 rfl rfl)
theorem dX0_init_31 : decode cX0_init 31 = .ok (.aload_n 0, 1) := dk_42 (dk_at dksX0_init_1 7 rfl rfl)
theorem dX0_init_32 : decode cX0_init 32 = .ok (.bipush 80, 2) := dk_16 80 (dk_at dksX0_init_1 8 rfl rfl)
theorem dX0_init_34 : decode cX0_init 34 = .ok (.anewarray 22, 3) := dk_189 0 22 (dk_at dksX0_init_1 10 rfl rfl)
theorem dX0_init_37 : decode cX0_init 37 = .ok (.putfield 24, 3) := dk_181 0 24 (dk_at dksX0_init_1 13 rfl rfl)
theorem dX0_init_40 : decode cX0_init 40 = .ok (.aload_n 0, 1) := dk_42 (dk_at dksX0_init_1 16 rfl rfl)
theorem dX0_init_41 : decode cX0_init 41 = .ok (.iconst (-1), 1) := dk_2 (dk_at dksX0_init_1 17 rfl rfl)
theorem dX0_init_42 : decode cX0_init 42 = .ok (.putfield 28, 3) := dk_181 0 28 (dk_at dksX0_init_1 18 rfl rfl)
theorem dX0_init_45 : decode cX0_init 45 = .ok (.aload_n 0, 1) := dk_42 (dk_at dksX0_init_1 21 rfl rfl)
theorem dX0_init_46 : decode cX0_init 46 = .ok (.new 32, 3) := dk_187 0 32 (dk_at dksX0_init_2 0 rfl rfl)
theorem dX0_init_49 : decode cX0_init 49 = .ok (.dup, 1) := dk_89 (dk_at dksX0_init_2 3 rfl rfl)
theorem dX0_init_50 : decode cX0_init 50 = .ok (.invokespecial 34, 3) := dk_183 0 34 (dk_at dksX0_init_2 4 rfl rfl)
theorem dX0_init_53 : decode cX0_init 53 = .ok (.putfield 35, 3) := dk_181 0 35 (dk_at dksX0_init_2 7 rfl rfl)
theorem dX0_init_56 : decode cX0_init 56 = .ok (.iconst 0, 1) := dk_3 (dk_at dksX0_init_2 10 rfl rfl)
theorem dX0_init_57 : decode cX0_init 57 = .ok (.istore_n 1, 1) := dk_60 (dk_at dksX0_init_2 11 rfl rfl)
theorem dX0_init_58 : decode cX0_init 58 = .ok (.iload_n 1, 1) := dk_27 (dk_at dksX0_init_2 12 rfl rfl)
theorem dX0_init_59 : decode cX0_init 59 = .ok (.sipush 200, 3) := dk_17 0 200 (dk_at dksX0_init_2 13 rfl rfl)
theorem dX0_init_62 : decode cX0_init 62 = .ok (.if_icmp .ge 22, 3) := dk_162 0 22 (dk_at dksX0_init_2 16 rfl rfl)
theorem dX0_init_65 : decode cX0_init 65 = .ok (.aload_n 0, 1) := dk_42 (dk_at dksX0_init_2 19 rfl rfl)
theorem dX0_init_66 : decode cX0_init 66 = .ok (.getfield 11, 3) := dk_180 0 11 (dk_at dksX0_init_2 20 rfl rfl)
theorem dX0_init_69 : decode cX0_init 69 = .ok (.iload_n 1, 1) := dk_27 (dk_at dksX0_init_2 23 rfl rfl)
theorem dX0_init_70 : decode cX0_init 70 = .ok (.new 9, 3) := dk_187 0 9 (dk_at dksX0_init_3 0 rfl rfl)
theorem dX0_init_73 : decode cX0_init 73 = .ok (.dup, 1) := dk_89 (dk_at dksX0_init_3 3 rfl rfl)
theorem dX0_init_74 : decode cX0_init 74 = .ok (.invokespecial 39, 3) := dk_183 0 39 (dk_at dksX0_init_3 4 rfl rfl)
theorem dX0_init_77 : decode cX0_init 77 = .ok (.aastore, 1) := dk_83 (dk_at dksX0_init_3 7 rfl rfl)
theorem dX0_init_78 : decode cX0_init 78 = .ok (.iinc 1 1, 3) := dk_132 1 1 (dk_at dksX0_init_3 8 rfl rfl)
theorem dX0_init_81 : decode cX0_init 81 = .ok (.goto (-23), 3) := dk_167 255 233 (dk_at dksX0_init_3 11 rfl rfl)
theorem dX0_init_84 : decode cX0_init 84 = .ok (.iconst 0, 1) := dk_3 (dk_at dksX0_init_3 14 rfl rfl)
theorem dX0_init_85 : decode cX0_init 85 = .ok (.istore_n 1, 1) := dk_60 (dk_at dksX0_init_3 15 rfl rfl)
theorem dX0_init_86 : decode cX0_init 86 = .ok (.iload_n 1, 1) := dk_27 (dk_at dksX0_init_3 16 rfl rfl)
theorem dX0_init_87 : decode cX0_init 87 = .ok (.bipush 12, 2) := dk_16 12 (dk_at dksX0_init_3 17 rfl rfl)
theorem dX0_init_89 : decode cX0_init 89 = .ok (.if_icmp .ge 32, 3) := dk_162 0 32 (dk_at dksX0_init_3 19 rfl rfl)
theorem dX0_init_92 : decode cX0_init 92 = .ok (.aload_n 0, 1) := dk_42 (dk_at dksX0_init_3 22 rfl rfl)
theorem dX0_init_93 : decode cX0_init 93 = .ok (.getfield 15, 3) := dk_180 0 15 (dk_at dksX0_init_4 0 rfl rfl)
theorem dX0_init_96 : decode cX0_init 96 = .ok (.iload_n 1, 1) := dk_27 (dk_at dksX0_init_4 3 rfl rfl)
theorem dX0_init_97 : decode cX0_init 97 = .ok (.new 9, 3) := dk_187 0 9 (dk_at dksX0_init_4 4 rfl rfl)
theorem dX0_init_100 : decode cX0_init 100 = .ok (.dup, 1) := dk_89 (dk_at dksX0_init_4 7 rfl rfl)
theorem dX0_init_101 : decode cX0_init 101 = .ok (.invokespecial 39, 3) := dk_183 0 39 (dk_at dksX0_init_4 8 rfl rfl)
theorem dX0_init_104 : decode cX0_init 104 = .ok (.aastore, 1) := dk_83 (dk_at dksX0_init_4 11 rfl rfl)
theorem dX0_init_105 : decode cX0_init 105 = .ok (.aload_n 0, 1) := dk_42 (dk_at dksX0_init_4 12 rfl rfl)
theorem dX0_init_106 : decode cX0_init 106 = .ok (.getfield 35, 3) := dk_180 0 35 (dk_at dksX0_init_4 13 rfl rfl)
theorem dX0_init_109 : decode cX0_init 109 = .ok (.getfield 40, 3) := dk_180 0 40 (dk_at dksX0_init_4 16 rfl rfl)
theorem dX0_init_112 : decode cX0_init 112 = .ok (.iload_n 1, 1) := dk_27 (dk_at dksX0_init_4 19 rfl rfl)
theorem dX0_init_113 : decode cX0_init 113 = .ok (.iconst 1, 1) := dk_4 (dk_at dksX0_init_4 20 rfl rfl)
theorem dX0_init_114 : decode cX0_init 114 = .ok (.iastore, 1) := dk_79 (dk_at dksX0_init_4 21 rfl rfl)
theorem dX0_init_115 : decode cX0_init 115 = .ok (.iinc 1 1, 3) := dk_132 1 1 (dk_at dksX0_init_5 0 rfl rfl)
theorem dX0_init_118 : decode cX0_init 118 = .ok (.goto (-32), 3) := dk_167 255 224 (dk_at dksX0_init_5 3 rfl rfl)
theorem dX0_init_121 : decode cX0_init 121 = .ok (.return_, 1) := dk_177 (dk_at dksX0_init_5 6 rfl rfl)
abbrev cX0_act : ByteArray := prog_1_method_13_code
def yX0_act : MethodName := ⟨RX0, "act", "(IIIII)I"⟩
def dkwX0_act_2 : List UInt8 := [183, 0, 97, 182, 0, 100, 172]
abbrev dktX0_act_2 : List UInt8 := dkwX0_act_2 ++ []
def dkwX0_act_1 : List UInt8 := [16, 254, 167, 0, 28, 42, 187, 0, 22, 89, 178, 0, 91, 42, 180, 0, 77, 27, 28, 29, 21, 4, 21, 5]
abbrev dktX0_act_1 : List UInt8 := dkwX0_act_1 ++ dktX0_act_2
def dkwX0_act_0 : List UInt8 := [27, 28, 29, 21, 4, 21, 5, 184, 0, 87, 154, 0, 5, 2, 172, 42, 180, 0, 77, 16, 80, 160, 0, 8]
abbrev dktX0_act_0 : List UInt8 := dkwX0_act_0 ++ dktX0_act_1
theorem dksX0_act_0 : cX0_act.data.toList.drop 0 = dktX0_act_0 := by decide +kernel
theorem dksX0_act_1 : cX0_act.data.toList.drop 24 = dktX0_act_1 := dk_seg dksX0_act_0 24 rfl rfl
theorem dksX0_act_2 : cX0_act.data.toList.drop 48 = dktX0_act_2 := dk_seg dksX0_act_1 24 rfl rfl
theorem dX0_act_0 : decode cX0_act 0 = .ok (.iload_n 1, 1) := dk_27 (dk_at dksX0_act_0 0 rfl rfl)
theorem dX0_act_1 : decode cX0_act 1 = .ok (.iload_n 2, 1) := dk_28 (dk_at dksX0_act_0 1 rfl rfl)
theorem dX0_act_2 : decode cX0_act 2 = .ok (.iload_n 3, 1) := dk_29 (dk_at dksX0_act_0 2 rfl rfl)
theorem dX0_act_3 : decode cX0_act 3 = .ok (.iload 4, 2) := dk_21 4 (dk_at dksX0_act_0 3 rfl rfl)
theorem dX0_act_5 : decode cX0_act 5 = .ok (.iload 5, 2) := dk_21 5 (dk_at dksX0_act_0 5 rfl rfl)
theorem dX0_act_7 : decode cX0_act 7 = .ok (.invokestatic 87, 3) := dk_184 0 87 (dk_at dksX0_act_0 7 rfl rfl)
theorem dX0_act_10 : decode cX0_act 10 = .ok (.ifCond .ne 5, 3) := dk_154 0 5 (dk_at dksX0_act_0 10 rfl rfl)
theorem dX0_act_13 : decode cX0_act 13 = .ok (.iconst (-1), 1) := dk_2 (dk_at dksX0_act_0 13 rfl rfl)
theorem dX0_act_14 : decode cX0_act 14 = .ok (.ireturn, 1) := dk_172 (dk_at dksX0_act_0 14 rfl rfl)
theorem dX0_act_15 : decode cX0_act 15 = .ok (.aload_n 0, 1) := dk_42 (dk_at dksX0_act_0 15 rfl rfl)
theorem dX0_act_16 : decode cX0_act 16 = .ok (.getfield 77, 3) := dk_180 0 77 (dk_at dksX0_act_0 16 rfl rfl)
theorem dX0_act_19 : decode cX0_act 19 = .ok (.bipush 80, 2) := dk_16 80 (dk_at dksX0_act_0 19 rfl rfl)
theorem dX0_act_21 : decode cX0_act 21 = .ok (.if_icmp .ne 8, 3) := dk_160 0 8 (dk_at dksX0_act_0 21 rfl rfl)
theorem dX0_act_24 : decode cX0_act 24 = .ok (.bipush (-2), 2) := dk_16 254 (dk_at dksX0_act_1 0 rfl rfl)
theorem dX0_act_26 : decode cX0_act 26 = .ok (.goto 28, 3) := dk_167 0 28 (dk_at dksX0_act_1 2 rfl rfl)
theorem dX0_act_29 : decode cX0_act 29 = .ok (.aload_n 0, 1) := dk_42 (dk_at dksX0_act_1 5 rfl rfl)
theorem dX0_act_30 : decode cX0_act 30 = .ok (.new 22, 3) := dk_187 0 22 (dk_at dksX0_act_1 6 rfl rfl)
theorem dX0_act_33 : decode cX0_act 33 = .ok (.dup, 1) := dk_89 (dk_at dksX0_act_1 9 rfl rfl)
theorem dX0_act_34 : decode cX0_act 34 = .ok (.getstatic 91, 3) := dk_178 0 91 (dk_at dksX0_act_1 10 rfl rfl)
theorem dX0_act_37 : decode cX0_act 37 = .ok (.aload_n 0, 1) := dk_42 (dk_at dksX0_act_1 13 rfl rfl)
theorem dX0_act_38 : decode cX0_act 38 = .ok (.getfield 77, 3) := dk_180 0 77 (dk_at dksX0_act_1 14 rfl rfl)
theorem dX0_act_41 : decode cX0_act 41 = .ok (.iload_n 1, 1) := dk_27 (dk_at dksX0_act_1 17 rfl rfl)
theorem dX0_act_42 : decode cX0_act 42 = .ok (.iload_n 2, 1) := dk_28 (dk_at dksX0_act_1 18 rfl rfl)
theorem dX0_act_43 : decode cX0_act 43 = .ok (.iload_n 3, 1) := dk_29 (dk_at dksX0_act_1 19 rfl rfl)
theorem dX0_act_44 : decode cX0_act 44 = .ok (.iload 4, 2) := dk_21 4 (dk_at dksX0_act_1 20 rfl rfl)
theorem dX0_act_46 : decode cX0_act 46 = .ok (.iload 5, 2) := dk_21 5 (dk_at dksX0_act_1 22 rfl rfl)
theorem dX0_act_48 : decode cX0_act 48 = .ok (.invokespecial 97, 3) := dk_183 0 97 (dk_at dksX0_act_2 0 rfl rfl)
theorem dX0_act_51 : decode cX0_act 51 = .ok (.invokevirtual 100, 3) := dk_182 0 100 (dk_at dksX0_act_2 3 rfl rfl)
theorem dX0_act_54 : decode cX0_act 54 = .ok (.ireturn, 1) := dk_172 (dk_at dksX0_act_2 6 rfl rfl)
abbrev cX0_isAct : ByteArray := prog_1_method_11_code
def yX0_isAct : MethodName := ⟨RX0, "isAct", "(IIIII)Z"⟩
def dkwX0_isAct_15 : List UInt8 := [3, 172, 26, 16, 17, 160, 0, 7, 4, 167, 0, 4, 3, 172]
abbrev dktX0_isAct_15 : List UInt8 := dkwX0_isAct_15 ++ []
def dkwX0_isAct_14 : List UInt8 := [184, 0, 84, 153, 0, 21, 28, 184, 0, 84, 153, 0, 14, 29, 184, 0, 84, 153, 0, 7, 4, 167, 0, 4]
abbrev dktX0_isAct_14 : List UInt8 := dkwX0_isAct_14 ++ dktX0_isAct_15
def dkwX0_isAct_13 : List UInt8 := [153, 0, 14, 29, 184, 0, 80, 153, 0, 7, 4, 167, 0, 4, 3, 172, 27, 184, 0, 84, 172, 27]
abbrev dktX0_isAct_13 : List UInt8 := dkwX0_isAct_13 ++ dktX0_isAct_14
def dkwX0_isAct_12 : List UInt8 := [184, 0, 84, 153, 0, 14, 28, 184, 0, 80, 153, 0, 7, 4, 167, 0, 4, 3, 172, 27, 184, 0, 80]
abbrev dktX0_isAct_12 : List UInt8 := dkwX0_isAct_12 ++ dktX0_isAct_13
def dkwX0_isAct_11 : List UInt8 := [3, 172, 27, 184, 0, 80, 153, 0, 14, 28, 184, 0, 80, 153, 0, 7, 4, 167, 0, 4, 3, 172, 27]
abbrev dktX0_isAct_11 : List UInt8 := dkwX0_isAct_11 ++ dktX0_isAct_12
def dkwX0_isAct_10 : List UInt8 := [153, 0, 24, 28, 184, 0, 80, 153, 0, 17, 29, 4, 16, 7, 184, 0, 73, 153, 0, 7, 4, 167, 0, 4]
abbrev dktX0_isAct_10 : List UInt8 := dkwX0_isAct_10 ++ dktX0_isAct_11
def dkwX0_isAct_9 : List UInt8 := [184, 0, 73, 153, 0, 15, 21, 4, 184, 0, 80, 153, 0, 7, 4, 167, 0, 4, 3, 172, 27, 184, 0, 84]
abbrev dktX0_isAct_9 : List UInt8 := dkwX0_isAct_9 ++ dktX0_isAct_10
def dkwX0_isAct_8 : List UInt8 := [184, 0, 73, 153, 0, 7, 4, 167, 0, 4, 3, 172, 27, 184, 0, 80, 153, 0, 25, 28, 8, 16, 7]
abbrev dktX0_isAct_8 : List UInt8 := dkwX0_isAct_8 ++ dktX0_isAct_9
def dkwX0_isAct_7 : List UInt8 := [167, 0, 4, 3, 172, 27, 184, 0, 80, 153, 0, 24, 28, 184, 0, 80, 153, 0, 17, 29, 8, 16, 7]
abbrev dktX0_isAct_7 : List UInt8 := dkwX0_isAct_7 ++ dktX0_isAct_8
def dkwX0_isAct_6 : List UInt8 := [184, 0, 80, 153, 0, 24, 28, 4, 7, 184, 0, 73, 153, 0, 15, 21, 4, 184, 0, 84, 153, 0, 7, 4]
abbrev dktX0_isAct_6 : List UInt8 := dkwX0_isAct_6 ++ dktX0_isAct_7
def dkwX0_isAct_5 : List UInt8 := [184, 0, 80, 153, 0, 16, 29, 4, 7, 184, 0, 73, 153, 0, 7, 4, 167, 0, 4, 3, 172, 27]
abbrev dktX0_isAct_5 : List UInt8 := dkwX0_isAct_5 ++ dktX0_isAct_6
def dkwX0_isAct_4 : List UInt8 := [29, 3, 16, 9, 184, 0, 73, 153, 0, 7, 4, 167, 0, 4, 3, 172, 27, 184, 0, 84, 153, 0, 23, 28]
abbrev dktX0_isAct_4 : List UInt8 := dkwX0_isAct_4 ++ dktX0_isAct_5
def dkwX0_isAct_3 : List UInt8 := [167, 0, 4, 3, 172, 27, 184, 0, 80, 172, 27, 184, 0, 80, 153, 0, 24, 28, 184, 0, 80, 153, 0, 17]
abbrev dktX0_isAct_3 : List UInt8 := dkwX0_isAct_3 ++ dktX0_isAct_4
def dkwX0_isAct_2 : List UInt8 := [27, 184, 0, 80, 153, 0, 22, 28, 4, 16, 7, 184, 0, 73, 153, 0, 12, 28, 8, 159, 0, 7, 4]
abbrev dktX0_isAct_2 : List UInt8 := dkwX0_isAct_2 ++ dktX0_isAct_3
def dkwX0_isAct_1 : List UInt8 := [170, 0, 0, 0, 0, 1, 132, 0, 0, 0, 0, 0, 0, 0, 16, 0, 0, 0, 83, 0, 0, 0, 111, 0, 0, 0, 111, 0, 0, 0, 111, 0, 0, 0, 116, 0, 0, 0, 146, 0, 0, 0, 175, 0, 0, 0, 205, 0, 0, 0, 235, 0, 0, 1, 10, 0, 0, 1, 40, 0, 0, 1, 60, 0, 0, 1, 80, 0, 0, 1, 100, 0, 0, 1, 105, 0, 0, 1, 105, 0, 0, 1, 105]
abbrev dktX0_isAct_1 : List UInt8 := dkwX0_isAct_1 ++ dktX0_isAct_2
def dkwX0_isAct_0 : List UInt8 := [26]
abbrev dktX0_isAct_0 : List UInt8 := dkwX0_isAct_0 ++ dktX0_isAct_1
theorem dksX0_isAct_0 : cX0_isAct.data.toList.drop 0 = dktX0_isAct_0 := by decide +kernel
theorem dksX0_isAct_1 : cX0_isAct.data.toList.drop 1 = dktX0_isAct_1 := dk_seg dksX0_isAct_0 1 rfl rfl
theorem dksX0_isAct_2 : cX0_isAct.data.toList.drop 84 = dktX0_isAct_2 := dk_seg dksX0_isAct_1 83 rfl rfl
theorem dksX0_isAct_3 : cX0_isAct.data.toList.drop 107 = dktX0_isAct_3 := dk_seg dksX0_isAct_2 23 rfl rfl
theorem dksX0_isAct_4 : cX0_isAct.data.toList.drop 131 = dktX0_isAct_4 := dk_seg dksX0_isAct_3 24 rfl rfl
theorem dksX0_isAct_5 : cX0_isAct.data.toList.drop 155 = dktX0_isAct_5 := dk_seg dksX0_isAct_4 24 rfl rfl
theorem dksX0_isAct_6 : cX0_isAct.data.toList.drop 177 = dktX0_isAct_6 := dk_seg dksX0_isAct_5 22 rfl rfl
theorem dksX0_isAct_7 : cX0_isAct.data.toList.drop 201 = dktX0_isAct_7 := dk_seg dksX0_isAct_6 24 rfl rfl
theorem dksX0_isAct_8 : cX0_isAct.data.toList.drop 224 = dktX0_isAct_8 := dk_seg dksX0_isAct_7 23 rfl rfl
theorem dksX0_isAct_9 : cX0_isAct.data.toList.drop 247 = dktX0_isAct_9 := dk_seg dksX0_isAct_8 23 rfl rfl
theorem dksX0_isAct_10 : cX0_isAct.data.toList.drop 271 = dktX0_isAct_10 := dk_seg dksX0_isAct_9 24 rfl rfl
theorem dksX0_isAct_11 : cX0_isAct.data.toList.drop 295 = dktX0_isAct_11 := dk_seg dksX0_isAct_10 24 rfl rfl
theorem dksX0_isAct_12 : cX0_isAct.data.toList.drop 318 = dktX0_isAct_12 := dk_seg dksX0_isAct_11 23 rfl rfl
theorem dksX0_isAct_13 : cX0_isAct.data.toList.drop 341 = dktX0_isAct_13 := dk_seg dksX0_isAct_12 23 rfl rfl
theorem dksX0_isAct_14 : cX0_isAct.data.toList.drop 363 = dktX0_isAct_14 := dk_seg dksX0_isAct_13 22 rfl rfl
theorem dksX0_isAct_15 : cX0_isAct.data.toList.drop 387 = dktX0_isAct_15 := dk_seg dksX0_isAct_14 24 rfl rfl
theorem dX0_isAct_0 : decode cX0_isAct 0 = .ok (.iload_n 0, 1) := dk_26 (dk_at dksX0_isAct_0 0 rfl rfl)
theorem dX0_isAct_1 : decode cX0_isAct 1 = .ok (.tableswitch 388 0 16 #[83, 111, 111, 111, 116, 146, 175, 205, 235, 266, 296, 316, 336, 356, 361, 361, 361], 83) := by decide +kernel
theorem dX0_isAct_84 : decode cX0_isAct 84 = .ok (.iload_n 1, 1) := dk_27 (dk_at dksX0_isAct_2 0 rfl rfl)
theorem dX0_isAct_85 : decode cX0_isAct 85 = .ok (.invokestatic 80, 3) := dk_184 0 80 (dk_at dksX0_isAct_2 1 rfl rfl)
theorem dX0_isAct_88 : decode cX0_isAct 88 = .ok (.ifCond .eq 22, 3) := dk_153 0 22 (dk_at dksX0_isAct_2 4 rfl rfl)
theorem dX0_isAct_91 : decode cX0_isAct 91 = .ok (.iload_n 2, 1) := dk_28 (dk_at dksX0_isAct_2 7 rfl rfl)
theorem dX0_isAct_92 : decode cX0_isAct 92 = .ok (.iconst 1, 1) := dk_4 (dk_at dksX0_isAct_2 8 rfl rfl)
theorem dX0_isAct_93 : decode cX0_isAct 93 = .ok (.bipush 7, 2) := dk_16 7 (dk_at dksX0_isAct_2 9 rfl rfl)
theorem dX0_isAct_95 : decode cX0_isAct 95 = .ok (.invokestatic 73, 3) := dk_184 0 73 (dk_at dksX0_isAct_2 11 rfl rfl)
theorem dX0_isAct_98 : decode cX0_isAct 98 = .ok (.ifCond .eq 12, 3) := dk_153 0 12 (dk_at dksX0_isAct_2 14 rfl rfl)
theorem dX0_isAct_101 : decode cX0_isAct 101 = .ok (.iload_n 2, 1) := dk_28 (dk_at dksX0_isAct_2 17 rfl rfl)
theorem dX0_isAct_102 : decode cX0_isAct 102 = .ok (.iconst 5, 1) := dk_8 (dk_at dksX0_isAct_2 18 rfl rfl)
theorem dX0_isAct_103 : decode cX0_isAct 103 = .ok (.if_icmp .eq 7, 3) := dk_159 0 7 (dk_at dksX0_isAct_2 19 rfl rfl)
theorem dX0_isAct_106 : decode cX0_isAct 106 = .ok (.iconst 1, 1) := dk_4 (dk_at dksX0_isAct_2 22 rfl rfl)
theorem dX0_isAct_107 : decode cX0_isAct 107 = .ok (.goto 4, 3) := dk_167 0 4 (dk_at dksX0_isAct_3 0 rfl rfl)
theorem dX0_isAct_110 : decode cX0_isAct 110 = .ok (.iconst 0, 1) := dk_3 (dk_at dksX0_isAct_3 3 rfl rfl)
theorem dX0_isAct_111 : decode cX0_isAct 111 = .ok (.ireturn, 1) := dk_172 (dk_at dksX0_isAct_3 4 rfl rfl)
theorem dX0_isAct_112 : decode cX0_isAct 112 = .ok (.iload_n 1, 1) := dk_27 (dk_at dksX0_isAct_3 5 rfl rfl)
theorem dX0_isAct_113 : decode cX0_isAct 113 = .ok (.invokestatic 80, 3) := dk_184 0 80 (dk_at dksX0_isAct_3 6 rfl rfl)
theorem dX0_isAct_116 : decode cX0_isAct 116 = .ok (.ireturn, 1) := dk_172 (dk_at dksX0_isAct_3 9 rfl rfl)
theorem dX0_isAct_117 : decode cX0_isAct 117 = .ok (.iload_n 1, 1) := dk_27 (dk_at dksX0_isAct_3 10 rfl rfl)
theorem dX0_isAct_118 : decode cX0_isAct 118 = .ok (.invokestatic 80, 3) := dk_184 0 80 (dk_at dksX0_isAct_3 11 rfl rfl)
theorem dX0_isAct_121 : decode cX0_isAct 121 = .ok (.ifCond .eq 24, 3) := dk_153 0 24 (dk_at dksX0_isAct_3 14 rfl rfl)
theorem dX0_isAct_124 : decode cX0_isAct 124 = .ok (.iload_n 2, 1) := dk_28 (dk_at dksX0_isAct_3 17 rfl rfl)
theorem dX0_isAct_125 : decode cX0_isAct 125 = .ok (.invokestatic 80, 3) := dk_184 0 80 (dk_at dksX0_isAct_3 18 rfl rfl)
theorem dX0_isAct_128 : decode cX0_isAct 128 = .ok (.ifCond .eq 17, 3) := dk_153 0 17 (dk_at dksX0_isAct_3 21 rfl rfl)
theorem dX0_isAct_131 : decode cX0_isAct 131 = .ok (.iload_n 3, 1) := dk_29 (dk_at dksX0_isAct_4 0 rfl rfl)
theorem dX0_isAct_132 : decode cX0_isAct 132 = .ok (.iconst 0, 1) := dk_3 (dk_at dksX0_isAct_4 1 rfl rfl)
theorem dX0_isAct_133 : decode cX0_isAct 133 = .ok (.bipush 9, 2) := dk_16 9 (dk_at dksX0_isAct_4 2 rfl rfl)
theorem dX0_isAct_135 : decode cX0_isAct 135 = .ok (.invokestatic 73, 3) := dk_184 0 73 (dk_at dksX0_isAct_4 4 rfl rfl)
theorem dX0_isAct_138 : decode cX0_isAct 138 = .ok (.ifCond .eq 7, 3) := dk_153 0 7 (dk_at dksX0_isAct_4 7 rfl rfl)
theorem dX0_isAct_141 : decode cX0_isAct 141 = .ok (.iconst 1, 1) := dk_4 (dk_at dksX0_isAct_4 10 rfl rfl)
theorem dX0_isAct_142 : decode cX0_isAct 142 = .ok (.goto 4, 3) := dk_167 0 4 (dk_at dksX0_isAct_4 11 rfl rfl)
theorem dX0_isAct_145 : decode cX0_isAct 145 = .ok (.iconst 0, 1) := dk_3 (dk_at dksX0_isAct_4 14 rfl rfl)
theorem dX0_isAct_146 : decode cX0_isAct 146 = .ok (.ireturn, 1) := dk_172 (dk_at dksX0_isAct_4 15 rfl rfl)
theorem dX0_isAct_147 : decode cX0_isAct 147 = .ok (.iload_n 1, 1) := dk_27 (dk_at dksX0_isAct_4 16 rfl rfl)
theorem dX0_isAct_148 : decode cX0_isAct 148 = .ok (.invokestatic 84, 3) := dk_184 0 84 (dk_at dksX0_isAct_4 17 rfl rfl)
theorem dX0_isAct_151 : decode cX0_isAct 151 = .ok (.ifCond .eq 23, 3) := dk_153 0 23 (dk_at dksX0_isAct_4 20 rfl rfl)
theorem dX0_isAct_154 : decode cX0_isAct 154 = .ok (.iload_n 2, 1) := dk_28 (dk_at dksX0_isAct_4 23 rfl rfl)
theorem dX0_isAct_155 : decode cX0_isAct 155 = .ok (.invokestatic 80, 3) := dk_184 0 80 (dk_at dksX0_isAct_5 0 rfl rfl)
theorem dX0_isAct_158 : decode cX0_isAct 158 = .ok (.ifCond .eq 16, 3) := dk_153 0 16 (dk_at dksX0_isAct_5 3 rfl rfl)
theorem dX0_isAct_161 : decode cX0_isAct 161 = .ok (.iload_n 3, 1) := dk_29 (dk_at dksX0_isAct_5 6 rfl rfl)
theorem dX0_isAct_162 : decode cX0_isAct 162 = .ok (.iconst 1, 1) := dk_4 (dk_at dksX0_isAct_5 7 rfl rfl)
theorem dX0_isAct_163 : decode cX0_isAct 163 = .ok (.iconst 4, 1) := dk_7 (dk_at dksX0_isAct_5 8 rfl rfl)
theorem dX0_isAct_164 : decode cX0_isAct 164 = .ok (.invokestatic 73, 3) := dk_184 0 73 (dk_at dksX0_isAct_5 9 rfl rfl)
theorem dX0_isAct_167 : decode cX0_isAct 167 = .ok (.ifCond .eq 7, 3) := dk_153 0 7 (dk_at dksX0_isAct_5 12 rfl rfl)
theorem dX0_isAct_170 : decode cX0_isAct 170 = .ok (.iconst 1, 1) := dk_4 (dk_at dksX0_isAct_5 15 rfl rfl)
theorem dX0_isAct_171 : decode cX0_isAct 171 = .ok (.goto 4, 3) := dk_167 0 4 (dk_at dksX0_isAct_5 16 rfl rfl)
theorem dX0_isAct_174 : decode cX0_isAct 174 = .ok (.iconst 0, 1) := dk_3 (dk_at dksX0_isAct_5 19 rfl rfl)
theorem dX0_isAct_175 : decode cX0_isAct 175 = .ok (.ireturn, 1) := dk_172 (dk_at dksX0_isAct_5 20 rfl rfl)
theorem dX0_isAct_176 : decode cX0_isAct 176 = .ok (.iload_n 1, 1) := dk_27 (dk_at dksX0_isAct_5 21 rfl rfl)
theorem dX0_isAct_177 : decode cX0_isAct 177 = .ok (.invokestatic 80, 3) := dk_184 0 80 (dk_at dksX0_isAct_6 0 rfl rfl)
theorem dX0_isAct_180 : decode cX0_isAct 180 = .ok (.ifCond .eq 24, 3) := dk_153 0 24 (dk_at dksX0_isAct_6 3 rfl rfl)
theorem dX0_isAct_183 : decode cX0_isAct 183 = .ok (.iload_n 2, 1) := dk_28 (dk_at dksX0_isAct_6 6 rfl rfl)
theorem dX0_isAct_184 : decode cX0_isAct 184 = .ok (.iconst 1, 1) := dk_4 (dk_at dksX0_isAct_6 7 rfl rfl)
theorem dX0_isAct_185 : decode cX0_isAct 185 = .ok (.iconst 4, 1) := dk_7 (dk_at dksX0_isAct_6 8 rfl rfl)
theorem dX0_isAct_186 : decode cX0_isAct 186 = .ok (.invokestatic 73, 3) := dk_184 0 73 (dk_at dksX0_isAct_6 9 rfl rfl)
theorem dX0_isAct_189 : decode cX0_isAct 189 = .ok (.ifCond .eq 15, 3) := dk_153 0 15 (dk_at dksX0_isAct_6 12 rfl rfl)
theorem dX0_isAct_192 : decode cX0_isAct 192 = .ok (.iload 4, 2) := dk_21 4 (dk_at dksX0_isAct_6 15 rfl rfl)
theorem dX0_isAct_194 : decode cX0_isAct 194 = .ok (.invokestatic 84, 3) := dk_184 0 84 (dk_at dksX0_isAct_6 17 rfl rfl)
theorem dX0_isAct_197 : decode cX0_isAct 197 = .ok (.ifCond .eq 7, 3) := dk_153 0 7 (dk_at dksX0_isAct_6 20 rfl rfl)
theorem dX0_isAct_200 : decode cX0_isAct 200 = .ok (.iconst 1, 1) := dk_4 (dk_at dksX0_isAct_6 23 rfl rfl)
theorem dX0_isAct_201 : decode cX0_isAct 201 = .ok (.goto 4, 3) := dk_167 0 4 (dk_at dksX0_isAct_7 0 rfl rfl)
theorem dX0_isAct_204 : decode cX0_isAct 204 = .ok (.iconst 0, 1) := dk_3 (dk_at dksX0_isAct_7 3 rfl rfl)
theorem dX0_isAct_205 : decode cX0_isAct 205 = .ok (.ireturn, 1) := dk_172 (dk_at dksX0_isAct_7 4 rfl rfl)
theorem dX0_isAct_206 : decode cX0_isAct 206 = .ok (.iload_n 1, 1) := dk_27 (dk_at dksX0_isAct_7 5 rfl rfl)
theorem dX0_isAct_207 : decode cX0_isAct 207 = .ok (.invokestatic 80, 3) := dk_184 0 80 (dk_at dksX0_isAct_7 6 rfl rfl)
theorem dX0_isAct_210 : decode cX0_isAct 210 = .ok (.ifCond .eq 24, 3) := dk_153 0 24 (dk_at dksX0_isAct_7 9 rfl rfl)
theorem dX0_isAct_213 : decode cX0_isAct 213 = .ok (.iload_n 2, 1) := dk_28 (dk_at dksX0_isAct_7 12 rfl rfl)
theorem dX0_isAct_214 : decode cX0_isAct 214 = .ok (.invokestatic 80, 3) := dk_184 0 80 (dk_at dksX0_isAct_7 13 rfl rfl)
theorem dX0_isAct_217 : decode cX0_isAct 217 = .ok (.ifCond .eq 17, 3) := dk_153 0 17 (dk_at dksX0_isAct_7 16 rfl rfl)
theorem dX0_isAct_220 : decode cX0_isAct 220 = .ok (.iload_n 3, 1) := dk_29 (dk_at dksX0_isAct_7 19 rfl rfl)
theorem dX0_isAct_221 : decode cX0_isAct 221 = .ok (.iconst 5, 1) := dk_8 (dk_at dksX0_isAct_7 20 rfl rfl)
theorem dX0_isAct_222 : decode cX0_isAct 222 = .ok (.bipush 7, 2) := dk_16 7 (dk_at dksX0_isAct_7 21 rfl rfl)
theorem dX0_isAct_224 : decode cX0_isAct 224 = .ok (.invokestatic 73, 3) := dk_184 0 73 (dk_at dksX0_isAct_8 0 rfl rfl)
theorem dX0_isAct_227 : decode cX0_isAct 227 = .ok (.ifCond .eq 7, 3) := dk_153 0 7 (dk_at dksX0_isAct_8 3 rfl rfl)
theorem dX0_isAct_230 : decode cX0_isAct 230 = .ok (.iconst 1, 1) := dk_4 (dk_at dksX0_isAct_8 6 rfl rfl)
theorem dX0_isAct_231 : decode cX0_isAct 231 = .ok (.goto 4, 3) := dk_167 0 4 (dk_at dksX0_isAct_8 7 rfl rfl)
theorem dX0_isAct_234 : decode cX0_isAct 234 = .ok (.iconst 0, 1) := dk_3 (dk_at dksX0_isAct_8 10 rfl rfl)
theorem dX0_isAct_235 : decode cX0_isAct 235 = .ok (.ireturn, 1) := dk_172 (dk_at dksX0_isAct_8 11 rfl rfl)
theorem dX0_isAct_236 : decode cX0_isAct 236 = .ok (.iload_n 1, 1) := dk_27 (dk_at dksX0_isAct_8 12 rfl rfl)
theorem dX0_isAct_237 : decode cX0_isAct 237 = .ok (.invokestatic 80, 3) := dk_184 0 80 (dk_at dksX0_isAct_8 13 rfl rfl)
theorem dX0_isAct_240 : decode cX0_isAct 240 = .ok (.ifCond .eq 25, 3) := dk_153 0 25 (dk_at dksX0_isAct_8 16 rfl rfl)
theorem dX0_isAct_243 : decode cX0_isAct 243 = .ok (.iload_n 2, 1) := dk_28 (dk_at dksX0_isAct_8 19 rfl rfl)
theorem dX0_isAct_244 : decode cX0_isAct 244 = .ok (.iconst 5, 1) := dk_8 (dk_at dksX0_isAct_8 20 rfl rfl)
theorem dX0_isAct_245 : decode cX0_isAct 245 = .ok (.bipush 7, 2) := dk_16 7 (dk_at dksX0_isAct_8 21 rfl rfl)
theorem dX0_isAct_247 : decode cX0_isAct 247 = .ok (.invokestatic 73, 3) := dk_184 0 73 (dk_at dksX0_isAct_9 0 rfl rfl)
theorem dX0_isAct_250 : decode cX0_isAct 250 = .ok (.ifCond .eq 15, 3) := dk_153 0 15 (dk_at dksX0_isAct_9 3 rfl rfl)
theorem dX0_isAct_253 : decode cX0_isAct 253 = .ok (.iload 4, 2) := dk_21 4 (dk_at dksX0_isAct_9 6 rfl rfl)
theorem dX0_isAct_255 : decode cX0_isAct 255 = .ok (.invokestatic 80, 3) := dk_184 0 80 (dk_at dksX0_isAct_9 8 rfl rfl)
theorem dX0_isAct_258 : decode cX0_isAct 258 = .ok (.ifCond .eq 7, 3) := dk_153 0 7 (dk_at dksX0_isAct_9 11 rfl rfl)
theorem dX0_isAct_261 : decode cX0_isAct 261 = .ok (.iconst 1, 1) := dk_4 (dk_at dksX0_isAct_9 14 rfl rfl)
theorem dX0_isAct_262 : decode cX0_isAct 262 = .ok (.goto 4, 3) := dk_167 0 4 (dk_at dksX0_isAct_9 15 rfl rfl)
theorem dX0_isAct_265 : decode cX0_isAct 265 = .ok (.iconst 0, 1) := dk_3 (dk_at dksX0_isAct_9 18 rfl rfl)
theorem dX0_isAct_266 : decode cX0_isAct 266 = .ok (.ireturn, 1) := dk_172 (dk_at dksX0_isAct_9 19 rfl rfl)
theorem dX0_isAct_267 : decode cX0_isAct 267 = .ok (.iload_n 1, 1) := dk_27 (dk_at dksX0_isAct_9 20 rfl rfl)
theorem dX0_isAct_268 : decode cX0_isAct 268 = .ok (.invokestatic 84, 3) := dk_184 0 84 (dk_at dksX0_isAct_9 21 rfl rfl)
theorem dX0_isAct_271 : decode cX0_isAct 271 = .ok (.ifCond .eq 24, 3) := dk_153 0 24 (dk_at dksX0_isAct_10 0 rfl rfl)
theorem dX0_isAct_274 : decode cX0_isAct 274 = .ok (.iload_n 2, 1) := dk_28 (dk_at dksX0_isAct_10 3 rfl rfl)
theorem dX0_isAct_275 : decode cX0_isAct 275 = .ok (.invokestatic 80, 3) := dk_184 0 80 (dk_at dksX0_isAct_10 4 rfl rfl)
theorem dX0_isAct_278 : decode cX0_isAct 278 = .ok (.ifCond .eq 17, 3) := dk_153 0 17 (dk_at dksX0_isAct_10 7 rfl rfl)
theorem dX0_isAct_281 : decode cX0_isAct 281 = .ok (.iload_n 3, 1) := dk_29 (dk_at dksX0_isAct_10 10 rfl rfl)
theorem dX0_isAct_282 : decode cX0_isAct 282 = .ok (.iconst 1, 1) := dk_4 (dk_at dksX0_isAct_10 11 rfl rfl)
theorem dX0_isAct_283 : decode cX0_isAct 283 = .ok (.bipush 7, 2) := dk_16 7 (dk_at dksX0_isAct_10 12 rfl rfl)
theorem dX0_isAct_285 : decode cX0_isAct 285 = .ok (.invokestatic 73, 3) := dk_184 0 73 (dk_at dksX0_isAct_10 14 rfl rfl)
theorem dX0_isAct_288 : decode cX0_isAct 288 = .ok (.ifCond .eq 7, 3) := dk_153 0 7 (dk_at dksX0_isAct_10 17 rfl rfl)
theorem dX0_isAct_291 : decode cX0_isAct 291 = .ok (.iconst 1, 1) := dk_4 (dk_at dksX0_isAct_10 20 rfl rfl)
theorem dX0_isAct_292 : decode cX0_isAct 292 = .ok (.goto 4, 3) := dk_167 0 4 (dk_at dksX0_isAct_10 21 rfl rfl)
theorem dX0_isAct_295 : decode cX0_isAct 295 = .ok (.iconst 0, 1) := dk_3 (dk_at dksX0_isAct_11 0 rfl rfl)
theorem dX0_isAct_296 : decode cX0_isAct 296 = .ok (.ireturn, 1) := dk_172 (dk_at dksX0_isAct_11 1 rfl rfl)
theorem dX0_isAct_297 : decode cX0_isAct 297 = .ok (.iload_n 1, 1) := dk_27 (dk_at dksX0_isAct_11 2 rfl rfl)
theorem dX0_isAct_298 : decode cX0_isAct 298 = .ok (.invokestatic 80, 3) := dk_184 0 80 (dk_at dksX0_isAct_11 3 rfl rfl)
theorem dX0_isAct_301 : decode cX0_isAct 301 = .ok (.ifCond .eq 14, 3) := dk_153 0 14 (dk_at dksX0_isAct_11 6 rfl rfl)
theorem dX0_isAct_304 : decode cX0_isAct 304 = .ok (.iload_n 2, 1) := dk_28 (dk_at dksX0_isAct_11 9 rfl rfl)
theorem dX0_isAct_305 : decode cX0_isAct 305 = .ok (.invokestatic 80, 3) := dk_184 0 80 (dk_at dksX0_isAct_11 10 rfl rfl)
theorem dX0_isAct_308 : decode cX0_isAct 308 = .ok (.ifCond .eq 7, 3) := dk_153 0 7 (dk_at dksX0_isAct_11 13 rfl rfl)
theorem dX0_isAct_311 : decode cX0_isAct 311 = .ok (.iconst 1, 1) := dk_4 (dk_at dksX0_isAct_11 16 rfl rfl)
theorem dX0_isAct_312 : decode cX0_isAct 312 = .ok (.goto 4, 3) := dk_167 0 4 (dk_at dksX0_isAct_11 17 rfl rfl)
theorem dX0_isAct_315 : decode cX0_isAct 315 = .ok (.iconst 0, 1) := dk_3 (dk_at dksX0_isAct_11 20 rfl rfl)
theorem dX0_isAct_316 : decode cX0_isAct 316 = .ok (.ireturn, 1) := dk_172 (dk_at dksX0_isAct_11 21 rfl rfl)
theorem dX0_isAct_317 : decode cX0_isAct 317 = .ok (.iload_n 1, 1) := dk_27 (dk_at dksX0_isAct_11 22 rfl rfl)
theorem dX0_isAct_318 : decode cX0_isAct 318 = .ok (.invokestatic 84, 3) := dk_184 0 84 (dk_at dksX0_isAct_12 0 rfl rfl)
theorem dX0_isAct_321 : decode cX0_isAct 321 = .ok (.ifCond .eq 14, 3) := dk_153 0 14 (dk_at dksX0_isAct_12 3 rfl rfl)
theorem dX0_isAct_324 : decode cX0_isAct 324 = .ok (.iload_n 2, 1) := dk_28 (dk_at dksX0_isAct_12 6 rfl rfl)
theorem dX0_isAct_325 : decode cX0_isAct 325 = .ok (.invokestatic 80, 3) := dk_184 0 80 (dk_at dksX0_isAct_12 7 rfl rfl)
theorem dX0_isAct_328 : decode cX0_isAct 328 = .ok (.ifCond .eq 7, 3) := dk_153 0 7 (dk_at dksX0_isAct_12 10 rfl rfl)
theorem dX0_isAct_331 : decode cX0_isAct 331 = .ok (.iconst 1, 1) := dk_4 (dk_at dksX0_isAct_12 13 rfl rfl)
theorem dX0_isAct_332 : decode cX0_isAct 332 = .ok (.goto 4, 3) := dk_167 0 4 (dk_at dksX0_isAct_12 14 rfl rfl)
theorem dX0_isAct_335 : decode cX0_isAct 335 = .ok (.iconst 0, 1) := dk_3 (dk_at dksX0_isAct_12 17 rfl rfl)
theorem dX0_isAct_336 : decode cX0_isAct 336 = .ok (.ireturn, 1) := dk_172 (dk_at dksX0_isAct_12 18 rfl rfl)
theorem dX0_isAct_337 : decode cX0_isAct 337 = .ok (.iload_n 1, 1) := dk_27 (dk_at dksX0_isAct_12 19 rfl rfl)
theorem dX0_isAct_338 : decode cX0_isAct 338 = .ok (.invokestatic 80, 3) := dk_184 0 80 (dk_at dksX0_isAct_12 20 rfl rfl)
theorem dX0_isAct_341 : decode cX0_isAct 341 = .ok (.ifCond .eq 14, 3) := dk_153 0 14 (dk_at dksX0_isAct_13 0 rfl rfl)
theorem dX0_isAct_344 : decode cX0_isAct 344 = .ok (.iload_n 3, 1) := dk_29 (dk_at dksX0_isAct_13 3 rfl rfl)
theorem dX0_isAct_345 : decode cX0_isAct 345 = .ok (.invokestatic 80, 3) := dk_184 0 80 (dk_at dksX0_isAct_13 4 rfl rfl)
theorem dX0_isAct_348 : decode cX0_isAct 348 = .ok (.ifCond .eq 7, 3) := dk_153 0 7 (dk_at dksX0_isAct_13 7 rfl rfl)
theorem dX0_isAct_351 : decode cX0_isAct 351 = .ok (.iconst 1, 1) := dk_4 (dk_at dksX0_isAct_13 10 rfl rfl)
theorem dX0_isAct_352 : decode cX0_isAct 352 = .ok (.goto 4, 3) := dk_167 0 4 (dk_at dksX0_isAct_13 11 rfl rfl)
theorem dX0_isAct_355 : decode cX0_isAct 355 = .ok (.iconst 0, 1) := dk_3 (dk_at dksX0_isAct_13 14 rfl rfl)
theorem dX0_isAct_356 : decode cX0_isAct 356 = .ok (.ireturn, 1) := dk_172 (dk_at dksX0_isAct_13 15 rfl rfl)
theorem dX0_isAct_357 : decode cX0_isAct 357 = .ok (.iload_n 1, 1) := dk_27 (dk_at dksX0_isAct_13 16 rfl rfl)
theorem dX0_isAct_358 : decode cX0_isAct 358 = .ok (.invokestatic 84, 3) := dk_184 0 84 (dk_at dksX0_isAct_13 17 rfl rfl)
theorem dX0_isAct_361 : decode cX0_isAct 361 = .ok (.ireturn, 1) := dk_172 (dk_at dksX0_isAct_13 20 rfl rfl)
theorem dX0_isAct_362 : decode cX0_isAct 362 = .ok (.iload_n 1, 1) := dk_27 (dk_at dksX0_isAct_13 21 rfl rfl)
theorem dX0_isAct_363 : decode cX0_isAct 363 = .ok (.invokestatic 84, 3) := dk_184 0 84 (dk_at dksX0_isAct_14 0 rfl rfl)
theorem dX0_isAct_366 : decode cX0_isAct 366 = .ok (.ifCond .eq 21, 3) := dk_153 0 21 (dk_at dksX0_isAct_14 3 rfl rfl)
theorem dX0_isAct_369 : decode cX0_isAct 369 = .ok (.iload_n 2, 1) := dk_28 (dk_at dksX0_isAct_14 6 rfl rfl)
theorem dX0_isAct_370 : decode cX0_isAct 370 = .ok (.invokestatic 84, 3) := dk_184 0 84 (dk_at dksX0_isAct_14 7 rfl rfl)
theorem dX0_isAct_373 : decode cX0_isAct 373 = .ok (.ifCond .eq 14, 3) := dk_153 0 14 (dk_at dksX0_isAct_14 10 rfl rfl)
theorem dX0_isAct_376 : decode cX0_isAct 376 = .ok (.iload_n 3, 1) := dk_29 (dk_at dksX0_isAct_14 13 rfl rfl)
theorem dX0_isAct_377 : decode cX0_isAct 377 = .ok (.invokestatic 84, 3) := dk_184 0 84 (dk_at dksX0_isAct_14 14 rfl rfl)
theorem dX0_isAct_380 : decode cX0_isAct 380 = .ok (.ifCond .eq 7, 3) := dk_153 0 7 (dk_at dksX0_isAct_14 17 rfl rfl)
theorem dX0_isAct_383 : decode cX0_isAct 383 = .ok (.iconst 1, 1) := dk_4 (dk_at dksX0_isAct_14 20 rfl rfl)
theorem dX0_isAct_384 : decode cX0_isAct 384 = .ok (.goto 4, 3) := dk_167 0 4 (dk_at dksX0_isAct_14 21 rfl rfl)
theorem dX0_isAct_387 : decode cX0_isAct 387 = .ok (.iconst 0, 1) := dk_3 (dk_at dksX0_isAct_15 0 rfl rfl)
theorem dX0_isAct_388 : decode cX0_isAct 388 = .ok (.ireturn, 1) := dk_172 (dk_at dksX0_isAct_15 1 rfl rfl)
theorem dX0_isAct_389 : decode cX0_isAct 389 = .ok (.iload_n 0, 1) := dk_26 (dk_at dksX0_isAct_15 2 rfl rfl)
theorem dX0_isAct_390 : decode cX0_isAct 390 = .ok (.bipush 17, 2) := dk_16 17 (dk_at dksX0_isAct_15 3 rfl rfl)
theorem dX0_isAct_392 : decode cX0_isAct 392 = .ok (.if_icmp .ne 7, 3) := dk_160 0 7 (dk_at dksX0_isAct_15 5 rfl rfl)
theorem dX0_isAct_395 : decode cX0_isAct 395 = .ok (.iconst 1, 1) := dk_4 (dk_at dksX0_isAct_15 8 rfl rfl)
theorem dX0_isAct_396 : decode cX0_isAct 396 = .ok (.goto 4, 3) := dk_167 0 4 (dk_at dksX0_isAct_15 9 rfl rfl)
theorem dX0_isAct_399 : decode cX0_isAct 399 = .ok (.iconst 0, 1) := dk_3 (dk_at dksX0_isAct_15 12 rfl rfl)
theorem dX0_isAct_400 : decode cX0_isAct 400 = .ok (.ireturn, 1) := dk_172 (dk_at dksX0_isAct_15 13 rfl rfl)
abbrev cX0_isSlot : ByteArray := prog_1_method_8_code
def yX0_isSlot : MethodName := ⟨RX0, "isSlot", "(I)Z"⟩
def dkwX0_isSlot_0 : List UInt8 := [26, 3, 16, 11, 184, 0, 73, 172]
abbrev dktX0_isSlot_0 : List UInt8 := dkwX0_isSlot_0 ++ []
theorem dksX0_isSlot_0 : cX0_isSlot.data.toList.drop 0 = dktX0_isSlot_0 := by decide +kernel
theorem dX0_isSlot_0 : decode cX0_isSlot 0 = .ok (.iload_n 0, 1) := dk_26 (dk_at dksX0_isSlot_0 0 rfl rfl)
theorem dX0_isSlot_1 : decode cX0_isSlot 1 = .ok (.iconst 0, 1) := dk_3 (dk_at dksX0_isSlot_0 1 rfl rfl)
theorem dX0_isSlot_2 : decode cX0_isSlot 2 = .ok (.bipush 11, 2) := dk_16 11 (dk_at dksX0_isSlot_0 2 rfl rfl)
theorem dX0_isSlot_4 : decode cX0_isSlot 4 = .ok (.invokestatic 73, 3) := dk_184 0 73 (dk_at dksX0_isSlot_0 4 rfl rfl)
theorem dX0_isSlot_7 : decode cX0_isSlot 7 = .ok (.ireturn, 1) := dk_172 (dk_at dksX0_isSlot_0 7 rfl rfl)
abbrev cX0_in : ByteArray := prog_1_method_7_code
def yX0_in : MethodName := ⟨RX0, "in", "(III)Z"⟩
def dkwX0_in_0 : List UInt8 := [26, 27, 161, 0, 12, 26, 28, 163, 0, 7, 4, 167, 0, 4, 3, 172]
abbrev dktX0_in_0 : List UInt8 := dkwX0_in_0 ++ []
theorem dksX0_in_0 : cX0_in.data.toList.drop 0 = dktX0_in_0 := by decide +kernel
theorem dX0_in_0 : decode cX0_in 0 = .ok (.iload_n 0, 1) := dk_26 (dk_at dksX0_in_0 0 rfl rfl)
theorem dX0_in_1 : decode cX0_in 1 = .ok (.iload_n 1, 1) := dk_27 (dk_at dksX0_in_0 1 rfl rfl)
theorem dX0_in_2 : decode cX0_in 2 = .ok (.if_icmp .lt 12, 3) := dk_161 0 12 (dk_at dksX0_in_0 2 rfl rfl)
theorem dX0_in_5 : decode cX0_in 5 = .ok (.iload_n 0, 1) := dk_26 (dk_at dksX0_in_0 5 rfl rfl)
theorem dX0_in_6 : decode cX0_in 6 = .ok (.iload_n 2, 1) := dk_28 (dk_at dksX0_in_0 6 rfl rfl)
theorem dX0_in_7 : decode cX0_in 7 = .ok (.if_icmp .gt 7, 3) := dk_163 0 7 (dk_at dksX0_in_0 7 rfl rfl)
theorem dX0_in_10 : decode cX0_in 10 = .ok (.iconst 1, 1) := dk_4 (dk_at dksX0_in_0 10 rfl rfl)
theorem dX0_in_11 : decode cX0_in 11 = .ok (.goto 4, 3) := dk_167 0 4 (dk_at dksX0_in_0 11 rfl rfl)
theorem dX0_in_14 : decode cX0_in 14 = .ok (.iconst 0, 1) := dk_3 (dk_at dksX0_in_0 14 rfl rfl)
theorem dX0_in_15 : decode cX0_in 15 = .ok (.ireturn, 1) := dk_172 (dk_at dksX0_in_0 15 rfl rfl)
abbrev cX0_isRegister : ByteArray := prog_1_method_9_code
def yX0_isRegister : MethodName := ⟨RX0, "isRegister", "(I)Z"⟩
def dkwX0_isRegister_0 : List UInt8 := [26, 3, 16, 7, 184, 0, 73, 172]
abbrev dktX0_isRegister_0 : List UInt8 := dkwX0_isRegister_0 ++ []
theorem dksX0_isRegister_0 : cX0_isRegister.data.toList.drop 0 = dktX0_isRegister_0 := by decide +kernel
theorem dX0_isRegister_0 : decode cX0_isRegister 0 = .ok (.iload_n 0, 1) := dk_26 (dk_at dksX0_isRegister_0 0 rfl rfl)
theorem dX0_isRegister_1 : decode cX0_isRegister 1 = .ok (.iconst 0, 1) := dk_3 (dk_at dksX0_isRegister_0 1 rfl rfl)
theorem dX0_isRegister_2 : decode cX0_isRegister 2 = .ok (.bipush 7, 2) := dk_16 7 (dk_at dksX0_isRegister_0 2 rfl rfl)
theorem dX0_isRegister_4 : decode cX0_isRegister 4 = .ok (.invokestatic 73, 3) := dk_184 0 73 (dk_at dksX0_isRegister_0 4 rfl rfl)
theorem dX0_isRegister_7 : decode cX0_isRegister 7 = .ok (.ireturn, 1) := dk_172 (dk_at dksX0_isRegister_0 7 rfl rfl)
abbrev cX0_more : ByteArray := prog_1_method_12_code
def yX0_more : MethodName := ⟨RX0, "more", "(LThrowReports$Node;)I"⟩
def dkwX0_more_0 : List UInt8 := [42, 180, 0, 24, 42, 180, 0, 77, 43, 83, 42, 89, 180, 0, 77, 90, 4, 96, 181, 0, 77, 172]
abbrev dktX0_more_0 : List UInt8 := dkwX0_more_0 ++ []
theorem dksX0_more_0 : cX0_more.data.toList.drop 0 = dktX0_more_0 := by decide +kernel
theorem dX0_more_0 : decode cX0_more 0 = .ok (.aload_n 0, 1) := dk_42 (dk_at dksX0_more_0 0 rfl rfl)
theorem dX0_more_1 : decode cX0_more 1 = .ok (.getfield 24, 3) := dk_180 0 24 (dk_at dksX0_more_0 1 rfl rfl)
theorem dX0_more_4 : decode cX0_more 4 = .ok (.aload_n 0, 1) := dk_42 (dk_at dksX0_more_0 4 rfl rfl)
theorem dX0_more_5 : decode cX0_more 5 = .ok (.getfield 77, 3) := dk_180 0 77 (dk_at dksX0_more_0 5 rfl rfl)
theorem dX0_more_8 : decode cX0_more 8 = .ok (.aload_n 1, 1) := dk_43 (dk_at dksX0_more_0 8 rfl rfl)
theorem dX0_more_9 : decode cX0_more 9 = .ok (.aastore, 1) := dk_83 (dk_at dksX0_more_0 9 rfl rfl)
theorem dX0_more_10 : decode cX0_more 10 = .ok (.aload_n 0, 1) := dk_42 (dk_at dksX0_more_0 10 rfl rfl)
theorem dX0_more_11 : decode cX0_more 11 = .ok (.dup, 1) := dk_89 (dk_at dksX0_more_0 11 rfl rfl)
theorem dX0_more_12 : decode cX0_more 12 = .ok (.getfield 77, 3) := dk_180 0 77 (dk_at dksX0_more_0 12 rfl rfl)
theorem dX0_more_15 : decode cX0_more 15 = .ok (.dup_x1, 1) := dk_90 (dk_at dksX0_more_0 15 rfl rfl)
theorem dX0_more_16 : decode cX0_more 16 = .ok (.iconst 1, 1) := dk_4 (dk_at dksX0_more_0 16 rfl rfl)
theorem dX0_more_17 : decode cX0_more 17 = .ok (.iadd, 1) := dk_96 (dk_at dksX0_more_0 17 rfl rfl)
theorem dX0_more_18 : decode cX0_more 18 = .ok (.putfield 77, 3) := dk_181 0 77 (dk_at dksX0_more_0 18 rfl rfl)
theorem dX0_more_21 : decode cX0_more 21 = .ok (.ireturn, 1) := dk_172 (dk_at dksX0_more_0 21 rfl rfl)
abbrev cX0_both : ByteArray := prog_1_method_14_code
def yX0_both : MethodName := ⟨RX0, "both", "(II)I"⟩
def dkwX0_both_4 : List UInt8 := [180, 0, 24, 28, 50, 181, 0, 117, 25, 4, 29, 181, 0, 107, 42, 25, 4, 182, 0, 100, 172]
abbrev dktX0_both_4 : List UInt8 := dkwX0_both_4 ++ []
def dkwX0_both_3 : List UInt8 := [3, 3, 3, 3, 183, 0, 97, 58, 4, 25, 4, 42, 180, 0, 24, 27, 50, 181, 0, 113, 25, 4, 42]
abbrev dktX0_both_3 : List UInt8 := dkwX0_both_3 ++ dktX0_both_4
def dkwX0_both_2 : List UInt8 := [159, 0, 9, 29, 16, 100, 164, 0, 6, 16, 254, 172, 187, 0, 22, 89, 178, 0, 110, 42, 180, 0, 77, 3]
abbrev dktX0_both_2 : List UInt8 := dkwX0_both_2 ++ dktX0_both_3
def dkwX0_both_1 : List UInt8 := [50, 180, 0, 107, 96, 42, 180, 0, 24, 28, 50, 180, 0, 107, 96, 62, 42, 180, 0, 77, 16, 80]
abbrev dktX0_both_1 : List UInt8 := dkwX0_both_1 ++ dktX0_both_2
def dkwX0_both_0 : List UInt8 := [42, 27, 182, 0, 104, 153, 0, 11, 42, 28, 182, 0, 104, 154, 0, 5, 2, 172, 4, 42, 180, 0, 24, 27]
abbrev dktX0_both_0 : List UInt8 := dkwX0_both_0 ++ dktX0_both_1
theorem dksX0_both_0 : cX0_both.data.toList.drop 0 = dktX0_both_0 := by decide +kernel
theorem dksX0_both_1 : cX0_both.data.toList.drop 24 = dktX0_both_1 := dk_seg dksX0_both_0 24 rfl rfl
theorem dksX0_both_2 : cX0_both.data.toList.drop 46 = dktX0_both_2 := dk_seg dksX0_both_1 22 rfl rfl
theorem dksX0_both_3 : cX0_both.data.toList.drop 70 = dktX0_both_3 := dk_seg dksX0_both_2 24 rfl rfl
theorem dksX0_both_4 : cX0_both.data.toList.drop 93 = dktX0_both_4 := dk_seg dksX0_both_3 23 rfl rfl
theorem dX0_both_0 : decode cX0_both 0 = .ok (.aload_n 0, 1) := dk_42 (dk_at dksX0_both_0 0 rfl rfl)
theorem dX0_both_1 : decode cX0_both 1 = .ok (.iload_n 1, 1) := dk_27 (dk_at dksX0_both_0 1 rfl rfl)
theorem dX0_both_2 : decode cX0_both 2 = .ok (.invokevirtual 104, 3) := dk_182 0 104 (dk_at dksX0_both_0 2 rfl rfl)
theorem dX0_both_5 : decode cX0_both 5 = .ok (.ifCond .eq 11, 3) := dk_153 0 11 (dk_at dksX0_both_0 5 rfl rfl)
theorem dX0_both_8 : decode cX0_both 8 = .ok (.aload_n 0, 1) := dk_42 (dk_at dksX0_both_0 8 rfl rfl)
theorem dX0_both_9 : decode cX0_both 9 = .ok (.iload_n 2, 1) := dk_28 (dk_at dksX0_both_0 9 rfl rfl)
theorem dX0_both_10 : decode cX0_both 10 = .ok (.invokevirtual 104, 3) := dk_182 0 104 (dk_at dksX0_both_0 10 rfl rfl)
theorem dX0_both_13 : decode cX0_both 13 = .ok (.ifCond .ne 5, 3) := dk_154 0 5 (dk_at dksX0_both_0 13 rfl rfl)
theorem dX0_both_16 : decode cX0_both 16 = .ok (.iconst (-1), 1) := dk_2 (dk_at dksX0_both_0 16 rfl rfl)
theorem dX0_both_17 : decode cX0_both 17 = .ok (.ireturn, 1) := dk_172 (dk_at dksX0_both_0 17 rfl rfl)
theorem dX0_both_18 : decode cX0_both 18 = .ok (.iconst 1, 1) := dk_4 (dk_at dksX0_both_0 18 rfl rfl)
theorem dX0_both_19 : decode cX0_both 19 = .ok (.aload_n 0, 1) := dk_42 (dk_at dksX0_both_0 19 rfl rfl)
theorem dX0_both_20 : decode cX0_both 20 = .ok (.getfield 24, 3) := dk_180 0 24 (dk_at dksX0_both_0 20 rfl rfl)
theorem dX0_both_23 : decode cX0_both 23 = .ok (.iload_n 1, 1) := dk_27 (dk_at dksX0_both_0 23 rfl rfl)
theorem dX0_both_24 : decode cX0_both 24 = .ok (.aaload, 1) := dk_50 (dk_at dksX0_both_1 0 rfl rfl)
theorem dX0_both_25 : decode cX0_both 25 = .ok (.getfield 107, 3) := dk_180 0 107 (dk_at dksX0_both_1 1 rfl rfl)
theorem dX0_both_28 : decode cX0_both 28 = .ok (.iadd, 1) := dk_96 (dk_at dksX0_both_1 4 rfl rfl)
theorem dX0_both_29 : decode cX0_both 29 = .ok (.aload_n 0, 1) := dk_42 (dk_at dksX0_both_1 5 rfl rfl)
theorem dX0_both_30 : decode cX0_both 30 = .ok (.getfield 24, 3) := dk_180 0 24 (dk_at dksX0_both_1 6 rfl rfl)
theorem dX0_both_33 : decode cX0_both 33 = .ok (.iload_n 2, 1) := dk_28 (dk_at dksX0_both_1 9 rfl rfl)
theorem dX0_both_34 : decode cX0_both 34 = .ok (.aaload, 1) := dk_50 (dk_at dksX0_both_1 10 rfl rfl)
theorem dX0_both_35 : decode cX0_both 35 = .ok (.getfield 107, 3) := dk_180 0 107 (dk_at dksX0_both_1 11 rfl rfl)
theorem dX0_both_38 : decode cX0_both 38 = .ok (.iadd, 1) := dk_96 (dk_at dksX0_both_1 14 rfl rfl)
theorem dX0_both_39 : decode cX0_both 39 = .ok (.istore_n 3, 1) := dk_62 (dk_at dksX0_both_1 15 rfl rfl)
theorem dX0_both_40 : decode cX0_both 40 = .ok (.aload_n 0, 1) := dk_42 (dk_at dksX0_both_1 16 rfl rfl)
theorem dX0_both_41 : decode cX0_both 41 = .ok (.getfield 77, 3) := dk_180 0 77 (dk_at dksX0_both_1 17 rfl rfl)
theorem dX0_both_44 : decode cX0_both 44 = .ok (.bipush 80, 2) := dk_16 80 (dk_at dksX0_both_1 20 rfl rfl)
theorem dX0_both_46 : decode cX0_both 46 = .ok (.if_icmp .eq 9, 3) := dk_159 0 9 (dk_at dksX0_both_2 0 rfl rfl)
theorem dX0_both_49 : decode cX0_both 49 = .ok (.iload_n 3, 1) := dk_29 (dk_at dksX0_both_2 3 rfl rfl)
theorem dX0_both_50 : decode cX0_both 50 = .ok (.bipush 100, 2) := dk_16 100 (dk_at dksX0_both_2 4 rfl rfl)
theorem dX0_both_52 : decode cX0_both 52 = .ok (.if_icmp .le 6, 3) := dk_164 0 6 (dk_at dksX0_both_2 6 rfl rfl)
theorem dX0_both_55 : decode cX0_both 55 = .ok (.bipush (-2), 2) := dk_16 254 (dk_at dksX0_both_2 9 rfl rfl)
theorem dX0_both_57 : decode cX0_both 57 = .ok (.ireturn, 1) := dk_172 (dk_at dksX0_both_2 11 rfl rfl)
theorem dX0_both_58 : decode cX0_both 58 = .ok (.new 22, 3) := dk_187 0 22 (dk_at dksX0_both_2 12 rfl rfl)
theorem dX0_both_61 : decode cX0_both 61 = .ok (.dup, 1) := dk_89 (dk_at dksX0_both_2 15 rfl rfl)
theorem dX0_both_62 : decode cX0_both 62 = .ok (.getstatic 110, 3) := dk_178 0 110 (dk_at dksX0_both_2 16 rfl rfl)
theorem dX0_both_65 : decode cX0_both 65 = .ok (.aload_n 0, 1) := dk_42 (dk_at dksX0_both_2 19 rfl rfl)
theorem dX0_both_66 : decode cX0_both 66 = .ok (.getfield 77, 3) := dk_180 0 77 (dk_at dksX0_both_2 20 rfl rfl)
theorem dX0_both_69 : decode cX0_both 69 = .ok (.iconst 0, 1) := dk_3 (dk_at dksX0_both_2 23 rfl rfl)
theorem dX0_both_70 : decode cX0_both 70 = .ok (.iconst 0, 1) := dk_3 (dk_at dksX0_both_3 0 rfl rfl)
theorem dX0_both_71 : decode cX0_both 71 = .ok (.iconst 0, 1) := dk_3 (dk_at dksX0_both_3 1 rfl rfl)
theorem dX0_both_72 : decode cX0_both 72 = .ok (.iconst 0, 1) := dk_3 (dk_at dksX0_both_3 2 rfl rfl)
theorem dX0_both_73 : decode cX0_both 73 = .ok (.iconst 0, 1) := dk_3 (dk_at dksX0_both_3 3 rfl rfl)
theorem dX0_both_74 : decode cX0_both 74 = .ok (.invokespecial 97, 3) := dk_183 0 97 (dk_at dksX0_both_3 4 rfl rfl)
theorem dX0_both_77 : decode cX0_both 77 = .ok (.astore 4, 2) := dk_58 4 (dk_at dksX0_both_3 7 rfl rfl)
theorem dX0_both_79 : decode cX0_both 79 = .ok (.aload 4, 2) := dk_25 4 (dk_at dksX0_both_3 9 rfl rfl)
theorem dX0_both_81 : decode cX0_both 81 = .ok (.aload_n 0, 1) := dk_42 (dk_at dksX0_both_3 11 rfl rfl)
theorem dX0_both_82 : decode cX0_both 82 = .ok (.getfield 24, 3) := dk_180 0 24 (dk_at dksX0_both_3 12 rfl rfl)
theorem dX0_both_85 : decode cX0_both 85 = .ok (.iload_n 1, 1) := dk_27 (dk_at dksX0_both_3 15 rfl rfl)
theorem dX0_both_86 : decode cX0_both 86 = .ok (.aaload, 1) := dk_50 (dk_at dksX0_both_3 16 rfl rfl)
theorem dX0_both_87 : decode cX0_both 87 = .ok (.putfield 113, 3) := dk_181 0 113 (dk_at dksX0_both_3 17 rfl rfl)
theorem dX0_both_90 : decode cX0_both 90 = .ok (.aload 4, 2) := dk_25 4 (dk_at dksX0_both_3 20 rfl rfl)
theorem dX0_both_92 : decode cX0_both 92 = .ok (.aload_n 0, 1) := dk_42 (dk_at dksX0_both_3 22 rfl rfl)
theorem dX0_both_93 : decode cX0_both 93 = .ok (.getfield 24, 3) := dk_180 0 24 (dk_at dksX0_both_4 0 rfl rfl)
theorem dX0_both_96 : decode cX0_both 96 = .ok (.iload_n 2, 1) := dk_28 (dk_at dksX0_both_4 3 rfl rfl)
theorem dX0_both_97 : decode cX0_both 97 = .ok (.aaload, 1) := dk_50 (dk_at dksX0_both_4 4 rfl rfl)
theorem dX0_both_98 : decode cX0_both 98 = .ok (.putfield 117, 3) := dk_181 0 117 (dk_at dksX0_both_4 5 rfl rfl)
theorem dX0_both_101 : decode cX0_both 101 = .ok (.aload 4, 2) := dk_25 4 (dk_at dksX0_both_4 8 rfl rfl)
theorem dX0_both_103 : decode cX0_both 103 = .ok (.iload_n 3, 1) := dk_29 (dk_at dksX0_both_4 10 rfl rfl)
theorem dX0_both_104 : decode cX0_both 104 = .ok (.putfield 107, 3) := dk_181 0 107 (dk_at dksX0_both_4 11 rfl rfl)
theorem dX0_both_107 : decode cX0_both 107 = .ok (.aload_n 0, 1) := dk_42 (dk_at dksX0_both_4 14 rfl rfl)
theorem dX0_both_108 : decode cX0_both 108 = .ok (.aload 4, 2) := dk_25 4 (dk_at dksX0_both_4 15 rfl rfl)
theorem dX0_both_110 : decode cX0_both 110 = .ok (.invokevirtual 100, 3) := dk_182 0 100 (dk_at dksX0_both_4 17 rfl rfl)
theorem dX0_both_113 : decode cX0_both 113 = .ok (.ireturn, 1) := dk_172 (dk_at dksX0_both_4 20 rfl rfl)
abbrev cX0_isNode : ByteArray := prog_1_method_10_code
def yX0_isNode : MethodName := ⟨RX0, "isNode", "(I)Z"⟩
def dkwX0_isNode_0 : List UInt8 := [27, 3, 42, 180, 0, 77, 4, 100, 184, 0, 73, 172]
abbrev dktX0_isNode_0 : List UInt8 := dkwX0_isNode_0 ++ []
theorem dksX0_isNode_0 : cX0_isNode.data.toList.drop 0 = dktX0_isNode_0 := by decide +kernel
theorem dX0_isNode_0 : decode cX0_isNode 0 = .ok (.iload_n 1, 1) := dk_27 (dk_at dksX0_isNode_0 0 rfl rfl)
theorem dX0_isNode_1 : decode cX0_isNode 1 = .ok (.iconst 0, 1) := dk_3 (dk_at dksX0_isNode_0 1 rfl rfl)
theorem dX0_isNode_2 : decode cX0_isNode 2 = .ok (.aload_n 0, 1) := dk_42 (dk_at dksX0_isNode_0 2 rfl rfl)
theorem dX0_isNode_3 : decode cX0_isNode 3 = .ok (.getfield 77, 3) := dk_180 0 77 (dk_at dksX0_isNode_0 3 rfl rfl)
theorem dX0_isNode_6 : decode cX0_isNode 6 = .ok (.iconst 1, 1) := dk_4 (dk_at dksX0_isNode_0 6 rfl rfl)
theorem dX0_isNode_7 : decode cX0_isNode 7 = .ok (.isub, 1) := dk_100 (dk_at dksX0_isNode_0 7 rfl rfl)
theorem dX0_isNode_8 : decode cX0_isNode 8 = .ok (.invokestatic 73, 3) := dk_184 0 73 (dk_at dksX0_isNode_0 8 rfl rfl)
theorem dX0_isNode_11 : decode cX0_isNode 11 = .ok (.ireturn, 1) := dk_172 (dk_at dksX0_isNode_0 11 rfl rfl)
abbrev cX0_choice : ByteArray := prog_1_method_15_code
def yX0_choice : MethodName := ⟨RX0, "choice", "(IIII)I"⟩
def dkwX0_choice_5 : List UInt8 := [21, 4, 50, 181, 0, 117, 25, 6, 21, 5, 181, 0, 107, 42, 25, 6, 182, 0, 100, 172]
abbrev dktX0_choice_5 : List UInt8 := dkwX0_choice_5 ++ []
def dkwX0_choice_4 : List UInt8 := [3, 3, 183, 0, 97, 58, 6, 25, 6, 42, 180, 0, 24, 29, 50, 181, 0, 113, 25, 6, 42, 180, 0, 24]
abbrev dktX0_choice_4 : List UInt8 := dkwX0_choice_4 ++ dktX0_choice_5
def dkwX0_choice_3 : List UInt8 := [21, 5, 16, 100, 164, 0, 6, 16, 254, 172, 187, 0, 22, 89, 178, 0, 120, 42, 180, 0, 77, 3, 27, 28]
abbrev dktX0_choice_3 : List UInt8 := dkwX0_choice_3 ++ dktX0_choice_4
def dkwX0_choice_2 : List UInt8 := [96, 42, 180, 0, 24, 21, 4, 50, 180, 0, 107, 96, 54, 5, 42, 180, 0, 77, 16, 80, 159, 0, 10]
abbrev dktX0_choice_2 : List UInt8 := dkwX0_choice_2 ++ dktX0_choice_3
def dkwX0_choice_1 : List UInt8 := [153, 0, 12, 42, 21, 4, 182, 0, 104, 154, 0, 5, 2, 172, 4, 42, 180, 0, 24, 29, 50, 180, 0, 107]
abbrev dktX0_choice_1 : List UInt8 := dkwX0_choice_1 ++ dktX0_choice_2
def dkwX0_choice_0 : List UInt8 := [27, 184, 0, 80, 153, 0, 30, 28, 3, 16, 9, 184, 0, 73, 153, 0, 20, 42, 29, 182, 0, 104]
abbrev dktX0_choice_0 : List UInt8 := dkwX0_choice_0 ++ dktX0_choice_1
theorem dksX0_choice_0 : cX0_choice.data.toList.drop 0 = dktX0_choice_0 := by decide +kernel
theorem dksX0_choice_1 : cX0_choice.data.toList.drop 22 = dktX0_choice_1 := dk_seg dksX0_choice_0 22 rfl rfl
theorem dksX0_choice_2 : cX0_choice.data.toList.drop 46 = dktX0_choice_2 := dk_seg dksX0_choice_1 24 rfl rfl
theorem dksX0_choice_3 : cX0_choice.data.toList.drop 69 = dktX0_choice_3 := dk_seg dksX0_choice_2 23 rfl rfl
theorem dksX0_choice_4 : cX0_choice.data.toList.drop 93 = dktX0_choice_4 := dk_seg dksX0_choice_3 24 rfl rfl
theorem dksX0_choice_5 : cX0_choice.data.toList.drop 117 = dktX0_choice_5 := dk_seg dksX0_choice_4 24 rfl rfl
theorem dX0_choice_0 : decode cX0_choice 0 = .ok (.iload_n 1, 1) := dk_27 (dk_at dksX0_choice_0 0 rfl rfl)
theorem dX0_choice_1 : decode cX0_choice 1 = .ok (.invokestatic 80, 3) := dk_184 0 80 (dk_at dksX0_choice_0 1 rfl rfl)
theorem dX0_choice_4 : decode cX0_choice 4 = .ok (.ifCond .eq 30, 3) := dk_153 0 30 (dk_at dksX0_choice_0 4 rfl rfl)
theorem dX0_choice_7 : decode cX0_choice 7 = .ok (.iload_n 2, 1) := dk_28 (dk_at dksX0_choice_0 7 rfl rfl)
theorem dX0_choice_8 : decode cX0_choice 8 = .ok (.iconst 0, 1) := dk_3 (dk_at dksX0_choice_0 8 rfl rfl)
theorem dX0_choice_9 : decode cX0_choice 9 = .ok (.bipush 9, 2) := dk_16 9 (dk_at dksX0_choice_0 9 rfl rfl)
theorem dX0_choice_11 : decode cX0_choice 11 = .ok (.invokestatic 73, 3) := dk_184 0 73 (dk_at dksX0_choice_0 11 rfl rfl)
theorem dX0_choice_14 : decode cX0_choice 14 = .ok (.ifCond .eq 20, 3) := dk_153 0 20 (dk_at dksX0_choice_0 14 rfl rfl)
theorem dX0_choice_17 : decode cX0_choice 17 = .ok (.aload_n 0, 1) := dk_42 (dk_at dksX0_choice_0 17 rfl rfl)
theorem dX0_choice_18 : decode cX0_choice 18 = .ok (.iload_n 3, 1) := dk_29 (dk_at dksX0_choice_0 18 rfl rfl)
theorem dX0_choice_19 : decode cX0_choice 19 = .ok (.invokevirtual 104, 3) := dk_182 0 104 (dk_at dksX0_choice_0 19 rfl rfl)
theorem dX0_choice_22 : decode cX0_choice 22 = .ok (.ifCond .eq 12, 3) := dk_153 0 12 (dk_at dksX0_choice_1 0 rfl rfl)
theorem dX0_choice_25 : decode cX0_choice 25 = .ok (.aload_n 0, 1) := dk_42 (dk_at dksX0_choice_1 3 rfl rfl)
theorem dX0_choice_26 : decode cX0_choice 26 = .ok (.iload 4, 2) := dk_21 4 (dk_at dksX0_choice_1 4 rfl rfl)
theorem dX0_choice_28 : decode cX0_choice 28 = .ok (.invokevirtual 104, 3) := dk_182 0 104 (dk_at dksX0_choice_1 6 rfl rfl)
theorem dX0_choice_31 : decode cX0_choice 31 = .ok (.ifCond .ne 5, 3) := dk_154 0 5 (dk_at dksX0_choice_1 9 rfl rfl)
theorem dX0_choice_34 : decode cX0_choice 34 = .ok (.iconst (-1), 1) := dk_2 (dk_at dksX0_choice_1 12 rfl rfl)
theorem dX0_choice_35 : decode cX0_choice 35 = .ok (.ireturn, 1) := dk_172 (dk_at dksX0_choice_1 13 rfl rfl)
theorem dX0_choice_36 : decode cX0_choice 36 = .ok (.iconst 1, 1) := dk_4 (dk_at dksX0_choice_1 14 rfl rfl)
theorem dX0_choice_37 : decode cX0_choice 37 = .ok (.aload_n 0, 1) := dk_42 (dk_at dksX0_choice_1 15 rfl rfl)
theorem dX0_choice_38 : decode cX0_choice 38 = .ok (.getfield 24, 3) := dk_180 0 24 (dk_at dksX0_choice_1 16 rfl rfl)
theorem dX0_choice_41 : decode cX0_choice 41 = .ok (.iload_n 3, 1) := dk_29 (dk_at dksX0_choice_1 19 rfl rfl)
theorem dX0_choice_42 : decode cX0_choice 42 = .ok (.aaload, 1) := dk_50 (dk_at dksX0_choice_1 20 rfl rfl)
theorem dX0_choice_43 : decode cX0_choice 43 = .ok (.getfield 107, 3) := dk_180 0 107 (dk_at dksX0_choice_1 21 rfl rfl)
theorem dX0_choice_46 : decode cX0_choice 46 = .ok (.iadd, 1) := dk_96 (dk_at dksX0_choice_2 0 rfl rfl)
theorem dX0_choice_47 : decode cX0_choice 47 = .ok (.aload_n 0, 1) := dk_42 (dk_at dksX0_choice_2 1 rfl rfl)
theorem dX0_choice_48 : decode cX0_choice 48 = .ok (.getfield 24, 3) := dk_180 0 24 (dk_at dksX0_choice_2 2 rfl rfl)
theorem dX0_choice_51 : decode cX0_choice 51 = .ok (.iload 4, 2) := dk_21 4 (dk_at dksX0_choice_2 5 rfl rfl)
theorem dX0_choice_53 : decode cX0_choice 53 = .ok (.aaload, 1) := dk_50 (dk_at dksX0_choice_2 7 rfl rfl)
theorem dX0_choice_54 : decode cX0_choice 54 = .ok (.getfield 107, 3) := dk_180 0 107 (dk_at dksX0_choice_2 8 rfl rfl)
theorem dX0_choice_57 : decode cX0_choice 57 = .ok (.iadd, 1) := dk_96 (dk_at dksX0_choice_2 11 rfl rfl)
theorem dX0_choice_58 : decode cX0_choice 58 = .ok (.istore 5, 2) := dk_54 5 (dk_at dksX0_choice_2 12 rfl rfl)
theorem dX0_choice_60 : decode cX0_choice 60 = .ok (.aload_n 0, 1) := dk_42 (dk_at dksX0_choice_2 14 rfl rfl)
theorem dX0_choice_61 : decode cX0_choice 61 = .ok (.getfield 77, 3) := dk_180 0 77 (dk_at dksX0_choice_2 15 rfl rfl)
theorem dX0_choice_64 : decode cX0_choice 64 = .ok (.bipush 80, 2) := dk_16 80 (dk_at dksX0_choice_2 18 rfl rfl)
theorem dX0_choice_66 : decode cX0_choice 66 = .ok (.if_icmp .eq 10, 3) := dk_159 0 10 (dk_at dksX0_choice_2 20 rfl rfl)
theorem dX0_choice_69 : decode cX0_choice 69 = .ok (.iload 5, 2) := dk_21 5 (dk_at dksX0_choice_3 0 rfl rfl)
theorem dX0_choice_71 : decode cX0_choice 71 = .ok (.bipush 100, 2) := dk_16 100 (dk_at dksX0_choice_3 2 rfl rfl)
theorem dX0_choice_73 : decode cX0_choice 73 = .ok (.if_icmp .le 6, 3) := dk_164 0 6 (dk_at dksX0_choice_3 4 rfl rfl)
theorem dX0_choice_76 : decode cX0_choice 76 = .ok (.bipush (-2), 2) := dk_16 254 (dk_at dksX0_choice_3 7 rfl rfl)
theorem dX0_choice_78 : decode cX0_choice 78 = .ok (.ireturn, 1) := dk_172 (dk_at dksX0_choice_3 9 rfl rfl)
theorem dX0_choice_79 : decode cX0_choice 79 = .ok (.new 22, 3) := dk_187 0 22 (dk_at dksX0_choice_3 10 rfl rfl)
theorem dX0_choice_82 : decode cX0_choice 82 = .ok (.dup, 1) := dk_89 (dk_at dksX0_choice_3 13 rfl rfl)
theorem dX0_choice_83 : decode cX0_choice 83 = .ok (.getstatic 120, 3) := dk_178 0 120 (dk_at dksX0_choice_3 14 rfl rfl)
theorem dX0_choice_86 : decode cX0_choice 86 = .ok (.aload_n 0, 1) := dk_42 (dk_at dksX0_choice_3 17 rfl rfl)
theorem dX0_choice_87 : decode cX0_choice 87 = .ok (.getfield 77, 3) := dk_180 0 77 (dk_at dksX0_choice_3 18 rfl rfl)
theorem dX0_choice_90 : decode cX0_choice 90 = .ok (.iconst 0, 1) := dk_3 (dk_at dksX0_choice_3 21 rfl rfl)
theorem dX0_choice_91 : decode cX0_choice 91 = .ok (.iload_n 1, 1) := dk_27 (dk_at dksX0_choice_3 22 rfl rfl)
theorem dX0_choice_92 : decode cX0_choice 92 = .ok (.iload_n 2, 1) := dk_28 (dk_at dksX0_choice_3 23 rfl rfl)
theorem dX0_choice_93 : decode cX0_choice 93 = .ok (.iconst 0, 1) := dk_3 (dk_at dksX0_choice_4 0 rfl rfl)
theorem dX0_choice_94 : decode cX0_choice 94 = .ok (.iconst 0, 1) := dk_3 (dk_at dksX0_choice_4 1 rfl rfl)
theorem dX0_choice_95 : decode cX0_choice 95 = .ok (.invokespecial 97, 3) := dk_183 0 97 (dk_at dksX0_choice_4 2 rfl rfl)
theorem dX0_choice_98 : decode cX0_choice 98 = .ok (.astore 6, 2) := dk_58 6 (dk_at dksX0_choice_4 5 rfl rfl)
theorem dX0_choice_100 : decode cX0_choice 100 = .ok (.aload 6, 2) := dk_25 6 (dk_at dksX0_choice_4 7 rfl rfl)
theorem dX0_choice_102 : decode cX0_choice 102 = .ok (.aload_n 0, 1) := dk_42 (dk_at dksX0_choice_4 9 rfl rfl)
theorem dX0_choice_103 : decode cX0_choice 103 = .ok (.getfield 24, 3) := dk_180 0 24 (dk_at dksX0_choice_4 10 rfl rfl)
theorem dX0_choice_106 : decode cX0_choice 106 = .ok (.iload_n 3, 1) := dk_29 (dk_at dksX0_choice_4 13 rfl rfl)
theorem dX0_choice_107 : decode cX0_choice 107 = .ok (.aaload, 1) := dk_50 (dk_at dksX0_choice_4 14 rfl rfl)
theorem dX0_choice_108 : decode cX0_choice 108 = .ok (.putfield 113, 3) := dk_181 0 113 (dk_at dksX0_choice_4 15 rfl rfl)
theorem dX0_choice_111 : decode cX0_choice 111 = .ok (.aload 6, 2) := dk_25 6 (dk_at dksX0_choice_4 18 rfl rfl)
theorem dX0_choice_113 : decode cX0_choice 113 = .ok (.aload_n 0, 1) := dk_42 (dk_at dksX0_choice_4 20 rfl rfl)
theorem dX0_choice_114 : decode cX0_choice 114 = .ok (.getfield 24, 3) := dk_180 0 24 (dk_at dksX0_choice_4 21 rfl rfl)
theorem dX0_choice_117 : decode cX0_choice 117 = .ok (.iload 4, 2) := dk_21 4 (dk_at dksX0_choice_5 0 rfl rfl)
theorem dX0_choice_119 : decode cX0_choice 119 = .ok (.aaload, 1) := dk_50 (dk_at dksX0_choice_5 2 rfl rfl)
theorem dX0_choice_120 : decode cX0_choice 120 = .ok (.putfield 117, 3) := dk_181 0 117 (dk_at dksX0_choice_5 3 rfl rfl)
theorem dX0_choice_123 : decode cX0_choice 123 = .ok (.aload 6, 2) := dk_25 6 (dk_at dksX0_choice_5 6 rfl rfl)
theorem dX0_choice_125 : decode cX0_choice 125 = .ok (.iload 5, 2) := dk_21 5 (dk_at dksX0_choice_5 8 rfl rfl)
theorem dX0_choice_127 : decode cX0_choice 127 = .ok (.putfield 107, 3) := dk_181 0 107 (dk_at dksX0_choice_5 10 rfl rfl)
theorem dX0_choice_130 : decode cX0_choice 130 = .ok (.aload_n 0, 1) := dk_42 (dk_at dksX0_choice_5 13 rfl rfl)
theorem dX0_choice_131 : decode cX0_choice 131 = .ok (.aload 6, 2) := dk_25 6 (dk_at dksX0_choice_5 14 rfl rfl)
theorem dX0_choice_133 : decode cX0_choice 133 = .ok (.invokevirtual 100, 3) := dk_182 0 100 (dk_at dksX0_choice_5 16 rfl rfl)
theorem dX0_choice_136 : decode cX0_choice 136 = .ok (.ireturn, 1) := dk_172 (dk_at dksX0_choice_5 19 rfl rfl)
abbrev cX0_guard : ByteArray := prog_1_method_16_code
def yX0_guard : MethodName := ⟨RX0, "guard", "(IIII)I"⟩
def dkwX0_guard_8 : List UInt8 := [21, 5, 181, 0, 107, 42, 25, 6, 182, 0, 100, 172]
abbrev dktX0_guard_8 : List UInt8 := dkwX0_guard_8 ++ []
def dkwX0_guard_7 : List UInt8 := [25, 6, 21, 4, 156, 0, 7, 1, 167, 0, 10, 42, 180, 0, 24, 21, 4, 50, 181, 0, 126, 25, 6]
abbrev dktX0_guard_7 : List UInt8 := dkwX0_guard_7 ++ dktX0_guard_8
def dkwX0_guard_6 : List UInt8 := [50, 181, 0, 113, 25, 6, 29, 156, 0, 7, 1, 167, 0, 9, 42, 180, 0, 24, 29, 50, 181, 0, 117]
abbrev dktX0_guard_6 : List UInt8 := dkwX0_guard_6 ++ dktX0_guard_7
def dkwX0_guard_5 : List UInt8 := [180, 0, 77, 3, 28, 17, 1, 254, 126, 3, 3, 3, 183, 0, 97, 58, 6, 25, 6, 42, 180, 0, 24, 27]
abbrev dktX0_guard_5 : List UInt8 := dkwX0_guard_5 ++ dktX0_guard_6
def dkwX0_guard_4 : List UInt8 := [16, 80, 159, 0, 10, 21, 5, 16, 100, 164, 0, 6, 16, 254, 172, 187, 0, 22, 89, 178, 0, 123, 42]
abbrev dktX0_guard_4 : List UInt8 := dkwX0_guard_4 ++ dktX0_guard_5
def dkwX0_guard_3 : List UInt8 := [3, 167, 0, 16, 16, 9, 42, 180, 0, 24, 21, 4, 50, 180, 0, 107, 104, 96, 54, 5, 42, 180, 0, 77]
abbrev dktX0_guard_3 : List UInt8 := dkwX0_guard_3 ++ dktX0_guard_4
def dkwX0_guard_2 : List UInt8 := [96, 29, 156, 0, 7, 3, 167, 0, 12, 42, 180, 0, 24, 29, 50, 180, 0, 107, 96, 21, 4, 156, 0, 7]
abbrev dktX0_guard_2 : List UInt8 := dkwX0_guard_2 ++ dktX0_guard_3
def dkwX0_guard_1 : List UInt8 := [159, 0, 14, 42, 21, 4, 182, 0, 104, 154, 0, 5, 2, 172, 4, 42, 180, 0, 24, 27, 50, 180, 0, 107]
abbrev dktX0_guard_1 : List UInt8 := dkwX0_guard_1 ++ dktX0_guard_2
def dkwX0_guard_0 : List UInt8 := [42, 27, 182, 0, 104, 153, 0, 31, 29, 2, 159, 0, 11, 42, 29, 182, 0, 104, 153, 0, 18, 21, 4, 2]
abbrev dktX0_guard_0 : List UInt8 := dkwX0_guard_0 ++ dktX0_guard_1
theorem dksX0_guard_0 : cX0_guard.data.toList.drop 0 = dktX0_guard_0 := by decide +kernel
theorem dksX0_guard_1 : cX0_guard.data.toList.drop 24 = dktX0_guard_1 := dk_seg dksX0_guard_0 24 rfl rfl
theorem dksX0_guard_2 : cX0_guard.data.toList.drop 48 = dktX0_guard_2 := dk_seg dksX0_guard_1 24 rfl rfl
theorem dksX0_guard_3 : cX0_guard.data.toList.drop 72 = dktX0_guard_3 := dk_seg dksX0_guard_2 24 rfl rfl
theorem dksX0_guard_4 : cX0_guard.data.toList.drop 96 = dktX0_guard_4 := dk_seg dksX0_guard_3 24 rfl rfl
theorem dksX0_guard_5 : cX0_guard.data.toList.drop 119 = dktX0_guard_5 := dk_seg dksX0_guard_4 23 rfl rfl
theorem dksX0_guard_6 : cX0_guard.data.toList.drop 143 = dktX0_guard_6 := dk_seg dksX0_guard_5 24 rfl rfl
theorem dksX0_guard_7 : cX0_guard.data.toList.drop 166 = dktX0_guard_7 := dk_seg dksX0_guard_6 23 rfl rfl
theorem dksX0_guard_8 : cX0_guard.data.toList.drop 189 = dktX0_guard_8 := dk_seg dksX0_guard_7 23 rfl rfl
theorem dX0_guard_0 : decode cX0_guard 0 = .ok (.aload_n 0, 1) := dk_42 (dk_at dksX0_guard_0 0 rfl rfl)
theorem dX0_guard_1 : decode cX0_guard 1 = .ok (.iload_n 1, 1) := dk_27 (dk_at dksX0_guard_0 1 rfl rfl)
theorem dX0_guard_2 : decode cX0_guard 2 = .ok (.invokevirtual 104, 3) := dk_182 0 104 (dk_at dksX0_guard_0 2 rfl rfl)
theorem dX0_guard_5 : decode cX0_guard 5 = .ok (.ifCond .eq 31, 3) := dk_153 0 31 (dk_at dksX0_guard_0 5 rfl rfl)
theorem dX0_guard_8 : decode cX0_guard 8 = .ok (.iload_n 3, 1) := dk_29 (dk_at dksX0_guard_0 8 rfl rfl)
theorem dX0_guard_9 : decode cX0_guard 9 = .ok (.iconst (-1), 1) := dk_2 (dk_at dksX0_guard_0 9 rfl rfl)
theorem dX0_guard_10 : decode cX0_guard 10 = .ok (.if_icmp .eq 11, 3) := dk_159 0 11 (dk_at dksX0_guard_0 10 rfl rfl)
theorem dX0_guard_13 : decode cX0_guard 13 = .ok (.aload_n 0, 1) := dk_42 (dk_at dksX0_guard_0 13 rfl rfl)
theorem dX0_guard_14 : decode cX0_guard 14 = .ok (.iload_n 3, 1) := dk_29 (dk_at dksX0_guard_0 14 rfl rfl)
theorem dX0_guard_15 : decode cX0_guard 15 = .ok (.invokevirtual 104, 3) := dk_182 0 104 (dk_at dksX0_guard_0 15 rfl rfl)
theorem dX0_guard_18 : decode cX0_guard 18 = .ok (.ifCond .eq 18, 3) := dk_153 0 18 (dk_at dksX0_guard_0 18 rfl rfl)
theorem dX0_guard_21 : decode cX0_guard 21 = .ok (.iload 4, 2) := dk_21 4 (dk_at dksX0_guard_0 21 rfl rfl)
theorem dX0_guard_23 : decode cX0_guard 23 = .ok (.iconst (-1), 1) := dk_2 (dk_at dksX0_guard_0 23 rfl rfl)
theorem dX0_guard_24 : decode cX0_guard 24 = .ok (.if_icmp .eq 14, 3) := dk_159 0 14 (dk_at dksX0_guard_1 0 rfl rfl)
theorem dX0_guard_27 : decode cX0_guard 27 = .ok (.aload_n 0, 1) := dk_42 (dk_at dksX0_guard_1 3 rfl rfl)
theorem dX0_guard_28 : decode cX0_guard 28 = .ok (.iload 4, 2) := dk_21 4 (dk_at dksX0_guard_1 4 rfl rfl)
theorem dX0_guard_30 : decode cX0_guard 30 = .ok (.invokevirtual 104, 3) := dk_182 0 104 (dk_at dksX0_guard_1 6 rfl rfl)
theorem dX0_guard_33 : decode cX0_guard 33 = .ok (.ifCond .ne 5, 3) := dk_154 0 5 (dk_at dksX0_guard_1 9 rfl rfl)
theorem dX0_guard_36 : decode cX0_guard 36 = .ok (.iconst (-1), 1) := dk_2 (dk_at dksX0_guard_1 12 rfl rfl)
theorem dX0_guard_37 : decode cX0_guard 37 = .ok (.ireturn, 1) := dk_172 (dk_at dksX0_guard_1 13 rfl rfl)
theorem dX0_guard_38 : decode cX0_guard 38 = .ok (.iconst 1, 1) := dk_4 (dk_at dksX0_guard_1 14 rfl rfl)
theorem dX0_guard_39 : decode cX0_guard 39 = .ok (.aload_n 0, 1) := dk_42 (dk_at dksX0_guard_1 15 rfl rfl)
theorem dX0_guard_40 : decode cX0_guard 40 = .ok (.getfield 24, 3) := dk_180 0 24 (dk_at dksX0_guard_1 16 rfl rfl)
theorem dX0_guard_43 : decode cX0_guard 43 = .ok (.iload_n 1, 1) := dk_27 (dk_at dksX0_guard_1 19 rfl rfl)
theorem dX0_guard_44 : decode cX0_guard 44 = .ok (.aaload, 1) := dk_50 (dk_at dksX0_guard_1 20 rfl rfl)
theorem dX0_guard_45 : decode cX0_guard 45 = .ok (.getfield 107, 3) := dk_180 0 107 (dk_at dksX0_guard_1 21 rfl rfl)
theorem dX0_guard_48 : decode cX0_guard 48 = .ok (.iadd, 1) := dk_96 (dk_at dksX0_guard_2 0 rfl rfl)
theorem dX0_guard_49 : decode cX0_guard 49 = .ok (.iload_n 3, 1) := dk_29 (dk_at dksX0_guard_2 1 rfl rfl)
theorem dX0_guard_50 : decode cX0_guard 50 = .ok (.ifCond .ge 7, 3) := dk_156 0 7 (dk_at dksX0_guard_2 2 rfl rfl)
theorem dX0_guard_53 : decode cX0_guard 53 = .ok (.iconst 0, 1) := dk_3 (dk_at dksX0_guard_2 5 rfl rfl)
theorem dX0_guard_54 : decode cX0_guard 54 = .ok (.goto 12, 3) := dk_167 0 12 (dk_at dksX0_guard_2 6 rfl rfl)
theorem dX0_guard_57 : decode cX0_guard 57 = .ok (.aload_n 0, 1) := dk_42 (dk_at dksX0_guard_2 9 rfl rfl)
theorem dX0_guard_58 : decode cX0_guard 58 = .ok (.getfield 24, 3) := dk_180 0 24 (dk_at dksX0_guard_2 10 rfl rfl)
theorem dX0_guard_61 : decode cX0_guard 61 = .ok (.iload_n 3, 1) := dk_29 (dk_at dksX0_guard_2 13 rfl rfl)
theorem dX0_guard_62 : decode cX0_guard 62 = .ok (.aaload, 1) := dk_50 (dk_at dksX0_guard_2 14 rfl rfl)
theorem dX0_guard_63 : decode cX0_guard 63 = .ok (.getfield 107, 3) := dk_180 0 107 (dk_at dksX0_guard_2 15 rfl rfl)
theorem dX0_guard_66 : decode cX0_guard 66 = .ok (.iadd, 1) := dk_96 (dk_at dksX0_guard_2 18 rfl rfl)
theorem dX0_guard_67 : decode cX0_guard 67 = .ok (.iload 4, 2) := dk_21 4 (dk_at dksX0_guard_2 19 rfl rfl)
theorem dX0_guard_69 : decode cX0_guard 69 = .ok (.ifCond .ge 7, 3) := dk_156 0 7 (dk_at dksX0_guard_2 21 rfl rfl)
theorem dX0_guard_72 : decode cX0_guard 72 = .ok (.iconst 0, 1) := dk_3 (dk_at dksX0_guard_3 0 rfl rfl)
theorem dX0_guard_73 : decode cX0_guard 73 = .ok (.goto 16, 3) := dk_167 0 16 (dk_at dksX0_guard_3 1 rfl rfl)
theorem dX0_guard_76 : decode cX0_guard 76 = .ok (.bipush 9, 2) := dk_16 9 (dk_at dksX0_guard_3 4 rfl rfl)
theorem dX0_guard_78 : decode cX0_guard 78 = .ok (.aload_n 0, 1) := dk_42 (dk_at dksX0_guard_3 6 rfl rfl)
theorem dX0_guard_79 : decode cX0_guard 79 = .ok (.getfield 24, 3) := dk_180 0 24 (dk_at dksX0_guard_3 7 rfl rfl)
theorem dX0_guard_82 : decode cX0_guard 82 = .ok (.iload 4, 2) := dk_21 4 (dk_at dksX0_guard_3 10 rfl rfl)
theorem dX0_guard_84 : decode cX0_guard 84 = .ok (.aaload, 1) := dk_50 (dk_at dksX0_guard_3 12 rfl rfl)
theorem dX0_guard_85 : decode cX0_guard 85 = .ok (.getfield 107, 3) := dk_180 0 107 (dk_at dksX0_guard_3 13 rfl rfl)
theorem dX0_guard_88 : decode cX0_guard 88 = .ok (.imul, 1) := dk_104 (dk_at dksX0_guard_3 16 rfl rfl)
theorem dX0_guard_89 : decode cX0_guard 89 = .ok (.iadd, 1) := dk_96 (dk_at dksX0_guard_3 17 rfl rfl)
theorem dX0_guard_90 : decode cX0_guard 90 = .ok (.istore 5, 2) := dk_54 5 (dk_at dksX0_guard_3 18 rfl rfl)
theorem dX0_guard_92 : decode cX0_guard 92 = .ok (.aload_n 0, 1) := dk_42 (dk_at dksX0_guard_3 20 rfl rfl)
theorem dX0_guard_93 : decode cX0_guard 93 = .ok (.getfield 77, 3) := dk_180 0 77 (dk_at dksX0_guard_3 21 rfl rfl)
theorem dX0_guard_96 : decode cX0_guard 96 = .ok (.bipush 80, 2) := dk_16 80 (dk_at dksX0_guard_4 0 rfl rfl)
theorem dX0_guard_98 : decode cX0_guard 98 = .ok (.if_icmp .eq 10, 3) := dk_159 0 10 (dk_at dksX0_guard_4 2 rfl rfl)
theorem dX0_guard_101 : decode cX0_guard 101 = .ok (.iload 5, 2) := dk_21 5 (dk_at dksX0_guard_4 5 rfl rfl)
theorem dX0_guard_103 : decode cX0_guard 103 = .ok (.bipush 100, 2) := dk_16 100 (dk_at dksX0_guard_4 7 rfl rfl)
theorem dX0_guard_105 : decode cX0_guard 105 = .ok (.if_icmp .le 6, 3) := dk_164 0 6 (dk_at dksX0_guard_4 9 rfl rfl)
theorem dX0_guard_108 : decode cX0_guard 108 = .ok (.bipush (-2), 2) := dk_16 254 (dk_at dksX0_guard_4 12 rfl rfl)
theorem dX0_guard_110 : decode cX0_guard 110 = .ok (.ireturn, 1) := dk_172 (dk_at dksX0_guard_4 14 rfl rfl)
theorem dX0_guard_111 : decode cX0_guard 111 = .ok (.new 22, 3) := dk_187 0 22 (dk_at dksX0_guard_4 15 rfl rfl)
theorem dX0_guard_114 : decode cX0_guard 114 = .ok (.dup, 1) := dk_89 (dk_at dksX0_guard_4 18 rfl rfl)
theorem dX0_guard_115 : decode cX0_guard 115 = .ok (.getstatic 123, 3) := dk_178 0 123 (dk_at dksX0_guard_4 19 rfl rfl)
theorem dX0_guard_118 : decode cX0_guard 118 = .ok (.aload_n 0, 1) := dk_42 (dk_at dksX0_guard_4 22 rfl rfl)
theorem dX0_guard_119 : decode cX0_guard 119 = .ok (.getfield 77, 3) := dk_180 0 77 (dk_at dksX0_guard_5 0 rfl rfl)
theorem dX0_guard_122 : decode cX0_guard 122 = .ok (.iconst 0, 1) := dk_3 (dk_at dksX0_guard_5 3 rfl rfl)
theorem dX0_guard_123 : decode cX0_guard 123 = .ok (.iload_n 2, 1) := dk_28 (dk_at dksX0_guard_5 4 rfl rfl)
theorem dX0_guard_124 : decode cX0_guard 124 = .ok (.sipush 510, 3) := dk_17 1 254 (dk_at dksX0_guard_5 5 rfl rfl)
theorem dX0_guard_127 : decode cX0_guard 127 = .ok (.iand, 1) := dk_126 (dk_at dksX0_guard_5 8 rfl rfl)
theorem dX0_guard_128 : decode cX0_guard 128 = .ok (.iconst 0, 1) := dk_3 (dk_at dksX0_guard_5 9 rfl rfl)
theorem dX0_guard_129 : decode cX0_guard 129 = .ok (.iconst 0, 1) := dk_3 (dk_at dksX0_guard_5 10 rfl rfl)
theorem dX0_guard_130 : decode cX0_guard 130 = .ok (.iconst 0, 1) := dk_3 (dk_at dksX0_guard_5 11 rfl rfl)
theorem dX0_guard_131 : decode cX0_guard 131 = .ok (.invokespecial 97, 3) := dk_183 0 97 (dk_at dksX0_guard_5 12 rfl rfl)
theorem dX0_guard_134 : decode cX0_guard 134 = .ok (.astore 6, 2) := dk_58 6 (dk_at dksX0_guard_5 15 rfl rfl)
theorem dX0_guard_136 : decode cX0_guard 136 = .ok (.aload 6, 2) := dk_25 6 (dk_at dksX0_guard_5 17 rfl rfl)
theorem dX0_guard_138 : decode cX0_guard 138 = .ok (.aload_n 0, 1) := dk_42 (dk_at dksX0_guard_5 19 rfl rfl)
theorem dX0_guard_139 : decode cX0_guard 139 = .ok (.getfield 24, 3) := dk_180 0 24 (dk_at dksX0_guard_5 20 rfl rfl)
theorem dX0_guard_142 : decode cX0_guard 142 = .ok (.iload_n 1, 1) := dk_27 (dk_at dksX0_guard_5 23 rfl rfl)
theorem dX0_guard_143 : decode cX0_guard 143 = .ok (.aaload, 1) := dk_50 (dk_at dksX0_guard_6 0 rfl rfl)
theorem dX0_guard_144 : decode cX0_guard 144 = .ok (.putfield 113, 3) := dk_181 0 113 (dk_at dksX0_guard_6 1 rfl rfl)
theorem dX0_guard_147 : decode cX0_guard 147 = .ok (.aload 6, 2) := dk_25 6 (dk_at dksX0_guard_6 4 rfl rfl)
theorem dX0_guard_149 : decode cX0_guard 149 = .ok (.iload_n 3, 1) := dk_29 (dk_at dksX0_guard_6 6 rfl rfl)
theorem dX0_guard_150 : decode cX0_guard 150 = .ok (.ifCond .ge 7, 3) := dk_156 0 7 (dk_at dksX0_guard_6 7 rfl rfl)
theorem dX0_guard_153 : decode cX0_guard 153 = .ok (.aconst_null, 1) := dk_1 (dk_at dksX0_guard_6 10 rfl rfl)
theorem dX0_guard_154 : decode cX0_guard 154 = .ok (.goto 9, 3) := dk_167 0 9 (dk_at dksX0_guard_6 11 rfl rfl)
theorem dX0_guard_157 : decode cX0_guard 157 = .ok (.aload_n 0, 1) := dk_42 (dk_at dksX0_guard_6 14 rfl rfl)
theorem dX0_guard_158 : decode cX0_guard 158 = .ok (.getfield 24, 3) := dk_180 0 24 (dk_at dksX0_guard_6 15 rfl rfl)
theorem dX0_guard_161 : decode cX0_guard 161 = .ok (.iload_n 3, 1) := dk_29 (dk_at dksX0_guard_6 18 rfl rfl)
theorem dX0_guard_162 : decode cX0_guard 162 = .ok (.aaload, 1) := dk_50 (dk_at dksX0_guard_6 19 rfl rfl)
theorem dX0_guard_163 : decode cX0_guard 163 = .ok (.putfield 117, 3) := dk_181 0 117 (dk_at dksX0_guard_6 20 rfl rfl)
theorem dX0_guard_166 : decode cX0_guard 166 = .ok (.aload 6, 2) := dk_25 6 (dk_at dksX0_guard_7 0 rfl rfl)
theorem dX0_guard_168 : decode cX0_guard 168 = .ok (.iload 4, 2) := dk_21 4 (dk_at dksX0_guard_7 2 rfl rfl)
theorem dX0_guard_170 : decode cX0_guard 170 = .ok (.ifCond .ge 7, 3) := dk_156 0 7 (dk_at dksX0_guard_7 4 rfl rfl)
theorem dX0_guard_173 : decode cX0_guard 173 = .ok (.aconst_null, 1) := dk_1 (dk_at dksX0_guard_7 7 rfl rfl)
theorem dX0_guard_174 : decode cX0_guard 174 = .ok (.goto 10, 3) := dk_167 0 10 (dk_at dksX0_guard_7 8 rfl rfl)
theorem dX0_guard_177 : decode cX0_guard 177 = .ok (.aload_n 0, 1) := dk_42 (dk_at dksX0_guard_7 11 rfl rfl)
theorem dX0_guard_178 : decode cX0_guard 178 = .ok (.getfield 24, 3) := dk_180 0 24 (dk_at dksX0_guard_7 12 rfl rfl)
theorem dX0_guard_181 : decode cX0_guard 181 = .ok (.iload 4, 2) := dk_21 4 (dk_at dksX0_guard_7 15 rfl rfl)
theorem dX0_guard_183 : decode cX0_guard 183 = .ok (.aaload, 1) := dk_50 (dk_at dksX0_guard_7 17 rfl rfl)
theorem dX0_guard_184 : decode cX0_guard 184 = .ok (.putfield 126, 3) := dk_181 0 126 (dk_at dksX0_guard_7 18 rfl rfl)
theorem dX0_guard_187 : decode cX0_guard 187 = .ok (.aload 6, 2) := dk_25 6 (dk_at dksX0_guard_7 21 rfl rfl)
theorem dX0_guard_189 : decode cX0_guard 189 = .ok (.iload 5, 2) := dk_21 5 (dk_at dksX0_guard_8 0 rfl rfl)
theorem dX0_guard_191 : decode cX0_guard 191 = .ok (.putfield 107, 3) := dk_181 0 107 (dk_at dksX0_guard_8 2 rfl rfl)
theorem dX0_guard_194 : decode cX0_guard 194 = .ok (.aload_n 0, 1) := dk_42 (dk_at dksX0_guard_8 5 rfl rfl)
theorem dX0_guard_195 : decode cX0_guard 195 = .ok (.aload 6, 2) := dk_25 6 (dk_at dksX0_guard_8 6 rfl rfl)
theorem dX0_guard_197 : decode cX0_guard 197 = .ok (.invokevirtual 100, 3) := dk_182 0 100 (dk_at dksX0_guard_8 8 rfl rfl)
theorem dX0_guard_200 : decode cX0_guard 200 = .ok (.ireturn, 1) := dk_172 (dk_at dksX0_guard_8 11 rfl rfl)
abbrev cX0_forget : ByteArray := prog_1_method_17_code
def yX0_forget : MethodName := ⟨RX0, "forget", "()I"⟩
def dkwX0_forget_0 : List UInt8 := [42, 180, 0, 77, 60, 42, 3, 181, 0, 77, 27, 172]
abbrev dktX0_forget_0 : List UInt8 := dkwX0_forget_0 ++ []
theorem dksX0_forget_0 : cX0_forget.data.toList.drop 0 = dktX0_forget_0 := by decide +kernel
theorem dX0_forget_0 : decode cX0_forget 0 = .ok (.aload_n 0, 1) := dk_42 (dk_at dksX0_forget_0 0 rfl rfl)
theorem dX0_forget_1 : decode cX0_forget 1 = .ok (.getfield 77, 3) := dk_180 0 77 (dk_at dksX0_forget_0 1 rfl rfl)
theorem dX0_forget_4 : decode cX0_forget 4 = .ok (.istore_n 1, 1) := dk_60 (dk_at dksX0_forget_0 4 rfl rfl)
theorem dX0_forget_5 : decode cX0_forget 5 = .ok (.aload_n 0, 1) := dk_42 (dk_at dksX0_forget_0 5 rfl rfl)
theorem dX0_forget_6 : decode cX0_forget 6 = .ok (.iconst 0, 1) := dk_3 (dk_at dksX0_forget_0 6 rfl rfl)
theorem dX0_forget_7 : decode cX0_forget 7 = .ok (.putfield 77, 3) := dk_181 0 77 (dk_at dksX0_forget_0 7 rfl rfl)
theorem dX0_forget_10 : decode cX0_forget 10 = .ok (.iload_n 1, 1) := dk_27 (dk_at dksX0_forget_0 10 rfl rfl)
theorem dX0_forget_11 : decode cX0_forget 11 = .ok (.ireturn, 1) := dk_172 (dk_at dksX0_forget_0 11 rfl rfl)
abbrev cX0_run : ByteArray := prog_1_method_18_code
def yX0_run : MethodName := ⟨RX0, "run", "(I)I"⟩
def dkwX0_run_3 : List UInt8 := [172, 77, 16, 7, 172, 77, 16, 8, 172]
abbrev dktX0_run_3 : List UInt8 := dkwX0_run_3 ++ []
def dkwX0_run_2 : List UInt8 := [50, 182, 0, 144, 3, 172, 77, 4, 172, 77, 5, 172, 77, 6, 172, 77, 7, 172, 77, 8, 172, 77, 16, 6]
abbrev dktX0_run_2 : List UInt8 := dkwX0_run_2 ++ dktX0_run_3
def dkwX0_run_1 : List UInt8 := [181, 0, 135, 42, 3, 181, 0, 138, 42, 3, 181, 0, 141, 42, 2, 181, 0, 28, 42, 42, 180, 0, 24, 27]
abbrev dktX0_run_1 : List UInt8 := dkwX0_run_1 ++ dktX0_run_2
def dkwX0_run_0 : List UInt8 := [42, 27, 182, 0, 104, 154, 0, 5, 2, 172, 42, 3, 181, 0, 129, 42, 3, 181, 0, 132, 42, 3]
abbrev dktX0_run_0 : List UInt8 := dkwX0_run_0 ++ dktX0_run_1
theorem dksX0_run_0 : cX0_run.data.toList.drop 0 = dktX0_run_0 := by decide +kernel
theorem dksX0_run_1 : cX0_run.data.toList.drop 22 = dktX0_run_1 := dk_seg dksX0_run_0 22 rfl rfl
theorem dksX0_run_2 : cX0_run.data.toList.drop 46 = dktX0_run_2 := dk_seg dksX0_run_1 24 rfl rfl
theorem dksX0_run_3 : cX0_run.data.toList.drop 70 = dktX0_run_3 := dk_seg dksX0_run_2 24 rfl rfl
theorem dX0_run_0 : decode cX0_run 0 = .ok (.aload_n 0, 1) := dk_42 (dk_at dksX0_run_0 0 rfl rfl)
theorem dX0_run_1 : decode cX0_run 1 = .ok (.iload_n 1, 1) := dk_27 (dk_at dksX0_run_0 1 rfl rfl)
theorem dX0_run_2 : decode cX0_run 2 = .ok (.invokevirtual 104, 3) := dk_182 0 104 (dk_at dksX0_run_0 2 rfl rfl)
theorem dX0_run_5 : decode cX0_run 5 = .ok (.ifCond .ne 5, 3) := dk_154 0 5 (dk_at dksX0_run_0 5 rfl rfl)
theorem dX0_run_8 : decode cX0_run 8 = .ok (.iconst (-1), 1) := dk_2 (dk_at dksX0_run_0 8 rfl rfl)
theorem dX0_run_9 : decode cX0_run 9 = .ok (.ireturn, 1) := dk_172 (dk_at dksX0_run_0 9 rfl rfl)
theorem dX0_run_10 : decode cX0_run 10 = .ok (.aload_n 0, 1) := dk_42 (dk_at dksX0_run_0 10 rfl rfl)
theorem dX0_run_11 : decode cX0_run 11 = .ok (.iconst 0, 1) := dk_3 (dk_at dksX0_run_0 11 rfl rfl)
theorem dX0_run_12 : decode cX0_run 12 = .ok (.putfield 129, 3) := dk_181 0 129 (dk_at dksX0_run_0 12 rfl rfl)
theorem dX0_run_15 : decode cX0_run 15 = .ok (.aload_n 0, 1) := dk_42 (dk_at dksX0_run_0 15 rfl rfl)
theorem dX0_run_16 : decode cX0_run 16 = .ok (.iconst 0, 1) := dk_3 (dk_at dksX0_run_0 16 rfl rfl)
theorem dX0_run_17 : decode cX0_run 17 = .ok (.putfield 132, 3) := dk_181 0 132 (dk_at dksX0_run_0 17 rfl rfl)
theorem dX0_run_20 : decode cX0_run 20 = .ok (.aload_n 0, 1) := dk_42 (dk_at dksX0_run_0 20 rfl rfl)
theorem dX0_run_21 : decode cX0_run 21 = .ok (.iconst 0, 1) := dk_3 (dk_at dksX0_run_0 21 rfl rfl)
theorem dX0_run_22 : decode cX0_run 22 = .ok (.putfield 135, 3) := dk_181 0 135 (dk_at dksX0_run_1 0 rfl rfl)
theorem dX0_run_25 : decode cX0_run 25 = .ok (.aload_n 0, 1) := dk_42 (dk_at dksX0_run_1 3 rfl rfl)
theorem dX0_run_26 : decode cX0_run 26 = .ok (.iconst 0, 1) := dk_3 (dk_at dksX0_run_1 4 rfl rfl)
theorem dX0_run_27 : decode cX0_run 27 = .ok (.putfield 138, 3) := dk_181 0 138 (dk_at dksX0_run_1 5 rfl rfl)
theorem dX0_run_30 : decode cX0_run 30 = .ok (.aload_n 0, 1) := dk_42 (dk_at dksX0_run_1 8 rfl rfl)
theorem dX0_run_31 : decode cX0_run 31 = .ok (.iconst 0, 1) := dk_3 (dk_at dksX0_run_1 9 rfl rfl)
theorem dX0_run_32 : decode cX0_run 32 = .ok (.putfield 141, 3) := dk_181 0 141 (dk_at dksX0_run_1 10 rfl rfl)
theorem dX0_run_35 : decode cX0_run 35 = .ok (.aload_n 0, 1) := dk_42 (dk_at dksX0_run_1 13 rfl rfl)
theorem dX0_run_36 : decode cX0_run 36 = .ok (.iconst (-1), 1) := dk_2 (dk_at dksX0_run_1 14 rfl rfl)
theorem dX0_run_37 : decode cX0_run 37 = .ok (.putfield 28, 3) := dk_181 0 28 (dk_at dksX0_run_1 15 rfl rfl)
theorem dX0_run_40 : decode cX0_run 40 = .ok (.aload_n 0, 1) := dk_42 (dk_at dksX0_run_1 18 rfl rfl)
theorem dX0_run_41 : decode cX0_run 41 = .ok (.aload_n 0, 1) := dk_42 (dk_at dksX0_run_1 19 rfl rfl)
theorem dX0_run_42 : decode cX0_run 42 = .ok (.getfield 24, 3) := dk_180 0 24 (dk_at dksX0_run_1 20 rfl rfl)
theorem dX0_run_45 : decode cX0_run 45 = .ok (.iload_n 1, 1) := dk_27 (dk_at dksX0_run_1 23 rfl rfl)
theorem dX0_run_46 : decode cX0_run 46 = .ok (.aaload, 1) := dk_50 (dk_at dksX0_run_2 0 rfl rfl)
theorem dX0_run_47 : decode cX0_run 47 = .ok (.invokevirtual 144, 3) := dk_182 0 144 (dk_at dksX0_run_2 1 rfl rfl)
theorem dX0_run_50 : decode cX0_run 50 = .ok (.iconst 0, 1) := dk_3 (dk_at dksX0_run_2 4 rfl rfl)
theorem dX0_run_51 : decode cX0_run 51 = .ok (.ireturn, 1) := dk_172 (dk_at dksX0_run_2 5 rfl rfl)
theorem dX0_run_52 : decode cX0_run 52 = .ok (.astore_n 2, 1) := dk_77 (dk_at dksX0_run_2 6 rfl rfl)
theorem dX0_run_53 : decode cX0_run 53 = .ok (.iconst 1, 1) := dk_4 (dk_at dksX0_run_2 7 rfl rfl)
theorem dX0_run_54 : decode cX0_run 54 = .ok (.ireturn, 1) := dk_172 (dk_at dksX0_run_2 8 rfl rfl)
theorem dX0_run_55 : decode cX0_run 55 = .ok (.astore_n 2, 1) := dk_77 (dk_at dksX0_run_2 9 rfl rfl)
theorem dX0_run_56 : decode cX0_run 56 = .ok (.iconst 2, 1) := dk_5 (dk_at dksX0_run_2 10 rfl rfl)
theorem dX0_run_57 : decode cX0_run 57 = .ok (.ireturn, 1) := dk_172 (dk_at dksX0_run_2 11 rfl rfl)
theorem dX0_run_58 : decode cX0_run 58 = .ok (.astore_n 2, 1) := dk_77 (dk_at dksX0_run_2 12 rfl rfl)
theorem dX0_run_59 : decode cX0_run 59 = .ok (.iconst 3, 1) := dk_6 (dk_at dksX0_run_2 13 rfl rfl)
theorem dX0_run_60 : decode cX0_run 60 = .ok (.ireturn, 1) := dk_172 (dk_at dksX0_run_2 14 rfl rfl)
theorem dX0_run_61 : decode cX0_run 61 = .ok (.astore_n 2, 1) := dk_77 (dk_at dksX0_run_2 15 rfl rfl)
theorem dX0_run_62 : decode cX0_run 62 = .ok (.iconst 4, 1) := dk_7 (dk_at dksX0_run_2 16 rfl rfl)
theorem dX0_run_63 : decode cX0_run 63 = .ok (.ireturn, 1) := dk_172 (dk_at dksX0_run_2 17 rfl rfl)
theorem dX0_run_64 : decode cX0_run 64 = .ok (.astore_n 2, 1) := dk_77 (dk_at dksX0_run_2 18 rfl rfl)
theorem dX0_run_65 : decode cX0_run 65 = .ok (.iconst 5, 1) := dk_8 (dk_at dksX0_run_2 19 rfl rfl)
theorem dX0_run_66 : decode cX0_run 66 = .ok (.ireturn, 1) := dk_172 (dk_at dksX0_run_2 20 rfl rfl)
theorem dX0_run_67 : decode cX0_run 67 = .ok (.astore_n 2, 1) := dk_77 (dk_at dksX0_run_2 21 rfl rfl)
theorem dX0_run_68 : decode cX0_run 68 = .ok (.bipush 6, 2) := dk_16 6 (dk_at dksX0_run_2 22 rfl rfl)
theorem dX0_run_70 : decode cX0_run 70 = .ok (.ireturn, 1) := dk_172 (dk_at dksX0_run_3 0 rfl rfl)
theorem dX0_run_71 : decode cX0_run 71 = .ok (.astore_n 2, 1) := dk_77 (dk_at dksX0_run_3 1 rfl rfl)
theorem dX0_run_72 : decode cX0_run 72 = .ok (.bipush 7, 2) := dk_16 7 (dk_at dksX0_run_3 2 rfl rfl)
theorem dX0_run_74 : decode cX0_run 74 = .ok (.ireturn, 1) := dk_172 (dk_at dksX0_run_3 4 rfl rfl)
theorem dX0_run_75 : decode cX0_run 75 = .ok (.astore_n 2, 1) := dk_77 (dk_at dksX0_run_3 5 rfl rfl)
theorem dX0_run_76 : decode cX0_run 76 = .ok (.bipush 8, 2) := dk_16 8 (dk_at dksX0_run_3 6 rfl rfl)
theorem dX0_run_78 : decode cX0_run 78 = .ok (.ireturn, 1) := dk_172 (dk_at dksX0_run_3 8 rfl rfl)
abbrev cX0_does : ByteArray := prog_1_method_19_code
def yX0_does : MethodName := ⟨RX0, "does", "(LThrowReports$Node;)V"⟩
def dkwX0_does_5 : List UInt8 := [167, 0, 7, 43, 180, 0, 117, 182, 0, 144, 167, 0, 8, 42, 43, 182, 0, 185, 177]
abbrev dktX0_does_5 : List UInt8 := dkwX0_does_5 ++ []
def dkwX0_does_4 : List UInt8 := [28, 154, 0, 24, 167, 0, 14, 28, 43, 180, 0, 178, 184, 0, 181, 153, 0, 10, 43, 180, 0, 113]
abbrev dktX0_does_4 : List UInt8 := dkwX0_does_4 ++ dktX0_does_5
def dkwX0_does_3 : List UInt8 := [167, 0, 64, 42, 180, 0, 15, 43, 180, 0, 172, 50, 182, 0, 175, 61, 42, 43, 180, 0, 178, 154, 0, 10]
abbrev dktX0_does_3 : List UInt8 := dkwX0_does_3 ++ dktX0_does_4
def dkwX0_does_2 : List UInt8 := [42, 43, 182, 0, 169, 167, 0, 83, 42, 43, 180, 0, 113, 182, 0, 144, 42, 43, 180, 0, 117, 182, 0, 144]
abbrev dktX0_does_2 : List UInt8 := dkwX0_does_2 ++ dktX0_does_3
def dkwX0_does_1 : List UInt8 := [170, 0, 0, 0, 108, 0, 0, 0, 0, 0, 0, 0, 2, 0, 0, 0, 25, 0, 0, 0, 33, 0, 0, 0, 52]
abbrev dktX0_does_1 : List UInt8 := dkwX0_does_1 ++ dktX0_does_2
def dkwX0_does_0 : List UInt8 := [43, 180, 0, 162, 182, 0, 165]
abbrev dktX0_does_0 : List UInt8 := dkwX0_does_0 ++ dktX0_does_1
theorem dksX0_does_0 : cX0_does.data.toList.drop 0 = dktX0_does_0 := by decide +kernel
theorem dksX0_does_1 : cX0_does.data.toList.drop 7 = dktX0_does_1 := dk_seg dksX0_does_0 7 rfl rfl
theorem dksX0_does_2 : cX0_does.data.toList.drop 32 = dktX0_does_2 := dk_seg dksX0_does_1 25 rfl rfl
theorem dksX0_does_3 : cX0_does.data.toList.drop 56 = dktX0_does_3 := dk_seg dksX0_does_2 24 rfl rfl
theorem dksX0_does_4 : cX0_does.data.toList.drop 80 = dktX0_does_4 := dk_seg dksX0_does_3 24 rfl rfl
theorem dksX0_does_5 : cX0_does.data.toList.drop 102 = dktX0_does_5 := dk_seg dksX0_does_4 22 rfl rfl
theorem dX0_does_0 : decode cX0_does 0 = .ok (.aload_n 1, 1) := dk_43 (dk_at dksX0_does_0 0 rfl rfl)
theorem dX0_does_1 : decode cX0_does 1 = .ok (.getfield 162, 3) := dk_180 0 162 (dk_at dksX0_does_0 1 rfl rfl)
theorem dX0_does_4 : decode cX0_does 4 = .ok (.invokevirtual 165, 3) := dk_182 0 165 (dk_at dksX0_does_0 4 rfl rfl)
theorem dX0_does_7 : decode cX0_does 7 = .ok (.tableswitch 108 0 2 #[25, 33, 52], 25) := by decide +kernel
theorem dX0_does_32 : decode cX0_does 32 = .ok (.aload_n 0, 1) := dk_42 (dk_at dksX0_does_2 0 rfl rfl)
theorem dX0_does_33 : decode cX0_does 33 = .ok (.aload_n 1, 1) := dk_43 (dk_at dksX0_does_2 1 rfl rfl)
theorem dX0_does_34 : decode cX0_does 34 = .ok (.invokevirtual 169, 3) := dk_182 0 169 (dk_at dksX0_does_2 2 rfl rfl)
theorem dX0_does_37 : decode cX0_does 37 = .ok (.goto 83, 3) := dk_167 0 83 (dk_at dksX0_does_2 5 rfl rfl)
theorem dX0_does_40 : decode cX0_does 40 = .ok (.aload_n 0, 1) := dk_42 (dk_at dksX0_does_2 8 rfl rfl)
theorem dX0_does_41 : decode cX0_does 41 = .ok (.aload_n 1, 1) := dk_43 (dk_at dksX0_does_2 9 rfl rfl)
theorem dX0_does_42 : decode cX0_does 42 = .ok (.getfield 113, 3) := dk_180 0 113 (dk_at dksX0_does_2 10 rfl rfl)
theorem dX0_does_45 : decode cX0_does 45 = .ok (.invokevirtual 144, 3) := dk_182 0 144 (dk_at dksX0_does_2 13 rfl rfl)
theorem dX0_does_48 : decode cX0_does 48 = .ok (.aload_n 0, 1) := dk_42 (dk_at dksX0_does_2 16 rfl rfl)
theorem dX0_does_49 : decode cX0_does 49 = .ok (.aload_n 1, 1) := dk_43 (dk_at dksX0_does_2 17 rfl rfl)
theorem dX0_does_50 : decode cX0_does 50 = .ok (.getfield 117, 3) := dk_180 0 117 (dk_at dksX0_does_2 18 rfl rfl)
theorem dX0_does_53 : decode cX0_does 53 = .ok (.invokevirtual 144, 3) := dk_182 0 144 (dk_at dksX0_does_2 21 rfl rfl)
theorem dX0_does_56 : decode cX0_does 56 = .ok (.goto 64, 3) := dk_167 0 64 (dk_at dksX0_does_3 0 rfl rfl)
theorem dX0_does_59 : decode cX0_does 59 = .ok (.aload_n 0, 1) := dk_42 (dk_at dksX0_does_3 3 rfl rfl)
theorem dX0_does_60 : decode cX0_does 60 = .ok (.getfield 15, 3) := dk_180 0 15 (dk_at dksX0_does_3 4 rfl rfl)
theorem dX0_does_63 : decode cX0_does 63 = .ok (.aload_n 1, 1) := dk_43 (dk_at dksX0_does_3 7 rfl rfl)
theorem dX0_does_64 : decode cX0_does 64 = .ok (.getfield 172, 3) := dk_180 0 172 (dk_at dksX0_does_3 8 rfl rfl)
theorem dX0_does_67 : decode cX0_does 67 = .ok (.aaload, 1) := dk_50 (dk_at dksX0_does_3 11 rfl rfl)
theorem dX0_does_68 : decode cX0_does 68 = .ok (.invokevirtual 175, 3) := dk_182 0 175 (dk_at dksX0_does_3 12 rfl rfl)
theorem dX0_does_71 : decode cX0_does 71 = .ok (.istore_n 2, 1) := dk_61 (dk_at dksX0_does_3 15 rfl rfl)
theorem dX0_does_72 : decode cX0_does 72 = .ok (.aload_n 0, 1) := dk_42 (dk_at dksX0_does_3 16 rfl rfl)
theorem dX0_does_73 : decode cX0_does 73 = .ok (.aload_n 1, 1) := dk_43 (dk_at dksX0_does_3 17 rfl rfl)
theorem dX0_does_74 : decode cX0_does 74 = .ok (.getfield 178, 3) := dk_180 0 178 (dk_at dksX0_does_3 18 rfl rfl)
theorem dX0_does_77 : decode cX0_does 77 = .ok (.ifCond .ne 10, 3) := dk_154 0 10 (dk_at dksX0_does_3 21 rfl rfl)
theorem dX0_does_80 : decode cX0_does 80 = .ok (.iload_n 2, 1) := dk_28 (dk_at dksX0_does_4 0 rfl rfl)
theorem dX0_does_81 : decode cX0_does 81 = .ok (.ifCond .ne 24, 3) := dk_154 0 24 (dk_at dksX0_does_4 1 rfl rfl)
theorem dX0_does_84 : decode cX0_does 84 = .ok (.goto 14, 3) := dk_167 0 14 (dk_at dksX0_does_4 4 rfl rfl)
theorem dX0_does_87 : decode cX0_does 87 = .ok (.iload_n 2, 1) := dk_28 (dk_at dksX0_does_4 7 rfl rfl)
theorem dX0_does_88 : decode cX0_does 88 = .ok (.aload_n 1, 1) := dk_43 (dk_at dksX0_does_4 8 rfl rfl)
theorem dX0_does_89 : decode cX0_does 89 = .ok (.getfield 178, 3) := dk_180 0 178 (dk_at dksX0_does_4 9 rfl rfl)
theorem dX0_does_92 : decode cX0_does 92 = .ok (.invokestatic 181, 3) := dk_184 0 181 (dk_at dksX0_does_4 12 rfl rfl)
theorem dX0_does_95 : decode cX0_does 95 = .ok (.ifCond .eq 10, 3) := dk_153 0 10 (dk_at dksX0_does_4 15 rfl rfl)
theorem dX0_does_98 : decode cX0_does 98 = .ok (.aload_n 1, 1) := dk_43 (dk_at dksX0_does_4 18 rfl rfl)
theorem dX0_does_99 : decode cX0_does 99 = .ok (.getfield 113, 3) := dk_180 0 113 (dk_at dksX0_does_4 19 rfl rfl)
theorem dX0_does_102 : decode cX0_does 102 = .ok (.goto 7, 3) := dk_167 0 7 (dk_at dksX0_does_5 0 rfl rfl)
theorem dX0_does_105 : decode cX0_does 105 = .ok (.aload_n 1, 1) := dk_43 (dk_at dksX0_does_5 3 rfl rfl)
theorem dX0_does_106 : decode cX0_does 106 = .ok (.getfield 117, 3) := dk_180 0 117 (dk_at dksX0_does_5 4 rfl rfl)
theorem dX0_does_109 : decode cX0_does 109 = .ok (.invokevirtual 144, 3) := dk_182 0 144 (dk_at dksX0_does_5 7 rfl rfl)
theorem dX0_does_112 : decode cX0_does 112 = .ok (.goto 8, 3) := dk_167 0 8 (dk_at dksX0_does_5 10 rfl rfl)
theorem dX0_does_115 : decode cX0_does 115 = .ok (.aload_n 0, 1) := dk_42 (dk_at dksX0_does_5 13 rfl rfl)
theorem dX0_does_116 : decode cX0_does 116 = .ok (.aload_n 1, 1) := dk_43 (dk_at dksX0_does_5 14 rfl rfl)
theorem dX0_does_117 : decode cX0_does 117 = .ok (.invokevirtual 185, 3) := dk_182 0 185 (dk_at dksX0_does_5 15 rfl rfl)
theorem dX0_does_120 : decode cX0_does 120 = .ok (.return_, 1) := dk_177 (dk_at dksX0_does_5 18 rfl rfl)
abbrev cX0_begins : ByteArray := prog_1_method_20_code
def yX0_begins : MethodName := ⟨RX0, "begins", "(LThrowReports$Node;)V"⟩
def dkwX0_begins_5 : List UInt8 := [45, 191, 177]
abbrev dktX0_begins_5 : List UInt8 := dkwX0_begins_5 ++ []
def dkwX0_begins_4 : List UInt8 := [4, 96, 181, 0, 132, 42, 28, 153, 0, 10, 42, 180, 0, 28, 167, 0, 7, 43, 180, 0, 201, 181, 0, 28]
abbrev dktX0_begins_4 : List UInt8 := dkwX0_begins_4 ++ dktX0_begins_5
def dkwX0_begins_3 : List UInt8 := [43, 180, 0, 201, 181, 0, 28, 167, 0, 43, 78, 42, 89, 180, 0, 132, 28, 153, 0, 7, 3, 167, 0, 4]
abbrev dktX0_begins_3 : List UInt8 := dkwX0_begins_3 ++ dktX0_begins_4
def dkwX0_begins_2 : List UInt8 := [153, 0, 7, 3, 167, 0, 4, 4, 96, 181, 0, 132, 42, 28, 153, 0, 10, 42, 180, 0, 28, 167, 0, 7]
abbrev dktX0_begins_2 : List UInt8 := dkwX0_begins_2 ++ dktX0_begins_3
def dkwX0_begins_1 : List UInt8 := [180, 0, 178, 43, 180, 0, 191, 43, 180, 0, 194, 182, 0, 197, 4, 61, 42, 89, 180, 0, 132, 28]
abbrev dktX0_begins_1 : List UInt8 := dkwX0_begins_1 ++ dktX0_begins_2
def dkwX0_begins_0 : List UInt8 := [42, 89, 180, 0, 129, 4, 96, 181, 0, 129, 3, 61, 42, 43, 180, 0, 188, 43, 180, 0, 172, 43]
abbrev dktX0_begins_0 : List UInt8 := dkwX0_begins_0 ++ dktX0_begins_1
theorem dksX0_begins_0 : cX0_begins.data.toList.drop 0 = dktX0_begins_0 := by decide +kernel
theorem dksX0_begins_1 : cX0_begins.data.toList.drop 22 = dktX0_begins_1 := dk_seg dksX0_begins_0 22 rfl rfl
theorem dksX0_begins_2 : cX0_begins.data.toList.drop 44 = dktX0_begins_2 := dk_seg dksX0_begins_1 22 rfl rfl
theorem dksX0_begins_3 : cX0_begins.data.toList.drop 68 = dktX0_begins_3 := dk_seg dksX0_begins_2 24 rfl rfl
theorem dksX0_begins_4 : cX0_begins.data.toList.drop 92 = dktX0_begins_4 := dk_seg dksX0_begins_3 24 rfl rfl
theorem dksX0_begins_5 : cX0_begins.data.toList.drop 116 = dktX0_begins_5 := dk_seg dksX0_begins_4 24 rfl rfl
theorem dX0_begins_0 : decode cX0_begins 0 = .ok (.aload_n 0, 1) := dk_42 (dk_at dksX0_begins_0 0 rfl rfl)
theorem dX0_begins_1 : decode cX0_begins 1 = .ok (.dup, 1) := dk_89 (dk_at dksX0_begins_0 1 rfl rfl)
theorem dX0_begins_2 : decode cX0_begins 2 = .ok (.getfield 129, 3) := dk_180 0 129 (dk_at dksX0_begins_0 2 rfl rfl)
theorem dX0_begins_5 : decode cX0_begins 5 = .ok (.iconst 1, 1) := dk_4 (dk_at dksX0_begins_0 5 rfl rfl)
theorem dX0_begins_6 : decode cX0_begins 6 = .ok (.iadd, 1) := dk_96 (dk_at dksX0_begins_0 6 rfl rfl)
theorem dX0_begins_7 : decode cX0_begins 7 = .ok (.putfield 129, 3) := dk_181 0 129 (dk_at dksX0_begins_0 7 rfl rfl)
theorem dX0_begins_10 : decode cX0_begins 10 = .ok (.iconst 0, 1) := dk_3 (dk_at dksX0_begins_0 10 rfl rfl)
theorem dX0_begins_11 : decode cX0_begins 11 = .ok (.istore_n 2, 1) := dk_61 (dk_at dksX0_begins_0 11 rfl rfl)
theorem dX0_begins_12 : decode cX0_begins 12 = .ok (.aload_n 0, 1) := dk_42 (dk_at dksX0_begins_0 12 rfl rfl)
theorem dX0_begins_13 : decode cX0_begins 13 = .ok (.aload_n 1, 1) := dk_43 (dk_at dksX0_begins_0 13 rfl rfl)
theorem dX0_begins_14 : decode cX0_begins 14 = .ok (.getfield 188, 3) := dk_180 0 188 (dk_at dksX0_begins_0 14 rfl rfl)
theorem dX0_begins_17 : decode cX0_begins 17 = .ok (.aload_n 1, 1) := dk_43 (dk_at dksX0_begins_0 17 rfl rfl)
theorem dX0_begins_18 : decode cX0_begins 18 = .ok (.getfield 172, 3) := dk_180 0 172 (dk_at dksX0_begins_0 18 rfl rfl)
theorem dX0_begins_21 : decode cX0_begins 21 = .ok (.aload_n 1, 1) := dk_43 (dk_at dksX0_begins_0 21 rfl rfl)
theorem dX0_begins_22 : decode cX0_begins 22 = .ok (.getfield 178, 3) := dk_180 0 178 (dk_at dksX0_begins_1 0 rfl rfl)
theorem dX0_begins_25 : decode cX0_begins 25 = .ok (.aload_n 1, 1) := dk_43 (dk_at dksX0_begins_1 3 rfl rfl)
theorem dX0_begins_26 : decode cX0_begins 26 = .ok (.getfield 191, 3) := dk_180 0 191 (dk_at dksX0_begins_1 4 rfl rfl)
theorem dX0_begins_29 : decode cX0_begins 29 = .ok (.aload_n 1, 1) := dk_43 (dk_at dksX0_begins_1 7 rfl rfl)
theorem dX0_begins_30 : decode cX0_begins 30 = .ok (.getfield 194, 3) := dk_180 0 194 (dk_at dksX0_begins_1 8 rfl rfl)
theorem dX0_begins_33 : decode cX0_begins 33 = .ok (.invokevirtual 197, 3) := dk_182 0 197 (dk_at dksX0_begins_1 11 rfl rfl)
theorem dX0_begins_36 : decode cX0_begins 36 = .ok (.iconst 1, 1) := dk_4 (dk_at dksX0_begins_1 14 rfl rfl)
theorem dX0_begins_37 : decode cX0_begins 37 = .ok (.istore_n 2, 1) := dk_61 (dk_at dksX0_begins_1 15 rfl rfl)
theorem dX0_begins_38 : decode cX0_begins 38 = .ok (.aload_n 0, 1) := dk_42 (dk_at dksX0_begins_1 16 rfl rfl)
theorem dX0_begins_39 : decode cX0_begins 39 = .ok (.dup, 1) := dk_89 (dk_at dksX0_begins_1 17 rfl rfl)
theorem dX0_begins_40 : decode cX0_begins 40 = .ok (.getfield 132, 3) := dk_180 0 132 (dk_at dksX0_begins_1 18 rfl rfl)
theorem dX0_begins_43 : decode cX0_begins 43 = .ok (.iload_n 2, 1) := dk_28 (dk_at dksX0_begins_1 21 rfl rfl)
theorem dX0_begins_44 : decode cX0_begins 44 = .ok (.ifCond .eq 7, 3) := dk_153 0 7 (dk_at dksX0_begins_2 0 rfl rfl)
theorem dX0_begins_47 : decode cX0_begins 47 = .ok (.iconst 0, 1) := dk_3 (dk_at dksX0_begins_2 3 rfl rfl)
theorem dX0_begins_48 : decode cX0_begins 48 = .ok (.goto 4, 3) := dk_167 0 4 (dk_at dksX0_begins_2 4 rfl rfl)
theorem dX0_begins_51 : decode cX0_begins 51 = .ok (.iconst 1, 1) := dk_4 (dk_at dksX0_begins_2 7 rfl rfl)
theorem dX0_begins_52 : decode cX0_begins 52 = .ok (.iadd, 1) := dk_96 (dk_at dksX0_begins_2 8 rfl rfl)
theorem dX0_begins_53 : decode cX0_begins 53 = .ok (.putfield 132, 3) := dk_181 0 132 (dk_at dksX0_begins_2 9 rfl rfl)
theorem dX0_begins_56 : decode cX0_begins 56 = .ok (.aload_n 0, 1) := dk_42 (dk_at dksX0_begins_2 12 rfl rfl)
theorem dX0_begins_57 : decode cX0_begins 57 = .ok (.iload_n 2, 1) := dk_28 (dk_at dksX0_begins_2 13 rfl rfl)
theorem dX0_begins_58 : decode cX0_begins 58 = .ok (.ifCond .eq 10, 3) := dk_153 0 10 (dk_at dksX0_begins_2 14 rfl rfl)
theorem dX0_begins_61 : decode cX0_begins 61 = .ok (.aload_n 0, 1) := dk_42 (dk_at dksX0_begins_2 17 rfl rfl)
theorem dX0_begins_62 : decode cX0_begins 62 = .ok (.getfield 28, 3) := dk_180 0 28 (dk_at dksX0_begins_2 18 rfl rfl)
theorem dX0_begins_65 : decode cX0_begins 65 = .ok (.goto 7, 3) := dk_167 0 7 (dk_at dksX0_begins_2 21 rfl rfl)
theorem dX0_begins_68 : decode cX0_begins 68 = .ok (.aload_n 1, 1) := dk_43 (dk_at dksX0_begins_3 0 rfl rfl)
theorem dX0_begins_69 : decode cX0_begins 69 = .ok (.getfield 201, 3) := dk_180 0 201 (dk_at dksX0_begins_3 1 rfl rfl)
theorem dX0_begins_72 : decode cX0_begins 72 = .ok (.putfield 28, 3) := dk_181 0 28 (dk_at dksX0_begins_3 4 rfl rfl)
theorem dX0_begins_75 : decode cX0_begins 75 = .ok (.goto 43, 3) := dk_167 0 43 (dk_at dksX0_begins_3 7 rfl rfl)
theorem dX0_begins_78 : decode cX0_begins 78 = .ok (.astore_n 3, 1) := dk_78 (dk_at dksX0_begins_3 10 rfl rfl)
theorem dX0_begins_79 : decode cX0_begins 79 = .ok (.aload_n 0, 1) := dk_42 (dk_at dksX0_begins_3 11 rfl rfl)
theorem dX0_begins_80 : decode cX0_begins 80 = .ok (.dup, 1) := dk_89 (dk_at dksX0_begins_3 12 rfl rfl)
theorem dX0_begins_81 : decode cX0_begins 81 = .ok (.getfield 132, 3) := dk_180 0 132 (dk_at dksX0_begins_3 13 rfl rfl)
theorem dX0_begins_84 : decode cX0_begins 84 = .ok (.iload_n 2, 1) := dk_28 (dk_at dksX0_begins_3 16 rfl rfl)
theorem dX0_begins_85 : decode cX0_begins 85 = .ok (.ifCond .eq 7, 3) := dk_153 0 7 (dk_at dksX0_begins_3 17 rfl rfl)
theorem dX0_begins_88 : decode cX0_begins 88 = .ok (.iconst 0, 1) := dk_3 (dk_at dksX0_begins_3 20 rfl rfl)
theorem dX0_begins_89 : decode cX0_begins 89 = .ok (.goto 4, 3) := dk_167 0 4 (dk_at dksX0_begins_3 21 rfl rfl)
theorem dX0_begins_92 : decode cX0_begins 92 = .ok (.iconst 1, 1) := dk_4 (dk_at dksX0_begins_4 0 rfl rfl)
theorem dX0_begins_93 : decode cX0_begins 93 = .ok (.iadd, 1) := dk_96 (dk_at dksX0_begins_4 1 rfl rfl)
theorem dX0_begins_94 : decode cX0_begins 94 = .ok (.putfield 132, 3) := dk_181 0 132 (dk_at dksX0_begins_4 2 rfl rfl)
theorem dX0_begins_97 : decode cX0_begins 97 = .ok (.aload_n 0, 1) := dk_42 (dk_at dksX0_begins_4 5 rfl rfl)
theorem dX0_begins_98 : decode cX0_begins 98 = .ok (.iload_n 2, 1) := dk_28 (dk_at dksX0_begins_4 6 rfl rfl)
theorem dX0_begins_99 : decode cX0_begins 99 = .ok (.ifCond .eq 10, 3) := dk_153 0 10 (dk_at dksX0_begins_4 7 rfl rfl)
theorem dX0_begins_102 : decode cX0_begins 102 = .ok (.aload_n 0, 1) := dk_42 (dk_at dksX0_begins_4 10 rfl rfl)
theorem dX0_begins_103 : decode cX0_begins 103 = .ok (.getfield 28, 3) := dk_180 0 28 (dk_at dksX0_begins_4 11 rfl rfl)
theorem dX0_begins_106 : decode cX0_begins 106 = .ok (.goto 7, 3) := dk_167 0 7 (dk_at dksX0_begins_4 14 rfl rfl)
theorem dX0_begins_109 : decode cX0_begins 109 = .ok (.aload_n 1, 1) := dk_43 (dk_at dksX0_begins_4 17 rfl rfl)
theorem dX0_begins_110 : decode cX0_begins 110 = .ok (.getfield 201, 3) := dk_180 0 201 (dk_at dksX0_begins_4 18 rfl rfl)
theorem dX0_begins_113 : decode cX0_begins 113 = .ok (.putfield 28, 3) := dk_181 0 28 (dk_at dksX0_begins_4 21 rfl rfl)
theorem dX0_begins_116 : decode cX0_begins 116 = .ok (.aload_n 3, 1) := dk_45 (dk_at dksX0_begins_5 0 rfl rfl)
theorem dX0_begins_117 : decode cX0_begins 117 = .ok (.athrow, 1) := dk_191 (dk_at dksX0_begins_5 1 rfl rfl)
theorem dX0_begins_118 : decode cX0_begins 118 = .ok (.return_, 1) := dk_177 (dk_at dksX0_begins_5 2 rfl rfl)
abbrev cX0_acts : ByteArray := prog_1_method_25_code
def yX0_acts : MethodName := ⟨RX0, "acts", "(IIIII)V"⟩
def dkwX0_acts_20 : List UInt8 := [167, 0, 11, 187, 0, 160, 89, 183, 1, 27, 191, 177]
abbrev dktX0_acts_20 : List UInt8 := dkwX0_acts_20 ++ []
def dkwX0_acts_19 : List UInt8 := [167, 0, 34, 42, 180, 0, 18, 28, 42, 180, 0, 18, 29, 47, 42, 180, 0, 18, 21, 4, 47, 113, 80]
abbrev dktX0_acts_19 : List UInt8 := dkwX0_acts_19 ++ dktX0_acts_20
def dkwX0_acts_18 : List UInt8 := [167, 0, 57, 42, 180, 0, 18, 28, 42, 180, 0, 18, 29, 47, 42, 180, 0, 18, 21, 4, 47, 109, 80]
abbrev dktX0_acts_18 : List UInt8 := dkwX0_acts_18 ++ dktX0_acts_19
def dkwX0_acts_17 : List UInt8 := [80, 167, 0, 80, 42, 180, 0, 18, 28, 42, 180, 0, 18, 29, 47, 42, 180, 0, 18, 21, 4, 47, 97, 80]
abbrev dktX0_acts_17 : List UInt8 := dkwX0_acts_17 ++ dktX0_acts_18
def dkwX0_acts_16 : List UInt8 := [50, 21, 5, 42, 180, 0, 18, 16, 7, 47, 136, 182, 1, 23, 167, 0, 91, 42, 180, 0, 18, 28, 29, 133]
abbrev dktX0_acts_16 : List UInt8 := dkwX0_acts_16 ++ dktX0_acts_17
def dkwX0_acts_15 : List UInt8 := [185, 1, 18, 1, 0, 133, 80, 167, 0, 122, 42, 42, 180, 0, 15, 28, 50, 29, 42, 180, 0, 15, 21, 4]
abbrev dktX0_acts_15 : List UInt8 := dkwX0_acts_15 ++ dktX0_acts_16
def dkwX0_acts_14 : List UInt8 := [182, 0, 235, 167, 0, 149, 42, 180, 0, 18, 28, 42, 180, 0, 15, 29, 50, 180, 0, 47, 192, 0, 239]
abbrev dktX0_acts_14 : List UInt8 := dkwX0_acts_14 ++ dktX0_acts_15
def dkwX0_acts_13 : List UInt8 := [192, 0, 234, 58, 7, 42, 10, 25, 7, 190, 133, 182, 0, 230, 42, 28, 25, 7, 182, 1, 14, 25, 7, 190]
abbrev dktX0_acts_13 : List UInt8 := dkwX0_acts_13 ++ dktX0_acts_14
def dkwX0_acts_12 : List UInt8 := [29, 50, 180, 0, 47, 21, 4, 184, 1, 10, 133, 80, 167, 0, 188, 42, 180, 0, 15, 29, 50, 180, 0, 47]
abbrev dktX0_acts_12 : List UInt8 := dkwX0_acts_12 ++ dktX0_acts_13
def dkwX0_acts_11 : List UInt8 := [180, 0, 15, 21, 5, 50, 180, 0, 47, 184, 1, 6, 167, 0, 212, 42, 180, 0, 18, 28, 42, 180, 0, 15]
abbrev dktX0_acts_11 : List UInt8 := dkwX0_acts_11 ++ dktX0_acts_12
def dkwX0_acts_10 : List UInt8 := [21, 4, 21, 5, 182, 1, 2, 167, 0, 240, 42, 180, 0, 15, 28, 50, 180, 0, 47, 29, 21, 4, 42]
abbrev dktX0_acts_10 : List UInt8 := dkwX0_acts_10 ++ dktX0_acts_11
def dkwX0_acts_9 : List UInt8 := [180, 0, 18, 21, 5, 47, 184, 0, 255, 167, 1, 5, 42, 28, 42, 180, 0, 15, 29, 50, 180, 0, 47]
abbrev dktX0_acts_9 : List UInt8 := dkwX0_acts_9 ++ dktX0_acts_10
def dkwX0_acts_8 : List UInt8 := [21, 5, 184, 0, 251, 80, 167, 1, 30, 42, 180, 0, 15, 28, 50, 180, 0, 47, 29, 21, 4, 42]
abbrev dktX0_acts_8 : List UInt8 := dkwX0_acts_8 ++ dktX0_acts_9
def dkwX0_acts_7 : List UInt8 := [25, 6, 181, 0, 47, 167, 1, 55, 42, 180, 0, 18, 28, 42, 180, 0, 15, 29, 50, 180, 0, 47, 21, 4]
abbrev dktX0_acts_7 : List UInt8 := dkwX0_acts_7 ++ dktX0_acts_8
def dkwX0_acts_6 : List UInt8 := [180, 0, 15, 29, 50, 180, 0, 47, 58, 6, 25, 6, 21, 4, 184, 0, 247, 87, 42, 180, 0, 15, 28, 50]
abbrev dktX0_acts_6 : List UInt8 := dkwX0_acts_6 ++ dktX0_acts_7
def dkwX0_acts_5 : List UInt8 := [183, 0, 241, 167, 0, 12, 187, 0, 244, 89, 21, 4, 183, 0, 246, 3, 182, 0, 235, 167, 1, 88, 42]
abbrev dktX0_acts_5 : List UInt8 := dkwX0_acts_5 ++ dktX0_acts_6
def dkwX0_acts_4 : List UInt8 := [182, 0, 235, 167, 1, 128, 42, 10, 9, 182, 0, 230, 42, 28, 29, 154, 0, 15, 187, 0, 239, 89, 21, 4]
abbrev dktX0_acts_4 : List UInt8 := dkwX0_acts_4 ++ dktX0_acts_5
def dkwX0_acts_3 : List UInt8 := [156, 0, 7, 9, 167, 0, 4, 10, 29, 3, 184, 0, 224, 133, 182, 0, 230, 42, 28, 29, 189, 0, 234, 29]
abbrev dktX0_acts_3 : List UInt8 := dkwX0_acts_3 ++ dktX0_acts_4
def dkwX0_acts_2 : List UInt8 := [42, 28, 29, 21, 4, 182, 0, 217, 167, 1, 171, 42, 28, 29, 21, 4, 182, 0, 221, 167, 1, 160, 42, 29]
abbrev dktX0_acts_2 : List UInt8 := dkwX0_acts_2 ++ dktX0_acts_3
def dkwX0_acts_1 : List UInt8 := [170, 0, 0, 0, 0, 1, 254, 0, 0, 0, 0, 0, 0, 0, 16, 0, 0, 0, 83, 0, 0, 0, 94, 0, 0, 0, 105, 0, 0, 0, 137, 0, 0, 0, 177, 0, 0, 0, 210, 0, 0, 0, 235, 0, 0, 1, 4, 0, 0, 1, 25, 0, 0, 1, 53, 0, 0, 1, 77, 0, 0, 1, 116, 0, 0, 1, 143, 0, 0, 1, 174, 0, 0, 1, 185, 0, 0, 1, 208, 0, 0, 1, 231]
abbrev dktX0_acts_1 : List UInt8 := dkwX0_acts_1 ++ dktX0_acts_2
def dkwX0_acts_0 : List UInt8 := [27]
abbrev dktX0_acts_0 : List UInt8 := dkwX0_acts_0 ++ dktX0_acts_1
theorem dksX0_acts_0 : cX0_acts.data.toList.drop 0 = dktX0_acts_0 := by decide +kernel
theorem dksX0_acts_1 : cX0_acts.data.toList.drop 1 = dktX0_acts_1 := dk_seg dksX0_acts_0 1 rfl rfl
theorem dksX0_acts_2 : cX0_acts.data.toList.drop 84 = dktX0_acts_2 := dk_seg dksX0_acts_1 83 rfl rfl
theorem dksX0_acts_3 : cX0_acts.data.toList.drop 108 = dktX0_acts_3 := dk_seg dksX0_acts_2 24 rfl rfl
theorem dksX0_acts_4 : cX0_acts.data.toList.drop 132 = dktX0_acts_4 := dk_seg dksX0_acts_3 24 rfl rfl
theorem dksX0_acts_5 : cX0_acts.data.toList.drop 156 = dktX0_acts_5 := dk_seg dksX0_acts_4 24 rfl rfl
theorem dksX0_acts_6 : cX0_acts.data.toList.drop 179 = dktX0_acts_6 := dk_seg dksX0_acts_5 23 rfl rfl
theorem dksX0_acts_7 : cX0_acts.data.toList.drop 203 = dktX0_acts_7 := dk_seg dksX0_acts_6 24 rfl rfl
theorem dksX0_acts_8 : cX0_acts.data.toList.drop 227 = dktX0_acts_8 := dk_seg dksX0_acts_7 24 rfl rfl
theorem dksX0_acts_9 : cX0_acts.data.toList.drop 249 = dktX0_acts_9 := dk_seg dksX0_acts_8 22 rfl rfl
theorem dksX0_acts_10 : cX0_acts.data.toList.drop 272 = dktX0_acts_10 := dk_seg dksX0_acts_9 23 rfl rfl
theorem dksX0_acts_11 : cX0_acts.data.toList.drop 295 = dktX0_acts_11 := dk_seg dksX0_acts_10 23 rfl rfl
theorem dksX0_acts_12 : cX0_acts.data.toList.drop 319 = dktX0_acts_12 := dk_seg dksX0_acts_11 24 rfl rfl
theorem dksX0_acts_13 : cX0_acts.data.toList.drop 343 = dktX0_acts_13 := dk_seg dksX0_acts_12 24 rfl rfl
theorem dksX0_acts_14 : cX0_acts.data.toList.drop 367 = dktX0_acts_14 := dk_seg dksX0_acts_13 24 rfl rfl
theorem dksX0_acts_15 : cX0_acts.data.toList.drop 390 = dktX0_acts_15 := dk_seg dksX0_acts_14 23 rfl rfl
theorem dksX0_acts_16 : cX0_acts.data.toList.drop 414 = dktX0_acts_16 := dk_seg dksX0_acts_15 24 rfl rfl
theorem dksX0_acts_17 : cX0_acts.data.toList.drop 438 = dktX0_acts_17 := dk_seg dksX0_acts_16 24 rfl rfl
theorem dksX0_acts_18 : cX0_acts.data.toList.drop 462 = dktX0_acts_18 := dk_seg dksX0_acts_17 24 rfl rfl
theorem dksX0_acts_19 : cX0_acts.data.toList.drop 485 = dktX0_acts_19 := dk_seg dksX0_acts_18 23 rfl rfl
theorem dksX0_acts_20 : cX0_acts.data.toList.drop 508 = dktX0_acts_20 := dk_seg dksX0_acts_19 23 rfl rfl
theorem dX0_acts_0 : decode cX0_acts 0 = .ok (.iload_n 1, 1) := dk_27 (dk_at dksX0_acts_0 0 rfl rfl)
theorem dX0_acts_1 : decode cX0_acts 1 = .ok (.tableswitch 510 0 16 #[83, 94, 105, 137, 177, 210, 235, 260, 281, 309, 333, 372, 399, 430, 441, 464, 487], 83) := by decide +kernel
theorem dX0_acts_84 : decode cX0_acts 84 = .ok (.aload_n 0, 1) := dk_42 (dk_at dksX0_acts_2 0 rfl rfl)
theorem dX0_acts_85 : decode cX0_acts 85 = .ok (.iload_n 2, 1) := dk_28 (dk_at dksX0_acts_2 1 rfl rfl)
theorem dX0_acts_86 : decode cX0_acts 86 = .ok (.iload_n 3, 1) := dk_29 (dk_at dksX0_acts_2 2 rfl rfl)
theorem dX0_acts_87 : decode cX0_acts 87 = .ok (.iload 4, 2) := dk_21 4 (dk_at dksX0_acts_2 3 rfl rfl)
theorem dX0_acts_89 : decode cX0_acts 89 = .ok (.invokevirtual 217, 3) := dk_182 0 217 (dk_at dksX0_acts_2 5 rfl rfl)
theorem dX0_acts_92 : decode cX0_acts 92 = .ok (.goto 427, 3) := dk_167 1 171 (dk_at dksX0_acts_2 8 rfl rfl)
theorem dX0_acts_95 : decode cX0_acts 95 = .ok (.aload_n 0, 1) := dk_42 (dk_at dksX0_acts_2 11 rfl rfl)
theorem dX0_acts_96 : decode cX0_acts 96 = .ok (.iload_n 2, 1) := dk_28 (dk_at dksX0_acts_2 12 rfl rfl)
theorem dX0_acts_97 : decode cX0_acts 97 = .ok (.iload_n 3, 1) := dk_29 (dk_at dksX0_acts_2 13 rfl rfl)
theorem dX0_acts_98 : decode cX0_acts 98 = .ok (.iload 4, 2) := dk_21 4 (dk_at dksX0_acts_2 14 rfl rfl)
theorem dX0_acts_100 : decode cX0_acts 100 = .ok (.invokevirtual 221, 3) := dk_182 0 221 (dk_at dksX0_acts_2 16 rfl rfl)
theorem dX0_acts_103 : decode cX0_acts 103 = .ok (.goto 416, 3) := dk_167 1 160 (dk_at dksX0_acts_2 19 rfl rfl)
theorem dX0_acts_106 : decode cX0_acts 106 = .ok (.aload_n 0, 1) := dk_42 (dk_at dksX0_acts_2 22 rfl rfl)
theorem dX0_acts_107 : decode cX0_acts 107 = .ok (.iload_n 3, 1) := dk_29 (dk_at dksX0_acts_2 23 rfl rfl)
theorem dX0_acts_108 : decode cX0_acts 108 = .ok (.ifCond .ge 7, 3) := dk_156 0 7 (dk_at dksX0_acts_3 0 rfl rfl)
theorem dX0_acts_111 : decode cX0_acts 111 = .ok (.lconst 0, 1) := dk_9 (dk_at dksX0_acts_3 3 rfl rfl)
theorem dX0_acts_112 : decode cX0_acts 112 = .ok (.goto 4, 3) := dk_167 0 4 (dk_at dksX0_acts_3 4 rfl rfl)
theorem dX0_acts_115 : decode cX0_acts 115 = .ok (.lconst 1, 1) := dk_10 (dk_at dksX0_acts_3 7 rfl rfl)
theorem dX0_acts_116 : decode cX0_acts 116 = .ok (.iload_n 3, 1) := dk_29 (dk_at dksX0_acts_3 8 rfl rfl)
theorem dX0_acts_117 : decode cX0_acts 117 = .ok (.iconst 0, 1) := dk_3 (dk_at dksX0_acts_3 9 rfl rfl)
theorem dX0_acts_118 : decode cX0_acts 118 = .ok (.invokestatic 224, 3) := dk_184 0 224 (dk_at dksX0_acts_3 10 rfl rfl)
theorem dX0_acts_121 : decode cX0_acts 121 = .ok (.i2l, 1) := dk_133 (dk_at dksX0_acts_3 13 rfl rfl)
theorem dX0_acts_122 : decode cX0_acts 122 = .ok (.invokevirtual 230, 3) := dk_182 0 230 (dk_at dksX0_acts_3 14 rfl rfl)
theorem dX0_acts_125 : decode cX0_acts 125 = .ok (.aload_n 0, 1) := dk_42 (dk_at dksX0_acts_3 17 rfl rfl)
theorem dX0_acts_126 : decode cX0_acts 126 = .ok (.iload_n 2, 1) := dk_28 (dk_at dksX0_acts_3 18 rfl rfl)
theorem dX0_acts_127 : decode cX0_acts 127 = .ok (.iload_n 3, 1) := dk_29 (dk_at dksX0_acts_3 19 rfl rfl)
theorem dX0_acts_128 : decode cX0_acts 128 = .ok (.anewarray 234, 3) := dk_189 0 234 (dk_at dksX0_acts_3 20 rfl rfl)
theorem dX0_acts_131 : decode cX0_acts 131 = .ok (.iload_n 3, 1) := dk_29 (dk_at dksX0_acts_3 23 rfl rfl)
theorem dX0_acts_132 : decode cX0_acts 132 = .ok (.invokevirtual 235, 3) := dk_182 0 235 (dk_at dksX0_acts_4 0 rfl rfl)
theorem dX0_acts_135 : decode cX0_acts 135 = .ok (.goto 384, 3) := dk_167 1 128 (dk_at dksX0_acts_4 3 rfl rfl)
theorem dX0_acts_138 : decode cX0_acts 138 = .ok (.aload_n 0, 1) := dk_42 (dk_at dksX0_acts_4 6 rfl rfl)
theorem dX0_acts_139 : decode cX0_acts 139 = .ok (.lconst 1, 1) := dk_10 (dk_at dksX0_acts_4 7 rfl rfl)
theorem dX0_acts_140 : decode cX0_acts 140 = .ok (.lconst 0, 1) := dk_9 (dk_at dksX0_acts_4 8 rfl rfl)
theorem dX0_acts_141 : decode cX0_acts 141 = .ok (.invokevirtual 230, 3) := dk_182 0 230 (dk_at dksX0_acts_4 9 rfl rfl)
theorem dX0_acts_144 : decode cX0_acts 144 = .ok (.aload_n 0, 1) := dk_42 (dk_at dksX0_acts_4 12 rfl rfl)
theorem dX0_acts_145 : decode cX0_acts 145 = .ok (.iload_n 2, 1) := dk_28 (dk_at dksX0_acts_4 13 rfl rfl)
theorem dX0_acts_146 : decode cX0_acts 146 = .ok (.iload_n 3, 1) := dk_29 (dk_at dksX0_acts_4 14 rfl rfl)
theorem dX0_acts_147 : decode cX0_acts 147 = .ok (.ifCond .ne 15, 3) := dk_154 0 15 (dk_at dksX0_acts_4 15 rfl rfl)
theorem dX0_acts_150 : decode cX0_acts 150 = .ok (.new 239, 3) := dk_187 0 239 (dk_at dksX0_acts_4 18 rfl rfl)
theorem dX0_acts_153 : decode cX0_acts 153 = .ok (.dup, 1) := dk_89 (dk_at dksX0_acts_4 21 rfl rfl)
theorem dX0_acts_154 : decode cX0_acts 154 = .ok (.iload 4, 2) := dk_21 4 (dk_at dksX0_acts_4 22 rfl rfl)
theorem dX0_acts_156 : decode cX0_acts 156 = .ok (.invokespecial 241, 3) := dk_183 0 241 (dk_at dksX0_acts_5 0 rfl rfl)
theorem dX0_acts_159 : decode cX0_acts 159 = .ok (.goto 12, 3) := dk_167 0 12 (dk_at dksX0_acts_5 3 rfl rfl)
theorem dX0_acts_162 : decode cX0_acts 162 = .ok (.new 244, 3) := dk_187 0 244 (dk_at dksX0_acts_5 6 rfl rfl)
theorem dX0_acts_165 : decode cX0_acts 165 = .ok (.dup, 1) := dk_89 (dk_at dksX0_acts_5 9 rfl rfl)
theorem dX0_acts_166 : decode cX0_acts 166 = .ok (.iload 4, 2) := dk_21 4 (dk_at dksX0_acts_5 10 rfl rfl)
theorem dX0_acts_168 : decode cX0_acts 168 = .ok (.invokespecial 246, 3) := dk_183 0 246 (dk_at dksX0_acts_5 12 rfl rfl)
theorem dX0_acts_171 : decode cX0_acts 171 = .ok (.iconst 0, 1) := dk_3 (dk_at dksX0_acts_5 15 rfl rfl)
theorem dX0_acts_172 : decode cX0_acts 172 = .ok (.invokevirtual 235, 3) := dk_182 0 235 (dk_at dksX0_acts_5 16 rfl rfl)
theorem dX0_acts_175 : decode cX0_acts 175 = .ok (.goto 344, 3) := dk_167 1 88 (dk_at dksX0_acts_5 19 rfl rfl)
theorem dX0_acts_178 : decode cX0_acts 178 = .ok (.aload_n 0, 1) := dk_42 (dk_at dksX0_acts_5 22 rfl rfl)
theorem dX0_acts_179 : decode cX0_acts 179 = .ok (.getfield 15, 3) := dk_180 0 15 (dk_at dksX0_acts_6 0 rfl rfl)
theorem dX0_acts_182 : decode cX0_acts 182 = .ok (.iload_n 3, 1) := dk_29 (dk_at dksX0_acts_6 3 rfl rfl)
theorem dX0_acts_183 : decode cX0_acts 183 = .ok (.aaload, 1) := dk_50 (dk_at dksX0_acts_6 4 rfl rfl)
theorem dX0_acts_184 : decode cX0_acts 184 = .ok (.getfield 47, 3) := dk_180 0 47 (dk_at dksX0_acts_6 5 rfl rfl)
theorem dX0_acts_187 : decode cX0_acts 187 = .ok (.astore 6, 2) := dk_58 6 (dk_at dksX0_acts_6 8 rfl rfl)
theorem dX0_acts_189 : decode cX0_acts 189 = .ok (.aload 6, 2) := dk_25 6 (dk_at dksX0_acts_6 10 rfl rfl)
theorem dX0_acts_191 : decode cX0_acts 191 = .ok (.iload 4, 2) := dk_21 4 (dk_at dksX0_acts_6 12 rfl rfl)
theorem dX0_acts_193 : decode cX0_acts 193 = .ok (.invokestatic 247, 3) := dk_184 0 247 (dk_at dksX0_acts_6 14 rfl rfl)
theorem dX0_acts_196 : decode cX0_acts 196 = .ok (.pop, 1) := dk_87 (dk_at dksX0_acts_6 17 rfl rfl)
theorem dX0_acts_197 : decode cX0_acts 197 = .ok (.aload_n 0, 1) := dk_42 (dk_at dksX0_acts_6 18 rfl rfl)
theorem dX0_acts_198 : decode cX0_acts 198 = .ok (.getfield 15, 3) := dk_180 0 15 (dk_at dksX0_acts_6 19 rfl rfl)
theorem dX0_acts_201 : decode cX0_acts 201 = .ok (.iload_n 2, 1) := dk_28 (dk_at dksX0_acts_6 22 rfl rfl)
theorem dX0_acts_202 : decode cX0_acts 202 = .ok (.aaload, 1) := dk_50 (dk_at dksX0_acts_6 23 rfl rfl)
theorem dX0_acts_203 : decode cX0_acts 203 = .ok (.aload 6, 2) := dk_25 6 (dk_at dksX0_acts_7 0 rfl rfl)
theorem dX0_acts_205 : decode cX0_acts 205 = .ok (.putfield 47, 3) := dk_181 0 47 (dk_at dksX0_acts_7 2 rfl rfl)
theorem dX0_acts_208 : decode cX0_acts 208 = .ok (.goto 311, 3) := dk_167 1 55 (dk_at dksX0_acts_7 5 rfl rfl)
theorem dX0_acts_211 : decode cX0_acts 211 = .ok (.aload_n 0, 1) := dk_42 (dk_at dksX0_acts_7 8 rfl rfl)
theorem dX0_acts_212 : decode cX0_acts 212 = .ok (.getfield 18, 3) := dk_180 0 18 (dk_at dksX0_acts_7 9 rfl rfl)
theorem dX0_acts_215 : decode cX0_acts 215 = .ok (.iload_n 2, 1) := dk_28 (dk_at dksX0_acts_7 12 rfl rfl)
theorem dX0_acts_216 : decode cX0_acts 216 = .ok (.aload_n 0, 1) := dk_42 (dk_at dksX0_acts_7 13 rfl rfl)
theorem dX0_acts_217 : decode cX0_acts 217 = .ok (.getfield 15, 3) := dk_180 0 15 (dk_at dksX0_acts_7 14 rfl rfl)
theorem dX0_acts_220 : decode cX0_acts 220 = .ok (.iload_n 3, 1) := dk_29 (dk_at dksX0_acts_7 17 rfl rfl)
theorem dX0_acts_221 : decode cX0_acts 221 = .ok (.aaload, 1) := dk_50 (dk_at dksX0_acts_7 18 rfl rfl)
theorem dX0_acts_222 : decode cX0_acts 222 = .ok (.getfield 47, 3) := dk_180 0 47 (dk_at dksX0_acts_7 19 rfl rfl)
theorem dX0_acts_225 : decode cX0_acts 225 = .ok (.iload 4, 2) := dk_21 4 (dk_at dksX0_acts_7 22 rfl rfl)
theorem dX0_acts_227 : decode cX0_acts 227 = .ok (.iload 5, 2) := dk_21 5 (dk_at dksX0_acts_8 0 rfl rfl)
theorem dX0_acts_229 : decode cX0_acts 229 = .ok (.invokestatic 251, 3) := dk_184 0 251 (dk_at dksX0_acts_8 2 rfl rfl)
theorem dX0_acts_232 : decode cX0_acts 232 = .ok (.lastore, 1) := dk_80 (dk_at dksX0_acts_8 5 rfl rfl)
theorem dX0_acts_233 : decode cX0_acts 233 = .ok (.goto 286, 3) := dk_167 1 30 (dk_at dksX0_acts_8 6 rfl rfl)
theorem dX0_acts_236 : decode cX0_acts 236 = .ok (.aload_n 0, 1) := dk_42 (dk_at dksX0_acts_8 9 rfl rfl)
theorem dX0_acts_237 : decode cX0_acts 237 = .ok (.getfield 15, 3) := dk_180 0 15 (dk_at dksX0_acts_8 10 rfl rfl)
theorem dX0_acts_240 : decode cX0_acts 240 = .ok (.iload_n 2, 1) := dk_28 (dk_at dksX0_acts_8 13 rfl rfl)
theorem dX0_acts_241 : decode cX0_acts 241 = .ok (.aaload, 1) := dk_50 (dk_at dksX0_acts_8 14 rfl rfl)
theorem dX0_acts_242 : decode cX0_acts 242 = .ok (.getfield 47, 3) := dk_180 0 47 (dk_at dksX0_acts_8 15 rfl rfl)
theorem dX0_acts_245 : decode cX0_acts 245 = .ok (.iload_n 3, 1) := dk_29 (dk_at dksX0_acts_8 18 rfl rfl)
theorem dX0_acts_246 : decode cX0_acts 246 = .ok (.iload 4, 2) := dk_21 4 (dk_at dksX0_acts_8 19 rfl rfl)
theorem dX0_acts_248 : decode cX0_acts 248 = .ok (.aload_n 0, 1) := dk_42 (dk_at dksX0_acts_8 21 rfl rfl)
theorem dX0_acts_249 : decode cX0_acts 249 = .ok (.getfield 18, 3) := dk_180 0 18 (dk_at dksX0_acts_9 0 rfl rfl)
theorem dX0_acts_252 : decode cX0_acts 252 = .ok (.iload 5, 2) := dk_21 5 (dk_at dksX0_acts_9 3 rfl rfl)
theorem dX0_acts_254 : decode cX0_acts 254 = .ok (.laload, 1) := dk_47 (dk_at dksX0_acts_9 5 rfl rfl)
theorem dX0_acts_255 : decode cX0_acts 255 = .ok (.invokestatic 255, 3) := dk_184 0 255 (dk_at dksX0_acts_9 6 rfl rfl)
theorem dX0_acts_258 : decode cX0_acts 258 = .ok (.goto 261, 3) := dk_167 1 5 (dk_at dksX0_acts_9 9 rfl rfl)
theorem dX0_acts_261 : decode cX0_acts 261 = .ok (.aload_n 0, 1) := dk_42 (dk_at dksX0_acts_9 12 rfl rfl)
theorem dX0_acts_262 : decode cX0_acts 262 = .ok (.iload_n 2, 1) := dk_28 (dk_at dksX0_acts_9 13 rfl rfl)
theorem dX0_acts_263 : decode cX0_acts 263 = .ok (.aload_n 0, 1) := dk_42 (dk_at dksX0_acts_9 14 rfl rfl)
theorem dX0_acts_264 : decode cX0_acts 264 = .ok (.getfield 15, 3) := dk_180 0 15 (dk_at dksX0_acts_9 15 rfl rfl)
theorem dX0_acts_267 : decode cX0_acts 267 = .ok (.iload_n 3, 1) := dk_29 (dk_at dksX0_acts_9 18 rfl rfl)
theorem dX0_acts_268 : decode cX0_acts 268 = .ok (.aaload, 1) := dk_50 (dk_at dksX0_acts_9 19 rfl rfl)
theorem dX0_acts_269 : decode cX0_acts 269 = .ok (.getfield 47, 3) := dk_180 0 47 (dk_at dksX0_acts_9 20 rfl rfl)
theorem dX0_acts_272 : decode cX0_acts 272 = .ok (.iload 4, 2) := dk_21 4 (dk_at dksX0_acts_10 0 rfl rfl)
theorem dX0_acts_274 : decode cX0_acts 274 = .ok (.iload 5, 2) := dk_21 5 (dk_at dksX0_acts_10 2 rfl rfl)
theorem dX0_acts_276 : decode cX0_acts 276 = .ok (.invokevirtual 258, 3) := dk_182 1 2 (dk_at dksX0_acts_10 4 rfl rfl)
theorem dX0_acts_279 : decode cX0_acts 279 = .ok (.goto 240, 3) := dk_167 0 240 (dk_at dksX0_acts_10 7 rfl rfl)
theorem dX0_acts_282 : decode cX0_acts 282 = .ok (.aload_n 0, 1) := dk_42 (dk_at dksX0_acts_10 10 rfl rfl)
theorem dX0_acts_283 : decode cX0_acts 283 = .ok (.getfield 15, 3) := dk_180 0 15 (dk_at dksX0_acts_10 11 rfl rfl)
theorem dX0_acts_286 : decode cX0_acts 286 = .ok (.iload_n 2, 1) := dk_28 (dk_at dksX0_acts_10 14 rfl rfl)
theorem dX0_acts_287 : decode cX0_acts 287 = .ok (.aaload, 1) := dk_50 (dk_at dksX0_acts_10 15 rfl rfl)
theorem dX0_acts_288 : decode cX0_acts 288 = .ok (.getfield 47, 3) := dk_180 0 47 (dk_at dksX0_acts_10 16 rfl rfl)
theorem dX0_acts_291 : decode cX0_acts 291 = .ok (.iload_n 3, 1) := dk_29 (dk_at dksX0_acts_10 19 rfl rfl)
theorem dX0_acts_292 : decode cX0_acts 292 = .ok (.iload 4, 2) := dk_21 4 (dk_at dksX0_acts_10 20 rfl rfl)
theorem dX0_acts_294 : decode cX0_acts 294 = .ok (.aload_n 0, 1) := dk_42 (dk_at dksX0_acts_10 22 rfl rfl)
theorem dX0_acts_295 : decode cX0_acts 295 = .ok (.getfield 15, 3) := dk_180 0 15 (dk_at dksX0_acts_11 0 rfl rfl)
theorem dX0_acts_298 : decode cX0_acts 298 = .ok (.iload 5, 2) := dk_21 5 (dk_at dksX0_acts_11 3 rfl rfl)
theorem dX0_acts_300 : decode cX0_acts 300 = .ok (.aaload, 1) := dk_50 (dk_at dksX0_acts_11 5 rfl rfl)
theorem dX0_acts_301 : decode cX0_acts 301 = .ok (.getfield 47, 3) := dk_180 0 47 (dk_at dksX0_acts_11 6 rfl rfl)
theorem dX0_acts_304 : decode cX0_acts 304 = .ok (.invokestatic 262, 3) := dk_184 1 6 (dk_at dksX0_acts_11 9 rfl rfl)
theorem dX0_acts_307 : decode cX0_acts 307 = .ok (.goto 212, 3) := dk_167 0 212 (dk_at dksX0_acts_11 12 rfl rfl)
theorem dX0_acts_310 : decode cX0_acts 310 = .ok (.aload_n 0, 1) := dk_42 (dk_at dksX0_acts_11 15 rfl rfl)
theorem dX0_acts_311 : decode cX0_acts 311 = .ok (.getfield 18, 3) := dk_180 0 18 (dk_at dksX0_acts_11 16 rfl rfl)
theorem dX0_acts_314 : decode cX0_acts 314 = .ok (.iload_n 2, 1) := dk_28 (dk_at dksX0_acts_11 19 rfl rfl)
theorem dX0_acts_315 : decode cX0_acts 315 = .ok (.aload_n 0, 1) := dk_42 (dk_at dksX0_acts_11 20 rfl rfl)
theorem dX0_acts_316 : decode cX0_acts 316 = .ok (.getfield 15, 3) := dk_180 0 15 (dk_at dksX0_acts_11 21 rfl rfl)
theorem dX0_acts_319 : decode cX0_acts 319 = .ok (.iload_n 3, 1) := dk_29 (dk_at dksX0_acts_12 0 rfl rfl)
theorem dX0_acts_320 : decode cX0_acts 320 = .ok (.aaload, 1) := dk_50 (dk_at dksX0_acts_12 1 rfl rfl)
theorem dX0_acts_321 : decode cX0_acts 321 = .ok (.getfield 47, 3) := dk_180 0 47 (dk_at dksX0_acts_12 2 rfl rfl)
theorem dX0_acts_324 : decode cX0_acts 324 = .ok (.iload 4, 2) := dk_21 4 (dk_at dksX0_acts_12 5 rfl rfl)
theorem dX0_acts_326 : decode cX0_acts 326 = .ok (.invokestatic 266, 3) := dk_184 1 10 (dk_at dksX0_acts_12 7 rfl rfl)
theorem dX0_acts_329 : decode cX0_acts 329 = .ok (.i2l, 1) := dk_133 (dk_at dksX0_acts_12 10 rfl rfl)
theorem dX0_acts_330 : decode cX0_acts 330 = .ok (.lastore, 1) := dk_80 (dk_at dksX0_acts_12 11 rfl rfl)
theorem dX0_acts_331 : decode cX0_acts 331 = .ok (.goto 188, 3) := dk_167 0 188 (dk_at dksX0_acts_12 12 rfl rfl)
theorem dX0_acts_334 : decode cX0_acts 334 = .ok (.aload_n 0, 1) := dk_42 (dk_at dksX0_acts_12 15 rfl rfl)
theorem dX0_acts_335 : decode cX0_acts 335 = .ok (.getfield 15, 3) := dk_180 0 15 (dk_at dksX0_acts_12 16 rfl rfl)
theorem dX0_acts_338 : decode cX0_acts 338 = .ok (.iload_n 3, 1) := dk_29 (dk_at dksX0_acts_12 19 rfl rfl)
theorem dX0_acts_339 : decode cX0_acts 339 = .ok (.aaload, 1) := dk_50 (dk_at dksX0_acts_12 20 rfl rfl)
theorem dX0_acts_340 : decode cX0_acts 340 = .ok (.getfield 47, 3) := dk_180 0 47 (dk_at dksX0_acts_12 21 rfl rfl)
theorem dX0_acts_343 : decode cX0_acts 343 = .ok (.checkcast 234, 3) := dk_192 0 234 (dk_at dksX0_acts_13 0 rfl rfl)
theorem dX0_acts_346 : decode cX0_acts 346 = .ok (.astore 7, 2) := dk_58 7 (dk_at dksX0_acts_13 3 rfl rfl)
theorem dX0_acts_348 : decode cX0_acts 348 = .ok (.aload_n 0, 1) := dk_42 (dk_at dksX0_acts_13 5 rfl rfl)
theorem dX0_acts_349 : decode cX0_acts 349 = .ok (.lconst 1, 1) := dk_10 (dk_at dksX0_acts_13 6 rfl rfl)
theorem dX0_acts_350 : decode cX0_acts 350 = .ok (.aload 7, 2) := dk_25 7 (dk_at dksX0_acts_13 7 rfl rfl)
theorem dX0_acts_352 : decode cX0_acts 352 = .ok (.arraylength, 1) := dk_190 (dk_at dksX0_acts_13 9 rfl rfl)
theorem dX0_acts_353 : decode cX0_acts 353 = .ok (.i2l, 1) := dk_133 (dk_at dksX0_acts_13 10 rfl rfl)
theorem dX0_acts_354 : decode cX0_acts 354 = .ok (.invokevirtual 230, 3) := dk_182 0 230 (dk_at dksX0_acts_13 11 rfl rfl)
theorem dX0_acts_357 : decode cX0_acts 357 = .ok (.aload_n 0, 1) := dk_42 (dk_at dksX0_acts_13 14 rfl rfl)
theorem dX0_acts_358 : decode cX0_acts 358 = .ok (.iload_n 2, 1) := dk_28 (dk_at dksX0_acts_13 15 rfl rfl)
theorem dX0_acts_359 : decode cX0_acts 359 = .ok (.aload 7, 2) := dk_25 7 (dk_at dksX0_acts_13 16 rfl rfl)
theorem dX0_acts_361 : decode cX0_acts 361 = .ok (.invokevirtual 270, 3) := dk_182 1 14 (dk_at dksX0_acts_13 18 rfl rfl)
theorem dX0_acts_364 : decode cX0_acts 364 = .ok (.aload 7, 2) := dk_25 7 (dk_at dksX0_acts_13 21 rfl rfl)
theorem dX0_acts_366 : decode cX0_acts 366 = .ok (.arraylength, 1) := dk_190 (dk_at dksX0_acts_13 23 rfl rfl)
theorem dX0_acts_367 : decode cX0_acts 367 = .ok (.invokevirtual 235, 3) := dk_182 0 235 (dk_at dksX0_acts_14 0 rfl rfl)
theorem dX0_acts_370 : decode cX0_acts 370 = .ok (.goto 149, 3) := dk_167 0 149 (dk_at dksX0_acts_14 3 rfl rfl)
theorem dX0_acts_373 : decode cX0_acts 373 = .ok (.aload_n 0, 1) := dk_42 (dk_at dksX0_acts_14 6 rfl rfl)
theorem dX0_acts_374 : decode cX0_acts 374 = .ok (.getfield 18, 3) := dk_180 0 18 (dk_at dksX0_acts_14 7 rfl rfl)
theorem dX0_acts_377 : decode cX0_acts 377 = .ok (.iload_n 2, 1) := dk_28 (dk_at dksX0_acts_14 10 rfl rfl)
theorem dX0_acts_378 : decode cX0_acts 378 = .ok (.aload_n 0, 1) := dk_42 (dk_at dksX0_acts_14 11 rfl rfl)
theorem dX0_acts_379 : decode cX0_acts 379 = .ok (.getfield 15, 3) := dk_180 0 15 (dk_at dksX0_acts_14 12 rfl rfl)
theorem dX0_acts_382 : decode cX0_acts 382 = .ok (.iload_n 3, 1) := dk_29 (dk_at dksX0_acts_14 15 rfl rfl)
theorem dX0_acts_383 : decode cX0_acts 383 = .ok (.aaload, 1) := dk_50 (dk_at dksX0_acts_14 16 rfl rfl)
theorem dX0_acts_384 : decode cX0_acts 384 = .ok (.getfield 47, 3) := dk_180 0 47 (dk_at dksX0_acts_14 17 rfl rfl)
theorem dX0_acts_387 : decode cX0_acts 387 = .ok (.checkcast 239, 3) := dk_192 0 239 (dk_at dksX0_acts_14 20 rfl rfl)
theorem dX0_acts_390 : decode cX0_acts 390 = .ok (.invokeinterface 274 1, 5) := by decide +kernel
theorem dX0_acts_395 : decode cX0_acts 395 = .ok (.i2l, 1) := dk_133 (dk_at dksX0_acts_15 5 rfl rfl)
theorem dX0_acts_396 : decode cX0_acts 396 = .ok (.lastore, 1) := dk_80 (dk_at dksX0_acts_15 6 rfl rfl)
theorem dX0_acts_397 : decode cX0_acts 397 = .ok (.goto 122, 3) := dk_167 0 122 (dk_at dksX0_acts_15 7 rfl rfl)
theorem dX0_acts_400 : decode cX0_acts 400 = .ok (.aload_n 0, 1) := dk_42 (dk_at dksX0_acts_15 10 rfl rfl)
theorem dX0_acts_401 : decode cX0_acts 401 = .ok (.aload_n 0, 1) := dk_42 (dk_at dksX0_acts_15 11 rfl rfl)
theorem dX0_acts_402 : decode cX0_acts 402 = .ok (.getfield 15, 3) := dk_180 0 15 (dk_at dksX0_acts_15 12 rfl rfl)
theorem dX0_acts_405 : decode cX0_acts 405 = .ok (.iload_n 2, 1) := dk_28 (dk_at dksX0_acts_15 15 rfl rfl)
theorem dX0_acts_406 : decode cX0_acts 406 = .ok (.aaload, 1) := dk_50 (dk_at dksX0_acts_15 16 rfl rfl)
theorem dX0_acts_407 : decode cX0_acts 407 = .ok (.iload_n 3, 1) := dk_29 (dk_at dksX0_acts_15 17 rfl rfl)
theorem dX0_acts_408 : decode cX0_acts 408 = .ok (.aload_n 0, 1) := dk_42 (dk_at dksX0_acts_15 18 rfl rfl)
theorem dX0_acts_409 : decode cX0_acts 409 = .ok (.getfield 15, 3) := dk_180 0 15 (dk_at dksX0_acts_15 19 rfl rfl)
theorem dX0_acts_412 : decode cX0_acts 412 = .ok (.iload 4, 2) := dk_21 4 (dk_at dksX0_acts_15 22 rfl rfl)
theorem dX0_acts_414 : decode cX0_acts 414 = .ok (.aaload, 1) := dk_50 (dk_at dksX0_acts_16 0 rfl rfl)
theorem dX0_acts_415 : decode cX0_acts 415 = .ok (.iload 5, 2) := dk_21 5 (dk_at dksX0_acts_16 1 rfl rfl)
theorem dX0_acts_417 : decode cX0_acts 417 = .ok (.aload_n 0, 1) := dk_42 (dk_at dksX0_acts_16 3 rfl rfl)
theorem dX0_acts_418 : decode cX0_acts 418 = .ok (.getfield 18, 3) := dk_180 0 18 (dk_at dksX0_acts_16 4 rfl rfl)
theorem dX0_acts_421 : decode cX0_acts 421 = .ok (.bipush 7, 2) := dk_16 7 (dk_at dksX0_acts_16 7 rfl rfl)
theorem dX0_acts_423 : decode cX0_acts 423 = .ok (.laload, 1) := dk_47 (dk_at dksX0_acts_16 9 rfl rfl)
theorem dX0_acts_424 : decode cX0_acts 424 = .ok (.l2i, 1) := dk_136 (dk_at dksX0_acts_16 10 rfl rfl)
theorem dX0_acts_425 : decode cX0_acts 425 = .ok (.invokevirtual 279, 3) := dk_182 1 23 (dk_at dksX0_acts_16 11 rfl rfl)
theorem dX0_acts_428 : decode cX0_acts 428 = .ok (.goto 91, 3) := dk_167 0 91 (dk_at dksX0_acts_16 14 rfl rfl)
theorem dX0_acts_431 : decode cX0_acts 431 = .ok (.aload_n 0, 1) := dk_42 (dk_at dksX0_acts_16 17 rfl rfl)
theorem dX0_acts_432 : decode cX0_acts 432 = .ok (.getfield 18, 3) := dk_180 0 18 (dk_at dksX0_acts_16 18 rfl rfl)
theorem dX0_acts_435 : decode cX0_acts 435 = .ok (.iload_n 2, 1) := dk_28 (dk_at dksX0_acts_16 21 rfl rfl)
theorem dX0_acts_436 : decode cX0_acts 436 = .ok (.iload_n 3, 1) := dk_29 (dk_at dksX0_acts_16 22 rfl rfl)
theorem dX0_acts_437 : decode cX0_acts 437 = .ok (.i2l, 1) := dk_133 (dk_at dksX0_acts_16 23 rfl rfl)
theorem dX0_acts_438 : decode cX0_acts 438 = .ok (.lastore, 1) := dk_80 (dk_at dksX0_acts_17 0 rfl rfl)
theorem dX0_acts_439 : decode cX0_acts 439 = .ok (.goto 80, 3) := dk_167 0 80 (dk_at dksX0_acts_17 1 rfl rfl)
theorem dX0_acts_442 : decode cX0_acts 442 = .ok (.aload_n 0, 1) := dk_42 (dk_at dksX0_acts_17 4 rfl rfl)
theorem dX0_acts_443 : decode cX0_acts 443 = .ok (.getfield 18, 3) := dk_180 0 18 (dk_at dksX0_acts_17 5 rfl rfl)
theorem dX0_acts_446 : decode cX0_acts 446 = .ok (.iload_n 2, 1) := dk_28 (dk_at dksX0_acts_17 8 rfl rfl)
theorem dX0_acts_447 : decode cX0_acts 447 = .ok (.aload_n 0, 1) := dk_42 (dk_at dksX0_acts_17 9 rfl rfl)
theorem dX0_acts_448 : decode cX0_acts 448 = .ok (.getfield 18, 3) := dk_180 0 18 (dk_at dksX0_acts_17 10 rfl rfl)
theorem dX0_acts_451 : decode cX0_acts 451 = .ok (.iload_n 3, 1) := dk_29 (dk_at dksX0_acts_17 13 rfl rfl)
theorem dX0_acts_452 : decode cX0_acts 452 = .ok (.laload, 1) := dk_47 (dk_at dksX0_acts_17 14 rfl rfl)
theorem dX0_acts_453 : decode cX0_acts 453 = .ok (.aload_n 0, 1) := dk_42 (dk_at dksX0_acts_17 15 rfl rfl)
theorem dX0_acts_454 : decode cX0_acts 454 = .ok (.getfield 18, 3) := dk_180 0 18 (dk_at dksX0_acts_17 16 rfl rfl)
theorem dX0_acts_457 : decode cX0_acts 457 = .ok (.iload 4, 2) := dk_21 4 (dk_at dksX0_acts_17 19 rfl rfl)
theorem dX0_acts_459 : decode cX0_acts 459 = .ok (.laload, 1) := dk_47 (dk_at dksX0_acts_17 21 rfl rfl)
theorem dX0_acts_460 : decode cX0_acts 460 = .ok (.ladd, 1) := dk_97 (dk_at dksX0_acts_17 22 rfl rfl)
theorem dX0_acts_461 : decode cX0_acts 461 = .ok (.lastore, 1) := dk_80 (dk_at dksX0_acts_17 23 rfl rfl)
theorem dX0_acts_462 : decode cX0_acts 462 = .ok (.goto 57, 3) := dk_167 0 57 (dk_at dksX0_acts_18 0 rfl rfl)
theorem dX0_acts_465 : decode cX0_acts 465 = .ok (.aload_n 0, 1) := dk_42 (dk_at dksX0_acts_18 3 rfl rfl)
theorem dX0_acts_466 : decode cX0_acts 466 = .ok (.getfield 18, 3) := dk_180 0 18 (dk_at dksX0_acts_18 4 rfl rfl)
theorem dX0_acts_469 : decode cX0_acts 469 = .ok (.iload_n 2, 1) := dk_28 (dk_at dksX0_acts_18 7 rfl rfl)
theorem dX0_acts_470 : decode cX0_acts 470 = .ok (.aload_n 0, 1) := dk_42 (dk_at dksX0_acts_18 8 rfl rfl)
theorem dX0_acts_471 : decode cX0_acts 471 = .ok (.getfield 18, 3) := dk_180 0 18 (dk_at dksX0_acts_18 9 rfl rfl)
theorem dX0_acts_474 : decode cX0_acts 474 = .ok (.iload_n 3, 1) := dk_29 (dk_at dksX0_acts_18 12 rfl rfl)
theorem dX0_acts_475 : decode cX0_acts 475 = .ok (.laload, 1) := dk_47 (dk_at dksX0_acts_18 13 rfl rfl)
theorem dX0_acts_476 : decode cX0_acts 476 = .ok (.aload_n 0, 1) := dk_42 (dk_at dksX0_acts_18 14 rfl rfl)
theorem dX0_acts_477 : decode cX0_acts 477 = .ok (.getfield 18, 3) := dk_180 0 18 (dk_at dksX0_acts_18 15 rfl rfl)
theorem dX0_acts_480 : decode cX0_acts 480 = .ok (.iload 4, 2) := dk_21 4 (dk_at dksX0_acts_18 18 rfl rfl)
theorem dX0_acts_482 : decode cX0_acts 482 = .ok (.laload, 1) := dk_47 (dk_at dksX0_acts_18 20 rfl rfl)
theorem dX0_acts_483 : decode cX0_acts 483 = .ok (.ldiv, 1) := dk_109 (dk_at dksX0_acts_18 21 rfl rfl)
theorem dX0_acts_484 : decode cX0_acts 484 = .ok (.lastore, 1) := dk_80 (dk_at dksX0_acts_18 22 rfl rfl)
theorem dX0_acts_485 : decode cX0_acts 485 = .ok (.goto 34, 3) := dk_167 0 34 (dk_at dksX0_acts_19 0 rfl rfl)
theorem dX0_acts_488 : decode cX0_acts 488 = .ok (.aload_n 0, 1) := dk_42 (dk_at dksX0_acts_19 3 rfl rfl)
theorem dX0_acts_489 : decode cX0_acts 489 = .ok (.getfield 18, 3) := dk_180 0 18 (dk_at dksX0_acts_19 4 rfl rfl)
theorem dX0_acts_492 : decode cX0_acts 492 = .ok (.iload_n 2, 1) := dk_28 (dk_at dksX0_acts_19 7 rfl rfl)
theorem dX0_acts_493 : decode cX0_acts 493 = .ok (.aload_n 0, 1) := dk_42 (dk_at dksX0_acts_19 8 rfl rfl)
theorem dX0_acts_494 : decode cX0_acts 494 = .ok (.getfield 18, 3) := dk_180 0 18 (dk_at dksX0_acts_19 9 rfl rfl)
theorem dX0_acts_497 : decode cX0_acts 497 = .ok (.iload_n 3, 1) := dk_29 (dk_at dksX0_acts_19 12 rfl rfl)
theorem dX0_acts_498 : decode cX0_acts 498 = .ok (.laload, 1) := dk_47 (dk_at dksX0_acts_19 13 rfl rfl)
theorem dX0_acts_499 : decode cX0_acts 499 = .ok (.aload_n 0, 1) := dk_42 (dk_at dksX0_acts_19 14 rfl rfl)
theorem dX0_acts_500 : decode cX0_acts 500 = .ok (.getfield 18, 3) := dk_180 0 18 (dk_at dksX0_acts_19 15 rfl rfl)
theorem dX0_acts_503 : decode cX0_acts 503 = .ok (.iload 4, 2) := dk_21 4 (dk_at dksX0_acts_19 18 rfl rfl)
theorem dX0_acts_505 : decode cX0_acts 505 = .ok (.laload, 1) := dk_47 (dk_at dksX0_acts_19 20 rfl rfl)
theorem dX0_acts_506 : decode cX0_acts 506 = .ok (.lrem, 1) := dk_113 (dk_at dksX0_acts_19 21 rfl rfl)
theorem dX0_acts_507 : decode cX0_acts 507 = .ok (.lastore, 1) := dk_80 (dk_at dksX0_acts_19 22 rfl rfl)
theorem dX0_acts_508 : decode cX0_acts 508 = .ok (.goto 11, 3) := dk_167 0 11 (dk_at dksX0_acts_20 0 rfl rfl)
theorem dX0_acts_511 : decode cX0_acts 511 = .ok (.new 160, 3) := dk_187 0 160 (dk_at dksX0_acts_20 3 rfl rfl)
theorem dX0_acts_514 : decode cX0_acts 514 = .ok (.dup, 1) := dk_89 (dk_at dksX0_acts_20 6 rfl rfl)
theorem dX0_acts_515 : decode cX0_acts 515 = .ok (.invokespecial 283, 3) := dk_183 1 27 (dk_at dksX0_acts_20 7 rfl rfl)
theorem dX0_acts_518 : decode cX0_acts 518 = .ok (.athrow, 1) := dk_191 (dk_at dksX0_acts_20 10 rfl rfl)
theorem dX0_acts_519 : decode cX0_acts 519 = .ok (.return_, 1) := dk_177 (dk_at dksX0_acts_20 11 rfl rfl)
abbrev cX0_makes : ByteArray := prog_1_method_26_code
def yX0_makes : MethodName := ⟨RX0, "makes", "(III)V"⟩
def dkwX0_makes_4 : List UInt8 := [27, 25, 4, 29, 182, 0, 235, 177]
abbrev dktX0_makes_4 : List UInt8 := dkwX0_makes_4 ++ []
def dkwX0_makes_3 : List UInt8 := [29, 188, 7, 58, 4, 167, 0, 18, 29, 189, 0, 239, 58, 4, 167, 0, 9, 29, 189, 0, 244, 58, 4, 42]
abbrev dktX0_makes_3 : List UInt8 := dkwX0_makes_3 ++ dktX0_makes_4
def dkwX0_makes_2 : List UInt8 := [29, 188, 10, 58, 4, 167, 0, 42, 29, 188, 8, 58, 4, 167, 0, 34, 29, 188, 11, 58, 4, 167, 0, 26]
abbrev dktX0_makes_2 : List UInt8 := dkwX0_makes_2 ++ dktX0_makes_3
def dkwX0_makes_1 : List UInt8 := [170, 0, 0, 0, 0, 0, 0, 81, 0, 0, 0, 1, 0, 0, 0, 6, 0, 0, 0, 40, 0, 0, 0, 48, 0, 0, 0, 56, 0, 0, 0, 64, 0, 0, 0, 81, 0, 0, 0, 72]
abbrev dktX0_makes_1 : List UInt8 := dkwX0_makes_1 ++ dktX0_makes_2
def dkwX0_makes_0 : List UInt8 := [42, 29, 156, 0, 7, 9, 167, 0, 4, 10, 29, 3, 184, 0, 224, 133, 182, 0, 230, 28]
abbrev dktX0_makes_0 : List UInt8 := dkwX0_makes_0 ++ dktX0_makes_1
theorem dksX0_makes_0 : cX0_makes.data.toList.drop 0 = dktX0_makes_0 := by decide +kernel
theorem dksX0_makes_1 : cX0_makes.data.toList.drop 20 = dktX0_makes_1 := dk_seg dksX0_makes_0 20 rfl rfl
theorem dksX0_makes_2 : cX0_makes.data.toList.drop 60 = dktX0_makes_2 := dk_seg dksX0_makes_1 40 rfl rfl
theorem dksX0_makes_3 : cX0_makes.data.toList.drop 84 = dktX0_makes_3 := dk_seg dksX0_makes_2 24 rfl rfl
theorem dksX0_makes_4 : cX0_makes.data.toList.drop 108 = dktX0_makes_4 := dk_seg dksX0_makes_3 24 rfl rfl
theorem dX0_makes_0 : decode cX0_makes 0 = .ok (.aload_n 0, 1) := dk_42 (dk_at dksX0_makes_0 0 rfl rfl)
theorem dX0_makes_1 : decode cX0_makes 1 = .ok (.iload_n 3, 1) := dk_29 (dk_at dksX0_makes_0 1 rfl rfl)
theorem dX0_makes_2 : decode cX0_makes 2 = .ok (.ifCond .ge 7, 3) := dk_156 0 7 (dk_at dksX0_makes_0 2 rfl rfl)
theorem dX0_makes_5 : decode cX0_makes 5 = .ok (.lconst 0, 1) := dk_9 (dk_at dksX0_makes_0 5 rfl rfl)
theorem dX0_makes_6 : decode cX0_makes 6 = .ok (.goto 4, 3) := dk_167 0 4 (dk_at dksX0_makes_0 6 rfl rfl)
theorem dX0_makes_9 : decode cX0_makes 9 = .ok (.lconst 1, 1) := dk_10 (dk_at dksX0_makes_0 9 rfl rfl)
theorem dX0_makes_10 : decode cX0_makes 10 = .ok (.iload_n 3, 1) := dk_29 (dk_at dksX0_makes_0 10 rfl rfl)
theorem dX0_makes_11 : decode cX0_makes 11 = .ok (.iconst 0, 1) := dk_3 (dk_at dksX0_makes_0 11 rfl rfl)
theorem dX0_makes_12 : decode cX0_makes 12 = .ok (.invokestatic 224, 3) := dk_184 0 224 (dk_at dksX0_makes_0 12 rfl rfl)
theorem dX0_makes_15 : decode cX0_makes 15 = .ok (.i2l, 1) := dk_133 (dk_at dksX0_makes_0 15 rfl rfl)
theorem dX0_makes_16 : decode cX0_makes 16 = .ok (.invokevirtual 230, 3) := dk_182 0 230 (dk_at dksX0_makes_0 16 rfl rfl)
theorem dX0_makes_19 : decode cX0_makes 19 = .ok (.iload_n 2, 1) := dk_28 (dk_at dksX0_makes_0 19 rfl rfl)
theorem dX0_makes_20 : decode cX0_makes 20 = .ok (.tableswitch 81 1 6 #[40, 48, 56, 64, 81, 72], 40) := by decide +kernel
theorem dX0_makes_60 : decode cX0_makes 60 = .ok (.iload_n 3, 1) := dk_29 (dk_at dksX0_makes_2 0 rfl rfl)
theorem dX0_makes_61 : decode cX0_makes 61 = .ok (.newarray .int, 2) := dk_188_10 (dk_at dksX0_makes_2 1 rfl rfl)
theorem dX0_makes_63 : decode cX0_makes 63 = .ok (.astore 4, 2) := dk_58 4 (dk_at dksX0_makes_2 3 rfl rfl)
theorem dX0_makes_65 : decode cX0_makes 65 = .ok (.goto 42, 3) := dk_167 0 42 (dk_at dksX0_makes_2 5 rfl rfl)
theorem dX0_makes_68 : decode cX0_makes 68 = .ok (.iload_n 3, 1) := dk_29 (dk_at dksX0_makes_2 8 rfl rfl)
theorem dX0_makes_69 : decode cX0_makes 69 = .ok (.newarray .byte, 2) := dk_188_8 (dk_at dksX0_makes_2 9 rfl rfl)
theorem dX0_makes_71 : decode cX0_makes 71 = .ok (.astore 4, 2) := dk_58 4 (dk_at dksX0_makes_2 11 rfl rfl)
theorem dX0_makes_73 : decode cX0_makes 73 = .ok (.goto 34, 3) := dk_167 0 34 (dk_at dksX0_makes_2 13 rfl rfl)
theorem dX0_makes_76 : decode cX0_makes 76 = .ok (.iload_n 3, 1) := dk_29 (dk_at dksX0_makes_2 16 rfl rfl)
theorem dX0_makes_77 : decode cX0_makes 77 = .ok (.newarray .long, 2) := dk_188_11 (dk_at dksX0_makes_2 17 rfl rfl)
theorem dX0_makes_79 : decode cX0_makes 79 = .ok (.astore 4, 2) := dk_58 4 (dk_at dksX0_makes_2 19 rfl rfl)
theorem dX0_makes_81 : decode cX0_makes 81 = .ok (.goto 26, 3) := dk_167 0 26 (dk_at dksX0_makes_2 21 rfl rfl)
theorem dX0_makes_84 : decode cX0_makes 84 = .ok (.iload_n 3, 1) := dk_29 (dk_at dksX0_makes_3 0 rfl rfl)
theorem dX0_makes_85 : decode cX0_makes 85 = .ok (.newarray .double, 2) := dk_188_7 (dk_at dksX0_makes_3 1 rfl rfl)
theorem dX0_makes_87 : decode cX0_makes 87 = .ok (.astore 4, 2) := dk_58 4 (dk_at dksX0_makes_3 3 rfl rfl)
theorem dX0_makes_89 : decode cX0_makes 89 = .ok (.goto 18, 3) := dk_167 0 18 (dk_at dksX0_makes_3 5 rfl rfl)
theorem dX0_makes_92 : decode cX0_makes 92 = .ok (.iload_n 3, 1) := dk_29 (dk_at dksX0_makes_3 8 rfl rfl)
theorem dX0_makes_93 : decode cX0_makes 93 = .ok (.anewarray 239, 3) := dk_189 0 239 (dk_at dksX0_makes_3 9 rfl rfl)
theorem dX0_makes_96 : decode cX0_makes 96 = .ok (.astore 4, 2) := dk_58 4 (dk_at dksX0_makes_3 12 rfl rfl)
theorem dX0_makes_98 : decode cX0_makes 98 = .ok (.goto 9, 3) := dk_167 0 9 (dk_at dksX0_makes_3 14 rfl rfl)
theorem dX0_makes_101 : decode cX0_makes 101 = .ok (.iload_n 3, 1) := dk_29 (dk_at dksX0_makes_3 17 rfl rfl)
theorem dX0_makes_102 : decode cX0_makes 102 = .ok (.anewarray 244, 3) := dk_189 0 244 (dk_at dksX0_makes_3 18 rfl rfl)
theorem dX0_makes_105 : decode cX0_makes 105 = .ok (.astore 4, 2) := dk_58 4 (dk_at dksX0_makes_3 21 rfl rfl)
theorem dX0_makes_107 : decode cX0_makes 107 = .ok (.aload_n 0, 1) := dk_42 (dk_at dksX0_makes_3 23 rfl rfl)
theorem dX0_makes_108 : decode cX0_makes 108 = .ok (.iload_n 1, 1) := dk_27 (dk_at dksX0_makes_4 0 rfl rfl)
theorem dX0_makes_109 : decode cX0_makes 109 = .ok (.aload 4, 2) := dk_25 4 (dk_at dksX0_makes_4 1 rfl rfl)
theorem dX0_makes_111 : decode cX0_makes 111 = .ok (.iload_n 3, 1) := dk_29 (dk_at dksX0_makes_4 3 rfl rfl)
theorem dX0_makes_112 : decode cX0_makes 112 = .ok (.invokevirtual 235, 3) := dk_182 0 235 (dk_at dksX0_makes_4 4 rfl rfl)
theorem dX0_makes_115 : decode cX0_makes 115 = .ok (.return_, 1) := dk_177 (dk_at dksX0_makes_4 7 rfl rfl)
abbrev cX0_need : ByteArray := prog_1_method_4_code
def yX0_need : MethodName := ⟨RX0, "need", "(JJ)V"⟩
def dkwX0_need_1 : List UInt8 := [148, 158, 0, 11, 187, 0, 58, 89, 183, 0, 60, 191, 177]
abbrev dktX0_need_1 : List UInt8 := dkwX0_need_1 ++ []
def dkwX0_need_0 : List UInt8 := [42, 180, 0, 44, 133, 31, 97, 20, 0, 51, 148, 157, 0, 17, 42, 180, 0, 53, 133, 33, 97, 20, 0, 56]
abbrev dktX0_need_0 : List UInt8 := dkwX0_need_0 ++ dktX0_need_1
theorem dksX0_need_0 : cX0_need.data.toList.drop 0 = dktX0_need_0 := by decide +kernel
theorem dksX0_need_1 : cX0_need.data.toList.drop 24 = dktX0_need_1 := dk_seg dksX0_need_0 24 rfl rfl
theorem dX0_need_0 : decode cX0_need 0 = .ok (.aload_n 0, 1) := dk_42 (dk_at dksX0_need_0 0 rfl rfl)
theorem dX0_need_1 : decode cX0_need 1 = .ok (.getfield 44, 3) := dk_180 0 44 (dk_at dksX0_need_0 1 rfl rfl)
theorem dX0_need_4 : decode cX0_need 4 = .ok (.i2l, 1) := dk_133 (dk_at dksX0_need_0 4 rfl rfl)
theorem dX0_need_5 : decode cX0_need 5 = .ok (.lload_n 1, 1) := dk_31 (dk_at dksX0_need_0 5 rfl rfl)
theorem dX0_need_6 : decode cX0_need 6 = .ok (.ladd, 1) := dk_97 (dk_at dksX0_need_0 6 rfl rfl)
theorem dX0_need_7 : decode cX0_need 7 = .ok (.ldc2_w 51, 3) := dk_20 0 51 (dk_at dksX0_need_0 7 rfl rfl)
theorem dX0_need_10 : decode cX0_need 10 = .ok (.lcmp, 1) := dk_148 (dk_at dksX0_need_0 10 rfl rfl)
theorem dX0_need_11 : decode cX0_need 11 = .ok (.ifCond .gt 17, 3) := dk_157 0 17 (dk_at dksX0_need_0 11 rfl rfl)
theorem dX0_need_14 : decode cX0_need 14 = .ok (.aload_n 0, 1) := dk_42 (dk_at dksX0_need_0 14 rfl rfl)
theorem dX0_need_15 : decode cX0_need 15 = .ok (.getfield 53, 3) := dk_180 0 53 (dk_at dksX0_need_0 15 rfl rfl)
theorem dX0_need_18 : decode cX0_need 18 = .ok (.i2l, 1) := dk_133 (dk_at dksX0_need_0 18 rfl rfl)
theorem dX0_need_19 : decode cX0_need 19 = .ok (.lload_n 3, 1) := dk_33 (dk_at dksX0_need_0 19 rfl rfl)
theorem dX0_need_20 : decode cX0_need 20 = .ok (.ladd, 1) := dk_97 (dk_at dksX0_need_0 20 rfl rfl)
theorem dX0_need_21 : decode cX0_need 21 = .ok (.ldc2_w 56, 3) := dk_20 0 56 (dk_at dksX0_need_0 21 rfl rfl)
theorem dX0_need_24 : decode cX0_need 24 = .ok (.lcmp, 1) := dk_148 (dk_at dksX0_need_1 0 rfl rfl)
theorem dX0_need_25 : decode cX0_need 25 = .ok (.ifCond .le 11, 3) := dk_158 0 11 (dk_at dksX0_need_1 1 rfl rfl)
theorem dX0_need_28 : decode cX0_need 28 = .ok (.new 58, 3) := dk_187 0 58 (dk_at dksX0_need_1 4 rfl rfl)
theorem dX0_need_31 : decode cX0_need 31 = .ok (.dup, 1) := dk_89 (dk_at dksX0_need_1 7 rfl rfl)
theorem dX0_need_32 : decode cX0_need 32 = .ok (.invokespecial 60, 3) := dk_183 0 60 (dk_at dksX0_need_1 8 rfl rfl)
theorem dX0_need_35 : decode cX0_need 35 = .ok (.athrow, 1) := dk_191 (dk_at dksX0_need_1 11 rfl rfl)
theorem dX0_need_36 : decode cX0_need 36 = .ok (.return_, 1) := dk_177 (dk_at dksX0_need_1 12 rfl rfl)
abbrev cX0_becomes : ByteArray := prog_1_method_5_code
def yX0_becomes : MethodName := ⟨RX0, "becomes", "(ILjava/lang/Object;I)V"⟩
def dkwX0_becomes_1 : List UInt8 := [180, 0, 53, 29, 96, 181, 0, 53, 42, 180, 0, 15, 27, 50, 44, 181, 0, 47, 177]
abbrev dktX0_becomes_1 : List UInt8 := dkwX0_becomes_1 ++ []
def dkwX0_becomes_0 : List UInt8 := [42, 180, 0, 11, 42, 89, 180, 0, 44, 90, 4, 96, 181, 0, 44, 50, 44, 181, 0, 47, 42, 89]
abbrev dktX0_becomes_0 : List UInt8 := dkwX0_becomes_0 ++ dktX0_becomes_1
theorem dksX0_becomes_0 : cX0_becomes.data.toList.drop 0 = dktX0_becomes_0 := by decide +kernel
theorem dksX0_becomes_1 : cX0_becomes.data.toList.drop 22 = dktX0_becomes_1 := dk_seg dksX0_becomes_0 22 rfl rfl
theorem dX0_becomes_0 : decode cX0_becomes 0 = .ok (.aload_n 0, 1) := dk_42 (dk_at dksX0_becomes_0 0 rfl rfl)
theorem dX0_becomes_1 : decode cX0_becomes 1 = .ok (.getfield 11, 3) := dk_180 0 11 (dk_at dksX0_becomes_0 1 rfl rfl)
theorem dX0_becomes_4 : decode cX0_becomes 4 = .ok (.aload_n 0, 1) := dk_42 (dk_at dksX0_becomes_0 4 rfl rfl)
theorem dX0_becomes_5 : decode cX0_becomes 5 = .ok (.dup, 1) := dk_89 (dk_at dksX0_becomes_0 5 rfl rfl)
theorem dX0_becomes_6 : decode cX0_becomes 6 = .ok (.getfield 44, 3) := dk_180 0 44 (dk_at dksX0_becomes_0 6 rfl rfl)
theorem dX0_becomes_9 : decode cX0_becomes 9 = .ok (.dup_x1, 1) := dk_90 (dk_at dksX0_becomes_0 9 rfl rfl)
theorem dX0_becomes_10 : decode cX0_becomes 10 = .ok (.iconst 1, 1) := dk_4 (dk_at dksX0_becomes_0 10 rfl rfl)
theorem dX0_becomes_11 : decode cX0_becomes 11 = .ok (.iadd, 1) := dk_96 (dk_at dksX0_becomes_0 11 rfl rfl)
theorem dX0_becomes_12 : decode cX0_becomes 12 = .ok (.putfield 44, 3) := dk_181 0 44 (dk_at dksX0_becomes_0 12 rfl rfl)
theorem dX0_becomes_15 : decode cX0_becomes 15 = .ok (.aaload, 1) := dk_50 (dk_at dksX0_becomes_0 15 rfl rfl)
theorem dX0_becomes_16 : decode cX0_becomes 16 = .ok (.aload_n 2, 1) := dk_44 (dk_at dksX0_becomes_0 16 rfl rfl)
theorem dX0_becomes_17 : decode cX0_becomes 17 = .ok (.putfield 47, 3) := dk_181 0 47 (dk_at dksX0_becomes_0 17 rfl rfl)
theorem dX0_becomes_20 : decode cX0_becomes 20 = .ok (.aload_n 0, 1) := dk_42 (dk_at dksX0_becomes_0 20 rfl rfl)
theorem dX0_becomes_21 : decode cX0_becomes 21 = .ok (.dup, 1) := dk_89 (dk_at dksX0_becomes_0 21 rfl rfl)
theorem dX0_becomes_22 : decode cX0_becomes 22 = .ok (.getfield 53, 3) := dk_180 0 53 (dk_at dksX0_becomes_1 0 rfl rfl)
theorem dX0_becomes_25 : decode cX0_becomes 25 = .ok (.iload_n 3, 1) := dk_29 (dk_at dksX0_becomes_1 3 rfl rfl)
theorem dX0_becomes_26 : decode cX0_becomes 26 = .ok (.iadd, 1) := dk_96 (dk_at dksX0_becomes_1 4 rfl rfl)
theorem dX0_becomes_27 : decode cX0_becomes 27 = .ok (.putfield 53, 3) := dk_181 0 53 (dk_at dksX0_becomes_1 5 rfl rfl)
theorem dX0_becomes_30 : decode cX0_becomes 30 = .ok (.aload_n 0, 1) := dk_42 (dk_at dksX0_becomes_1 8 rfl rfl)
theorem dX0_becomes_31 : decode cX0_becomes 31 = .ok (.getfield 15, 3) := dk_180 0 15 (dk_at dksX0_becomes_1 9 rfl rfl)
theorem dX0_becomes_34 : decode cX0_becomes 34 = .ok (.iload_n 1, 1) := dk_27 (dk_at dksX0_becomes_1 12 rfl rfl)
theorem dX0_becomes_35 : decode cX0_becomes 35 = .ok (.aaload, 1) := dk_50 (dk_at dksX0_becomes_1 13 rfl rfl)
theorem dX0_becomes_36 : decode cX0_becomes 36 = .ok (.aload_n 2, 1) := dk_44 (dk_at dksX0_becomes_1 14 rfl rfl)
theorem dX0_becomes_37 : decode cX0_becomes 37 = .ok (.putfield 47, 3) := dk_181 0 47 (dk_at dksX0_becomes_1 15 rfl rfl)
theorem dX0_becomes_40 : decode cX0_becomes 40 = .ok (.return_, 1) := dk_177 (dk_at dksX0_becomes_1 18 rfl rfl)
abbrev cX0_deep : ByteArray := prog_1_method_27_code
def yX0_deep : MethodName := ⟨RX0, "deep", "(III)V"⟩
def dkwX0_deep_5 : List UInt8 := [4, 96, 181, 0, 44, 50, 25, 9, 181, 0, 47, 132, 8, 1, 167, 255, 218, 177]
abbrev dktX0_deep_5 : List UInt8 := dkwX0_deep_5 ++ []
def dkwX0_deep_4 : List UInt8 := [21, 8, 21, 7, 162, 0, 37, 25, 6, 21, 8, 50, 58, 9, 42, 180, 0, 11, 42, 89, 180, 0, 44, 90]
abbrev dktX0_deep_4 : List UInt8 := dkwX0_deep_4 ++ dktX0_deep_5
def dkwX0_deep_3 : List UInt8 := [27, 25, 5, 28, 28, 29, 104, 96, 182, 0, 235, 25, 5, 58, 6, 25, 6, 190, 54, 7, 3, 54, 8]
abbrev dktX0_deep_3 : List UInt8 := dkwX0_deep_3 ++ dktX0_deep_4
def dkwX0_deep_2 : List UInt8 := [182, 0, 230, 21, 4, 153, 0, 12, 28, 29, 197, 1, 28, 2, 167, 0, 7, 2, 189, 0, 234, 58, 5, 42]
abbrev dktX0_deep_2 : List UInt8 := dkwX0_deep_2 ++ dktX0_deep_3
def dkwX0_deep_1 : List UInt8 := [97, 167, 0, 4, 9, 21, 4, 153, 0, 14, 28, 133, 28, 133, 29, 133, 105, 97, 167, 0, 4, 9]
abbrev dktX0_deep_1 : List UInt8 := dkwX0_deep_1 ++ dktX0_deep_2
def dkwX0_deep_0 : List UInt8 := [28, 155, 0, 11, 29, 155, 0, 7, 4, 167, 0, 4, 3, 54, 4, 42, 21, 4, 153, 0, 10, 10, 28, 133]
abbrev dktX0_deep_0 : List UInt8 := dkwX0_deep_0 ++ dktX0_deep_1
theorem dksX0_deep_0 : cX0_deep.data.toList.drop 0 = dktX0_deep_0 := by decide +kernel
theorem dksX0_deep_1 : cX0_deep.data.toList.drop 24 = dktX0_deep_1 := dk_seg dksX0_deep_0 24 rfl rfl
theorem dksX0_deep_2 : cX0_deep.data.toList.drop 46 = dktX0_deep_2 := dk_seg dksX0_deep_1 22 rfl rfl
theorem dksX0_deep_3 : cX0_deep.data.toList.drop 70 = dktX0_deep_3 := dk_seg dksX0_deep_2 24 rfl rfl
theorem dksX0_deep_4 : cX0_deep.data.toList.drop 93 = dktX0_deep_4 := dk_seg dksX0_deep_3 23 rfl rfl
theorem dksX0_deep_5 : cX0_deep.data.toList.drop 117 = dktX0_deep_5 := dk_seg dksX0_deep_4 24 rfl rfl
theorem dX0_deep_0 : decode cX0_deep 0 = .ok (.iload_n 2, 1) := dk_28 (dk_at dksX0_deep_0 0 rfl rfl)
theorem dX0_deep_1 : decode cX0_deep 1 = .ok (.ifCond .lt 11, 3) := dk_155 0 11 (dk_at dksX0_deep_0 1 rfl rfl)
theorem dX0_deep_4 : decode cX0_deep 4 = .ok (.iload_n 3, 1) := dk_29 (dk_at dksX0_deep_0 4 rfl rfl)
theorem dX0_deep_5 : decode cX0_deep 5 = .ok (.ifCond .lt 7, 3) := dk_155 0 7 (dk_at dksX0_deep_0 5 rfl rfl)
theorem dX0_deep_8 : decode cX0_deep 8 = .ok (.iconst 1, 1) := dk_4 (dk_at dksX0_deep_0 8 rfl rfl)
theorem dX0_deep_9 : decode cX0_deep 9 = .ok (.goto 4, 3) := dk_167 0 4 (dk_at dksX0_deep_0 9 rfl rfl)
theorem dX0_deep_12 : decode cX0_deep 12 = .ok (.iconst 0, 1) := dk_3 (dk_at dksX0_deep_0 12 rfl rfl)
theorem dX0_deep_13 : decode cX0_deep 13 = .ok (.istore 4, 2) := dk_54 4 (dk_at dksX0_deep_0 13 rfl rfl)
theorem dX0_deep_15 : decode cX0_deep 15 = .ok (.aload_n 0, 1) := dk_42 (dk_at dksX0_deep_0 15 rfl rfl)
theorem dX0_deep_16 : decode cX0_deep 16 = .ok (.iload 4, 2) := dk_21 4 (dk_at dksX0_deep_0 16 rfl rfl)
theorem dX0_deep_18 : decode cX0_deep 18 = .ok (.ifCond .eq 10, 3) := dk_153 0 10 (dk_at dksX0_deep_0 18 rfl rfl)
theorem dX0_deep_21 : decode cX0_deep 21 = .ok (.lconst 1, 1) := dk_10 (dk_at dksX0_deep_0 21 rfl rfl)
theorem dX0_deep_22 : decode cX0_deep 22 = .ok (.iload_n 2, 1) := dk_28 (dk_at dksX0_deep_0 22 rfl rfl)
theorem dX0_deep_23 : decode cX0_deep 23 = .ok (.i2l, 1) := dk_133 (dk_at dksX0_deep_0 23 rfl rfl)
theorem dX0_deep_24 : decode cX0_deep 24 = .ok (.ladd, 1) := dk_97 (dk_at dksX0_deep_1 0 rfl rfl)
theorem dX0_deep_25 : decode cX0_deep 25 = .ok (.goto 4, 3) := dk_167 0 4 (dk_at dksX0_deep_1 1 rfl rfl)
theorem dX0_deep_28 : decode cX0_deep 28 = .ok (.lconst 0, 1) := dk_9 (dk_at dksX0_deep_1 4 rfl rfl)
theorem dX0_deep_29 : decode cX0_deep 29 = .ok (.iload 4, 2) := dk_21 4 (dk_at dksX0_deep_1 5 rfl rfl)
theorem dX0_deep_31 : decode cX0_deep 31 = .ok (.ifCond .eq 14, 3) := dk_153 0 14 (dk_at dksX0_deep_1 7 rfl rfl)
theorem dX0_deep_34 : decode cX0_deep 34 = .ok (.iload_n 2, 1) := dk_28 (dk_at dksX0_deep_1 10 rfl rfl)
theorem dX0_deep_35 : decode cX0_deep 35 = .ok (.i2l, 1) := dk_133 (dk_at dksX0_deep_1 11 rfl rfl)
theorem dX0_deep_36 : decode cX0_deep 36 = .ok (.iload_n 2, 1) := dk_28 (dk_at dksX0_deep_1 12 rfl rfl)
theorem dX0_deep_37 : decode cX0_deep 37 = .ok (.i2l, 1) := dk_133 (dk_at dksX0_deep_1 13 rfl rfl)
theorem dX0_deep_38 : decode cX0_deep 38 = .ok (.iload_n 3, 1) := dk_29 (dk_at dksX0_deep_1 14 rfl rfl)
theorem dX0_deep_39 : decode cX0_deep 39 = .ok (.i2l, 1) := dk_133 (dk_at dksX0_deep_1 15 rfl rfl)
theorem dX0_deep_40 : decode cX0_deep 40 = .ok (.lmul, 1) := dk_105 (dk_at dksX0_deep_1 16 rfl rfl)
theorem dX0_deep_41 : decode cX0_deep 41 = .ok (.ladd, 1) := dk_97 (dk_at dksX0_deep_1 17 rfl rfl)
theorem dX0_deep_42 : decode cX0_deep 42 = .ok (.goto 4, 3) := dk_167 0 4 (dk_at dksX0_deep_1 18 rfl rfl)
theorem dX0_deep_45 : decode cX0_deep 45 = .ok (.lconst 0, 1) := dk_9 (dk_at dksX0_deep_1 21 rfl rfl)
theorem dX0_deep_46 : decode cX0_deep 46 = .ok (.invokevirtual 230, 3) := dk_182 0 230 (dk_at dksX0_deep_2 0 rfl rfl)
theorem dX0_deep_49 : decode cX0_deep 49 = .ok (.iload 4, 2) := dk_21 4 (dk_at dksX0_deep_2 3 rfl rfl)
theorem dX0_deep_51 : decode cX0_deep 51 = .ok (.ifCond .eq 12, 3) := dk_153 0 12 (dk_at dksX0_deep_2 5 rfl rfl)
theorem dX0_deep_54 : decode cX0_deep 54 = .ok (.iload_n 2, 1) := dk_28 (dk_at dksX0_deep_2 8 rfl rfl)
theorem dX0_deep_55 : decode cX0_deep 55 = .ok (.iload_n 3, 1) := dk_29 (dk_at dksX0_deep_2 9 rfl rfl)
theorem dX0_deep_56 : decode cX0_deep 56 = .ok (.multianewarray 284 2, 4) := by decide +kernel
theorem dX0_deep_60 : decode cX0_deep 60 = .ok (.goto 7, 3) := dk_167 0 7 (dk_at dksX0_deep_2 14 rfl rfl)
theorem dX0_deep_63 : decode cX0_deep 63 = .ok (.iconst (-1), 1) := dk_2 (dk_at dksX0_deep_2 17 rfl rfl)
theorem dX0_deep_64 : decode cX0_deep 64 = .ok (.anewarray 234, 3) := dk_189 0 234 (dk_at dksX0_deep_2 18 rfl rfl)
theorem dX0_deep_67 : decode cX0_deep 67 = .ok (.astore 5, 2) := dk_58 5 (dk_at dksX0_deep_2 21 rfl rfl)
theorem dX0_deep_69 : decode cX0_deep 69 = .ok (.aload_n 0, 1) := dk_42 (dk_at dksX0_deep_2 23 rfl rfl)
theorem dX0_deep_70 : decode cX0_deep 70 = .ok (.iload_n 1, 1) := dk_27 (dk_at dksX0_deep_3 0 rfl rfl)
theorem dX0_deep_71 : decode cX0_deep 71 = .ok (.aload 5, 2) := dk_25 5 (dk_at dksX0_deep_3 1 rfl rfl)
theorem dX0_deep_73 : decode cX0_deep 73 = .ok (.iload_n 2, 1) := dk_28 (dk_at dksX0_deep_3 3 rfl rfl)
theorem dX0_deep_74 : decode cX0_deep 74 = .ok (.iload_n 2, 1) := dk_28 (dk_at dksX0_deep_3 4 rfl rfl)
theorem dX0_deep_75 : decode cX0_deep 75 = .ok (.iload_n 3, 1) := dk_29 (dk_at dksX0_deep_3 5 rfl rfl)
theorem dX0_deep_76 : decode cX0_deep 76 = .ok (.imul, 1) := dk_104 (dk_at dksX0_deep_3 6 rfl rfl)
theorem dX0_deep_77 : decode cX0_deep 77 = .ok (.iadd, 1) := dk_96 (dk_at dksX0_deep_3 7 rfl rfl)
theorem dX0_deep_78 : decode cX0_deep 78 = .ok (.invokevirtual 235, 3) := dk_182 0 235 (dk_at dksX0_deep_3 8 rfl rfl)
theorem dX0_deep_81 : decode cX0_deep 81 = .ok (.aload 5, 2) := dk_25 5 (dk_at dksX0_deep_3 11 rfl rfl)
theorem dX0_deep_83 : decode cX0_deep 83 = .ok (.astore 6, 2) := dk_58 6 (dk_at dksX0_deep_3 13 rfl rfl)
theorem dX0_deep_85 : decode cX0_deep 85 = .ok (.aload 6, 2) := dk_25 6 (dk_at dksX0_deep_3 15 rfl rfl)
theorem dX0_deep_87 : decode cX0_deep 87 = .ok (.arraylength, 1) := dk_190 (dk_at dksX0_deep_3 17 rfl rfl)
theorem dX0_deep_88 : decode cX0_deep 88 = .ok (.istore 7, 2) := dk_54 7 (dk_at dksX0_deep_3 18 rfl rfl)
theorem dX0_deep_90 : decode cX0_deep 90 = .ok (.iconst 0, 1) := dk_3 (dk_at dksX0_deep_3 20 rfl rfl)
theorem dX0_deep_91 : decode cX0_deep 91 = .ok (.istore 8, 2) := dk_54 8 (dk_at dksX0_deep_3 21 rfl rfl)
theorem dX0_deep_93 : decode cX0_deep 93 = .ok (.iload 8, 2) := dk_21 8 (dk_at dksX0_deep_4 0 rfl rfl)
theorem dX0_deep_95 : decode cX0_deep 95 = .ok (.iload 7, 2) := dk_21 7 (dk_at dksX0_deep_4 2 rfl rfl)
theorem dX0_deep_97 : decode cX0_deep 97 = .ok (.if_icmp .ge 37, 3) := dk_162 0 37 (dk_at dksX0_deep_4 4 rfl rfl)
theorem dX0_deep_100 : decode cX0_deep 100 = .ok (.aload 6, 2) := dk_25 6 (dk_at dksX0_deep_4 7 rfl rfl)
theorem dX0_deep_102 : decode cX0_deep 102 = .ok (.iload 8, 2) := dk_21 8 (dk_at dksX0_deep_4 9 rfl rfl)
theorem dX0_deep_104 : decode cX0_deep 104 = .ok (.aaload, 1) := dk_50 (dk_at dksX0_deep_4 11 rfl rfl)
theorem dX0_deep_105 : decode cX0_deep 105 = .ok (.astore 9, 2) := dk_58 9 (dk_at dksX0_deep_4 12 rfl rfl)
theorem dX0_deep_107 : decode cX0_deep 107 = .ok (.aload_n 0, 1) := dk_42 (dk_at dksX0_deep_4 14 rfl rfl)
theorem dX0_deep_108 : decode cX0_deep 108 = .ok (.getfield 11, 3) := dk_180 0 11 (dk_at dksX0_deep_4 15 rfl rfl)
theorem dX0_deep_111 : decode cX0_deep 111 = .ok (.aload_n 0, 1) := dk_42 (dk_at dksX0_deep_4 18 rfl rfl)
theorem dX0_deep_112 : decode cX0_deep 112 = .ok (.dup, 1) := dk_89 (dk_at dksX0_deep_4 19 rfl rfl)
theorem dX0_deep_113 : decode cX0_deep 113 = .ok (.getfield 44, 3) := dk_180 0 44 (dk_at dksX0_deep_4 20 rfl rfl)
theorem dX0_deep_116 : decode cX0_deep 116 = .ok (.dup_x1, 1) := dk_90 (dk_at dksX0_deep_4 23 rfl rfl)
theorem dX0_deep_117 : decode cX0_deep 117 = .ok (.iconst 1, 1) := dk_4 (dk_at dksX0_deep_5 0 rfl rfl)
theorem dX0_deep_118 : decode cX0_deep 118 = .ok (.iadd, 1) := dk_96 (dk_at dksX0_deep_5 1 rfl rfl)
theorem dX0_deep_119 : decode cX0_deep 119 = .ok (.putfield 44, 3) := dk_181 0 44 (dk_at dksX0_deep_5 2 rfl rfl)
theorem dX0_deep_122 : decode cX0_deep 122 = .ok (.aaload, 1) := dk_50 (dk_at dksX0_deep_5 5 rfl rfl)
theorem dX0_deep_123 : decode cX0_deep 123 = .ok (.aload 9, 2) := dk_25 9 (dk_at dksX0_deep_5 6 rfl rfl)
theorem dX0_deep_125 : decode cX0_deep 125 = .ok (.putfield 47, 3) := dk_181 0 47 (dk_at dksX0_deep_5 8 rfl rfl)
theorem dX0_deep_128 : decode cX0_deep 128 = .ok (.iinc 8 1, 3) := dk_132 8 1 (dk_at dksX0_deep_5 11 rfl rfl)
theorem dX0_deep_131 : decode cX0_deep 131 = .ok (.goto (-38), 3) := dk_167 255 218 (dk_at dksX0_deep_5 14 rfl rfl)
theorem dX0_deep_134 : decode cX0_deep 134 = .ok (.return_, 1) := dk_177 (dk_at dksX0_deep_5 17 rfl rfl)
abbrev cX0_as : ByteArray := prog_1_method_28_code
def yX0_as : MethodName := ⟨RX0, "as", "(Ljava/lang/Object;I)Ljava/lang/Object;"⟩
def dkwX0_as_3 : List UInt8 := [176, 42, 192, 1, 35, 176, 42, 192, 1, 37, 176, 42, 192, 0, 239, 176, 42, 192, 0, 244, 176, 42, 176]
abbrev dktX0_as_3 : List UInt8 := dkwX0_as_3 ++ []
def dkwX0_as_2 : List UInt8 := [42, 192, 0, 234, 176, 42, 192, 1, 30, 176, 42, 192, 1, 32, 176, 42, 192, 1, 33, 176, 42, 192, 1, 28]
abbrev dktX0_as_2 : List UInt8 := dkwX0_as_2 ++ dktX0_as_3
def dkwX0_as_1 : List UInt8 := [170, 0, 0, 0, 0, 0, 96, 0, 0, 0, 1, 0, 0, 0, 9, 0, 0, 0, 51, 0, 0, 0, 56, 0, 0, 0, 61, 0, 0, 0, 66, 0, 0, 0, 71, 0, 0, 0, 76, 0, 0, 0, 81, 0, 0, 0, 86, 0, 0, 0, 91]
abbrev dktX0_as_1 : List UInt8 := dkwX0_as_1 ++ dktX0_as_2
def dkwX0_as_0 : List UInt8 := [27]
abbrev dktX0_as_0 : List UInt8 := dkwX0_as_0 ++ dktX0_as_1
theorem dksX0_as_0 : cX0_as.data.toList.drop 0 = dktX0_as_0 := by decide +kernel
theorem dksX0_as_1 : cX0_as.data.toList.drop 1 = dktX0_as_1 := dk_seg dksX0_as_0 1 rfl rfl
theorem dksX0_as_2 : cX0_as.data.toList.drop 52 = dktX0_as_2 := dk_seg dksX0_as_1 51 rfl rfl
theorem dksX0_as_3 : cX0_as.data.toList.drop 76 = dktX0_as_3 := dk_seg dksX0_as_2 24 rfl rfl
theorem dX0_as_0 : decode cX0_as 0 = .ok (.iload_n 1, 1) := dk_27 (dk_at dksX0_as_0 0 rfl rfl)
theorem dX0_as_1 : decode cX0_as 1 = .ok (.tableswitch 96 1 9 #[51, 56, 61, 66, 71, 76, 81, 86, 91], 51) := by decide +kernel
theorem dX0_as_52 : decode cX0_as 52 = .ok (.aload_n 0, 1) := dk_42 (dk_at dksX0_as_2 0 rfl rfl)
theorem dX0_as_53 : decode cX0_as 53 = .ok (.checkcast 234, 3) := dk_192 0 234 (dk_at dksX0_as_2 1 rfl rfl)
theorem dX0_as_56 : decode cX0_as 56 = .ok (.areturn, 1) := dk_176 (dk_at dksX0_as_2 4 rfl rfl)
theorem dX0_as_57 : decode cX0_as 57 = .ok (.aload_n 0, 1) := dk_42 (dk_at dksX0_as_2 5 rfl rfl)
theorem dX0_as_58 : decode cX0_as 58 = .ok (.checkcast 286, 3) := dk_192 1 30 (dk_at dksX0_as_2 6 rfl rfl)
theorem dX0_as_61 : decode cX0_as 61 = .ok (.areturn, 1) := dk_176 (dk_at dksX0_as_2 9 rfl rfl)
theorem dX0_as_62 : decode cX0_as 62 = .ok (.aload_n 0, 1) := dk_42 (dk_at dksX0_as_2 10 rfl rfl)
theorem dX0_as_63 : decode cX0_as 63 = .ok (.checkcast 288, 3) := dk_192 1 32 (dk_at dksX0_as_2 11 rfl rfl)
theorem dX0_as_66 : decode cX0_as 66 = .ok (.areturn, 1) := dk_176 (dk_at dksX0_as_2 14 rfl rfl)
theorem dX0_as_67 : decode cX0_as 67 = .ok (.aload_n 0, 1) := dk_42 (dk_at dksX0_as_2 15 rfl rfl)
theorem dX0_as_68 : decode cX0_as 68 = .ok (.checkcast 289, 3) := dk_192 1 33 (dk_at dksX0_as_2 16 rfl rfl)
theorem dX0_as_71 : decode cX0_as 71 = .ok (.areturn, 1) := dk_176 (dk_at dksX0_as_2 19 rfl rfl)
theorem dX0_as_72 : decode cX0_as 72 = .ok (.aload_n 0, 1) := dk_42 (dk_at dksX0_as_2 20 rfl rfl)
theorem dX0_as_73 : decode cX0_as 73 = .ok (.checkcast 284, 3) := dk_192 1 28 (dk_at dksX0_as_2 21 rfl rfl)
theorem dX0_as_76 : decode cX0_as 76 = .ok (.areturn, 1) := dk_176 (dk_at dksX0_as_3 0 rfl rfl)
theorem dX0_as_77 : decode cX0_as 77 = .ok (.aload_n 0, 1) := dk_42 (dk_at dksX0_as_3 1 rfl rfl)
theorem dX0_as_78 : decode cX0_as 78 = .ok (.checkcast 291, 3) := dk_192 1 35 (dk_at dksX0_as_3 2 rfl rfl)
theorem dX0_as_81 : decode cX0_as 81 = .ok (.areturn, 1) := dk_176 (dk_at dksX0_as_3 5 rfl rfl)
theorem dX0_as_82 : decode cX0_as 82 = .ok (.aload_n 0, 1) := dk_42 (dk_at dksX0_as_3 6 rfl rfl)
theorem dX0_as_83 : decode cX0_as 83 = .ok (.checkcast 293, 3) := dk_192 1 37 (dk_at dksX0_as_3 7 rfl rfl)
theorem dX0_as_86 : decode cX0_as 86 = .ok (.areturn, 1) := dk_176 (dk_at dksX0_as_3 10 rfl rfl)
theorem dX0_as_87 : decode cX0_as 87 = .ok (.aload_n 0, 1) := dk_42 (dk_at dksX0_as_3 11 rfl rfl)
theorem dX0_as_88 : decode cX0_as 88 = .ok (.checkcast 239, 3) := dk_192 0 239 (dk_at dksX0_as_3 12 rfl rfl)
theorem dX0_as_91 : decode cX0_as 91 = .ok (.areturn, 1) := dk_176 (dk_at dksX0_as_3 15 rfl rfl)
theorem dX0_as_92 : decode cX0_as 92 = .ok (.aload_n 0, 1) := dk_42 (dk_at dksX0_as_3 16 rfl rfl)
theorem dX0_as_93 : decode cX0_as 93 = .ok (.checkcast 244, 3) := dk_192 0 244 (dk_at dksX0_as_3 17 rfl rfl)
theorem dX0_as_96 : decode cX0_as 96 = .ok (.areturn, 1) := dk_176 (dk_at dksX0_as_3 20 rfl rfl)
theorem dX0_as_97 : decode cX0_as 97 = .ok (.aload_n 0, 1) := dk_42 (dk_at dksX0_as_3 21 rfl rfl)
theorem dX0_as_98 : decode cX0_as 98 = .ok (.areturn, 1) := dk_176 (dk_at dksX0_as_3 22 rfl rfl)
abbrev cX0_got : ByteArray := prog_1_method_29_code
def yX0_got : MethodName := ⟨RX0, "got", "(Ljava/lang/Object;II)J"⟩
def dkwX0_got_3 : List UInt8 := [192, 1, 33, 28, 49, 184, 1, 39, 173]
abbrev dktX0_got_3 : List UInt8 := dkwX0_got_3 ++ []
def dkwX0_got_2 : List UInt8 := [42, 192, 0, 234, 28, 46, 133, 173, 42, 192, 1, 30, 28, 51, 133, 173, 42, 192, 1, 32, 28, 47, 173, 42]
abbrev dktX0_got_2 : List UInt8 := dkwX0_got_2 ++ dktX0_got_3
def dkwX0_got_1 : List UInt8 := [170, 0, 0, 0, 0, 0, 50, 0, 0, 0, 1, 0, 0, 0, 3, 0, 0, 0, 27, 0, 0, 0, 35, 0, 0, 0, 43]
abbrev dktX0_got_1 : List UInt8 := dkwX0_got_1 ++ dktX0_got_2
def dkwX0_got_0 : List UInt8 := [27]
abbrev dktX0_got_0 : List UInt8 := dkwX0_got_0 ++ dktX0_got_1
theorem dksX0_got_0 : cX0_got.data.toList.drop 0 = dktX0_got_0 := by decide +kernel
theorem dksX0_got_1 : cX0_got.data.toList.drop 1 = dktX0_got_1 := dk_seg dksX0_got_0 1 rfl rfl
theorem dksX0_got_2 : cX0_got.data.toList.drop 28 = dktX0_got_2 := dk_seg dksX0_got_1 27 rfl rfl
theorem dksX0_got_3 : cX0_got.data.toList.drop 52 = dktX0_got_3 := dk_seg dksX0_got_2 24 rfl rfl
theorem dX0_got_0 : decode cX0_got 0 = .ok (.iload_n 1, 1) := dk_27 (dk_at dksX0_got_0 0 rfl rfl)
theorem dX0_got_1 : decode cX0_got 1 = .ok (.tableswitch 50 1 3 #[27, 35, 43], 27) := by decide +kernel
theorem dX0_got_28 : decode cX0_got 28 = .ok (.aload_n 0, 1) := dk_42 (dk_at dksX0_got_2 0 rfl rfl)
theorem dX0_got_29 : decode cX0_got 29 = .ok (.checkcast 234, 3) := dk_192 0 234 (dk_at dksX0_got_2 1 rfl rfl)
theorem dX0_got_32 : decode cX0_got 32 = .ok (.iload_n 2, 1) := dk_28 (dk_at dksX0_got_2 4 rfl rfl)
theorem dX0_got_33 : decode cX0_got 33 = .ok (.iaload, 1) := dk_46 (dk_at dksX0_got_2 5 rfl rfl)
theorem dX0_got_34 : decode cX0_got 34 = .ok (.i2l, 1) := dk_133 (dk_at dksX0_got_2 6 rfl rfl)
theorem dX0_got_35 : decode cX0_got 35 = .ok (.lreturn, 1) := dk_173 (dk_at dksX0_got_2 7 rfl rfl)
theorem dX0_got_36 : decode cX0_got 36 = .ok (.aload_n 0, 1) := dk_42 (dk_at dksX0_got_2 8 rfl rfl)
theorem dX0_got_37 : decode cX0_got 37 = .ok (.checkcast 286, 3) := dk_192 1 30 (dk_at dksX0_got_2 9 rfl rfl)
theorem dX0_got_40 : decode cX0_got 40 = .ok (.iload_n 2, 1) := dk_28 (dk_at dksX0_got_2 12 rfl rfl)
theorem dX0_got_41 : decode cX0_got 41 = .ok (.baload, 1) := dk_51 (dk_at dksX0_got_2 13 rfl rfl)
theorem dX0_got_42 : decode cX0_got 42 = .ok (.i2l, 1) := dk_133 (dk_at dksX0_got_2 14 rfl rfl)
theorem dX0_got_43 : decode cX0_got 43 = .ok (.lreturn, 1) := dk_173 (dk_at dksX0_got_2 15 rfl rfl)
theorem dX0_got_44 : decode cX0_got 44 = .ok (.aload_n 0, 1) := dk_42 (dk_at dksX0_got_2 16 rfl rfl)
theorem dX0_got_45 : decode cX0_got 45 = .ok (.checkcast 288, 3) := dk_192 1 32 (dk_at dksX0_got_2 17 rfl rfl)
theorem dX0_got_48 : decode cX0_got 48 = .ok (.iload_n 2, 1) := dk_28 (dk_at dksX0_got_2 20 rfl rfl)
theorem dX0_got_49 : decode cX0_got 49 = .ok (.laload, 1) := dk_47 (dk_at dksX0_got_2 21 rfl rfl)
theorem dX0_got_50 : decode cX0_got 50 = .ok (.lreturn, 1) := dk_173 (dk_at dksX0_got_2 22 rfl rfl)
theorem dX0_got_51 : decode cX0_got 51 = .ok (.aload_n 0, 1) := dk_42 (dk_at dksX0_got_2 23 rfl rfl)
theorem dX0_got_52 : decode cX0_got 52 = .ok (.checkcast 289, 3) := dk_192 1 33 (dk_at dksX0_got_3 0 rfl rfl)
theorem dX0_got_55 : decode cX0_got 55 = .ok (.iload_n 2, 1) := dk_28 (dk_at dksX0_got_3 3 rfl rfl)
theorem dX0_got_56 : decode cX0_got 56 = .ok (.daload, 1) := dk_49 (dk_at dksX0_got_3 4 rfl rfl)
theorem dX0_got_57 : decode cX0_got 57 = .ok (.invokestatic 295, 3) := dk_184 1 39 (dk_at dksX0_got_3 5 rfl rfl)
theorem dX0_got_60 : decode cX0_got 60 = .ok (.lreturn, 1) := dk_173 (dk_at dksX0_got_3 8 rfl rfl)
abbrev cX0_sets : ByteArray := prog_1_method_30_code
def yX0_sets : MethodName := ⟨RX0, "sets", "(Ljava/lang/Object;IIJ)V"⟩
def dkwX0_sets_3 : List UInt8 := [192, 1, 32, 28, 33, 80, 167, 0, 13, 42, 192, 1, 33, 28, 33, 184, 1, 43, 82, 177]
abbrev dktX0_sets_3 : List UInt8 := dkwX0_sets_3 ++ []
def dkwX0_sets_2 : List UInt8 := [42, 192, 0, 234, 28, 33, 136, 79, 167, 0, 35, 42, 192, 1, 30, 28, 33, 136, 145, 84, 167, 0, 23, 42]
abbrev dktX0_sets_2 : List UInt8 := dkwX0_sets_2 ++ dktX0_sets_3
def dkwX0_sets_1 : List UInt8 := [170, 0, 0, 0, 0, 0, 60, 0, 0, 0, 1, 0, 0, 0, 3, 0, 0, 0, 27, 0, 0, 0, 38, 0, 0, 0, 50]
abbrev dktX0_sets_1 : List UInt8 := dkwX0_sets_1 ++ dktX0_sets_2
def dkwX0_sets_0 : List UInt8 := [27]
abbrev dktX0_sets_0 : List UInt8 := dkwX0_sets_0 ++ dktX0_sets_1
theorem dksX0_sets_0 : cX0_sets.data.toList.drop 0 = dktX0_sets_0 := by decide +kernel
theorem dksX0_sets_1 : cX0_sets.data.toList.drop 1 = dktX0_sets_1 := dk_seg dksX0_sets_0 1 rfl rfl
theorem dksX0_sets_2 : cX0_sets.data.toList.drop 28 = dktX0_sets_2 := dk_seg dksX0_sets_1 27 rfl rfl
theorem dksX0_sets_3 : cX0_sets.data.toList.drop 52 = dktX0_sets_3 := dk_seg dksX0_sets_2 24 rfl rfl
theorem dX0_sets_0 : decode cX0_sets 0 = .ok (.iload_n 1, 1) := dk_27 (dk_at dksX0_sets_0 0 rfl rfl)
theorem dX0_sets_1 : decode cX0_sets 1 = .ok (.tableswitch 60 1 3 #[27, 38, 50], 27) := by decide +kernel
theorem dX0_sets_28 : decode cX0_sets 28 = .ok (.aload_n 0, 1) := dk_42 (dk_at dksX0_sets_2 0 rfl rfl)
theorem dX0_sets_29 : decode cX0_sets 29 = .ok (.checkcast 234, 3) := dk_192 0 234 (dk_at dksX0_sets_2 1 rfl rfl)
theorem dX0_sets_32 : decode cX0_sets 32 = .ok (.iload_n 2, 1) := dk_28 (dk_at dksX0_sets_2 4 rfl rfl)
theorem dX0_sets_33 : decode cX0_sets 33 = .ok (.lload_n 3, 1) := dk_33 (dk_at dksX0_sets_2 5 rfl rfl)
theorem dX0_sets_34 : decode cX0_sets 34 = .ok (.l2i, 1) := dk_136 (dk_at dksX0_sets_2 6 rfl rfl)
theorem dX0_sets_35 : decode cX0_sets 35 = .ok (.iastore, 1) := dk_79 (dk_at dksX0_sets_2 7 rfl rfl)
theorem dX0_sets_36 : decode cX0_sets 36 = .ok (.goto 35, 3) := dk_167 0 35 (dk_at dksX0_sets_2 8 rfl rfl)
theorem dX0_sets_39 : decode cX0_sets 39 = .ok (.aload_n 0, 1) := dk_42 (dk_at dksX0_sets_2 11 rfl rfl)
theorem dX0_sets_40 : decode cX0_sets 40 = .ok (.checkcast 286, 3) := dk_192 1 30 (dk_at dksX0_sets_2 12 rfl rfl)
theorem dX0_sets_43 : decode cX0_sets 43 = .ok (.iload_n 2, 1) := dk_28 (dk_at dksX0_sets_2 15 rfl rfl)
theorem dX0_sets_44 : decode cX0_sets 44 = .ok (.lload_n 3, 1) := dk_33 (dk_at dksX0_sets_2 16 rfl rfl)
theorem dX0_sets_45 : decode cX0_sets 45 = .ok (.l2i, 1) := dk_136 (dk_at dksX0_sets_2 17 rfl rfl)
theorem dX0_sets_46 : decode cX0_sets 46 = .ok (.i2b, 1) := dk_145 (dk_at dksX0_sets_2 18 rfl rfl)
theorem dX0_sets_47 : decode cX0_sets 47 = .ok (.bastore, 1) := dk_84 (dk_at dksX0_sets_2 19 rfl rfl)
theorem dX0_sets_48 : decode cX0_sets 48 = .ok (.goto 23, 3) := dk_167 0 23 (dk_at dksX0_sets_2 20 rfl rfl)
theorem dX0_sets_51 : decode cX0_sets 51 = .ok (.aload_n 0, 1) := dk_42 (dk_at dksX0_sets_2 23 rfl rfl)
theorem dX0_sets_52 : decode cX0_sets 52 = .ok (.checkcast 288, 3) := dk_192 1 32 (dk_at dksX0_sets_3 0 rfl rfl)
theorem dX0_sets_55 : decode cX0_sets 55 = .ok (.iload_n 2, 1) := dk_28 (dk_at dksX0_sets_3 3 rfl rfl)
theorem dX0_sets_56 : decode cX0_sets 56 = .ok (.lload_n 3, 1) := dk_33 (dk_at dksX0_sets_3 4 rfl rfl)
theorem dX0_sets_57 : decode cX0_sets 57 = .ok (.lastore, 1) := dk_80 (dk_at dksX0_sets_3 5 rfl rfl)
theorem dX0_sets_58 : decode cX0_sets 58 = .ok (.goto 13, 3) := dk_167 0 13 (dk_at dksX0_sets_3 6 rfl rfl)
theorem dX0_sets_61 : decode cX0_sets 61 = .ok (.aload_n 0, 1) := dk_42 (dk_at dksX0_sets_3 9 rfl rfl)
theorem dX0_sets_62 : decode cX0_sets 62 = .ok (.checkcast 289, 3) := dk_192 1 33 (dk_at dksX0_sets_3 10 rfl rfl)
theorem dX0_sets_65 : decode cX0_sets 65 = .ok (.iload_n 2, 1) := dk_28 (dk_at dksX0_sets_3 13 rfl rfl)
theorem dX0_sets_66 : decode cX0_sets 66 = .ok (.lload_n 3, 1) := dk_33 (dk_at dksX0_sets_3 14 rfl rfl)
theorem dX0_sets_67 : decode cX0_sets 67 = .ok (.invokestatic 299, 3) := dk_184 1 43 (dk_at dksX0_sets_3 15 rfl rfl)
theorem dX0_sets_70 : decode cX0_sets 70 = .ok (.dastore, 1) := dk_82 (dk_at dksX0_sets_3 18 rfl rfl)
theorem dX0_sets_71 : decode cX0_sets 71 = .ok (.return_, 1) := dk_177 (dk_at dksX0_sets_3 19 rfl rfl)
abbrev cX0_loaded : ByteArray := prog_1_method_6_code
def yX0_loaded : MethodName := ⟨RX0, "loaded", "(J)D"⟩
def dkwX0_loaded_0 : List UInt8 := [30, 20, 0, 61, 127, 20, 0, 63, 148, 158, 0, 9, 20, 0, 67, 167, 0, 7, 30, 184, 0, 69, 175]
abbrev dktX0_loaded_0 : List UInt8 := dkwX0_loaded_0 ++ []
theorem dksX0_loaded_0 : cX0_loaded.data.toList.drop 0 = dktX0_loaded_0 := by decide +kernel
theorem dX0_loaded_0 : decode cX0_loaded 0 = .ok (.lload_n 0, 1) := dk_30 (dk_at dksX0_loaded_0 0 rfl rfl)
theorem dX0_loaded_1 : decode cX0_loaded 1 = .ok (.ldc2_w 61, 3) := dk_20 0 61 (dk_at dksX0_loaded_0 1 rfl rfl)
theorem dX0_loaded_4 : decode cX0_loaded 4 = .ok (.land, 1) := dk_127 (dk_at dksX0_loaded_0 4 rfl rfl)
theorem dX0_loaded_5 : decode cX0_loaded 5 = .ok (.ldc2_w 63, 3) := dk_20 0 63 (dk_at dksX0_loaded_0 5 rfl rfl)
theorem dX0_loaded_8 : decode cX0_loaded 8 = .ok (.lcmp, 1) := dk_148 (dk_at dksX0_loaded_0 8 rfl rfl)
theorem dX0_loaded_9 : decode cX0_loaded 9 = .ok (.ifCond .le 9, 3) := dk_158 0 9 (dk_at dksX0_loaded_0 9 rfl rfl)
theorem dX0_loaded_12 : decode cX0_loaded 12 = .ok (.ldc2_w 67, 3) := dk_20 0 67 (dk_at dksX0_loaded_0 12 rfl rfl)
theorem dX0_loaded_15 : decode cX0_loaded 15 = .ok (.goto 7, 3) := dk_167 0 7 (dk_at dksX0_loaded_0 15 rfl rfl)
theorem dX0_loaded_18 : decode cX0_loaded 18 = .ok (.lload_n 0, 1) := dk_30 (dk_at dksX0_loaded_0 18 rfl rfl)
theorem dX0_loaded_19 : decode cX0_loaded 19 = .ok (.invokestatic 69, 3) := dk_184 0 69 (dk_at dksX0_loaded_0 19 rfl rfl)
theorem dX0_loaded_22 : decode cX0_loaded 22 = .ok (.dreturn, 1) := dk_175 (dk_at dksX0_loaded_0 22 rfl rfl)
abbrev cX0_takesItem : ByteArray := prog_1_method_31_code
def yX0_takesItem : MethodName := ⟨RX0, "takesItem", "(ILjava/lang/Object;II)V"⟩
def dkwX0_takesItem_4 : List UInt8 := [21, 4, 50, 181, 0, 47, 177]
abbrev dktX0_takesItem_4 : List UInt8 := dkwX0_takesItem_4 ++ []
def dkwX0_takesItem_3 : List UInt8 := [50, 44, 192, 1, 35, 21, 4, 50, 181, 0, 47, 167, 0, 19, 42, 180, 0, 15, 27, 50, 44, 192, 1, 37]
abbrev dktX0_takesItem_3 : List UInt8 := dkwX0_takesItem_3 ++ dktX0_takesItem_4
def dkwX0_takesItem_2 : List UInt8 := [42, 180, 0, 15, 27, 50, 44, 192, 1, 28, 21, 4, 50, 181, 0, 47, 167, 0, 38, 42, 180, 0, 15, 27]
abbrev dktX0_takesItem_2 : List UInt8 := dkwX0_takesItem_2 ++ dktX0_takesItem_3
def dkwX0_takesItem_1 : List UInt8 := [171, 0, 0, 0, 0, 0, 65, 0, 0, 0, 2, 0, 0, 0, 5, 0, 0, 0, 27, 0, 0, 0, 6, 0, 0, 0, 46]
abbrev dktX0_takesItem_1 : List UInt8 := dkwX0_takesItem_1 ++ dktX0_takesItem_2
def dkwX0_takesItem_0 : List UInt8 := [29]
abbrev dktX0_takesItem_0 : List UInt8 := dkwX0_takesItem_0 ++ dktX0_takesItem_1
theorem dksX0_takesItem_0 : cX0_takesItem.data.toList.drop 0 = dktX0_takesItem_0 := by decide +kernel
theorem dksX0_takesItem_1 : cX0_takesItem.data.toList.drop 1 = dktX0_takesItem_1 := dk_seg dksX0_takesItem_0 1 rfl rfl
theorem dksX0_takesItem_2 : cX0_takesItem.data.toList.drop 28 = dktX0_takesItem_2 := dk_seg dksX0_takesItem_1 27 rfl rfl
theorem dksX0_takesItem_3 : cX0_takesItem.data.toList.drop 52 = dktX0_takesItem_3 := dk_seg dksX0_takesItem_2 24 rfl rfl
theorem dksX0_takesItem_4 : cX0_takesItem.data.toList.drop 76 = dktX0_takesItem_4 := dk_seg dksX0_takesItem_3 24 rfl rfl
theorem dX0_takesItem_0 : decode cX0_takesItem 0 = .ok (.iload_n 3, 1) := dk_29 (dk_at dksX0_takesItem_0 0 rfl rfl)
theorem dX0_takesItem_1 : decode cX0_takesItem 1 = .ok (.lookupswitch 65 #[(5, 27), (6, 46)], 27) := by decide +kernel
theorem dX0_takesItem_28 : decode cX0_takesItem 28 = .ok (.aload_n 0, 1) := dk_42 (dk_at dksX0_takesItem_2 0 rfl rfl)
theorem dX0_takesItem_29 : decode cX0_takesItem 29 = .ok (.getfield 15, 3) := dk_180 0 15 (dk_at dksX0_takesItem_2 1 rfl rfl)
theorem dX0_takesItem_32 : decode cX0_takesItem 32 = .ok (.iload_n 1, 1) := dk_27 (dk_at dksX0_takesItem_2 4 rfl rfl)
theorem dX0_takesItem_33 : decode cX0_takesItem 33 = .ok (.aaload, 1) := dk_50 (dk_at dksX0_takesItem_2 5 rfl rfl)
theorem dX0_takesItem_34 : decode cX0_takesItem 34 = .ok (.aload_n 2, 1) := dk_44 (dk_at dksX0_takesItem_2 6 rfl rfl)
theorem dX0_takesItem_35 : decode cX0_takesItem 35 = .ok (.checkcast 284, 3) := dk_192 1 28 (dk_at dksX0_takesItem_2 7 rfl rfl)
theorem dX0_takesItem_38 : decode cX0_takesItem 38 = .ok (.iload 4, 2) := dk_21 4 (dk_at dksX0_takesItem_2 10 rfl rfl)
theorem dX0_takesItem_40 : decode cX0_takesItem 40 = .ok (.aaload, 1) := dk_50 (dk_at dksX0_takesItem_2 12 rfl rfl)
theorem dX0_takesItem_41 : decode cX0_takesItem 41 = .ok (.putfield 47, 3) := dk_181 0 47 (dk_at dksX0_takesItem_2 13 rfl rfl)
theorem dX0_takesItem_44 : decode cX0_takesItem 44 = .ok (.goto 38, 3) := dk_167 0 38 (dk_at dksX0_takesItem_2 16 rfl rfl)
theorem dX0_takesItem_47 : decode cX0_takesItem 47 = .ok (.aload_n 0, 1) := dk_42 (dk_at dksX0_takesItem_2 19 rfl rfl)
theorem dX0_takesItem_48 : decode cX0_takesItem 48 = .ok (.getfield 15, 3) := dk_180 0 15 (dk_at dksX0_takesItem_2 20 rfl rfl)
theorem dX0_takesItem_51 : decode cX0_takesItem 51 = .ok (.iload_n 1, 1) := dk_27 (dk_at dksX0_takesItem_2 23 rfl rfl)
theorem dX0_takesItem_52 : decode cX0_takesItem 52 = .ok (.aaload, 1) := dk_50 (dk_at dksX0_takesItem_3 0 rfl rfl)
theorem dX0_takesItem_53 : decode cX0_takesItem 53 = .ok (.aload_n 2, 1) := dk_44 (dk_at dksX0_takesItem_3 1 rfl rfl)
theorem dX0_takesItem_54 : decode cX0_takesItem 54 = .ok (.checkcast 291, 3) := dk_192 1 35 (dk_at dksX0_takesItem_3 2 rfl rfl)
theorem dX0_takesItem_57 : decode cX0_takesItem 57 = .ok (.iload 4, 2) := dk_21 4 (dk_at dksX0_takesItem_3 5 rfl rfl)
theorem dX0_takesItem_59 : decode cX0_takesItem 59 = .ok (.aaload, 1) := dk_50 (dk_at dksX0_takesItem_3 7 rfl rfl)
theorem dX0_takesItem_60 : decode cX0_takesItem 60 = .ok (.putfield 47, 3) := dk_181 0 47 (dk_at dksX0_takesItem_3 8 rfl rfl)
theorem dX0_takesItem_63 : decode cX0_takesItem 63 = .ok (.goto 19, 3) := dk_167 0 19 (dk_at dksX0_takesItem_3 11 rfl rfl)
theorem dX0_takesItem_66 : decode cX0_takesItem 66 = .ok (.aload_n 0, 1) := dk_42 (dk_at dksX0_takesItem_3 14 rfl rfl)
theorem dX0_takesItem_67 : decode cX0_takesItem 67 = .ok (.getfield 15, 3) := dk_180 0 15 (dk_at dksX0_takesItem_3 15 rfl rfl)
theorem dX0_takesItem_70 : decode cX0_takesItem 70 = .ok (.iload_n 1, 1) := dk_27 (dk_at dksX0_takesItem_3 18 rfl rfl)
theorem dX0_takesItem_71 : decode cX0_takesItem 71 = .ok (.aaload, 1) := dk_50 (dk_at dksX0_takesItem_3 19 rfl rfl)
theorem dX0_takesItem_72 : decode cX0_takesItem 72 = .ok (.aload_n 2, 1) := dk_44 (dk_at dksX0_takesItem_3 20 rfl rfl)
theorem dX0_takesItem_73 : decode cX0_takesItem 73 = .ok (.checkcast 293, 3) := dk_192 1 37 (dk_at dksX0_takesItem_3 21 rfl rfl)
theorem dX0_takesItem_76 : decode cX0_takesItem 76 = .ok (.iload 4, 2) := dk_21 4 (dk_at dksX0_takesItem_4 0 rfl rfl)
theorem dX0_takesItem_78 : decode cX0_takesItem 78 = .ok (.aaload, 1) := dk_50 (dk_at dksX0_takesItem_4 2 rfl rfl)
theorem dX0_takesItem_79 : decode cX0_takesItem 79 = .ok (.putfield 47, 3) := dk_181 0 47 (dk_at dksX0_takesItem_4 3 rfl rfl)
theorem dX0_takesItem_82 : decode cX0_takesItem 82 = .ok (.return_, 1) := dk_177 (dk_at dksX0_takesItem_4 6 rfl rfl)
abbrev cX0_lays : ByteArray := prog_1_method_32_code
def yX0_lays : MethodName := ⟨RX0, "lays", "(Ljava/lang/Object;IILjava/lang/Object;)V"⟩
def dkwX0_lays_4 : List UInt8 := [58, 8, 45, 192, 0, 244, 58, 9, 25, 8, 28, 25, 9, 83, 177]
abbrev dktX0_lays_4 : List UInt8 := dkwX0_lays_4 ++ []
def dkwX0_lays_3 : List UInt8 := [192, 1, 35, 58, 6, 45, 192, 0, 239, 58, 7, 25, 6, 28, 25, 7, 83, 167, 0, 21, 42, 192, 1, 37]
abbrev dktX0_lays_3 : List UInt8 := dkwX0_lays_3 ++ dktX0_lays_4
def dkwX0_lays_2 : List UInt8 := [42, 192, 1, 28, 58, 4, 45, 192, 0, 234, 58, 5, 25, 4, 28, 25, 5, 83, 167, 0, 42, 42]
abbrev dktX0_lays_2 : List UInt8 := dkwX0_lays_2 ++ dktX0_lays_3
def dkwX0_lays_1 : List UInt8 := [171, 0, 0, 0, 0, 0, 69, 0, 0, 0, 2, 0, 0, 0, 5, 0, 0, 0, 27, 0, 0, 0, 6, 0, 0, 0, 48]
abbrev dktX0_lays_1 : List UInt8 := dkwX0_lays_1 ++ dktX0_lays_2
def dkwX0_lays_0 : List UInt8 := [27]
abbrev dktX0_lays_0 : List UInt8 := dkwX0_lays_0 ++ dktX0_lays_1
theorem dksX0_lays_0 : cX0_lays.data.toList.drop 0 = dktX0_lays_0 := by decide +kernel
theorem dksX0_lays_1 : cX0_lays.data.toList.drop 1 = dktX0_lays_1 := dk_seg dksX0_lays_0 1 rfl rfl
theorem dksX0_lays_2 : cX0_lays.data.toList.drop 28 = dktX0_lays_2 := dk_seg dksX0_lays_1 27 rfl rfl
theorem dksX0_lays_3 : cX0_lays.data.toList.drop 50 = dktX0_lays_3 := dk_seg dksX0_lays_2 22 rfl rfl
theorem dksX0_lays_4 : cX0_lays.data.toList.drop 74 = dktX0_lays_4 := dk_seg dksX0_lays_3 24 rfl rfl
theorem dX0_lays_0 : decode cX0_lays 0 = .ok (.iload_n 1, 1) := dk_27 (dk_at dksX0_lays_0 0 rfl rfl)
theorem dX0_lays_1 : decode cX0_lays 1 = .ok (.lookupswitch 69 #[(5, 27), (6, 48)], 27) := by decide +kernel
theorem dX0_lays_28 : decode cX0_lays 28 = .ok (.aload_n 0, 1) := dk_42 (dk_at dksX0_lays_2 0 rfl rfl)
theorem dX0_lays_29 : decode cX0_lays 29 = .ok (.checkcast 284, 3) := dk_192 1 28 (dk_at dksX0_lays_2 1 rfl rfl)
theorem dX0_lays_32 : decode cX0_lays 32 = .ok (.astore 4, 2) := dk_58 4 (dk_at dksX0_lays_2 4 rfl rfl)
theorem dX0_lays_34 : decode cX0_lays 34 = .ok (.aload_n 3, 1) := dk_45 (dk_at dksX0_lays_2 6 rfl rfl)
theorem dX0_lays_35 : decode cX0_lays 35 = .ok (.checkcast 234, 3) := dk_192 0 234 (dk_at dksX0_lays_2 7 rfl rfl)
theorem dX0_lays_38 : decode cX0_lays 38 = .ok (.astore 5, 2) := dk_58 5 (dk_at dksX0_lays_2 10 rfl rfl)
theorem dX0_lays_40 : decode cX0_lays 40 = .ok (.aload 4, 2) := dk_25 4 (dk_at dksX0_lays_2 12 rfl rfl)
theorem dX0_lays_42 : decode cX0_lays 42 = .ok (.iload_n 2, 1) := dk_28 (dk_at dksX0_lays_2 14 rfl rfl)
theorem dX0_lays_43 : decode cX0_lays 43 = .ok (.aload 5, 2) := dk_25 5 (dk_at dksX0_lays_2 15 rfl rfl)
theorem dX0_lays_45 : decode cX0_lays 45 = .ok (.aastore, 1) := dk_83 (dk_at dksX0_lays_2 17 rfl rfl)
theorem dX0_lays_46 : decode cX0_lays 46 = .ok (.goto 42, 3) := dk_167 0 42 (dk_at dksX0_lays_2 18 rfl rfl)
theorem dX0_lays_49 : decode cX0_lays 49 = .ok (.aload_n 0, 1) := dk_42 (dk_at dksX0_lays_2 21 rfl rfl)
theorem dX0_lays_50 : decode cX0_lays 50 = .ok (.checkcast 291, 3) := dk_192 1 35 (dk_at dksX0_lays_3 0 rfl rfl)
theorem dX0_lays_53 : decode cX0_lays 53 = .ok (.astore 6, 2) := dk_58 6 (dk_at dksX0_lays_3 3 rfl rfl)
theorem dX0_lays_55 : decode cX0_lays 55 = .ok (.aload_n 3, 1) := dk_45 (dk_at dksX0_lays_3 5 rfl rfl)
theorem dX0_lays_56 : decode cX0_lays 56 = .ok (.checkcast 239, 3) := dk_192 0 239 (dk_at dksX0_lays_3 6 rfl rfl)
theorem dX0_lays_59 : decode cX0_lays 59 = .ok (.astore 7, 2) := dk_58 7 (dk_at dksX0_lays_3 9 rfl rfl)
theorem dX0_lays_61 : decode cX0_lays 61 = .ok (.aload 6, 2) := dk_25 6 (dk_at dksX0_lays_3 11 rfl rfl)
theorem dX0_lays_63 : decode cX0_lays 63 = .ok (.iload_n 2, 1) := dk_28 (dk_at dksX0_lays_3 13 rfl rfl)
theorem dX0_lays_64 : decode cX0_lays 64 = .ok (.aload 7, 2) := dk_25 7 (dk_at dksX0_lays_3 14 rfl rfl)
theorem dX0_lays_66 : decode cX0_lays 66 = .ok (.aastore, 1) := dk_83 (dk_at dksX0_lays_3 16 rfl rfl)
theorem dX0_lays_67 : decode cX0_lays 67 = .ok (.goto 21, 3) := dk_167 0 21 (dk_at dksX0_lays_3 17 rfl rfl)
theorem dX0_lays_70 : decode cX0_lays 70 = .ok (.aload_n 0, 1) := dk_42 (dk_at dksX0_lays_3 20 rfl rfl)
theorem dX0_lays_71 : decode cX0_lays 71 = .ok (.checkcast 293, 3) := dk_192 1 37 (dk_at dksX0_lays_3 21 rfl rfl)
theorem dX0_lays_74 : decode cX0_lays 74 = .ok (.astore 8, 2) := dk_58 8 (dk_at dksX0_lays_4 0 rfl rfl)
theorem dX0_lays_76 : decode cX0_lays 76 = .ok (.aload_n 3, 1) := dk_45 (dk_at dksX0_lays_4 2 rfl rfl)
theorem dX0_lays_77 : decode cX0_lays 77 = .ok (.checkcast 244, 3) := dk_192 0 244 (dk_at dksX0_lays_4 3 rfl rfl)
theorem dX0_lays_80 : decode cX0_lays 80 = .ok (.astore 9, 2) := dk_58 9 (dk_at dksX0_lays_4 6 rfl rfl)
theorem dX0_lays_82 : decode cX0_lays 82 = .ok (.aload 8, 2) := dk_25 8 (dk_at dksX0_lays_4 8 rfl rfl)
theorem dX0_lays_84 : decode cX0_lays 84 = .ok (.iload_n 2, 1) := dk_28 (dk_at dksX0_lays_4 10 rfl rfl)
theorem dX0_lays_85 : decode cX0_lays 85 = .ok (.aload 9, 2) := dk_25 9 (dk_at dksX0_lays_4 11 rfl rfl)
theorem dX0_lays_87 : decode cX0_lays 87 = .ok (.aastore, 1) := dk_83 (dk_at dksX0_lays_4 13 rfl rfl)
theorem dX0_lays_88 : decode cX0_lays 88 = .ok (.return_, 1) := dk_177 (dk_at dksX0_lays_4 14 rfl rfl)
abbrev cX0_lengthOf : ByteArray := prog_1_method_33_code
def yX0_lengthOf : MethodName := ⟨RX0, "lengthOf", "(Ljava/lang/Object;I)I"⟩
def dkwX0_lengthOf_3 : List UInt8 := [42, 192, 1, 28, 190, 172, 42, 192, 1, 35, 190, 172, 42, 192, 1, 37, 190, 172]
abbrev dktX0_lengthOf_3 : List UInt8 := dkwX0_lengthOf_3 ++ []
def dkwX0_lengthOf_2 : List UInt8 := [42, 192, 0, 234, 190, 172, 42, 192, 1, 30, 190, 172, 42, 192, 1, 32, 190, 172, 42, 192, 1, 33, 190, 172]
abbrev dktX0_lengthOf_2 : List UInt8 := dkwX0_lengthOf_2 ++ dktX0_lengthOf_3
def dkwX0_lengthOf_1 : List UInt8 := [170, 0, 0, 0, 0, 0, 75, 0, 0, 0, 1, 0, 0, 0, 6, 0, 0, 0, 39, 0, 0, 0, 45, 0, 0, 0, 51, 0, 0, 0, 57, 0, 0, 0, 63, 0, 0, 0, 69]
abbrev dktX0_lengthOf_1 : List UInt8 := dkwX0_lengthOf_1 ++ dktX0_lengthOf_2
def dkwX0_lengthOf_0 : List UInt8 := [27]
abbrev dktX0_lengthOf_0 : List UInt8 := dkwX0_lengthOf_0 ++ dktX0_lengthOf_1
theorem dksX0_lengthOf_0 : cX0_lengthOf.data.toList.drop 0 = dktX0_lengthOf_0 := by decide +kernel
theorem dksX0_lengthOf_1 : cX0_lengthOf.data.toList.drop 1 = dktX0_lengthOf_1 := dk_seg dksX0_lengthOf_0 1 rfl rfl
theorem dksX0_lengthOf_2 : cX0_lengthOf.data.toList.drop 40 = dktX0_lengthOf_2 := dk_seg dksX0_lengthOf_1 39 rfl rfl
theorem dksX0_lengthOf_3 : cX0_lengthOf.data.toList.drop 64 = dktX0_lengthOf_3 := dk_seg dksX0_lengthOf_2 24 rfl rfl
theorem dX0_lengthOf_0 : decode cX0_lengthOf 0 = .ok (.iload_n 1, 1) := dk_27 (dk_at dksX0_lengthOf_0 0 rfl rfl)
theorem dX0_lengthOf_1 : decode cX0_lengthOf 1 = .ok (.tableswitch 75 1 6 #[39, 45, 51, 57, 63, 69], 39) := by decide +kernel
theorem dX0_lengthOf_40 : decode cX0_lengthOf 40 = .ok (.aload_n 0, 1) := dk_42 (dk_at dksX0_lengthOf_2 0 rfl rfl)
theorem dX0_lengthOf_41 : decode cX0_lengthOf 41 = .ok (.checkcast 234, 3) := dk_192 0 234 (dk_at dksX0_lengthOf_2 1 rfl rfl)
theorem dX0_lengthOf_44 : decode cX0_lengthOf 44 = .ok (.arraylength, 1) := dk_190 (dk_at dksX0_lengthOf_2 4 rfl rfl)
theorem dX0_lengthOf_45 : decode cX0_lengthOf 45 = .ok (.ireturn, 1) := dk_172 (dk_at dksX0_lengthOf_2 5 rfl rfl)
theorem dX0_lengthOf_46 : decode cX0_lengthOf 46 = .ok (.aload_n 0, 1) := dk_42 (dk_at dksX0_lengthOf_2 6 rfl rfl)
theorem dX0_lengthOf_47 : decode cX0_lengthOf 47 = .ok (.checkcast 286, 3) := dk_192 1 30 (dk_at dksX0_lengthOf_2 7 rfl rfl)
theorem dX0_lengthOf_50 : decode cX0_lengthOf 50 = .ok (.arraylength, 1) := dk_190 (dk_at dksX0_lengthOf_2 10 rfl rfl)
theorem dX0_lengthOf_51 : decode cX0_lengthOf 51 = .ok (.ireturn, 1) := dk_172 (dk_at dksX0_lengthOf_2 11 rfl rfl)
theorem dX0_lengthOf_52 : decode cX0_lengthOf 52 = .ok (.aload_n 0, 1) := dk_42 (dk_at dksX0_lengthOf_2 12 rfl rfl)
theorem dX0_lengthOf_53 : decode cX0_lengthOf 53 = .ok (.checkcast 288, 3) := dk_192 1 32 (dk_at dksX0_lengthOf_2 13 rfl rfl)
theorem dX0_lengthOf_56 : decode cX0_lengthOf 56 = .ok (.arraylength, 1) := dk_190 (dk_at dksX0_lengthOf_2 16 rfl rfl)
theorem dX0_lengthOf_57 : decode cX0_lengthOf 57 = .ok (.ireturn, 1) := dk_172 (dk_at dksX0_lengthOf_2 17 rfl rfl)
theorem dX0_lengthOf_58 : decode cX0_lengthOf 58 = .ok (.aload_n 0, 1) := dk_42 (dk_at dksX0_lengthOf_2 18 rfl rfl)
theorem dX0_lengthOf_59 : decode cX0_lengthOf 59 = .ok (.checkcast 289, 3) := dk_192 1 33 (dk_at dksX0_lengthOf_2 19 rfl rfl)
theorem dX0_lengthOf_62 : decode cX0_lengthOf 62 = .ok (.arraylength, 1) := dk_190 (dk_at dksX0_lengthOf_2 22 rfl rfl)
theorem dX0_lengthOf_63 : decode cX0_lengthOf 63 = .ok (.ireturn, 1) := dk_172 (dk_at dksX0_lengthOf_2 23 rfl rfl)
theorem dX0_lengthOf_64 : decode cX0_lengthOf 64 = .ok (.aload_n 0, 1) := dk_42 (dk_at dksX0_lengthOf_3 0 rfl rfl)
theorem dX0_lengthOf_65 : decode cX0_lengthOf 65 = .ok (.checkcast 284, 3) := dk_192 1 28 (dk_at dksX0_lengthOf_3 1 rfl rfl)
theorem dX0_lengthOf_68 : decode cX0_lengthOf 68 = .ok (.arraylength, 1) := dk_190 (dk_at dksX0_lengthOf_3 4 rfl rfl)
theorem dX0_lengthOf_69 : decode cX0_lengthOf 69 = .ok (.ireturn, 1) := dk_172 (dk_at dksX0_lengthOf_3 5 rfl rfl)
theorem dX0_lengthOf_70 : decode cX0_lengthOf 70 = .ok (.aload_n 0, 1) := dk_42 (dk_at dksX0_lengthOf_3 6 rfl rfl)
theorem dX0_lengthOf_71 : decode cX0_lengthOf 71 = .ok (.checkcast 291, 3) := dk_192 1 35 (dk_at dksX0_lengthOf_3 7 rfl rfl)
theorem dX0_lengthOf_74 : decode cX0_lengthOf 74 = .ok (.arraylength, 1) := dk_190 (dk_at dksX0_lengthOf_3 10 rfl rfl)
theorem dX0_lengthOf_75 : decode cX0_lengthOf 75 = .ok (.ireturn, 1) := dk_172 (dk_at dksX0_lengthOf_3 11 rfl rfl)
theorem dX0_lengthOf_76 : decode cX0_lengthOf 76 = .ok (.aload_n 0, 1) := dk_42 (dk_at dksX0_lengthOf_3 12 rfl rfl)
theorem dX0_lengthOf_77 : decode cX0_lengthOf 77 = .ok (.checkcast 293, 3) := dk_192 1 37 (dk_at dksX0_lengthOf_3 13 rfl rfl)
theorem dX0_lengthOf_80 : decode cX0_lengthOf 80 = .ok (.arraylength, 1) := dk_190 (dk_at dksX0_lengthOf_3 16 rfl rfl)
theorem dX0_lengthOf_81 : decode cX0_lengthOf 81 = .ok (.ireturn, 1) := dk_172 (dk_at dksX0_lengthOf_3 17 rfl rfl)
abbrev cX0_copies : ByteArray := prog_1_method_34_code
def yX0_copies : MethodName := ⟨RX0, "copies", "(LThrowReports$Holder;ILThrowReports$Holder;II)V"⟩
def dkwX0_copies_3 : List UInt8 := [28, 45, 21, 4, 21, 5, 184, 1, 52, 96, 181, 0, 135, 25, 7, 191, 177]
abbrev dktX0_copies_3 : List UInt8 := dkwX0_copies_3 ++ []
def dkwX0_copies_2 : List UInt8 := [181, 0, 135, 167, 0, 37, 58, 7, 42, 89, 180, 0, 135, 21, 6, 153, 0, 8, 21, 5, 167, 0, 13, 43]
abbrev dktX0_copies_2 : List UInt8 := dkwX0_copies_2 ++ dktX0_copies_3
def dkwX0_copies_1 : List UInt8 := [180, 0, 135, 21, 6, 153, 0, 8, 21, 5, 167, 0, 13, 43, 28, 45, 21, 4, 21, 5, 184, 1, 52, 96]
abbrev dktX0_copies_1 : List UInt8 := dkwX0_copies_1 ++ dktX0_copies_2
def dkwX0_copies_0 : List UInt8 := [3, 54, 6, 43, 180, 0, 47, 28, 45, 180, 0, 47, 21, 4, 21, 5, 184, 1, 46, 4, 54, 6, 42, 89]
abbrev dktX0_copies_0 : List UInt8 := dkwX0_copies_0 ++ dktX0_copies_1
theorem dksX0_copies_0 : cX0_copies.data.toList.drop 0 = dktX0_copies_0 := by decide +kernel
theorem dksX0_copies_1 : cX0_copies.data.toList.drop 24 = dktX0_copies_1 := dk_seg dksX0_copies_0 24 rfl rfl
theorem dksX0_copies_2 : cX0_copies.data.toList.drop 48 = dktX0_copies_2 := dk_seg dksX0_copies_1 24 rfl rfl
theorem dksX0_copies_3 : cX0_copies.data.toList.drop 72 = dktX0_copies_3 := dk_seg dksX0_copies_2 24 rfl rfl
theorem dX0_copies_0 : decode cX0_copies 0 = .ok (.iconst 0, 1) := dk_3 (dk_at dksX0_copies_0 0 rfl rfl)
theorem dX0_copies_1 : decode cX0_copies 1 = .ok (.istore 6, 2) := dk_54 6 (dk_at dksX0_copies_0 1 rfl rfl)
theorem dX0_copies_3 : decode cX0_copies 3 = .ok (.aload_n 1, 1) := dk_43 (dk_at dksX0_copies_0 3 rfl rfl)
theorem dX0_copies_4 : decode cX0_copies 4 = .ok (.getfield 47, 3) := dk_180 0 47 (dk_at dksX0_copies_0 4 rfl rfl)
theorem dX0_copies_7 : decode cX0_copies 7 = .ok (.iload_n 2, 1) := dk_28 (dk_at dksX0_copies_0 7 rfl rfl)
theorem dX0_copies_8 : decode cX0_copies 8 = .ok (.aload_n 3, 1) := dk_45 (dk_at dksX0_copies_0 8 rfl rfl)
theorem dX0_copies_9 : decode cX0_copies 9 = .ok (.getfield 47, 3) := dk_180 0 47 (dk_at dksX0_copies_0 9 rfl rfl)
theorem dX0_copies_12 : decode cX0_copies 12 = .ok (.iload 4, 2) := dk_21 4 (dk_at dksX0_copies_0 12 rfl rfl)
theorem dX0_copies_14 : decode cX0_copies 14 = .ok (.iload 5, 2) := dk_21 5 (dk_at dksX0_copies_0 14 rfl rfl)
theorem dX0_copies_16 : decode cX0_copies 16 = .ok (.invokestatic 302, 3) := dk_184 1 46 (dk_at dksX0_copies_0 16 rfl rfl)
theorem dX0_copies_19 : decode cX0_copies 19 = .ok (.iconst 1, 1) := dk_4 (dk_at dksX0_copies_0 19 rfl rfl)
theorem dX0_copies_20 : decode cX0_copies 20 = .ok (.istore 6, 2) := dk_54 6 (dk_at dksX0_copies_0 20 rfl rfl)
theorem dX0_copies_22 : decode cX0_copies 22 = .ok (.aload_n 0, 1) := dk_42 (dk_at dksX0_copies_0 22 rfl rfl)
theorem dX0_copies_23 : decode cX0_copies 23 = .ok (.dup, 1) := dk_89 (dk_at dksX0_copies_0 23 rfl rfl)
theorem dX0_copies_24 : decode cX0_copies 24 = .ok (.getfield 135, 3) := dk_180 0 135 (dk_at dksX0_copies_1 0 rfl rfl)
theorem dX0_copies_27 : decode cX0_copies 27 = .ok (.iload 6, 2) := dk_21 6 (dk_at dksX0_copies_1 3 rfl rfl)
theorem dX0_copies_29 : decode cX0_copies 29 = .ok (.ifCond .eq 8, 3) := dk_153 0 8 (dk_at dksX0_copies_1 5 rfl rfl)
theorem dX0_copies_32 : decode cX0_copies 32 = .ok (.iload 5, 2) := dk_21 5 (dk_at dksX0_copies_1 8 rfl rfl)
theorem dX0_copies_34 : decode cX0_copies 34 = .ok (.goto 13, 3) := dk_167 0 13 (dk_at dksX0_copies_1 10 rfl rfl)
theorem dX0_copies_37 : decode cX0_copies 37 = .ok (.aload_n 1, 1) := dk_43 (dk_at dksX0_copies_1 13 rfl rfl)
theorem dX0_copies_38 : decode cX0_copies 38 = .ok (.iload_n 2, 1) := dk_28 (dk_at dksX0_copies_1 14 rfl rfl)
theorem dX0_copies_39 : decode cX0_copies 39 = .ok (.aload_n 3, 1) := dk_45 (dk_at dksX0_copies_1 15 rfl rfl)
theorem dX0_copies_40 : decode cX0_copies 40 = .ok (.iload 4, 2) := dk_21 4 (dk_at dksX0_copies_1 16 rfl rfl)
theorem dX0_copies_42 : decode cX0_copies 42 = .ok (.iload 5, 2) := dk_21 5 (dk_at dksX0_copies_1 18 rfl rfl)
theorem dX0_copies_44 : decode cX0_copies 44 = .ok (.invokestatic 308, 3) := dk_184 1 52 (dk_at dksX0_copies_1 20 rfl rfl)
theorem dX0_copies_47 : decode cX0_copies 47 = .ok (.iadd, 1) := dk_96 (dk_at dksX0_copies_1 23 rfl rfl)
theorem dX0_copies_48 : decode cX0_copies 48 = .ok (.putfield 135, 3) := dk_181 0 135 (dk_at dksX0_copies_2 0 rfl rfl)
theorem dX0_copies_51 : decode cX0_copies 51 = .ok (.goto 37, 3) := dk_167 0 37 (dk_at dksX0_copies_2 3 rfl rfl)
theorem dX0_copies_54 : decode cX0_copies 54 = .ok (.astore 7, 2) := dk_58 7 (dk_at dksX0_copies_2 6 rfl rfl)
theorem dX0_copies_56 : decode cX0_copies 56 = .ok (.aload_n 0, 1) := dk_42 (dk_at dksX0_copies_2 8 rfl rfl)
theorem dX0_copies_57 : decode cX0_copies 57 = .ok (.dup, 1) := dk_89 (dk_at dksX0_copies_2 9 rfl rfl)
theorem dX0_copies_58 : decode cX0_copies 58 = .ok (.getfield 135, 3) := dk_180 0 135 (dk_at dksX0_copies_2 10 rfl rfl)
theorem dX0_copies_61 : decode cX0_copies 61 = .ok (.iload 6, 2) := dk_21 6 (dk_at dksX0_copies_2 13 rfl rfl)
theorem dX0_copies_63 : decode cX0_copies 63 = .ok (.ifCond .eq 8, 3) := dk_153 0 8 (dk_at dksX0_copies_2 15 rfl rfl)
theorem dX0_copies_66 : decode cX0_copies 66 = .ok (.iload 5, 2) := dk_21 5 (dk_at dksX0_copies_2 18 rfl rfl)
theorem dX0_copies_68 : decode cX0_copies 68 = .ok (.goto 13, 3) := dk_167 0 13 (dk_at dksX0_copies_2 20 rfl rfl)
theorem dX0_copies_71 : decode cX0_copies 71 = .ok (.aload_n 1, 1) := dk_43 (dk_at dksX0_copies_2 23 rfl rfl)
theorem dX0_copies_72 : decode cX0_copies 72 = .ok (.iload_n 2, 1) := dk_28 (dk_at dksX0_copies_3 0 rfl rfl)
theorem dX0_copies_73 : decode cX0_copies 73 = .ok (.aload_n 3, 1) := dk_45 (dk_at dksX0_copies_3 1 rfl rfl)
theorem dX0_copies_74 : decode cX0_copies 74 = .ok (.iload 4, 2) := dk_21 4 (dk_at dksX0_copies_3 2 rfl rfl)
theorem dX0_copies_76 : decode cX0_copies 76 = .ok (.iload 5, 2) := dk_21 5 (dk_at dksX0_copies_3 4 rfl rfl)
theorem dX0_copies_78 : decode cX0_copies 78 = .ok (.invokestatic 308, 3) := dk_184 1 52 (dk_at dksX0_copies_3 6 rfl rfl)
theorem dX0_copies_81 : decode cX0_copies 81 = .ok (.iadd, 1) := dk_96 (dk_at dksX0_copies_3 9 rfl rfl)
theorem dX0_copies_82 : decode cX0_copies 82 = .ok (.putfield 135, 3) := dk_181 0 135 (dk_at dksX0_copies_3 10 rfl rfl)
theorem dX0_copies_85 : decode cX0_copies 85 = .ok (.aload 7, 2) := dk_25 7 (dk_at dksX0_copies_3 13 rfl rfl)
theorem dX0_copies_87 : decode cX0_copies 87 = .ok (.athrow, 1) := dk_191 (dk_at dksX0_copies_3 15 rfl rfl)
theorem dX0_copies_88 : decode cX0_copies 88 = .ok (.return_, 1) := dk_177 (dk_at dksX0_copies_3 16 rfl rfl)
abbrev cX0_cameOf : ByteArray := prog_1_method_35_code
def yX0_cameOf : MethodName := ⟨RX0, "cameOf", "(LThrowReports$Holder;ILThrowReports$Holder;II)I"⟩
def dkwX0_cameOf_5 : List UInt8 := [21, 6, 172]
abbrev dktX0_cameOf_5 : List UInt8 := dkwX0_cameOf_5 ++ []
def dkwX0_cameOf_4 : List UInt8 := [162, 0, 24, 44, 182, 0, 175, 42, 27, 21, 6, 96, 184, 1, 66, 153, 0, 9, 132, 6, 1, 167, 255, 231]
abbrev dktX0_cameOf_4 : List UInt8 := dkwX0_cameOf_4 ++ dktX0_cameOf_5
def dkwX0_cameOf_3 : List UInt8 := [133, 21, 4, 133, 97, 44, 182, 1, 63, 133, 148, 158, 0, 5, 3, 172, 3, 54, 6, 21, 6, 21, 4]
abbrev dktX0_cameOf_3 : List UInt8 := dkwX0_cameOf_3 ++ dktX0_cameOf_4
def dkwX0_cameOf_2 : List UInt8 := [155, 0, 38, 21, 4, 155, 0, 33, 27, 133, 21, 4, 133, 97, 42, 182, 1, 63, 133, 148, 157, 0, 18, 29]
abbrev dktX0_cameOf_2 : List UInt8 := dkwX0_cameOf_2 ++ dktX0_cameOf_3
def dkwX0_cameOf_1 : List UInt8 := [184, 1, 60, 153, 0, 7, 4, 167, 0, 4, 3, 54, 5, 21, 5, 153, 0, 46, 27, 155, 0, 42, 29]
abbrev dktX0_cameOf_1 : List UInt8 := dkwX0_cameOf_1 ++ dktX0_cameOf_2
def dkwX0_cameOf_0 : List UInt8 := [42, 182, 1, 56, 153, 0, 28, 44, 182, 1, 56, 153, 0, 21, 42, 182, 0, 175, 44, 182, 0, 175]
abbrev dktX0_cameOf_0 : List UInt8 := dkwX0_cameOf_0 ++ dktX0_cameOf_1
theorem dksX0_cameOf_0 : cX0_cameOf.data.toList.drop 0 = dktX0_cameOf_0 := by decide +kernel
theorem dksX0_cameOf_1 : cX0_cameOf.data.toList.drop 22 = dktX0_cameOf_1 := dk_seg dksX0_cameOf_0 22 rfl rfl
theorem dksX0_cameOf_2 : cX0_cameOf.data.toList.drop 45 = dktX0_cameOf_2 := dk_seg dksX0_cameOf_1 23 rfl rfl
theorem dksX0_cameOf_3 : cX0_cameOf.data.toList.drop 69 = dktX0_cameOf_3 := dk_seg dksX0_cameOf_2 24 rfl rfl
theorem dksX0_cameOf_4 : cX0_cameOf.data.toList.drop 92 = dktX0_cameOf_4 := dk_seg dksX0_cameOf_3 23 rfl rfl
theorem dksX0_cameOf_5 : cX0_cameOf.data.toList.drop 116 = dktX0_cameOf_5 := dk_seg dksX0_cameOf_4 24 rfl rfl
theorem dX0_cameOf_0 : decode cX0_cameOf 0 = .ok (.aload_n 0, 1) := dk_42 (dk_at dksX0_cameOf_0 0 rfl rfl)
theorem dX0_cameOf_1 : decode cX0_cameOf 1 = .ok (.invokevirtual 312, 3) := dk_182 1 56 (dk_at dksX0_cameOf_0 1 rfl rfl)
theorem dX0_cameOf_4 : decode cX0_cameOf 4 = .ok (.ifCond .eq 28, 3) := dk_153 0 28 (dk_at dksX0_cameOf_0 4 rfl rfl)
theorem dX0_cameOf_7 : decode cX0_cameOf 7 = .ok (.aload_n 2, 1) := dk_44 (dk_at dksX0_cameOf_0 7 rfl rfl)
theorem dX0_cameOf_8 : decode cX0_cameOf 8 = .ok (.invokevirtual 312, 3) := dk_182 1 56 (dk_at dksX0_cameOf_0 8 rfl rfl)
theorem dX0_cameOf_11 : decode cX0_cameOf 11 = .ok (.ifCond .eq 21, 3) := dk_153 0 21 (dk_at dksX0_cameOf_0 11 rfl rfl)
theorem dX0_cameOf_14 : decode cX0_cameOf 14 = .ok (.aload_n 0, 1) := dk_42 (dk_at dksX0_cameOf_0 14 rfl rfl)
theorem dX0_cameOf_15 : decode cX0_cameOf 15 = .ok (.invokevirtual 175, 3) := dk_182 0 175 (dk_at dksX0_cameOf_0 15 rfl rfl)
theorem dX0_cameOf_18 : decode cX0_cameOf 18 = .ok (.aload_n 2, 1) := dk_44 (dk_at dksX0_cameOf_0 18 rfl rfl)
theorem dX0_cameOf_19 : decode cX0_cameOf 19 = .ok (.invokevirtual 175, 3) := dk_182 0 175 (dk_at dksX0_cameOf_0 19 rfl rfl)
theorem dX0_cameOf_22 : decode cX0_cameOf 22 = .ok (.invokestatic 316, 3) := dk_184 1 60 (dk_at dksX0_cameOf_1 0 rfl rfl)
theorem dX0_cameOf_25 : decode cX0_cameOf 25 = .ok (.ifCond .eq 7, 3) := dk_153 0 7 (dk_at dksX0_cameOf_1 3 rfl rfl)
theorem dX0_cameOf_28 : decode cX0_cameOf 28 = .ok (.iconst 1, 1) := dk_4 (dk_at dksX0_cameOf_1 6 rfl rfl)
theorem dX0_cameOf_29 : decode cX0_cameOf 29 = .ok (.goto 4, 3) := dk_167 0 4 (dk_at dksX0_cameOf_1 7 rfl rfl)
theorem dX0_cameOf_32 : decode cX0_cameOf 32 = .ok (.iconst 0, 1) := dk_3 (dk_at dksX0_cameOf_1 10 rfl rfl)
theorem dX0_cameOf_33 : decode cX0_cameOf 33 = .ok (.istore 5, 2) := dk_54 5 (dk_at dksX0_cameOf_1 11 rfl rfl)
theorem dX0_cameOf_35 : decode cX0_cameOf 35 = .ok (.iload 5, 2) := dk_21 5 (dk_at dksX0_cameOf_1 13 rfl rfl)
theorem dX0_cameOf_37 : decode cX0_cameOf 37 = .ok (.ifCond .eq 46, 3) := dk_153 0 46 (dk_at dksX0_cameOf_1 15 rfl rfl)
theorem dX0_cameOf_40 : decode cX0_cameOf 40 = .ok (.iload_n 1, 1) := dk_27 (dk_at dksX0_cameOf_1 18 rfl rfl)
theorem dX0_cameOf_41 : decode cX0_cameOf 41 = .ok (.ifCond .lt 42, 3) := dk_155 0 42 (dk_at dksX0_cameOf_1 19 rfl rfl)
theorem dX0_cameOf_44 : decode cX0_cameOf 44 = .ok (.iload_n 3, 1) := dk_29 (dk_at dksX0_cameOf_1 22 rfl rfl)
theorem dX0_cameOf_45 : decode cX0_cameOf 45 = .ok (.ifCond .lt 38, 3) := dk_155 0 38 (dk_at dksX0_cameOf_2 0 rfl rfl)
theorem dX0_cameOf_48 : decode cX0_cameOf 48 = .ok (.iload 4, 2) := dk_21 4 (dk_at dksX0_cameOf_2 3 rfl rfl)
theorem dX0_cameOf_50 : decode cX0_cameOf 50 = .ok (.ifCond .lt 33, 3) := dk_155 0 33 (dk_at dksX0_cameOf_2 5 rfl rfl)
theorem dX0_cameOf_53 : decode cX0_cameOf 53 = .ok (.iload_n 1, 1) := dk_27 (dk_at dksX0_cameOf_2 8 rfl rfl)
theorem dX0_cameOf_54 : decode cX0_cameOf 54 = .ok (.i2l, 1) := dk_133 (dk_at dksX0_cameOf_2 9 rfl rfl)
theorem dX0_cameOf_55 : decode cX0_cameOf 55 = .ok (.iload 4, 2) := dk_21 4 (dk_at dksX0_cameOf_2 10 rfl rfl)
theorem dX0_cameOf_57 : decode cX0_cameOf 57 = .ok (.i2l, 1) := dk_133 (dk_at dksX0_cameOf_2 12 rfl rfl)
theorem dX0_cameOf_58 : decode cX0_cameOf 58 = .ok (.ladd, 1) := dk_97 (dk_at dksX0_cameOf_2 13 rfl rfl)
theorem dX0_cameOf_59 : decode cX0_cameOf 59 = .ok (.aload_n 0, 1) := dk_42 (dk_at dksX0_cameOf_2 14 rfl rfl)
theorem dX0_cameOf_60 : decode cX0_cameOf 60 = .ok (.invokevirtual 319, 3) := dk_182 1 63 (dk_at dksX0_cameOf_2 15 rfl rfl)
theorem dX0_cameOf_63 : decode cX0_cameOf 63 = .ok (.i2l, 1) := dk_133 (dk_at dksX0_cameOf_2 18 rfl rfl)
theorem dX0_cameOf_64 : decode cX0_cameOf 64 = .ok (.lcmp, 1) := dk_148 (dk_at dksX0_cameOf_2 19 rfl rfl)
theorem dX0_cameOf_65 : decode cX0_cameOf 65 = .ok (.ifCond .gt 18, 3) := dk_157 0 18 (dk_at dksX0_cameOf_2 20 rfl rfl)
theorem dX0_cameOf_68 : decode cX0_cameOf 68 = .ok (.iload_n 3, 1) := dk_29 (dk_at dksX0_cameOf_2 23 rfl rfl)
theorem dX0_cameOf_69 : decode cX0_cameOf 69 = .ok (.i2l, 1) := dk_133 (dk_at dksX0_cameOf_3 0 rfl rfl)
theorem dX0_cameOf_70 : decode cX0_cameOf 70 = .ok (.iload 4, 2) := dk_21 4 (dk_at dksX0_cameOf_3 1 rfl rfl)
theorem dX0_cameOf_72 : decode cX0_cameOf 72 = .ok (.i2l, 1) := dk_133 (dk_at dksX0_cameOf_3 3 rfl rfl)
theorem dX0_cameOf_73 : decode cX0_cameOf 73 = .ok (.ladd, 1) := dk_97 (dk_at dksX0_cameOf_3 4 rfl rfl)
theorem dX0_cameOf_74 : decode cX0_cameOf 74 = .ok (.aload_n 2, 1) := dk_44 (dk_at dksX0_cameOf_3 5 rfl rfl)
theorem dX0_cameOf_75 : decode cX0_cameOf 75 = .ok (.invokevirtual 319, 3) := dk_182 1 63 (dk_at dksX0_cameOf_3 6 rfl rfl)
theorem dX0_cameOf_78 : decode cX0_cameOf 78 = .ok (.i2l, 1) := dk_133 (dk_at dksX0_cameOf_3 9 rfl rfl)
theorem dX0_cameOf_79 : decode cX0_cameOf 79 = .ok (.lcmp, 1) := dk_148 (dk_at dksX0_cameOf_3 10 rfl rfl)
theorem dX0_cameOf_80 : decode cX0_cameOf 80 = .ok (.ifCond .le 5, 3) := dk_158 0 5 (dk_at dksX0_cameOf_3 11 rfl rfl)
theorem dX0_cameOf_83 : decode cX0_cameOf 83 = .ok (.iconst 0, 1) := dk_3 (dk_at dksX0_cameOf_3 14 rfl rfl)
theorem dX0_cameOf_84 : decode cX0_cameOf 84 = .ok (.ireturn, 1) := dk_172 (dk_at dksX0_cameOf_3 15 rfl rfl)
theorem dX0_cameOf_85 : decode cX0_cameOf 85 = .ok (.iconst 0, 1) := dk_3 (dk_at dksX0_cameOf_3 16 rfl rfl)
theorem dX0_cameOf_86 : decode cX0_cameOf 86 = .ok (.istore 6, 2) := dk_54 6 (dk_at dksX0_cameOf_3 17 rfl rfl)
theorem dX0_cameOf_88 : decode cX0_cameOf 88 = .ok (.iload 6, 2) := dk_21 6 (dk_at dksX0_cameOf_3 19 rfl rfl)
theorem dX0_cameOf_90 : decode cX0_cameOf 90 = .ok (.iload 4, 2) := dk_21 4 (dk_at dksX0_cameOf_3 21 rfl rfl)
theorem dX0_cameOf_92 : decode cX0_cameOf 92 = .ok (.if_icmp .ge 24, 3) := dk_162 0 24 (dk_at dksX0_cameOf_4 0 rfl rfl)
theorem dX0_cameOf_95 : decode cX0_cameOf 95 = .ok (.aload_n 2, 1) := dk_44 (dk_at dksX0_cameOf_4 3 rfl rfl)
theorem dX0_cameOf_96 : decode cX0_cameOf 96 = .ok (.invokevirtual 175, 3) := dk_182 0 175 (dk_at dksX0_cameOf_4 4 rfl rfl)
theorem dX0_cameOf_99 : decode cX0_cameOf 99 = .ok (.aload_n 0, 1) := dk_42 (dk_at dksX0_cameOf_4 7 rfl rfl)
theorem dX0_cameOf_100 : decode cX0_cameOf 100 = .ok (.iload_n 1, 1) := dk_27 (dk_at dksX0_cameOf_4 8 rfl rfl)
theorem dX0_cameOf_101 : decode cX0_cameOf 101 = .ok (.iload 6, 2) := dk_21 6 (dk_at dksX0_cameOf_4 9 rfl rfl)
theorem dX0_cameOf_103 : decode cX0_cameOf 103 = .ok (.iadd, 1) := dk_96 (dk_at dksX0_cameOf_4 11 rfl rfl)
theorem dX0_cameOf_104 : decode cX0_cameOf 104 = .ok (.invokestatic 322, 3) := dk_184 1 66 (dk_at dksX0_cameOf_4 12 rfl rfl)
theorem dX0_cameOf_107 : decode cX0_cameOf 107 = .ok (.ifCond .eq 9, 3) := dk_153 0 9 (dk_at dksX0_cameOf_4 15 rfl rfl)
theorem dX0_cameOf_110 : decode cX0_cameOf 110 = .ok (.iinc 6 1, 3) := dk_132 6 1 (dk_at dksX0_cameOf_4 18 rfl rfl)
theorem dX0_cameOf_113 : decode cX0_cameOf 113 = .ok (.goto (-25), 3) := dk_167 255 231 (dk_at dksX0_cameOf_4 21 rfl rfl)
theorem dX0_cameOf_116 : decode cX0_cameOf 116 = .ok (.iload 6, 2) := dk_21 6 (dk_at dksX0_cameOf_5 0 rfl rfl)
theorem dX0_cameOf_118 : decode cX0_cameOf 118 = .ok (.ireturn, 1) := dk_172 (dk_at dksX0_cameOf_5 2 rfl rfl)
abbrev cX0_meet : ByteArray := prog_1_method_57_code
def yX0_meet : MethodName := ⟨RX0, "meet", "(II)Z"⟩
def dkwX0_meet_1 : List UInt8 := [159, 0, 13, 26, 7, 164, 0, 12, 27, 7, 164, 0, 7, 4, 167, 0, 4, 3, 172]
abbrev dktX0_meet_1 : List UInt8 := dkwX0_meet_1 ++ []
def dkwX0_meet_0 : List UInt8 := [26, 4, 16, 7, 184, 0, 73, 153, 0, 32, 27, 4, 16, 7, 184, 0, 73, 153, 0, 22, 26, 27]
abbrev dktX0_meet_0 : List UInt8 := dkwX0_meet_0 ++ dktX0_meet_1
theorem dksX0_meet_0 : cX0_meet.data.toList.drop 0 = dktX0_meet_0 := by decide +kernel
theorem dksX0_meet_1 : cX0_meet.data.toList.drop 22 = dktX0_meet_1 := dk_seg dksX0_meet_0 22 rfl rfl
theorem dX0_meet_0 : decode cX0_meet 0 = .ok (.iload_n 0, 1) := dk_26 (dk_at dksX0_meet_0 0 rfl rfl)
theorem dX0_meet_1 : decode cX0_meet 1 = .ok (.iconst 1, 1) := dk_4 (dk_at dksX0_meet_0 1 rfl rfl)
theorem dX0_meet_2 : decode cX0_meet 2 = .ok (.bipush 7, 2) := dk_16 7 (dk_at dksX0_meet_0 2 rfl rfl)
theorem dX0_meet_4 : decode cX0_meet 4 = .ok (.invokestatic 73, 3) := dk_184 0 73 (dk_at dksX0_meet_0 4 rfl rfl)
theorem dX0_meet_7 : decode cX0_meet 7 = .ok (.ifCond .eq 32, 3) := dk_153 0 32 (dk_at dksX0_meet_0 7 rfl rfl)
theorem dX0_meet_10 : decode cX0_meet 10 = .ok (.iload_n 1, 1) := dk_27 (dk_at dksX0_meet_0 10 rfl rfl)
theorem dX0_meet_11 : decode cX0_meet 11 = .ok (.iconst 1, 1) := dk_4 (dk_at dksX0_meet_0 11 rfl rfl)
theorem dX0_meet_12 : decode cX0_meet 12 = .ok (.bipush 7, 2) := dk_16 7 (dk_at dksX0_meet_0 12 rfl rfl)
theorem dX0_meet_14 : decode cX0_meet 14 = .ok (.invokestatic 73, 3) := dk_184 0 73 (dk_at dksX0_meet_0 14 rfl rfl)
theorem dX0_meet_17 : decode cX0_meet 17 = .ok (.ifCond .eq 22, 3) := dk_153 0 22 (dk_at dksX0_meet_0 17 rfl rfl)
theorem dX0_meet_20 : decode cX0_meet 20 = .ok (.iload_n 0, 1) := dk_26 (dk_at dksX0_meet_0 20 rfl rfl)
theorem dX0_meet_21 : decode cX0_meet 21 = .ok (.iload_n 1, 1) := dk_27 (dk_at dksX0_meet_0 21 rfl rfl)
theorem dX0_meet_22 : decode cX0_meet 22 = .ok (.if_icmp .eq 13, 3) := dk_159 0 13 (dk_at dksX0_meet_1 0 rfl rfl)
theorem dX0_meet_25 : decode cX0_meet 25 = .ok (.iload_n 0, 1) := dk_26 (dk_at dksX0_meet_1 3 rfl rfl)
theorem dX0_meet_26 : decode cX0_meet 26 = .ok (.iconst 4, 1) := dk_7 (dk_at dksX0_meet_1 4 rfl rfl)
theorem dX0_meet_27 : decode cX0_meet 27 = .ok (.if_icmp .le 12, 3) := dk_164 0 12 (dk_at dksX0_meet_1 5 rfl rfl)
theorem dX0_meet_30 : decode cX0_meet 30 = .ok (.iload_n 1, 1) := dk_27 (dk_at dksX0_meet_1 8 rfl rfl)
theorem dX0_meet_31 : decode cX0_meet 31 = .ok (.iconst 4, 1) := dk_7 (dk_at dksX0_meet_1 9 rfl rfl)
theorem dX0_meet_32 : decode cX0_meet 32 = .ok (.if_icmp .le 7, 3) := dk_164 0 7 (dk_at dksX0_meet_1 10 rfl rfl)
theorem dX0_meet_35 : decode cX0_meet 35 = .ok (.iconst 1, 1) := dk_4 (dk_at dksX0_meet_1 13 rfl rfl)
theorem dX0_meet_36 : decode cX0_meet 36 = .ok (.goto 4, 3) := dk_167 0 4 (dk_at dksX0_meet_1 14 rfl rfl)
theorem dX0_meet_39 : decode cX0_meet 39 = .ok (.iconst 0, 1) := dk_3 (dk_at dksX0_meet_1 17 rfl rfl)
theorem dX0_meet_40 : decode cX0_meet 40 = .ok (.ireturn, 1) := dk_172 (dk_at dksX0_meet_1 18 rfl rfl)
abbrev cX0_has : ByteArray := prog_1_method_36_code
def yX0_has : MethodName := ⟨RX0, "has", "(ILThrowReports$Holder;I)Z"⟩
def dkwX0_has_3 : List UInt8 := [153, 0, 7, 4, 167, 0, 4, 3, 172]
abbrev dktX0_has_3 : List UInt8 := dkwX0_has_3 ++ []
def dkwX0_has_2 : List UInt8 := [167, 0, 26, 26, 16, 6, 160, 0, 13, 45, 193, 0, 239, 153, 0, 17, 167, 0, 10, 45, 193, 0, 244]
abbrev dktX0_has_2 : List UInt8 := dkwX0_has_2 ++ dktX0_has_3
def dkwX0_has_1 : List UInt8 := [192, 1, 35, 28, 50, 78, 45, 198, 0, 41, 26, 8, 160, 0, 13, 45, 193, 0, 234, 153, 0, 33]
abbrev dktX0_has_1 : List UInt8 := dkwX0_has_1 ++ dktX0_has_2
def dkwX0_has_0 : List UInt8 := [43, 182, 0, 175, 8, 160, 0, 15, 43, 180, 0, 47, 192, 1, 28, 28, 50, 167, 0, 12, 43, 180, 0, 47]
abbrev dktX0_has_0 : List UInt8 := dkwX0_has_0 ++ dktX0_has_1
theorem dksX0_has_0 : cX0_has.data.toList.drop 0 = dktX0_has_0 := by decide +kernel
theorem dksX0_has_1 : cX0_has.data.toList.drop 24 = dktX0_has_1 := dk_seg dksX0_has_0 24 rfl rfl
theorem dksX0_has_2 : cX0_has.data.toList.drop 46 = dktX0_has_2 := dk_seg dksX0_has_1 22 rfl rfl
theorem dksX0_has_3 : cX0_has.data.toList.drop 69 = dktX0_has_3 := dk_seg dksX0_has_2 23 rfl rfl
theorem dX0_has_0 : decode cX0_has 0 = .ok (.aload_n 1, 1) := dk_43 (dk_at dksX0_has_0 0 rfl rfl)
theorem dX0_has_1 : decode cX0_has 1 = .ok (.invokevirtual 175, 3) := dk_182 0 175 (dk_at dksX0_has_0 1 rfl rfl)
theorem dX0_has_4 : decode cX0_has 4 = .ok (.iconst 5, 1) := dk_8 (dk_at dksX0_has_0 4 rfl rfl)
theorem dX0_has_5 : decode cX0_has 5 = .ok (.if_icmp .ne 15, 3) := dk_160 0 15 (dk_at dksX0_has_0 5 rfl rfl)
theorem dX0_has_8 : decode cX0_has 8 = .ok (.aload_n 1, 1) := dk_43 (dk_at dksX0_has_0 8 rfl rfl)
theorem dX0_has_9 : decode cX0_has 9 = .ok (.getfield 47, 3) := dk_180 0 47 (dk_at dksX0_has_0 9 rfl rfl)
theorem dX0_has_12 : decode cX0_has 12 = .ok (.checkcast 284, 3) := dk_192 1 28 (dk_at dksX0_has_0 12 rfl rfl)
theorem dX0_has_15 : decode cX0_has 15 = .ok (.iload_n 2, 1) := dk_28 (dk_at dksX0_has_0 15 rfl rfl)
theorem dX0_has_16 : decode cX0_has 16 = .ok (.aaload, 1) := dk_50 (dk_at dksX0_has_0 16 rfl rfl)
theorem dX0_has_17 : decode cX0_has 17 = .ok (.goto 12, 3) := dk_167 0 12 (dk_at dksX0_has_0 17 rfl rfl)
theorem dX0_has_20 : decode cX0_has 20 = .ok (.aload_n 1, 1) := dk_43 (dk_at dksX0_has_0 20 rfl rfl)
theorem dX0_has_21 : decode cX0_has 21 = .ok (.getfield 47, 3) := dk_180 0 47 (dk_at dksX0_has_0 21 rfl rfl)
theorem dX0_has_24 : decode cX0_has 24 = .ok (.checkcast 291, 3) := dk_192 1 35 (dk_at dksX0_has_1 0 rfl rfl)
theorem dX0_has_27 : decode cX0_has 27 = .ok (.iload_n 2, 1) := dk_28 (dk_at dksX0_has_1 3 rfl rfl)
theorem dX0_has_28 : decode cX0_has 28 = .ok (.aaload, 1) := dk_50 (dk_at dksX0_has_1 4 rfl rfl)
theorem dX0_has_29 : decode cX0_has 29 = .ok (.astore_n 3, 1) := dk_78 (dk_at dksX0_has_1 5 rfl rfl)
theorem dX0_has_30 : decode cX0_has 30 = .ok (.aload_n 3, 1) := dk_45 (dk_at dksX0_has_1 6 rfl rfl)
theorem dX0_has_31 : decode cX0_has 31 = .ok (.ifnull 41, 3) := dk_198 0 41 (dk_at dksX0_has_1 7 rfl rfl)
theorem dX0_has_34 : decode cX0_has 34 = .ok (.iload_n 0, 1) := dk_26 (dk_at dksX0_has_1 10 rfl rfl)
theorem dX0_has_35 : decode cX0_has 35 = .ok (.iconst 5, 1) := dk_8 (dk_at dksX0_has_1 11 rfl rfl)
theorem dX0_has_36 : decode cX0_has 36 = .ok (.if_icmp .ne 13, 3) := dk_160 0 13 (dk_at dksX0_has_1 12 rfl rfl)
theorem dX0_has_39 : decode cX0_has 39 = .ok (.aload_n 3, 1) := dk_45 (dk_at dksX0_has_1 15 rfl rfl)
theorem dX0_has_40 : decode cX0_has 40 = .ok (.instanceof 234, 3) := dk_193 0 234 (dk_at dksX0_has_1 16 rfl rfl)
theorem dX0_has_43 : decode cX0_has 43 = .ok (.ifCond .eq 33, 3) := dk_153 0 33 (dk_at dksX0_has_1 19 rfl rfl)
theorem dX0_has_46 : decode cX0_has 46 = .ok (.goto 26, 3) := dk_167 0 26 (dk_at dksX0_has_2 0 rfl rfl)
theorem dX0_has_49 : decode cX0_has 49 = .ok (.iload_n 0, 1) := dk_26 (dk_at dksX0_has_2 3 rfl rfl)
theorem dX0_has_50 : decode cX0_has 50 = .ok (.bipush 6, 2) := dk_16 6 (dk_at dksX0_has_2 4 rfl rfl)
theorem dX0_has_52 : decode cX0_has 52 = .ok (.if_icmp .ne 13, 3) := dk_160 0 13 (dk_at dksX0_has_2 6 rfl rfl)
theorem dX0_has_55 : decode cX0_has 55 = .ok (.aload_n 3, 1) := dk_45 (dk_at dksX0_has_2 9 rfl rfl)
theorem dX0_has_56 : decode cX0_has 56 = .ok (.instanceof 239, 3) := dk_193 0 239 (dk_at dksX0_has_2 10 rfl rfl)
theorem dX0_has_59 : decode cX0_has 59 = .ok (.ifCond .eq 17, 3) := dk_153 0 17 (dk_at dksX0_has_2 13 rfl rfl)
theorem dX0_has_62 : decode cX0_has 62 = .ok (.goto 10, 3) := dk_167 0 10 (dk_at dksX0_has_2 16 rfl rfl)
theorem dX0_has_65 : decode cX0_has 65 = .ok (.aload_n 3, 1) := dk_45 (dk_at dksX0_has_2 19 rfl rfl)
theorem dX0_has_66 : decode cX0_has 66 = .ok (.instanceof 244, 3) := dk_193 0 244 (dk_at dksX0_has_2 20 rfl rfl)
theorem dX0_has_69 : decode cX0_has 69 = .ok (.ifCond .eq 7, 3) := dk_153 0 7 (dk_at dksX0_has_3 0 rfl rfl)
theorem dX0_has_72 : decode cX0_has 72 = .ok (.iconst 1, 1) := dk_4 (dk_at dksX0_has_3 3 rfl rfl)
theorem dX0_has_73 : decode cX0_has 73 = .ok (.goto 4, 3) := dk_167 0 4 (dk_at dksX0_has_3 4 rfl rfl)
theorem dX0_has_76 : decode cX0_has 76 = .ok (.iconst 0, 1) := dk_3 (dk_at dksX0_has_3 7 rfl rfl)
theorem dX0_has_77 : decode cX0_has 77 = .ok (.ireturn, 1) := dk_172 (dk_at dksX0_has_3 8 rfl rfl)
abbrev cX0_is : ByteArray := prog_1_method_1_code
def yX0_is : MethodName := ⟨RX0, "is", "(II)Z"⟩
def dkwX0_is_1 : List UInt8 := [16, 6, 160, 0, 7, 4, 167, 0, 4, 3, 172]
abbrev dktX0_is_1 : List UInt8 := dkwX0_is_1 ++ []
def dkwX0_is_0 : List UInt8 := [26, 27, 159, 0, 27, 26, 16, 9, 160, 0, 9, 27, 16, 8, 159, 0, 15, 26, 16, 7, 160, 0, 13, 27]
abbrev dktX0_is_0 : List UInt8 := dkwX0_is_0 ++ dktX0_is_1
theorem dksX0_is_0 : cX0_is.data.toList.drop 0 = dktX0_is_0 := by decide +kernel
theorem dksX0_is_1 : cX0_is.data.toList.drop 24 = dktX0_is_1 := dk_seg dksX0_is_0 24 rfl rfl
theorem dX0_is_0 : decode cX0_is 0 = .ok (.iload_n 0, 1) := dk_26 (dk_at dksX0_is_0 0 rfl rfl)
theorem dX0_is_1 : decode cX0_is 1 = .ok (.iload_n 1, 1) := dk_27 (dk_at dksX0_is_0 1 rfl rfl)
theorem dX0_is_2 : decode cX0_is 2 = .ok (.if_icmp .eq 27, 3) := dk_159 0 27 (dk_at dksX0_is_0 2 rfl rfl)
theorem dX0_is_5 : decode cX0_is 5 = .ok (.iload_n 0, 1) := dk_26 (dk_at dksX0_is_0 5 rfl rfl)
theorem dX0_is_6 : decode cX0_is 6 = .ok (.bipush 9, 2) := dk_16 9 (dk_at dksX0_is_0 6 rfl rfl)
theorem dX0_is_8 : decode cX0_is 8 = .ok (.if_icmp .ne 9, 3) := dk_160 0 9 (dk_at dksX0_is_0 8 rfl rfl)
theorem dX0_is_11 : decode cX0_is 11 = .ok (.iload_n 1, 1) := dk_27 (dk_at dksX0_is_0 11 rfl rfl)
theorem dX0_is_12 : decode cX0_is 12 = .ok (.bipush 8, 2) := dk_16 8 (dk_at dksX0_is_0 12 rfl rfl)
theorem dX0_is_14 : decode cX0_is 14 = .ok (.if_icmp .eq 15, 3) := dk_159 0 15 (dk_at dksX0_is_0 14 rfl rfl)
theorem dX0_is_17 : decode cX0_is 17 = .ok (.iload_n 0, 1) := dk_26 (dk_at dksX0_is_0 17 rfl rfl)
theorem dX0_is_18 : decode cX0_is 18 = .ok (.bipush 7, 2) := dk_16 7 (dk_at dksX0_is_0 18 rfl rfl)
theorem dX0_is_20 : decode cX0_is 20 = .ok (.if_icmp .ne 13, 3) := dk_160 0 13 (dk_at dksX0_is_0 20 rfl rfl)
theorem dX0_is_23 : decode cX0_is 23 = .ok (.iload_n 1, 1) := dk_27 (dk_at dksX0_is_0 23 rfl rfl)
theorem dX0_is_24 : decode cX0_is 24 = .ok (.bipush 6, 2) := dk_16 6 (dk_at dksX0_is_1 0 rfl rfl)
theorem dX0_is_26 : decode cX0_is 26 = .ok (.if_icmp .ne 7, 3) := dk_160 0 7 (dk_at dksX0_is_1 2 rfl rfl)
theorem dX0_is_29 : decode cX0_is 29 = .ok (.iconst 1, 1) := dk_4 (dk_at dksX0_is_1 5 rfl rfl)
theorem dX0_is_30 : decode cX0_is 30 = .ok (.goto 4, 3) := dk_167 0 4 (dk_at dksX0_is_1 6 rfl rfl)
theorem dX0_is_33 : decode cX0_is 33 = .ok (.iconst 0, 1) := dk_3 (dk_at dksX0_is_1 9 rfl rfl)
theorem dX0_is_34 : decode cX0_is 34 = .ok (.ireturn, 1) := dk_172 (dk_at dksX0_is_1 10 rfl rfl)
abbrev cX0_guards : ByteArray := prog_1_method_21_code
def yX0_guards : MethodName := ⟨RX0, "guards", "(LThrowReports$Node;)V"⟩
def dkwX0_guards_2 : List UInt8 := [191, 177]
abbrev dktX0_guards_2 : List UInt8 := dkwX0_guards_2 ++ []
def dkwX0_guards_1 : List UInt8 := [182, 0, 207, 167, 0, 22, 78, 43, 180, 0, 126, 198, 0, 12, 42, 43, 180, 0, 126, 28, 182, 0, 207, 45]
abbrev dktX0_guards_1 : List UInt8 := dkwX0_guards_1 ++ dktX0_guards_2
def dkwX0_guards_0 : List UInt8 := [4, 61, 42, 43, 182, 0, 204, 3, 61, 43, 180, 0, 126, 198, 0, 34, 42, 43, 180, 0, 126, 28]
abbrev dktX0_guards_0 : List UInt8 := dkwX0_guards_0 ++ dktX0_guards_1
theorem dksX0_guards_0 : cX0_guards.data.toList.drop 0 = dktX0_guards_0 := by decide +kernel
theorem dksX0_guards_1 : cX0_guards.data.toList.drop 22 = dktX0_guards_1 := dk_seg dksX0_guards_0 22 rfl rfl
theorem dksX0_guards_2 : cX0_guards.data.toList.drop 46 = dktX0_guards_2 := dk_seg dksX0_guards_1 24 rfl rfl
theorem dX0_guards_0 : decode cX0_guards 0 = .ok (.iconst 1, 1) := dk_4 (dk_at dksX0_guards_0 0 rfl rfl)
theorem dX0_guards_1 : decode cX0_guards 1 = .ok (.istore_n 2, 1) := dk_61 (dk_at dksX0_guards_0 1 rfl rfl)
theorem dX0_guards_2 : decode cX0_guards 2 = .ok (.aload_n 0, 1) := dk_42 (dk_at dksX0_guards_0 2 rfl rfl)
theorem dX0_guards_3 : decode cX0_guards 3 = .ok (.aload_n 1, 1) := dk_43 (dk_at dksX0_guards_0 3 rfl rfl)
theorem dX0_guards_4 : decode cX0_guards 4 = .ok (.invokevirtual 204, 3) := dk_182 0 204 (dk_at dksX0_guards_0 4 rfl rfl)
theorem dX0_guards_7 : decode cX0_guards 7 = .ok (.iconst 0, 1) := dk_3 (dk_at dksX0_guards_0 7 rfl rfl)
theorem dX0_guards_8 : decode cX0_guards 8 = .ok (.istore_n 2, 1) := dk_61 (dk_at dksX0_guards_0 8 rfl rfl)
theorem dX0_guards_9 : decode cX0_guards 9 = .ok (.aload_n 1, 1) := dk_43 (dk_at dksX0_guards_0 9 rfl rfl)
theorem dX0_guards_10 : decode cX0_guards 10 = .ok (.getfield 126, 3) := dk_180 0 126 (dk_at dksX0_guards_0 10 rfl rfl)
theorem dX0_guards_13 : decode cX0_guards 13 = .ok (.ifnull 34, 3) := dk_198 0 34 (dk_at dksX0_guards_0 13 rfl rfl)
theorem dX0_guards_16 : decode cX0_guards 16 = .ok (.aload_n 0, 1) := dk_42 (dk_at dksX0_guards_0 16 rfl rfl)
theorem dX0_guards_17 : decode cX0_guards 17 = .ok (.aload_n 1, 1) := dk_43 (dk_at dksX0_guards_0 17 rfl rfl)
theorem dX0_guards_18 : decode cX0_guards 18 = .ok (.getfield 126, 3) := dk_180 0 126 (dk_at dksX0_guards_0 18 rfl rfl)
theorem dX0_guards_21 : decode cX0_guards 21 = .ok (.iload_n 2, 1) := dk_28 (dk_at dksX0_guards_0 21 rfl rfl)
theorem dX0_guards_22 : decode cX0_guards 22 = .ok (.invokevirtual 207, 3) := dk_182 0 207 (dk_at dksX0_guards_1 0 rfl rfl)
theorem dX0_guards_25 : decode cX0_guards 25 = .ok (.goto 22, 3) := dk_167 0 22 (dk_at dksX0_guards_1 3 rfl rfl)
theorem dX0_guards_28 : decode cX0_guards 28 = .ok (.astore_n 3, 1) := dk_78 (dk_at dksX0_guards_1 6 rfl rfl)
theorem dX0_guards_29 : decode cX0_guards 29 = .ok (.aload_n 1, 1) := dk_43 (dk_at dksX0_guards_1 7 rfl rfl)
theorem dX0_guards_30 : decode cX0_guards 30 = .ok (.getfield 126, 3) := dk_180 0 126 (dk_at dksX0_guards_1 8 rfl rfl)
theorem dX0_guards_33 : decode cX0_guards 33 = .ok (.ifnull 12, 3) := dk_198 0 12 (dk_at dksX0_guards_1 11 rfl rfl)
theorem dX0_guards_36 : decode cX0_guards 36 = .ok (.aload_n 0, 1) := dk_42 (dk_at dksX0_guards_1 14 rfl rfl)
theorem dX0_guards_37 : decode cX0_guards 37 = .ok (.aload_n 1, 1) := dk_43 (dk_at dksX0_guards_1 15 rfl rfl)
theorem dX0_guards_38 : decode cX0_guards 38 = .ok (.getfield 126, 3) := dk_180 0 126 (dk_at dksX0_guards_1 16 rfl rfl)
theorem dX0_guards_41 : decode cX0_guards 41 = .ok (.iload_n 2, 1) := dk_28 (dk_at dksX0_guards_1 19 rfl rfl)
theorem dX0_guards_42 : decode cX0_guards 42 = .ok (.invokevirtual 207, 3) := dk_182 0 207 (dk_at dksX0_guards_1 20 rfl rfl)
theorem dX0_guards_45 : decode cX0_guards 45 = .ok (.aload_n 3, 1) := dk_45 (dk_at dksX0_guards_1 23 rfl rfl)
theorem dX0_guards_46 : decode cX0_guards 46 = .ok (.athrow, 1) := dk_191 (dk_at dksX0_guards_2 0 rfl rfl)
theorem dX0_guards_47 : decode cX0_guards 47 = .ok (.return_, 1) := dk_177 (dk_at dksX0_guards_2 1 rfl rfl)
abbrev cX0_takes : ByteArray := prog_1_method_24_code
def yX0_takes : MethodName := ⟨RX0, "takes", "(LThrowReports$Node;)V"⟩
def dkwX0_takes_4 : List UInt8 := [182, 0, 213, 177]
abbrev dktX0_takes_4 : List UInt8 := dkwX0_takes_4 ++ []
def dkwX0_takes_3 : List UInt8 := [182, 0, 213, 167, 0, 24, 77, 42, 43, 16, 7, 44, 182, 0, 213, 167, 0, 12, 77, 42, 43, 16, 8, 44]
abbrev dktX0_takes_3 : List UInt8 := dkwX0_takes_3 ++ dktX0_takes_4
def dkwX0_takes_2 : List UInt8 := [44, 182, 0, 213, 167, 0, 47, 77, 42, 43, 8, 44, 182, 0, 213, 167, 0, 36, 77, 42, 43, 16, 6, 44]
abbrev dktX0_takes_2 : List UInt8 := dkwX0_takes_2 ++ dktX0_takes_3
def dkwX0_takes_1 : List UInt8 := [43, 5, 44, 182, 0, 213, 167, 0, 69, 77, 42, 43, 6, 44, 182, 0, 213, 167, 0, 58, 77, 42, 43, 7]
abbrev dktX0_takes_1 : List UInt8 := dkwX0_takes_1 ++ dktX0_takes_2
def dkwX0_takes_0 : List UInt8 := [42, 43, 180, 0, 113, 182, 0, 144, 167, 0, 91, 77, 42, 43, 4, 44, 182, 0, 213, 167, 0, 80, 77, 42]
abbrev dktX0_takes_0 : List UInt8 := dkwX0_takes_0 ++ dktX0_takes_1
theorem dksX0_takes_0 : cX0_takes.data.toList.drop 0 = dktX0_takes_0 := by decide +kernel
theorem dksX0_takes_1 : cX0_takes.data.toList.drop 24 = dktX0_takes_1 := dk_seg dksX0_takes_0 24 rfl rfl
theorem dksX0_takes_2 : cX0_takes.data.toList.drop 48 = dktX0_takes_2 := dk_seg dksX0_takes_1 24 rfl rfl
theorem dksX0_takes_3 : cX0_takes.data.toList.drop 72 = dktX0_takes_3 := dk_seg dksX0_takes_2 24 rfl rfl
theorem dksX0_takes_4 : cX0_takes.data.toList.drop 96 = dktX0_takes_4 := dk_seg dksX0_takes_3 24 rfl rfl
theorem dX0_takes_0 : decode cX0_takes 0 = .ok (.aload_n 0, 1) := dk_42 (dk_at dksX0_takes_0 0 rfl rfl)
theorem dX0_takes_1 : decode cX0_takes 1 = .ok (.aload_n 1, 1) := dk_43 (dk_at dksX0_takes_0 1 rfl rfl)
theorem dX0_takes_2 : decode cX0_takes 2 = .ok (.getfield 113, 3) := dk_180 0 113 (dk_at dksX0_takes_0 2 rfl rfl)
theorem dX0_takes_5 : decode cX0_takes 5 = .ok (.invokevirtual 144, 3) := dk_182 0 144 (dk_at dksX0_takes_0 5 rfl rfl)
theorem dX0_takes_8 : decode cX0_takes 8 = .ok (.goto 91, 3) := dk_167 0 91 (dk_at dksX0_takes_0 8 rfl rfl)
theorem dX0_takes_11 : decode cX0_takes 11 = .ok (.astore_n 2, 1) := dk_77 (dk_at dksX0_takes_0 11 rfl rfl)
theorem dX0_takes_12 : decode cX0_takes 12 = .ok (.aload_n 0, 1) := dk_42 (dk_at dksX0_takes_0 12 rfl rfl)
theorem dX0_takes_13 : decode cX0_takes 13 = .ok (.aload_n 1, 1) := dk_43 (dk_at dksX0_takes_0 13 rfl rfl)
theorem dX0_takes_14 : decode cX0_takes 14 = .ok (.iconst 1, 1) := dk_4 (dk_at dksX0_takes_0 14 rfl rfl)
theorem dX0_takes_15 : decode cX0_takes 15 = .ok (.aload_n 2, 1) := dk_44 (dk_at dksX0_takes_0 15 rfl rfl)
theorem dX0_takes_16 : decode cX0_takes 16 = .ok (.invokevirtual 213, 3) := dk_182 0 213 (dk_at dksX0_takes_0 16 rfl rfl)
theorem dX0_takes_19 : decode cX0_takes 19 = .ok (.goto 80, 3) := dk_167 0 80 (dk_at dksX0_takes_0 19 rfl rfl)
theorem dX0_takes_22 : decode cX0_takes 22 = .ok (.astore_n 2, 1) := dk_77 (dk_at dksX0_takes_0 22 rfl rfl)
theorem dX0_takes_23 : decode cX0_takes 23 = .ok (.aload_n 0, 1) := dk_42 (dk_at dksX0_takes_0 23 rfl rfl)
theorem dX0_takes_24 : decode cX0_takes 24 = .ok (.aload_n 1, 1) := dk_43 (dk_at dksX0_takes_1 0 rfl rfl)
theorem dX0_takes_25 : decode cX0_takes 25 = .ok (.iconst 2, 1) := dk_5 (dk_at dksX0_takes_1 1 rfl rfl)
theorem dX0_takes_26 : decode cX0_takes 26 = .ok (.aload_n 2, 1) := dk_44 (dk_at dksX0_takes_1 2 rfl rfl)
theorem dX0_takes_27 : decode cX0_takes 27 = .ok (.invokevirtual 213, 3) := dk_182 0 213 (dk_at dksX0_takes_1 3 rfl rfl)
theorem dX0_takes_30 : decode cX0_takes 30 = .ok (.goto 69, 3) := dk_167 0 69 (dk_at dksX0_takes_1 6 rfl rfl)
theorem dX0_takes_33 : decode cX0_takes 33 = .ok (.astore_n 2, 1) := dk_77 (dk_at dksX0_takes_1 9 rfl rfl)
theorem dX0_takes_34 : decode cX0_takes 34 = .ok (.aload_n 0, 1) := dk_42 (dk_at dksX0_takes_1 10 rfl rfl)
theorem dX0_takes_35 : decode cX0_takes 35 = .ok (.aload_n 1, 1) := dk_43 (dk_at dksX0_takes_1 11 rfl rfl)
theorem dX0_takes_36 : decode cX0_takes 36 = .ok (.iconst 3, 1) := dk_6 (dk_at dksX0_takes_1 12 rfl rfl)
theorem dX0_takes_37 : decode cX0_takes 37 = .ok (.aload_n 2, 1) := dk_44 (dk_at dksX0_takes_1 13 rfl rfl)
theorem dX0_takes_38 : decode cX0_takes 38 = .ok (.invokevirtual 213, 3) := dk_182 0 213 (dk_at dksX0_takes_1 14 rfl rfl)
theorem dX0_takes_41 : decode cX0_takes 41 = .ok (.goto 58, 3) := dk_167 0 58 (dk_at dksX0_takes_1 17 rfl rfl)
theorem dX0_takes_44 : decode cX0_takes 44 = .ok (.astore_n 2, 1) := dk_77 (dk_at dksX0_takes_1 20 rfl rfl)
theorem dX0_takes_45 : decode cX0_takes 45 = .ok (.aload_n 0, 1) := dk_42 (dk_at dksX0_takes_1 21 rfl rfl)
theorem dX0_takes_46 : decode cX0_takes 46 = .ok (.aload_n 1, 1) := dk_43 (dk_at dksX0_takes_1 22 rfl rfl)
theorem dX0_takes_47 : decode cX0_takes 47 = .ok (.iconst 4, 1) := dk_7 (dk_at dksX0_takes_1 23 rfl rfl)
theorem dX0_takes_48 : decode cX0_takes 48 = .ok (.aload_n 2, 1) := dk_44 (dk_at dksX0_takes_2 0 rfl rfl)
theorem dX0_takes_49 : decode cX0_takes 49 = .ok (.invokevirtual 213, 3) := dk_182 0 213 (dk_at dksX0_takes_2 1 rfl rfl)
theorem dX0_takes_52 : decode cX0_takes 52 = .ok (.goto 47, 3) := dk_167 0 47 (dk_at dksX0_takes_2 4 rfl rfl)
theorem dX0_takes_55 : decode cX0_takes 55 = .ok (.astore_n 2, 1) := dk_77 (dk_at dksX0_takes_2 7 rfl rfl)
theorem dX0_takes_56 : decode cX0_takes 56 = .ok (.aload_n 0, 1) := dk_42 (dk_at dksX0_takes_2 8 rfl rfl)
theorem dX0_takes_57 : decode cX0_takes 57 = .ok (.aload_n 1, 1) := dk_43 (dk_at dksX0_takes_2 9 rfl rfl)
theorem dX0_takes_58 : decode cX0_takes 58 = .ok (.iconst 5, 1) := dk_8 (dk_at dksX0_takes_2 10 rfl rfl)
theorem dX0_takes_59 : decode cX0_takes 59 = .ok (.aload_n 2, 1) := dk_44 (dk_at dksX0_takes_2 11 rfl rfl)
theorem dX0_takes_60 : decode cX0_takes 60 = .ok (.invokevirtual 213, 3) := dk_182 0 213 (dk_at dksX0_takes_2 12 rfl rfl)
theorem dX0_takes_63 : decode cX0_takes 63 = .ok (.goto 36, 3) := dk_167 0 36 (dk_at dksX0_takes_2 15 rfl rfl)
theorem dX0_takes_66 : decode cX0_takes 66 = .ok (.astore_n 2, 1) := dk_77 (dk_at dksX0_takes_2 18 rfl rfl)
theorem dX0_takes_67 : decode cX0_takes 67 = .ok (.aload_n 0, 1) := dk_42 (dk_at dksX0_takes_2 19 rfl rfl)
theorem dX0_takes_68 : decode cX0_takes 68 = .ok (.aload_n 1, 1) := dk_43 (dk_at dksX0_takes_2 20 rfl rfl)
theorem dX0_takes_69 : decode cX0_takes 69 = .ok (.bipush 6, 2) := dk_16 6 (dk_at dksX0_takes_2 21 rfl rfl)
theorem dX0_takes_71 : decode cX0_takes 71 = .ok (.aload_n 2, 1) := dk_44 (dk_at dksX0_takes_2 23 rfl rfl)
theorem dX0_takes_72 : decode cX0_takes 72 = .ok (.invokevirtual 213, 3) := dk_182 0 213 (dk_at dksX0_takes_3 0 rfl rfl)
theorem dX0_takes_75 : decode cX0_takes 75 = .ok (.goto 24, 3) := dk_167 0 24 (dk_at dksX0_takes_3 3 rfl rfl)
theorem dX0_takes_78 : decode cX0_takes 78 = .ok (.astore_n 2, 1) := dk_77 (dk_at dksX0_takes_3 6 rfl rfl)
theorem dX0_takes_79 : decode cX0_takes 79 = .ok (.aload_n 0, 1) := dk_42 (dk_at dksX0_takes_3 7 rfl rfl)
theorem dX0_takes_80 : decode cX0_takes 80 = .ok (.aload_n 1, 1) := dk_43 (dk_at dksX0_takes_3 8 rfl rfl)
theorem dX0_takes_81 : decode cX0_takes 81 = .ok (.bipush 7, 2) := dk_16 7 (dk_at dksX0_takes_3 9 rfl rfl)
theorem dX0_takes_83 : decode cX0_takes 83 = .ok (.aload_n 2, 1) := dk_44 (dk_at dksX0_takes_3 11 rfl rfl)
theorem dX0_takes_84 : decode cX0_takes 84 = .ok (.invokevirtual 213, 3) := dk_182 0 213 (dk_at dksX0_takes_3 12 rfl rfl)
theorem dX0_takes_87 : decode cX0_takes 87 = .ok (.goto 12, 3) := dk_167 0 12 (dk_at dksX0_takes_3 15 rfl rfl)
theorem dX0_takes_90 : decode cX0_takes 90 = .ok (.astore_n 2, 1) := dk_77 (dk_at dksX0_takes_3 18 rfl rfl)
theorem dX0_takes_91 : decode cX0_takes 91 = .ok (.aload_n 0, 1) := dk_42 (dk_at dksX0_takes_3 19 rfl rfl)
theorem dX0_takes_92 : decode cX0_takes 92 = .ok (.aload_n 1, 1) := dk_43 (dk_at dksX0_takes_3 20 rfl rfl)
theorem dX0_takes_93 : decode cX0_takes 93 = .ok (.bipush 8, 2) := dk_16 8 (dk_at dksX0_takes_3 21 rfl rfl)
theorem dX0_takes_95 : decode cX0_takes 95 = .ok (.aload_n 2, 1) := dk_44 (dk_at dksX0_takes_3 23 rfl rfl)
theorem dX0_takes_96 : decode cX0_takes 96 = .ok (.invokevirtual 213, 3) := dk_182 0 213 (dk_at dksX0_takes_4 0 rfl rfl)
theorem dX0_takes_99 : decode cX0_takes 99 = .ok (.return_, 1) := dk_177 (dk_at dksX0_takes_4 3 rfl rfl)
abbrev cX0_handles : ByteArray := prog_1_method_23_code
def yX0_handles : MethodName := ⟨RX0, "handles", "(LThrowReports$Node;ILjava/lang/RuntimeException;)V"⟩
def dkwX0_handles_1 : List UInt8 := [182, 0, 144, 177]
abbrev dktX0_handles_1 : List UInt8 := dkwX0_handles_1 ++ []
def dkwX0_handles_0 : List UInt8 := [43, 28, 182, 0, 211, 154, 0, 5, 45, 191, 43, 180, 0, 117, 198, 0, 11, 42, 43, 180, 0, 117]
abbrev dktX0_handles_0 : List UInt8 := dkwX0_handles_0 ++ dktX0_handles_1
theorem dksX0_handles_0 : cX0_handles.data.toList.drop 0 = dktX0_handles_0 := by decide +kernel
theorem dksX0_handles_1 : cX0_handles.data.toList.drop 22 = dktX0_handles_1 := dk_seg dksX0_handles_0 22 rfl rfl
theorem dX0_handles_0 : decode cX0_handles 0 = .ok (.aload_n 1, 1) := dk_43 (dk_at dksX0_handles_0 0 rfl rfl)
theorem dX0_handles_1 : decode cX0_handles 1 = .ok (.iload_n 2, 1) := dk_28 (dk_at dksX0_handles_0 1 rfl rfl)
theorem dX0_handles_2 : decode cX0_handles 2 = .ok (.invokevirtual 211, 3) := dk_182 0 211 (dk_at dksX0_handles_0 2 rfl rfl)
theorem dX0_handles_5 : decode cX0_handles 5 = .ok (.ifCond .ne 5, 3) := dk_154 0 5 (dk_at dksX0_handles_0 5 rfl rfl)
theorem dX0_handles_8 : decode cX0_handles 8 = .ok (.aload_n 3, 1) := dk_45 (dk_at dksX0_handles_0 8 rfl rfl)
theorem dX0_handles_9 : decode cX0_handles 9 = .ok (.athrow, 1) := dk_191 (dk_at dksX0_handles_0 9 rfl rfl)
theorem dX0_handles_10 : decode cX0_handles 10 = .ok (.aload_n 1, 1) := dk_43 (dk_at dksX0_handles_0 10 rfl rfl)
theorem dX0_handles_11 : decode cX0_handles 11 = .ok (.getfield 117, 3) := dk_180 0 117 (dk_at dksX0_handles_0 11 rfl rfl)
theorem dX0_handles_14 : decode cX0_handles 14 = .ok (.ifnull 11, 3) := dk_198 0 11 (dk_at dksX0_handles_0 14 rfl rfl)
theorem dX0_handles_17 : decode cX0_handles 17 = .ok (.aload_n 0, 1) := dk_42 (dk_at dksX0_handles_0 17 rfl rfl)
theorem dX0_handles_18 : decode cX0_handles 18 = .ok (.aload_n 1, 1) := dk_43 (dk_at dksX0_handles_0 18 rfl rfl)
theorem dX0_handles_19 : decode cX0_handles 19 = .ok (.getfield 117, 3) := dk_180 0 117 (dk_at dksX0_handles_0 19 rfl rfl)
theorem dX0_handles_22 : decode cX0_handles 22 = .ok (.invokevirtual 144, 3) := dk_182 0 144 (dk_at dksX0_handles_1 0 rfl rfl)
theorem dX0_handles_25 : decode cX0_handles 25 = .ok (.return_, 1) := dk_177 (dk_at dksX0_handles_1 3 rfl rfl)
abbrev cX0_ends : ByteArray := prog_1_method_22_code
def yX0_ends : MethodName := ⟨RX0, "ends", "(LThrowReports$Node;Z)V"⟩
def dkwX0_ends_2 : List UInt8 := [180, 0, 141, 29, 154, 0, 11, 28, 153, 0, 7, 4, 167, 0, 4, 3, 96, 181, 0, 141, 25, 4, 191, 177]
abbrev dktX0_ends_2 : List UInt8 := dkwX0_ends_2 ++ []
def dkwX0_ends_1 : List UInt8 := [29, 154, 0, 11, 28, 153, 0, 7, 4, 167, 0, 4, 3, 96, 181, 0, 141, 167, 0, 30, 58, 4, 42, 89]
abbrev dktX0_ends_1 : List UInt8 := dkwX0_ends_1 ++ dktX0_ends_2
def dkwX0_ends_0 : List UInt8 := [42, 89, 180, 0, 138, 4, 96, 181, 0, 138, 3, 62, 42, 43, 182, 0, 144, 4, 62, 42, 89, 180, 0, 141]
abbrev dktX0_ends_0 : List UInt8 := dkwX0_ends_0 ++ dktX0_ends_1
theorem dksX0_ends_0 : cX0_ends.data.toList.drop 0 = dktX0_ends_0 := by decide +kernel
theorem dksX0_ends_1 : cX0_ends.data.toList.drop 24 = dktX0_ends_1 := dk_seg dksX0_ends_0 24 rfl rfl
theorem dksX0_ends_2 : cX0_ends.data.toList.drop 48 = dktX0_ends_2 := dk_seg dksX0_ends_1 24 rfl rfl
theorem dX0_ends_0 : decode cX0_ends 0 = .ok (.aload_n 0, 1) := dk_42 (dk_at dksX0_ends_0 0 rfl rfl)
theorem dX0_ends_1 : decode cX0_ends 1 = .ok (.dup, 1) := dk_89 (dk_at dksX0_ends_0 1 rfl rfl)
theorem dX0_ends_2 : decode cX0_ends 2 = .ok (.getfield 138, 3) := dk_180 0 138 (dk_at dksX0_ends_0 2 rfl rfl)
theorem dX0_ends_5 : decode cX0_ends 5 = .ok (.iconst 1, 1) := dk_4 (dk_at dksX0_ends_0 5 rfl rfl)
theorem dX0_ends_6 : decode cX0_ends 6 = .ok (.iadd, 1) := dk_96 (dk_at dksX0_ends_0 6 rfl rfl)
theorem dX0_ends_7 : decode cX0_ends 7 = .ok (.putfield 138, 3) := dk_181 0 138 (dk_at dksX0_ends_0 7 rfl rfl)
theorem dX0_ends_10 : decode cX0_ends 10 = .ok (.iconst 0, 1) := dk_3 (dk_at dksX0_ends_0 10 rfl rfl)
theorem dX0_ends_11 : decode cX0_ends 11 = .ok (.istore_n 3, 1) := dk_62 (dk_at dksX0_ends_0 11 rfl rfl)
theorem dX0_ends_12 : decode cX0_ends 12 = .ok (.aload_n 0, 1) := dk_42 (dk_at dksX0_ends_0 12 rfl rfl)
theorem dX0_ends_13 : decode cX0_ends 13 = .ok (.aload_n 1, 1) := dk_43 (dk_at dksX0_ends_0 13 rfl rfl)
theorem dX0_ends_14 : decode cX0_ends 14 = .ok (.invokevirtual 144, 3) := dk_182 0 144 (dk_at dksX0_ends_0 14 rfl rfl)
theorem dX0_ends_17 : decode cX0_ends 17 = .ok (.iconst 1, 1) := dk_4 (dk_at dksX0_ends_0 17 rfl rfl)
theorem dX0_ends_18 : decode cX0_ends 18 = .ok (.istore_n 3, 1) := dk_62 (dk_at dksX0_ends_0 18 rfl rfl)
theorem dX0_ends_19 : decode cX0_ends 19 = .ok (.aload_n 0, 1) := dk_42 (dk_at dksX0_ends_0 19 rfl rfl)
theorem dX0_ends_20 : decode cX0_ends 20 = .ok (.dup, 1) := dk_89 (dk_at dksX0_ends_0 20 rfl rfl)
theorem dX0_ends_21 : decode cX0_ends 21 = .ok (.getfield 141, 3) := dk_180 0 141 (dk_at dksX0_ends_0 21 rfl rfl)
theorem dX0_ends_24 : decode cX0_ends 24 = .ok (.iload_n 3, 1) := dk_29 (dk_at dksX0_ends_1 0 rfl rfl)
theorem dX0_ends_25 : decode cX0_ends 25 = .ok (.ifCond .ne 11, 3) := dk_154 0 11 (dk_at dksX0_ends_1 1 rfl rfl)
theorem dX0_ends_28 : decode cX0_ends 28 = .ok (.iload_n 2, 1) := dk_28 (dk_at dksX0_ends_1 4 rfl rfl)
theorem dX0_ends_29 : decode cX0_ends 29 = .ok (.ifCond .eq 7, 3) := dk_153 0 7 (dk_at dksX0_ends_1 5 rfl rfl)
theorem dX0_ends_32 : decode cX0_ends 32 = .ok (.iconst 1, 1) := dk_4 (dk_at dksX0_ends_1 8 rfl rfl)
theorem dX0_ends_33 : decode cX0_ends 33 = .ok (.goto 4, 3) := dk_167 0 4 (dk_at dksX0_ends_1 9 rfl rfl)
theorem dX0_ends_36 : decode cX0_ends 36 = .ok (.iconst 0, 1) := dk_3 (dk_at dksX0_ends_1 12 rfl rfl)
theorem dX0_ends_37 : decode cX0_ends 37 = .ok (.iadd, 1) := dk_96 (dk_at dksX0_ends_1 13 rfl rfl)
theorem dX0_ends_38 : decode cX0_ends 38 = .ok (.putfield 141, 3) := dk_181 0 141 (dk_at dksX0_ends_1 14 rfl rfl)
theorem dX0_ends_41 : decode cX0_ends 41 = .ok (.goto 30, 3) := dk_167 0 30 (dk_at dksX0_ends_1 17 rfl rfl)
theorem dX0_ends_44 : decode cX0_ends 44 = .ok (.astore 4, 2) := dk_58 4 (dk_at dksX0_ends_1 20 rfl rfl)
theorem dX0_ends_46 : decode cX0_ends 46 = .ok (.aload_n 0, 1) := dk_42 (dk_at dksX0_ends_1 22 rfl rfl)
theorem dX0_ends_47 : decode cX0_ends 47 = .ok (.dup, 1) := dk_89 (dk_at dksX0_ends_1 23 rfl rfl)
theorem dX0_ends_48 : decode cX0_ends 48 = .ok (.getfield 141, 3) := dk_180 0 141 (dk_at dksX0_ends_2 0 rfl rfl)
theorem dX0_ends_51 : decode cX0_ends 51 = .ok (.iload_n 3, 1) := dk_29 (dk_at dksX0_ends_2 3 rfl rfl)
theorem dX0_ends_52 : decode cX0_ends 52 = .ok (.ifCond .ne 11, 3) := dk_154 0 11 (dk_at dksX0_ends_2 4 rfl rfl)
theorem dX0_ends_55 : decode cX0_ends 55 = .ok (.iload_n 2, 1) := dk_28 (dk_at dksX0_ends_2 7 rfl rfl)
theorem dX0_ends_56 : decode cX0_ends 56 = .ok (.ifCond .eq 7, 3) := dk_153 0 7 (dk_at dksX0_ends_2 8 rfl rfl)
theorem dX0_ends_59 : decode cX0_ends 59 = .ok (.iconst 1, 1) := dk_4 (dk_at dksX0_ends_2 11 rfl rfl)
theorem dX0_ends_60 : decode cX0_ends 60 = .ok (.goto 4, 3) := dk_167 0 4 (dk_at dksX0_ends_2 12 rfl rfl)
theorem dX0_ends_63 : decode cX0_ends 63 = .ok (.iconst 0, 1) := dk_3 (dk_at dksX0_ends_2 15 rfl rfl)
theorem dX0_ends_64 : decode cX0_ends 64 = .ok (.iadd, 1) := dk_96 (dk_at dksX0_ends_2 16 rfl rfl)
theorem dX0_ends_65 : decode cX0_ends 65 = .ok (.putfield 141, 3) := dk_181 0 141 (dk_at dksX0_ends_2 17 rfl rfl)
theorem dX0_ends_68 : decode cX0_ends 68 = .ok (.aload 4, 2) := dk_25 4 (dk_at dksX0_ends_2 20 rfl rfl)
theorem dX0_ends_70 : decode cX0_ends 70 = .ok (.athrow, 1) := dk_191 (dk_at dksX0_ends_2 22 rfl rfl)
theorem dX0_ends_71 : decode cX0_ends 71 = .ok (.return_, 1) := dk_177 (dk_at dksX0_ends_2 23 rfl rfl)
abbrev cX0_ran : ByteArray := prog_1_method_37_code
def yX0_ran : MethodName := ⟨RX0, "ran", "(I)I"⟩
def dkwX0_ran_3 : List UInt8 := [172, 42, 180, 0, 28, 172, 2, 172]
abbrev dktX0_ran_3 : List UInt8 := dkwX0_ran_3 ++ []
def dkwX0_ran_2 : List UInt8 := [42, 180, 0, 129, 172, 42, 180, 0, 132, 172, 42, 180, 0, 135, 172, 42, 180, 0, 138, 172, 42, 180, 0, 141]
abbrev dktX0_ran_2 : List UInt8 := dkwX0_ran_2 ++ dktX0_ran_3
def dkwX0_ran_1 : List UInt8 := [170, 0, 0, 0, 0, 0, 69, 0, 0, 0, 0, 0, 0, 0, 5, 0, 0, 0, 39, 0, 0, 0, 44, 0, 0, 0, 49, 0, 0, 0, 54, 0, 0, 0, 59, 0, 0, 0, 64]
abbrev dktX0_ran_1 : List UInt8 := dkwX0_ran_1 ++ dktX0_ran_2
def dkwX0_ran_0 : List UInt8 := [27]
abbrev dktX0_ran_0 : List UInt8 := dkwX0_ran_0 ++ dktX0_ran_1
theorem dksX0_ran_0 : cX0_ran.data.toList.drop 0 = dktX0_ran_0 := by decide +kernel
theorem dksX0_ran_1 : cX0_ran.data.toList.drop 1 = dktX0_ran_1 := dk_seg dksX0_ran_0 1 rfl rfl
theorem dksX0_ran_2 : cX0_ran.data.toList.drop 40 = dktX0_ran_2 := dk_seg dksX0_ran_1 39 rfl rfl
theorem dksX0_ran_3 : cX0_ran.data.toList.drop 64 = dktX0_ran_3 := dk_seg dksX0_ran_2 24 rfl rfl
theorem dX0_ran_0 : decode cX0_ran 0 = .ok (.iload_n 1, 1) := dk_27 (dk_at dksX0_ran_0 0 rfl rfl)
theorem dX0_ran_1 : decode cX0_ran 1 = .ok (.tableswitch 69 0 5 #[39, 44, 49, 54, 59, 64], 39) := by decide +kernel
theorem dX0_ran_40 : decode cX0_ran 40 = .ok (.aload_n 0, 1) := dk_42 (dk_at dksX0_ran_2 0 rfl rfl)
theorem dX0_ran_41 : decode cX0_ran 41 = .ok (.getfield 129, 3) := dk_180 0 129 (dk_at dksX0_ran_2 1 rfl rfl)
theorem dX0_ran_44 : decode cX0_ran 44 = .ok (.ireturn, 1) := dk_172 (dk_at dksX0_ran_2 4 rfl rfl)
theorem dX0_ran_45 : decode cX0_ran 45 = .ok (.aload_n 0, 1) := dk_42 (dk_at dksX0_ran_2 5 rfl rfl)
theorem dX0_ran_46 : decode cX0_ran 46 = .ok (.getfield 132, 3) := dk_180 0 132 (dk_at dksX0_ran_2 6 rfl rfl)
theorem dX0_ran_49 : decode cX0_ran 49 = .ok (.ireturn, 1) := dk_172 (dk_at dksX0_ran_2 9 rfl rfl)
theorem dX0_ran_50 : decode cX0_ran 50 = .ok (.aload_n 0, 1) := dk_42 (dk_at dksX0_ran_2 10 rfl rfl)
theorem dX0_ran_51 : decode cX0_ran 51 = .ok (.getfield 135, 3) := dk_180 0 135 (dk_at dksX0_ran_2 11 rfl rfl)
theorem dX0_ran_54 : decode cX0_ran 54 = .ok (.ireturn, 1) := dk_172 (dk_at dksX0_ran_2 14 rfl rfl)
theorem dX0_ran_55 : decode cX0_ran 55 = .ok (.aload_n 0, 1) := dk_42 (dk_at dksX0_ran_2 15 rfl rfl)
theorem dX0_ran_56 : decode cX0_ran 56 = .ok (.getfield 138, 3) := dk_180 0 138 (dk_at dksX0_ran_2 16 rfl rfl)
theorem dX0_ran_59 : decode cX0_ran 59 = .ok (.ireturn, 1) := dk_172 (dk_at dksX0_ran_2 19 rfl rfl)
theorem dX0_ran_60 : decode cX0_ran 60 = .ok (.aload_n 0, 1) := dk_42 (dk_at dksX0_ran_2 20 rfl rfl)
theorem dX0_ran_61 : decode cX0_ran 61 = .ok (.getfield 141, 3) := dk_180 0 141 (dk_at dksX0_ran_2 21 rfl rfl)
theorem dX0_ran_64 : decode cX0_ran 64 = .ok (.ireturn, 1) := dk_172 (dk_at dksX0_ran_3 0 rfl rfl)
theorem dX0_ran_65 : decode cX0_ran 65 = .ok (.aload_n 0, 1) := dk_42 (dk_at dksX0_ran_3 1 rfl rfl)
theorem dX0_ran_66 : decode cX0_ran 66 = .ok (.getfield 28, 3) := dk_180 0 28 (dk_at dksX0_ran_3 2 rfl rfl)
theorem dX0_ran_69 : decode cX0_ran 69 = .ok (.ireturn, 1) := dk_172 (dk_at dksX0_ran_3 5 rfl rfl)
theorem dX0_ran_70 : decode cX0_ran 70 = .ok (.iconst (-1), 1) := dk_2 (dk_at dksX0_ran_3 6 rfl rfl)
theorem dX0_ran_71 : decode cX0_ran 71 = .ok (.ireturn, 1) := dk_172 (dk_at dksX0_ran_3 7 rfl rfl)
abbrev cX0_clear : ByteArray := prog_1_method_38_code
def yX0_clear : MethodName := ⟨RX0, "clear", "()I"⟩
def dkwX0_clear_3 : List UInt8 := [132, 2, 1, 167, 255, 240, 42, 3, 181, 0, 44, 42, 3, 181, 0, 53, 27, 172]
abbrev dktX0_clear_3 : List UInt8 := dkwX0_clear_3 ++ []
def dkwX0_clear_2 : List UInt8 := [181, 0, 47, 132, 2, 1, 167, 255, 237, 3, 61, 28, 16, 8, 162, 0, 16, 42, 180, 0, 18, 28, 9, 80]
abbrev dktX0_clear_2 : List UInt8 := dkwX0_clear_2 ++ dktX0_clear_3
def dkwX0_clear_1 : List UInt8 := [181, 0, 47, 132, 2, 1, 167, 255, 235, 3, 61, 28, 16, 12, 162, 0, 19, 42, 180, 0, 15, 28, 50, 1]
abbrev dktX0_clear_1 : List UInt8 := dkwX0_clear_1 ++ dktX0_clear_2
def dkwX0_clear_0 : List UInt8 := [42, 180, 0, 44, 60, 3, 61, 28, 42, 180, 0, 44, 162, 0, 19, 42, 180, 0, 11, 28, 50, 1]
abbrev dktX0_clear_0 : List UInt8 := dkwX0_clear_0 ++ dktX0_clear_1
theorem dksX0_clear_0 : cX0_clear.data.toList.drop 0 = dktX0_clear_0 := by decide +kernel
theorem dksX0_clear_1 : cX0_clear.data.toList.drop 22 = dktX0_clear_1 := dk_seg dksX0_clear_0 22 rfl rfl
theorem dksX0_clear_2 : cX0_clear.data.toList.drop 46 = dktX0_clear_2 := dk_seg dksX0_clear_1 24 rfl rfl
theorem dksX0_clear_3 : cX0_clear.data.toList.drop 70 = dktX0_clear_3 := dk_seg dksX0_clear_2 24 rfl rfl
theorem dX0_clear_0 : decode cX0_clear 0 = .ok (.aload_n 0, 1) := dk_42 (dk_at dksX0_clear_0 0 rfl rfl)
theorem dX0_clear_1 : decode cX0_clear 1 = .ok (.getfield 44, 3) := dk_180 0 44 (dk_at dksX0_clear_0 1 rfl rfl)
theorem dX0_clear_4 : decode cX0_clear 4 = .ok (.istore_n 1, 1) := dk_60 (dk_at dksX0_clear_0 4 rfl rfl)
theorem dX0_clear_5 : decode cX0_clear 5 = .ok (.iconst 0, 1) := dk_3 (dk_at dksX0_clear_0 5 rfl rfl)
theorem dX0_clear_6 : decode cX0_clear 6 = .ok (.istore_n 2, 1) := dk_61 (dk_at dksX0_clear_0 6 rfl rfl)
theorem dX0_clear_7 : decode cX0_clear 7 = .ok (.iload_n 2, 1) := dk_28 (dk_at dksX0_clear_0 7 rfl rfl)
theorem dX0_clear_8 : decode cX0_clear 8 = .ok (.aload_n 0, 1) := dk_42 (dk_at dksX0_clear_0 8 rfl rfl)
theorem dX0_clear_9 : decode cX0_clear 9 = .ok (.getfield 44, 3) := dk_180 0 44 (dk_at dksX0_clear_0 9 rfl rfl)
theorem dX0_clear_12 : decode cX0_clear 12 = .ok (.if_icmp .ge 19, 3) := dk_162 0 19 (dk_at dksX0_clear_0 12 rfl rfl)
theorem dX0_clear_15 : decode cX0_clear 15 = .ok (.aload_n 0, 1) := dk_42 (dk_at dksX0_clear_0 15 rfl rfl)
theorem dX0_clear_16 : decode cX0_clear 16 = .ok (.getfield 11, 3) := dk_180 0 11 (dk_at dksX0_clear_0 16 rfl rfl)
theorem dX0_clear_19 : decode cX0_clear 19 = .ok (.iload_n 2, 1) := dk_28 (dk_at dksX0_clear_0 19 rfl rfl)
theorem dX0_clear_20 : decode cX0_clear 20 = .ok (.aaload, 1) := dk_50 (dk_at dksX0_clear_0 20 rfl rfl)
theorem dX0_clear_21 : decode cX0_clear 21 = .ok (.aconst_null, 1) := dk_1 (dk_at dksX0_clear_0 21 rfl rfl)
theorem dX0_clear_22 : decode cX0_clear 22 = .ok (.putfield 47, 3) := dk_181 0 47 (dk_at dksX0_clear_1 0 rfl rfl)
theorem dX0_clear_25 : decode cX0_clear 25 = .ok (.iinc 2 1, 3) := dk_132 2 1 (dk_at dksX0_clear_1 3 rfl rfl)
theorem dX0_clear_28 : decode cX0_clear 28 = .ok (.goto (-21), 3) := dk_167 255 235 (dk_at dksX0_clear_1 6 rfl rfl)
theorem dX0_clear_31 : decode cX0_clear 31 = .ok (.iconst 0, 1) := dk_3 (dk_at dksX0_clear_1 9 rfl rfl)
theorem dX0_clear_32 : decode cX0_clear 32 = .ok (.istore_n 2, 1) := dk_61 (dk_at dksX0_clear_1 10 rfl rfl)
theorem dX0_clear_33 : decode cX0_clear 33 = .ok (.iload_n 2, 1) := dk_28 (dk_at dksX0_clear_1 11 rfl rfl)
theorem dX0_clear_34 : decode cX0_clear 34 = .ok (.bipush 12, 2) := dk_16 12 (dk_at dksX0_clear_1 12 rfl rfl)
theorem dX0_clear_36 : decode cX0_clear 36 = .ok (.if_icmp .ge 19, 3) := dk_162 0 19 (dk_at dksX0_clear_1 14 rfl rfl)
theorem dX0_clear_39 : decode cX0_clear 39 = .ok (.aload_n 0, 1) := dk_42 (dk_at dksX0_clear_1 17 rfl rfl)
theorem dX0_clear_40 : decode cX0_clear 40 = .ok (.getfield 15, 3) := dk_180 0 15 (dk_at dksX0_clear_1 18 rfl rfl)
theorem dX0_clear_43 : decode cX0_clear 43 = .ok (.iload_n 2, 1) := dk_28 (dk_at dksX0_clear_1 21 rfl rfl)
theorem dX0_clear_44 : decode cX0_clear 44 = .ok (.aaload, 1) := dk_50 (dk_at dksX0_clear_1 22 rfl rfl)
theorem dX0_clear_45 : decode cX0_clear 45 = .ok (.aconst_null, 1) := dk_1 (dk_at dksX0_clear_1 23 rfl rfl)
theorem dX0_clear_46 : decode cX0_clear 46 = .ok (.putfield 47, 3) := dk_181 0 47 (dk_at dksX0_clear_2 0 rfl rfl)
theorem dX0_clear_49 : decode cX0_clear 49 = .ok (.iinc 2 1, 3) := dk_132 2 1 (dk_at dksX0_clear_2 3 rfl rfl)
theorem dX0_clear_52 : decode cX0_clear 52 = .ok (.goto (-19), 3) := dk_167 255 237 (dk_at dksX0_clear_2 6 rfl rfl)
theorem dX0_clear_55 : decode cX0_clear 55 = .ok (.iconst 0, 1) := dk_3 (dk_at dksX0_clear_2 9 rfl rfl)
theorem dX0_clear_56 : decode cX0_clear 56 = .ok (.istore_n 2, 1) := dk_61 (dk_at dksX0_clear_2 10 rfl rfl)
theorem dX0_clear_57 : decode cX0_clear 57 = .ok (.iload_n 2, 1) := dk_28 (dk_at dksX0_clear_2 11 rfl rfl)
theorem dX0_clear_58 : decode cX0_clear 58 = .ok (.bipush 8, 2) := dk_16 8 (dk_at dksX0_clear_2 12 rfl rfl)
theorem dX0_clear_60 : decode cX0_clear 60 = .ok (.if_icmp .ge 16, 3) := dk_162 0 16 (dk_at dksX0_clear_2 14 rfl rfl)
theorem dX0_clear_63 : decode cX0_clear 63 = .ok (.aload_n 0, 1) := dk_42 (dk_at dksX0_clear_2 17 rfl rfl)
theorem dX0_clear_64 : decode cX0_clear 64 = .ok (.getfield 18, 3) := dk_180 0 18 (dk_at dksX0_clear_2 18 rfl rfl)
theorem dX0_clear_67 : decode cX0_clear 67 = .ok (.iload_n 2, 1) := dk_28 (dk_at dksX0_clear_2 21 rfl rfl)
theorem dX0_clear_68 : decode cX0_clear 68 = .ok (.lconst 0, 1) := dk_9 (dk_at dksX0_clear_2 22 rfl rfl)
theorem dX0_clear_69 : decode cX0_clear 69 = .ok (.lastore, 1) := dk_80 (dk_at dksX0_clear_2 23 rfl rfl)
theorem dX0_clear_70 : decode cX0_clear 70 = .ok (.iinc 2 1, 3) := dk_132 2 1 (dk_at dksX0_clear_3 0 rfl rfl)
theorem dX0_clear_73 : decode cX0_clear 73 = .ok (.goto (-16), 3) := dk_167 255 240 (dk_at dksX0_clear_3 3 rfl rfl)
theorem dX0_clear_76 : decode cX0_clear 76 = .ok (.aload_n 0, 1) := dk_42 (dk_at dksX0_clear_3 6 rfl rfl)
theorem dX0_clear_77 : decode cX0_clear 77 = .ok (.iconst 0, 1) := dk_3 (dk_at dksX0_clear_3 7 rfl rfl)
theorem dX0_clear_78 : decode cX0_clear 78 = .ok (.putfield 44, 3) := dk_181 0 44 (dk_at dksX0_clear_3 8 rfl rfl)
theorem dX0_clear_81 : decode cX0_clear 81 = .ok (.aload_n 0, 1) := dk_42 (dk_at dksX0_clear_3 11 rfl rfl)
theorem dX0_clear_82 : decode cX0_clear 82 = .ok (.iconst 0, 1) := dk_3 (dk_at dksX0_clear_3 12 rfl rfl)
theorem dX0_clear_83 : decode cX0_clear 83 = .ok (.putfield 53, 3) := dk_181 0 53 (dk_at dksX0_clear_3 13 rfl rfl)
theorem dX0_clear_86 : decode cX0_clear 86 = .ok (.iload_n 1, 1) := dk_27 (dk_at dksX0_clear_3 16 rfl rfl)
theorem dX0_clear_87 : decode cX0_clear 87 = .ok (.ireturn, 1) := dk_172 (dk_at dksX0_clear_3 17 rfl rfl)
abbrev cX0_count : ByteArray := prog_1_method_39_code
def yX0_count : MethodName := ⟨RX0, "count", "(I)I"⟩
def dkwX0_count_3 : List UInt8 := [167, 0, 17, 42, 180, 0, 24, 42, 180, 0, 77, 4, 100, 50, 180, 0, 107, 172, 2, 172]
abbrev dktX0_count_3 : List UInt8 := dkwX0_count_3 ++ []
def dkwX0_count_2 : List UInt8 := [42, 180, 0, 44, 172, 42, 180, 0, 53, 172, 42, 180, 0, 77, 172, 42, 180, 0, 77, 154, 0, 7, 3]
abbrev dktX0_count_2 : List UInt8 := dkwX0_count_2 ++ dktX0_count_3
def dkwX0_count_1 : List UInt8 := [170, 0, 0, 0, 0, 0, 72, 0, 0, 0, 0, 0, 0, 0, 3, 0, 0, 0, 31, 0, 0, 0, 36, 0, 0, 0, 41, 0, 0, 0, 46]
abbrev dktX0_count_1 : List UInt8 := dkwX0_count_1 ++ dktX0_count_2
def dkwX0_count_0 : List UInt8 := [27]
abbrev dktX0_count_0 : List UInt8 := dkwX0_count_0 ++ dktX0_count_1
theorem dksX0_count_0 : cX0_count.data.toList.drop 0 = dktX0_count_0 := by decide +kernel
theorem dksX0_count_1 : cX0_count.data.toList.drop 1 = dktX0_count_1 := dk_seg dksX0_count_0 1 rfl rfl
theorem dksX0_count_2 : cX0_count.data.toList.drop 32 = dktX0_count_2 := dk_seg dksX0_count_1 31 rfl rfl
theorem dksX0_count_3 : cX0_count.data.toList.drop 55 = dktX0_count_3 := dk_seg dksX0_count_2 23 rfl rfl
theorem dX0_count_0 : decode cX0_count 0 = .ok (.iload_n 1, 1) := dk_27 (dk_at dksX0_count_0 0 rfl rfl)
theorem dX0_count_1 : decode cX0_count 1 = .ok (.tableswitch 72 0 3 #[31, 36, 41, 46], 31) := by decide +kernel
theorem dX0_count_32 : decode cX0_count 32 = .ok (.aload_n 0, 1) := dk_42 (dk_at dksX0_count_2 0 rfl rfl)
theorem dX0_count_33 : decode cX0_count 33 = .ok (.getfield 44, 3) := dk_180 0 44 (dk_at dksX0_count_2 1 rfl rfl)
theorem dX0_count_36 : decode cX0_count 36 = .ok (.ireturn, 1) := dk_172 (dk_at dksX0_count_2 4 rfl rfl)
theorem dX0_count_37 : decode cX0_count 37 = .ok (.aload_n 0, 1) := dk_42 (dk_at dksX0_count_2 5 rfl rfl)
theorem dX0_count_38 : decode cX0_count 38 = .ok (.getfield 53, 3) := dk_180 0 53 (dk_at dksX0_count_2 6 rfl rfl)
theorem dX0_count_41 : decode cX0_count 41 = .ok (.ireturn, 1) := dk_172 (dk_at dksX0_count_2 9 rfl rfl)
theorem dX0_count_42 : decode cX0_count 42 = .ok (.aload_n 0, 1) := dk_42 (dk_at dksX0_count_2 10 rfl rfl)
theorem dX0_count_43 : decode cX0_count 43 = .ok (.getfield 77, 3) := dk_180 0 77 (dk_at dksX0_count_2 11 rfl rfl)
theorem dX0_count_46 : decode cX0_count 46 = .ok (.ireturn, 1) := dk_172 (dk_at dksX0_count_2 14 rfl rfl)
theorem dX0_count_47 : decode cX0_count 47 = .ok (.aload_n 0, 1) := dk_42 (dk_at dksX0_count_2 15 rfl rfl)
theorem dX0_count_48 : decode cX0_count 48 = .ok (.getfield 77, 3) := dk_180 0 77 (dk_at dksX0_count_2 16 rfl rfl)
theorem dX0_count_51 : decode cX0_count 51 = .ok (.ifCond .ne 7, 3) := dk_154 0 7 (dk_at dksX0_count_2 19 rfl rfl)
theorem dX0_count_54 : decode cX0_count 54 = .ok (.iconst 0, 1) := dk_3 (dk_at dksX0_count_2 22 rfl rfl)
theorem dX0_count_55 : decode cX0_count 55 = .ok (.goto 17, 3) := dk_167 0 17 (dk_at dksX0_count_3 0 rfl rfl)
theorem dX0_count_58 : decode cX0_count 58 = .ok (.aload_n 0, 1) := dk_42 (dk_at dksX0_count_3 3 rfl rfl)
theorem dX0_count_59 : decode cX0_count 59 = .ok (.getfield 24, 3) := dk_180 0 24 (dk_at dksX0_count_3 4 rfl rfl)
theorem dX0_count_62 : decode cX0_count 62 = .ok (.aload_n 0, 1) := dk_42 (dk_at dksX0_count_3 7 rfl rfl)
theorem dX0_count_63 : decode cX0_count 63 = .ok (.getfield 77, 3) := dk_180 0 77 (dk_at dksX0_count_3 8 rfl rfl)
theorem dX0_count_66 : decode cX0_count 66 = .ok (.iconst 1, 1) := dk_4 (dk_at dksX0_count_3 11 rfl rfl)
theorem dX0_count_67 : decode cX0_count 67 = .ok (.isub, 1) := dk_100 (dk_at dksX0_count_3 12 rfl rfl)
theorem dX0_count_68 : decode cX0_count 68 = .ok (.aaload, 1) := dk_50 (dk_at dksX0_count_3 13 rfl rfl)
theorem dX0_count_69 : decode cX0_count 69 = .ok (.getfield 107, 3) := dk_180 0 107 (dk_at dksX0_count_3 14 rfl rfl)
theorem dX0_count_72 : decode cX0_count 72 = .ok (.ireturn, 1) := dk_172 (dk_at dksX0_count_3 17 rfl rfl)
theorem dX0_count_73 : decode cX0_count 73 = .ok (.iconst (-1), 1) := dk_2 (dk_at dksX0_count_3 18 rfl rfl)
theorem dX0_count_74 : decode cX0_count 74 = .ok (.ireturn, 1) := dk_172 (dk_at dksX0_count_3 19 rfl rfl)
abbrev cX0_slot : ByteArray := prog_1_method_40_code
def yX0_slot : MethodName := ⟨RX0, "slot", "(II)I"⟩
def dkwX0_slot_2 : List UInt8 := [182, 0, 175, 167, 0, 7, 45, 182, 1, 63, 172]
abbrev dktX0_slot_2 : List UInt8 := dkwX0_slot_2 ++ []
def dkwX0_slot_1 : List UInt8 := [78, 28, 154, 0, 14, 42, 45, 180, 0, 47, 182, 1, 70, 167, 0, 19, 28, 4, 160, 0, 10, 45]
abbrev dktX0_slot_1 : List UInt8 := dkwX0_slot_1 ++ dktX0_slot_2
def dkwX0_slot_0 : List UInt8 := [27, 184, 0, 80, 153, 0, 12, 28, 3, 5, 184, 0, 73, 154, 0, 5, 2, 172, 42, 180, 0, 15, 27, 50]
abbrev dktX0_slot_0 : List UInt8 := dkwX0_slot_0 ++ dktX0_slot_1
theorem dksX0_slot_0 : cX0_slot.data.toList.drop 0 = dktX0_slot_0 := by decide +kernel
theorem dksX0_slot_1 : cX0_slot.data.toList.drop 24 = dktX0_slot_1 := dk_seg dksX0_slot_0 24 rfl rfl
theorem dksX0_slot_2 : cX0_slot.data.toList.drop 46 = dktX0_slot_2 := dk_seg dksX0_slot_1 22 rfl rfl
theorem dX0_slot_0 : decode cX0_slot 0 = .ok (.iload_n 1, 1) := dk_27 (dk_at dksX0_slot_0 0 rfl rfl)
theorem dX0_slot_1 : decode cX0_slot 1 = .ok (.invokestatic 80, 3) := dk_184 0 80 (dk_at dksX0_slot_0 1 rfl rfl)
theorem dX0_slot_4 : decode cX0_slot 4 = .ok (.ifCond .eq 12, 3) := dk_153 0 12 (dk_at dksX0_slot_0 4 rfl rfl)
theorem dX0_slot_7 : decode cX0_slot 7 = .ok (.iload_n 2, 1) := dk_28 (dk_at dksX0_slot_0 7 rfl rfl)
theorem dX0_slot_8 : decode cX0_slot 8 = .ok (.iconst 0, 1) := dk_3 (dk_at dksX0_slot_0 8 rfl rfl)
theorem dX0_slot_9 : decode cX0_slot 9 = .ok (.iconst 2, 1) := dk_5 (dk_at dksX0_slot_0 9 rfl rfl)
theorem dX0_slot_10 : decode cX0_slot 10 = .ok (.invokestatic 73, 3) := dk_184 0 73 (dk_at dksX0_slot_0 10 rfl rfl)
theorem dX0_slot_13 : decode cX0_slot 13 = .ok (.ifCond .ne 5, 3) := dk_154 0 5 (dk_at dksX0_slot_0 13 rfl rfl)
theorem dX0_slot_16 : decode cX0_slot 16 = .ok (.iconst (-1), 1) := dk_2 (dk_at dksX0_slot_0 16 rfl rfl)
theorem dX0_slot_17 : decode cX0_slot 17 = .ok (.ireturn, 1) := dk_172 (dk_at dksX0_slot_0 17 rfl rfl)
theorem dX0_slot_18 : decode cX0_slot 18 = .ok (.aload_n 0, 1) := dk_42 (dk_at dksX0_slot_0 18 rfl rfl)
theorem dX0_slot_19 : decode cX0_slot 19 = .ok (.getfield 15, 3) := dk_180 0 15 (dk_at dksX0_slot_0 19 rfl rfl)
theorem dX0_slot_22 : decode cX0_slot 22 = .ok (.iload_n 1, 1) := dk_27 (dk_at dksX0_slot_0 22 rfl rfl)
theorem dX0_slot_23 : decode cX0_slot 23 = .ok (.aaload, 1) := dk_50 (dk_at dksX0_slot_0 23 rfl rfl)
theorem dX0_slot_24 : decode cX0_slot 24 = .ok (.astore_n 3, 1) := dk_78 (dk_at dksX0_slot_1 0 rfl rfl)
theorem dX0_slot_25 : decode cX0_slot 25 = .ok (.iload_n 2, 1) := dk_28 (dk_at dksX0_slot_1 1 rfl rfl)
theorem dX0_slot_26 : decode cX0_slot 26 = .ok (.ifCond .ne 14, 3) := dk_154 0 14 (dk_at dksX0_slot_1 2 rfl rfl)
theorem dX0_slot_29 : decode cX0_slot 29 = .ok (.aload_n 0, 1) := dk_42 (dk_at dksX0_slot_1 5 rfl rfl)
theorem dX0_slot_30 : decode cX0_slot 30 = .ok (.aload_n 3, 1) := dk_45 (dk_at dksX0_slot_1 6 rfl rfl)
theorem dX0_slot_31 : decode cX0_slot 31 = .ok (.getfield 47, 3) := dk_180 0 47 (dk_at dksX0_slot_1 7 rfl rfl)
theorem dX0_slot_34 : decode cX0_slot 34 = .ok (.invokevirtual 326, 3) := dk_182 1 70 (dk_at dksX0_slot_1 10 rfl rfl)
theorem dX0_slot_37 : decode cX0_slot 37 = .ok (.goto 19, 3) := dk_167 0 19 (dk_at dksX0_slot_1 13 rfl rfl)
theorem dX0_slot_40 : decode cX0_slot 40 = .ok (.iload_n 2, 1) := dk_28 (dk_at dksX0_slot_1 16 rfl rfl)
theorem dX0_slot_41 : decode cX0_slot 41 = .ok (.iconst 1, 1) := dk_4 (dk_at dksX0_slot_1 17 rfl rfl)
theorem dX0_slot_42 : decode cX0_slot 42 = .ok (.if_icmp .ne 10, 3) := dk_160 0 10 (dk_at dksX0_slot_1 18 rfl rfl)
theorem dX0_slot_45 : decode cX0_slot 45 = .ok (.aload_n 3, 1) := dk_45 (dk_at dksX0_slot_1 21 rfl rfl)
theorem dX0_slot_46 : decode cX0_slot 46 = .ok (.invokevirtual 175, 3) := dk_182 0 175 (dk_at dksX0_slot_2 0 rfl rfl)
theorem dX0_slot_49 : decode cX0_slot 49 = .ok (.goto 7, 3) := dk_167 0 7 (dk_at dksX0_slot_2 3 rfl rfl)
theorem dX0_slot_52 : decode cX0_slot 52 = .ok (.aload_n 3, 1) := dk_45 (dk_at dksX0_slot_2 6 rfl rfl)
theorem dX0_slot_53 : decode cX0_slot 53 = .ok (.invokevirtual 319, 3) := dk_182 1 63 (dk_at dksX0_slot_2 7 rfl rfl)
theorem dX0_slot_56 : decode cX0_slot 56 = .ok (.ireturn, 1) := dk_172 (dk_at dksX0_slot_2 10 rfl rfl)
abbrev cX0_numberOf : ByteArray := prog_1_method_3_code
def yX0_numberOf : MethodName := ⟨RX0, "numberOf", "(Ljava/lang/Object;)I"⟩
def dkwX0_numberOf_1 : List UInt8 := [4, 96, 172, 132, 2, 1, 167, 255, 228, 3, 172]
abbrev dktX0_numberOf_1 : List UInt8 := dkwX0_numberOf_1 ++ []
def dkwX0_numberOf_0 : List UInt8 := [3, 61, 28, 42, 180, 0, 44, 162, 0, 26, 42, 180, 0, 11, 28, 50, 180, 0, 47, 43, 166, 0, 7, 28]
abbrev dktX0_numberOf_0 : List UInt8 := dkwX0_numberOf_0 ++ dktX0_numberOf_1
theorem dksX0_numberOf_0 : cX0_numberOf.data.toList.drop 0 = dktX0_numberOf_0 := by decide +kernel
theorem dksX0_numberOf_1 : cX0_numberOf.data.toList.drop 24 = dktX0_numberOf_1 := dk_seg dksX0_numberOf_0 24 rfl rfl
theorem dX0_numberOf_0 : decode cX0_numberOf 0 = .ok (.iconst 0, 1) := dk_3 (dk_at dksX0_numberOf_0 0 rfl rfl)
theorem dX0_numberOf_1 : decode cX0_numberOf 1 = .ok (.istore_n 2, 1) := dk_61 (dk_at dksX0_numberOf_0 1 rfl rfl)
theorem dX0_numberOf_2 : decode cX0_numberOf 2 = .ok (.iload_n 2, 1) := dk_28 (dk_at dksX0_numberOf_0 2 rfl rfl)
theorem dX0_numberOf_3 : decode cX0_numberOf 3 = .ok (.aload_n 0, 1) := dk_42 (dk_at dksX0_numberOf_0 3 rfl rfl)
theorem dX0_numberOf_4 : decode cX0_numberOf 4 = .ok (.getfield 44, 3) := dk_180 0 44 (dk_at dksX0_numberOf_0 4 rfl rfl)
theorem dX0_numberOf_7 : decode cX0_numberOf 7 = .ok (.if_icmp .ge 26, 3) := dk_162 0 26 (dk_at dksX0_numberOf_0 7 rfl rfl)
theorem dX0_numberOf_10 : decode cX0_numberOf 10 = .ok (.aload_n 0, 1) := dk_42 (dk_at dksX0_numberOf_0 10 rfl rfl)
theorem dX0_numberOf_11 : decode cX0_numberOf 11 = .ok (.getfield 11, 3) := dk_180 0 11 (dk_at dksX0_numberOf_0 11 rfl rfl)
theorem dX0_numberOf_14 : decode cX0_numberOf 14 = .ok (.iload_n 2, 1) := dk_28 (dk_at dksX0_numberOf_0 14 rfl rfl)
theorem dX0_numberOf_15 : decode cX0_numberOf 15 = .ok (.aaload, 1) := dk_50 (dk_at dksX0_numberOf_0 15 rfl rfl)
theorem dX0_numberOf_16 : decode cX0_numberOf 16 = .ok (.getfield 47, 3) := dk_180 0 47 (dk_at dksX0_numberOf_0 16 rfl rfl)
theorem dX0_numberOf_19 : decode cX0_numberOf 19 = .ok (.aload_n 1, 1) := dk_43 (dk_at dksX0_numberOf_0 19 rfl rfl)
theorem dX0_numberOf_20 : decode cX0_numberOf 20 = .ok (.if_acmp .ne 7, 3) := dk_166 0 7 (dk_at dksX0_numberOf_0 20 rfl rfl)
theorem dX0_numberOf_23 : decode cX0_numberOf 23 = .ok (.iload_n 2, 1) := dk_28 (dk_at dksX0_numberOf_0 23 rfl rfl)
theorem dX0_numberOf_24 : decode cX0_numberOf 24 = .ok (.iconst 1, 1) := dk_4 (dk_at dksX0_numberOf_1 0 rfl rfl)
theorem dX0_numberOf_25 : decode cX0_numberOf 25 = .ok (.iadd, 1) := dk_96 (dk_at dksX0_numberOf_1 1 rfl rfl)
theorem dX0_numberOf_26 : decode cX0_numberOf 26 = .ok (.ireturn, 1) := dk_172 (dk_at dksX0_numberOf_1 2 rfl rfl)
theorem dX0_numberOf_27 : decode cX0_numberOf 27 = .ok (.iinc 2 1, 3) := dk_132 2 1 (dk_at dksX0_numberOf_1 3 rfl rfl)
theorem dX0_numberOf_30 : decode cX0_numberOf 30 = .ok (.goto (-28), 3) := dk_167 255 228 (dk_at dksX0_numberOf_1 6 rfl rfl)
theorem dX0_numberOf_33 : decode cX0_numberOf 33 = .ok (.iconst 0, 1) := dk_3 (dk_at dksX0_numberOf_1 9 rfl rfl)
theorem dX0_numberOf_34 : decode cX0_numberOf 34 = .ok (.ireturn, 1) := dk_172 (dk_at dksX0_numberOf_1 10 rfl rfl)
abbrev cX0_item : ByteArray := prog_1_method_41_code
def yX0_item : MethodName := ⟨RX0, "item", "(II)J"⟩
def dkwX0_item_4 : List UInt8 := [192, 1, 35, 28, 50, 182, 1, 70, 133, 173]
abbrev dktX0_item_4 : List UInt8 := dkwX0_item_4 ++ []
def dkwX0_item_3 : List UInt8 := [28, 184, 0, 251, 167, 0, 29, 42, 21, 4, 8, 160, 0, 12, 45, 192, 1, 28, 28, 50, 167, 0, 9, 45]
abbrev dktX0_item_3 : List UInt8 := dkwX0_item_3 ++ dktX0_item_4
def dkwX0_item_2 : List UInt8 := [180, 0, 47, 78, 42, 180, 0, 15, 27, 50, 182, 0, 175, 54, 4, 21, 4, 8, 162, 0, 13, 45, 21, 4]
abbrev dktX0_item_2 : List UInt8 := dkwX0_item_2 ++ dktX0_item_3
def dkwX0_item_1 : List UInt8 := [180, 0, 15, 27, 50, 182, 1, 63, 4, 100, 184, 0, 73, 154, 0, 5, 9, 173, 42, 180, 0, 15, 27, 50]
abbrev dktX0_item_1 : List UInt8 := dkwX0_item_1 ++ dktX0_item_2
def dkwX0_item_0 : List UInt8 := [27, 184, 0, 80, 153, 0, 34, 42, 180, 0, 15, 27, 50, 182, 1, 56, 153, 0, 22, 28, 3, 42]
abbrev dktX0_item_0 : List UInt8 := dkwX0_item_0 ++ dktX0_item_1
theorem dksX0_item_0 : cX0_item.data.toList.drop 0 = dktX0_item_0 := by decide +kernel
theorem dksX0_item_1 : cX0_item.data.toList.drop 22 = dktX0_item_1 := dk_seg dksX0_item_0 22 rfl rfl
theorem dksX0_item_2 : cX0_item.data.toList.drop 46 = dktX0_item_2 := dk_seg dksX0_item_1 24 rfl rfl
theorem dksX0_item_3 : cX0_item.data.toList.drop 70 = dktX0_item_3 := dk_seg dksX0_item_2 24 rfl rfl
theorem dksX0_item_4 : cX0_item.data.toList.drop 94 = dktX0_item_4 := dk_seg dksX0_item_3 24 rfl rfl
theorem dX0_item_0 : decode cX0_item 0 = .ok (.iload_n 1, 1) := dk_27 (dk_at dksX0_item_0 0 rfl rfl)
theorem dX0_item_1 : decode cX0_item 1 = .ok (.invokestatic 80, 3) := dk_184 0 80 (dk_at dksX0_item_0 1 rfl rfl)
theorem dX0_item_4 : decode cX0_item 4 = .ok (.ifCond .eq 34, 3) := dk_153 0 34 (dk_at dksX0_item_0 4 rfl rfl)
theorem dX0_item_7 : decode cX0_item 7 = .ok (.aload_n 0, 1) := dk_42 (dk_at dksX0_item_0 7 rfl rfl)
theorem dX0_item_8 : decode cX0_item 8 = .ok (.getfield 15, 3) := dk_180 0 15 (dk_at dksX0_item_0 8 rfl rfl)
theorem dX0_item_11 : decode cX0_item 11 = .ok (.iload_n 1, 1) := dk_27 (dk_at dksX0_item_0 11 rfl rfl)
theorem dX0_item_12 : decode cX0_item 12 = .ok (.aaload, 1) := dk_50 (dk_at dksX0_item_0 12 rfl rfl)
theorem dX0_item_13 : decode cX0_item 13 = .ok (.invokevirtual 312, 3) := dk_182 1 56 (dk_at dksX0_item_0 13 rfl rfl)
theorem dX0_item_16 : decode cX0_item 16 = .ok (.ifCond .eq 22, 3) := dk_153 0 22 (dk_at dksX0_item_0 16 rfl rfl)
theorem dX0_item_19 : decode cX0_item 19 = .ok (.iload_n 2, 1) := dk_28 (dk_at dksX0_item_0 19 rfl rfl)
theorem dX0_item_20 : decode cX0_item 20 = .ok (.iconst 0, 1) := dk_3 (dk_at dksX0_item_0 20 rfl rfl)
theorem dX0_item_21 : decode cX0_item 21 = .ok (.aload_n 0, 1) := dk_42 (dk_at dksX0_item_0 21 rfl rfl)
theorem dX0_item_22 : decode cX0_item 22 = .ok (.getfield 15, 3) := dk_180 0 15 (dk_at dksX0_item_1 0 rfl rfl)
theorem dX0_item_25 : decode cX0_item 25 = .ok (.iload_n 1, 1) := dk_27 (dk_at dksX0_item_1 3 rfl rfl)
theorem dX0_item_26 : decode cX0_item 26 = .ok (.aaload, 1) := dk_50 (dk_at dksX0_item_1 4 rfl rfl)
theorem dX0_item_27 : decode cX0_item 27 = .ok (.invokevirtual 319, 3) := dk_182 1 63 (dk_at dksX0_item_1 5 rfl rfl)
theorem dX0_item_30 : decode cX0_item 30 = .ok (.iconst 1, 1) := dk_4 (dk_at dksX0_item_1 8 rfl rfl)
theorem dX0_item_31 : decode cX0_item 31 = .ok (.isub, 1) := dk_100 (dk_at dksX0_item_1 9 rfl rfl)
theorem dX0_item_32 : decode cX0_item 32 = .ok (.invokestatic 73, 3) := dk_184 0 73 (dk_at dksX0_item_1 10 rfl rfl)
theorem dX0_item_35 : decode cX0_item 35 = .ok (.ifCond .ne 5, 3) := dk_154 0 5 (dk_at dksX0_item_1 13 rfl rfl)
theorem dX0_item_38 : decode cX0_item 38 = .ok (.lconst 0, 1) := dk_9 (dk_at dksX0_item_1 16 rfl rfl)
theorem dX0_item_39 : decode cX0_item 39 = .ok (.lreturn, 1) := dk_173 (dk_at dksX0_item_1 17 rfl rfl)
theorem dX0_item_40 : decode cX0_item 40 = .ok (.aload_n 0, 1) := dk_42 (dk_at dksX0_item_1 18 rfl rfl)
theorem dX0_item_41 : decode cX0_item 41 = .ok (.getfield 15, 3) := dk_180 0 15 (dk_at dksX0_item_1 19 rfl rfl)
theorem dX0_item_44 : decode cX0_item 44 = .ok (.iload_n 1, 1) := dk_27 (dk_at dksX0_item_1 22 rfl rfl)
theorem dX0_item_45 : decode cX0_item 45 = .ok (.aaload, 1) := dk_50 (dk_at dksX0_item_1 23 rfl rfl)
theorem dX0_item_46 : decode cX0_item 46 = .ok (.getfield 47, 3) := dk_180 0 47 (dk_at dksX0_item_2 0 rfl rfl)
theorem dX0_item_49 : decode cX0_item 49 = .ok (.astore_n 3, 1) := dk_78 (dk_at dksX0_item_2 3 rfl rfl)
theorem dX0_item_50 : decode cX0_item 50 = .ok (.aload_n 0, 1) := dk_42 (dk_at dksX0_item_2 4 rfl rfl)
theorem dX0_item_51 : decode cX0_item 51 = .ok (.getfield 15, 3) := dk_180 0 15 (dk_at dksX0_item_2 5 rfl rfl)
theorem dX0_item_54 : decode cX0_item 54 = .ok (.iload_n 1, 1) := dk_27 (dk_at dksX0_item_2 8 rfl rfl)
theorem dX0_item_55 : decode cX0_item 55 = .ok (.aaload, 1) := dk_50 (dk_at dksX0_item_2 9 rfl rfl)
theorem dX0_item_56 : decode cX0_item 56 = .ok (.invokevirtual 175, 3) := dk_182 0 175 (dk_at dksX0_item_2 10 rfl rfl)
theorem dX0_item_59 : decode cX0_item 59 = .ok (.istore 4, 2) := dk_54 4 (dk_at dksX0_item_2 13 rfl rfl)
theorem dX0_item_61 : decode cX0_item 61 = .ok (.iload 4, 2) := dk_21 4 (dk_at dksX0_item_2 15 rfl rfl)
theorem dX0_item_63 : decode cX0_item 63 = .ok (.iconst 5, 1) := dk_8 (dk_at dksX0_item_2 17 rfl rfl)
theorem dX0_item_64 : decode cX0_item 64 = .ok (.if_icmp .ge 13, 3) := dk_162 0 13 (dk_at dksX0_item_2 18 rfl rfl)
theorem dX0_item_67 : decode cX0_item 67 = .ok (.aload_n 3, 1) := dk_45 (dk_at dksX0_item_2 21 rfl rfl)
theorem dX0_item_68 : decode cX0_item 68 = .ok (.iload 4, 2) := dk_21 4 (dk_at dksX0_item_2 22 rfl rfl)
theorem dX0_item_70 : decode cX0_item 70 = .ok (.iload_n 2, 1) := dk_28 (dk_at dksX0_item_3 0 rfl rfl)
theorem dX0_item_71 : decode cX0_item 71 = .ok (.invokestatic 251, 3) := dk_184 0 251 (dk_at dksX0_item_3 1 rfl rfl)
theorem dX0_item_74 : decode cX0_item 74 = .ok (.goto 29, 3) := dk_167 0 29 (dk_at dksX0_item_3 4 rfl rfl)
theorem dX0_item_77 : decode cX0_item 77 = .ok (.aload_n 0, 1) := dk_42 (dk_at dksX0_item_3 7 rfl rfl)
theorem dX0_item_78 : decode cX0_item 78 = .ok (.iload 4, 2) := dk_21 4 (dk_at dksX0_item_3 8 rfl rfl)
theorem dX0_item_80 : decode cX0_item 80 = .ok (.iconst 5, 1) := dk_8 (dk_at dksX0_item_3 10 rfl rfl)
theorem dX0_item_81 : decode cX0_item 81 = .ok (.if_icmp .ne 12, 3) := dk_160 0 12 (dk_at dksX0_item_3 11 rfl rfl)
theorem dX0_item_84 : decode cX0_item 84 = .ok (.aload_n 3, 1) := dk_45 (dk_at dksX0_item_3 14 rfl rfl)
theorem dX0_item_85 : decode cX0_item 85 = .ok (.checkcast 284, 3) := dk_192 1 28 (dk_at dksX0_item_3 15 rfl rfl)
theorem dX0_item_88 : decode cX0_item 88 = .ok (.iload_n 2, 1) := dk_28 (dk_at dksX0_item_3 18 rfl rfl)
theorem dX0_item_89 : decode cX0_item 89 = .ok (.aaload, 1) := dk_50 (dk_at dksX0_item_3 19 rfl rfl)
theorem dX0_item_90 : decode cX0_item 90 = .ok (.goto 9, 3) := dk_167 0 9 (dk_at dksX0_item_3 20 rfl rfl)
theorem dX0_item_93 : decode cX0_item 93 = .ok (.aload_n 3, 1) := dk_45 (dk_at dksX0_item_3 23 rfl rfl)
theorem dX0_item_94 : decode cX0_item 94 = .ok (.checkcast 291, 3) := dk_192 1 35 (dk_at dksX0_item_4 0 rfl rfl)
theorem dX0_item_97 : decode cX0_item 97 = .ok (.iload_n 2, 1) := dk_28 (dk_at dksX0_item_4 3 rfl rfl)
theorem dX0_item_98 : decode cX0_item 98 = .ok (.aaload, 1) := dk_50 (dk_at dksX0_item_4 4 rfl rfl)
theorem dX0_item_99 : decode cX0_item 99 = .ok (.invokevirtual 326, 3) := dk_182 1 70 (dk_at dksX0_item_4 5 rfl rfl)
theorem dX0_item_102 : decode cX0_item 102 = .ok (.i2l, 1) := dk_133 (dk_at dksX0_item_4 8 rfl rfl)
theorem dX0_item_103 : decode cX0_item 103 = .ok (.lreturn, 1) := dk_173 (dk_at dksX0_item_4 9 rfl rfl)
abbrev cX0_register : ByteArray := prog_1_method_42_code
def yX0_register : MethodName := ⟨RX0, "register", "(I)J"⟩
def dkwX0_register_0 : List UInt8 := [27, 184, 0, 84, 153, 0, 12, 42, 180, 0, 18, 27, 47, 167, 0, 4, 9, 173]
abbrev dktX0_register_0 : List UInt8 := dkwX0_register_0 ++ []
theorem dksX0_register_0 : cX0_register.data.toList.drop 0 = dktX0_register_0 := by decide +kernel
theorem dX0_register_0 : decode cX0_register 0 = .ok (.iload_n 1, 1) := dk_27 (dk_at dksX0_register_0 0 rfl rfl)
theorem dX0_register_1 : decode cX0_register 1 = .ok (.invokestatic 84, 3) := dk_184 0 84 (dk_at dksX0_register_0 1 rfl rfl)
theorem dX0_register_4 : decode cX0_register 4 = .ok (.ifCond .eq 12, 3) := dk_153 0 12 (dk_at dksX0_register_0 4 rfl rfl)
theorem dX0_register_7 : decode cX0_register 7 = .ok (.aload_n 0, 1) := dk_42 (dk_at dksX0_register_0 7 rfl rfl)
theorem dX0_register_8 : decode cX0_register 8 = .ok (.getfield 18, 3) := dk_180 0 18 (dk_at dksX0_register_0 8 rfl rfl)
theorem dX0_register_11 : decode cX0_register 11 = .ok (.iload_n 1, 1) := dk_27 (dk_at dksX0_register_0 11 rfl rfl)
theorem dX0_register_12 : decode cX0_register 12 = .ok (.laload, 1) := dk_47 (dk_at dksX0_register_0 12 rfl rfl)
theorem dX0_register_13 : decode cX0_register 13 = .ok (.goto 4, 3) := dk_167 0 4 (dk_at dksX0_register_0 13 rfl rfl)
theorem dX0_register_16 : decode cX0_register 16 = .ok (.lconst 0, 1) := dk_9 (dk_at dksX0_register_0 16 rfl rfl)
theorem dX0_register_17 : decode cX0_register 17 = .ok (.lreturn, 1) := dk_173 (dk_at dksX0_register_0 17 rfl rfl)
abbrev cX0_alike : ByteArray := prog_1_method_45_code
def yX0_alike : MethodName := ⟨RX0, "alike", "(II)I"⟩
def dkwX0_alike_3 : List UInt8 := [5, 167, 0, 4, 3, 172]
abbrev dktX0_alike_3 : List UInt8 := dkwX0_alike_3 ++ []
def dkwX0_alike_2 : List UInt8 := [180, 0, 47, 198, 0, 25, 25, 4, 180, 0, 47, 198, 0, 17, 42, 45, 25, 4, 182, 1, 78, 153, 0, 7]
abbrev dktX0_alike_2 : List UInt8 := dkwX0_alike_2 ++ dktX0_alike_3
def dkwX0_alike_1 : List UInt8 := [180, 0, 15, 28, 50, 58, 4, 45, 180, 0, 47, 25, 4, 180, 0, 47, 166, 0, 7, 4, 167, 0, 33, 45]
abbrev dktX0_alike_1 : List UInt8 := dkwX0_alike_1 ++ dktX0_alike_2
def dkwX0_alike_0 : List UInt8 := [27, 184, 0, 80, 153, 0, 10, 28, 184, 0, 80, 154, 0, 5, 2, 172, 42, 180, 0, 15, 27, 50, 78, 42]
abbrev dktX0_alike_0 : List UInt8 := dkwX0_alike_0 ++ dktX0_alike_1
theorem dksX0_alike_0 : cX0_alike.data.toList.drop 0 = dktX0_alike_0 := by decide +kernel
theorem dksX0_alike_1 : cX0_alike.data.toList.drop 24 = dktX0_alike_1 := dk_seg dksX0_alike_0 24 rfl rfl
theorem dksX0_alike_2 : cX0_alike.data.toList.drop 48 = dktX0_alike_2 := dk_seg dksX0_alike_1 24 rfl rfl
theorem dksX0_alike_3 : cX0_alike.data.toList.drop 72 = dktX0_alike_3 := dk_seg dksX0_alike_2 24 rfl rfl
theorem dX0_alike_0 : decode cX0_alike 0 = .ok (.iload_n 1, 1) := dk_27 (dk_at dksX0_alike_0 0 rfl rfl)
theorem dX0_alike_1 : decode cX0_alike 1 = .ok (.invokestatic 80, 3) := dk_184 0 80 (dk_at dksX0_alike_0 1 rfl rfl)
theorem dX0_alike_4 : decode cX0_alike 4 = .ok (.ifCond .eq 10, 3) := dk_153 0 10 (dk_at dksX0_alike_0 4 rfl rfl)
theorem dX0_alike_7 : decode cX0_alike 7 = .ok (.iload_n 2, 1) := dk_28 (dk_at dksX0_alike_0 7 rfl rfl)
theorem dX0_alike_8 : decode cX0_alike 8 = .ok (.invokestatic 80, 3) := dk_184 0 80 (dk_at dksX0_alike_0 8 rfl rfl)
theorem dX0_alike_11 : decode cX0_alike 11 = .ok (.ifCond .ne 5, 3) := dk_154 0 5 (dk_at dksX0_alike_0 11 rfl rfl)
theorem dX0_alike_14 : decode cX0_alike 14 = .ok (.iconst (-1), 1) := dk_2 (dk_at dksX0_alike_0 14 rfl rfl)
theorem dX0_alike_15 : decode cX0_alike 15 = .ok (.ireturn, 1) := dk_172 (dk_at dksX0_alike_0 15 rfl rfl)
theorem dX0_alike_16 : decode cX0_alike 16 = .ok (.aload_n 0, 1) := dk_42 (dk_at dksX0_alike_0 16 rfl rfl)
theorem dX0_alike_17 : decode cX0_alike 17 = .ok (.getfield 15, 3) := dk_180 0 15 (dk_at dksX0_alike_0 17 rfl rfl)
theorem dX0_alike_20 : decode cX0_alike 20 = .ok (.iload_n 1, 1) := dk_27 (dk_at dksX0_alike_0 20 rfl rfl)
theorem dX0_alike_21 : decode cX0_alike 21 = .ok (.aaload, 1) := dk_50 (dk_at dksX0_alike_0 21 rfl rfl)
theorem dX0_alike_22 : decode cX0_alike 22 = .ok (.astore_n 3, 1) := dk_78 (dk_at dksX0_alike_0 22 rfl rfl)
theorem dX0_alike_23 : decode cX0_alike 23 = .ok (.aload_n 0, 1) := dk_42 (dk_at dksX0_alike_0 23 rfl rfl)
theorem dX0_alike_24 : decode cX0_alike 24 = .ok (.getfield 15, 3) := dk_180 0 15 (dk_at dksX0_alike_1 0 rfl rfl)
theorem dX0_alike_27 : decode cX0_alike 27 = .ok (.iload_n 2, 1) := dk_28 (dk_at dksX0_alike_1 3 rfl rfl)
theorem dX0_alike_28 : decode cX0_alike 28 = .ok (.aaload, 1) := dk_50 (dk_at dksX0_alike_1 4 rfl rfl)
theorem dX0_alike_29 : decode cX0_alike 29 = .ok (.astore 4, 2) := dk_58 4 (dk_at dksX0_alike_1 5 rfl rfl)
theorem dX0_alike_31 : decode cX0_alike 31 = .ok (.aload_n 3, 1) := dk_45 (dk_at dksX0_alike_1 7 rfl rfl)
theorem dX0_alike_32 : decode cX0_alike 32 = .ok (.getfield 47, 3) := dk_180 0 47 (dk_at dksX0_alike_1 8 rfl rfl)
theorem dX0_alike_35 : decode cX0_alike 35 = .ok (.aload 4, 2) := dk_25 4 (dk_at dksX0_alike_1 11 rfl rfl)
theorem dX0_alike_37 : decode cX0_alike 37 = .ok (.getfield 47, 3) := dk_180 0 47 (dk_at dksX0_alike_1 13 rfl rfl)
theorem dX0_alike_40 : decode cX0_alike 40 = .ok (.if_acmp .ne 7, 3) := dk_166 0 7 (dk_at dksX0_alike_1 16 rfl rfl)
theorem dX0_alike_43 : decode cX0_alike 43 = .ok (.iconst 1, 1) := dk_4 (dk_at dksX0_alike_1 19 rfl rfl)
theorem dX0_alike_44 : decode cX0_alike 44 = .ok (.goto 33, 3) := dk_167 0 33 (dk_at dksX0_alike_1 20 rfl rfl)
theorem dX0_alike_47 : decode cX0_alike 47 = .ok (.aload_n 3, 1) := dk_45 (dk_at dksX0_alike_1 23 rfl rfl)
theorem dX0_alike_48 : decode cX0_alike 48 = .ok (.getfield 47, 3) := dk_180 0 47 (dk_at dksX0_alike_2 0 rfl rfl)
theorem dX0_alike_51 : decode cX0_alike 51 = .ok (.ifnull 25, 3) := dk_198 0 25 (dk_at dksX0_alike_2 3 rfl rfl)
theorem dX0_alike_54 : decode cX0_alike 54 = .ok (.aload 4, 2) := dk_25 4 (dk_at dksX0_alike_2 6 rfl rfl)
theorem dX0_alike_56 : decode cX0_alike 56 = .ok (.getfield 47, 3) := dk_180 0 47 (dk_at dksX0_alike_2 8 rfl rfl)
theorem dX0_alike_59 : decode cX0_alike 59 = .ok (.ifnull 17, 3) := dk_198 0 17 (dk_at dksX0_alike_2 11 rfl rfl)
theorem dX0_alike_62 : decode cX0_alike 62 = .ok (.aload_n 0, 1) := dk_42 (dk_at dksX0_alike_2 14 rfl rfl)
theorem dX0_alike_63 : decode cX0_alike 63 = .ok (.aload_n 3, 1) := dk_45 (dk_at dksX0_alike_2 15 rfl rfl)
theorem dX0_alike_64 : decode cX0_alike 64 = .ok (.aload 4, 2) := dk_25 4 (dk_at dksX0_alike_2 16 rfl rfl)
theorem dX0_alike_66 : decode cX0_alike 66 = .ok (.invokevirtual 334, 3) := dk_182 1 78 (dk_at dksX0_alike_2 18 rfl rfl)
theorem dX0_alike_69 : decode cX0_alike 69 = .ok (.ifCond .eq 7, 3) := dk_153 0 7 (dk_at dksX0_alike_2 21 rfl rfl)
theorem dX0_alike_72 : decode cX0_alike 72 = .ok (.iconst 2, 1) := dk_5 (dk_at dksX0_alike_3 0 rfl rfl)
theorem dX0_alike_73 : decode cX0_alike 73 = .ok (.goto 4, 3) := dk_167 0 4 (dk_at dksX0_alike_3 1 rfl rfl)
theorem dX0_alike_76 : decode cX0_alike 76 = .ok (.iconst 0, 1) := dk_3 (dk_at dksX0_alike_3 4 rfl rfl)
theorem dX0_alike_77 : decode cX0_alike 77 = .ok (.ireturn, 1) := dk_172 (dk_at dksX0_alike_3 5 rfl rfl)
abbrev cX0_isAlike : ByteArray := prog_1_method_44_code
def yX0_isAlike : MethodName := ⟨RX0, "isAlike", "(LThrowReports$Holder;LThrowReports$Holder;)Z"⟩
def dkwX0_isAlike_6 : List UInt8 := [154, 0, 7, 4, 167, 0, 4, 3, 54, 4, 132, 5, 1, 167, 255, 135, 21, 4, 172]
abbrev dktX0_isAlike_6 : List UInt8 := dkwX0_isAlike_6 ++ []
def dkwX0_isAlike_5 : List UInt8 := [167, 0, 32, 43, 180, 0, 47, 29, 21, 5, 184, 0, 251, 44, 180, 0, 47, 29, 21, 5, 184, 0, 251, 148]
abbrev dktX0_isAlike_5 : List UInt8 := dkwX0_isAlike_5 ++ dktX0_isAlike_6
def dkwX0_isAlike_4 : List UInt8 := [192, 1, 35, 21, 5, 50, 44, 180, 0, 47, 192, 1, 35, 21, 5, 50, 166, 0, 7, 4, 167, 0, 36, 3]
abbrev dktX0_isAlike_4 : List UInt8 := dkwX0_isAlike_4 ++ dktX0_isAlike_5
def dkwX0_isAlike_3 : List UInt8 := [180, 0, 47, 192, 1, 28, 21, 5, 50, 184, 1, 74, 167, 0, 68, 29, 8, 164, 0, 34, 43, 180, 0, 47]
abbrev dktX0_isAlike_3 : List UInt8 := dkwX0_isAlike_3 ++ dktX0_isAlike_4
def dkwX0_isAlike_2 : List UInt8 := [182, 1, 63, 162, 0, 107, 29, 8, 160, 0, 29, 43, 180, 0, 47, 192, 1, 28, 21, 5, 50, 44]
abbrev dktX0_isAlike_2 : List UInt8 := dkwX0_isAlike_2 ++ dktX0_isAlike_3
def dkwX0_isAlike_1 : List UInt8 := [4, 167, 0, 4, 3, 54, 4, 3, 54, 5, 21, 4, 153, 0, 122, 29, 16, 8, 162, 0, 116, 21, 5, 43]
abbrev dktX0_isAlike_1 : List UInt8 := dkwX0_isAlike_1 ++ dktX0_isAlike_2
def dkwX0_isAlike_0 : List UInt8 := [43, 182, 0, 175, 62, 29, 44, 182, 0, 175, 160, 0, 18, 43, 182, 1, 63, 44, 182, 1, 63, 160, 0, 7]
abbrev dktX0_isAlike_0 : List UInt8 := dkwX0_isAlike_0 ++ dktX0_isAlike_1
theorem dksX0_isAlike_0 : cX0_isAlike.data.toList.drop 0 = dktX0_isAlike_0 := by decide +kernel
theorem dksX0_isAlike_1 : cX0_isAlike.data.toList.drop 24 = dktX0_isAlike_1 := dk_seg dksX0_isAlike_0 24 rfl rfl
theorem dksX0_isAlike_2 : cX0_isAlike.data.toList.drop 48 = dktX0_isAlike_2 := dk_seg dksX0_isAlike_1 24 rfl rfl
theorem dksX0_isAlike_3 : cX0_isAlike.data.toList.drop 70 = dktX0_isAlike_3 := dk_seg dksX0_isAlike_2 22 rfl rfl
theorem dksX0_isAlike_4 : cX0_isAlike.data.toList.drop 94 = dktX0_isAlike_4 := dk_seg dksX0_isAlike_3 24 rfl rfl
theorem dksX0_isAlike_5 : cX0_isAlike.data.toList.drop 118 = dktX0_isAlike_5 := dk_seg dksX0_isAlike_4 24 rfl rfl
theorem dksX0_isAlike_6 : cX0_isAlike.data.toList.drop 142 = dktX0_isAlike_6 := dk_seg dksX0_isAlike_5 24 rfl rfl
theorem dX0_isAlike_0 : decode cX0_isAlike 0 = .ok (.aload_n 1, 1) := dk_43 (dk_at dksX0_isAlike_0 0 rfl rfl)
theorem dX0_isAlike_1 : decode cX0_isAlike 1 = .ok (.invokevirtual 175, 3) := dk_182 0 175 (dk_at dksX0_isAlike_0 1 rfl rfl)
theorem dX0_isAlike_4 : decode cX0_isAlike 4 = .ok (.istore_n 3, 1) := dk_62 (dk_at dksX0_isAlike_0 4 rfl rfl)
theorem dX0_isAlike_5 : decode cX0_isAlike 5 = .ok (.iload_n 3, 1) := dk_29 (dk_at dksX0_isAlike_0 5 rfl rfl)
theorem dX0_isAlike_6 : decode cX0_isAlike 6 = .ok (.aload_n 2, 1) := dk_44 (dk_at dksX0_isAlike_0 6 rfl rfl)
theorem dX0_isAlike_7 : decode cX0_isAlike 7 = .ok (.invokevirtual 175, 3) := dk_182 0 175 (dk_at dksX0_isAlike_0 7 rfl rfl)
theorem dX0_isAlike_10 : decode cX0_isAlike 10 = .ok (.if_icmp .ne 18, 3) := dk_160 0 18 (dk_at dksX0_isAlike_0 10 rfl rfl)
theorem dX0_isAlike_13 : decode cX0_isAlike 13 = .ok (.aload_n 1, 1) := dk_43 (dk_at dksX0_isAlike_0 13 rfl rfl)
theorem dX0_isAlike_14 : decode cX0_isAlike 14 = .ok (.invokevirtual 319, 3) := dk_182 1 63 (dk_at dksX0_isAlike_0 14 rfl rfl)
theorem dX0_isAlike_17 : decode cX0_isAlike 17 = .ok (.aload_n 2, 1) := dk_44 (dk_at dksX0_isAlike_0 17 rfl rfl)
theorem dX0_isAlike_18 : decode cX0_isAlike 18 = .ok (.invokevirtual 319, 3) := dk_182 1 63 (dk_at dksX0_isAlike_0 18 rfl rfl)
theorem dX0_isAlike_21 : decode cX0_isAlike 21 = .ok (.if_icmp .ne 7, 3) := dk_160 0 7 (dk_at dksX0_isAlike_0 21 rfl rfl)
theorem dX0_isAlike_24 : decode cX0_isAlike 24 = .ok (.iconst 1, 1) := dk_4 (dk_at dksX0_isAlike_1 0 rfl rfl)
theorem dX0_isAlike_25 : decode cX0_isAlike 25 = .ok (.goto 4, 3) := dk_167 0 4 (dk_at dksX0_isAlike_1 1 rfl rfl)
theorem dX0_isAlike_28 : decode cX0_isAlike 28 = .ok (.iconst 0, 1) := dk_3 (dk_at dksX0_isAlike_1 4 rfl rfl)
theorem dX0_isAlike_29 : decode cX0_isAlike 29 = .ok (.istore 4, 2) := dk_54 4 (dk_at dksX0_isAlike_1 5 rfl rfl)
theorem dX0_isAlike_31 : decode cX0_isAlike 31 = .ok (.iconst 0, 1) := dk_3 (dk_at dksX0_isAlike_1 7 rfl rfl)
theorem dX0_isAlike_32 : decode cX0_isAlike 32 = .ok (.istore 5, 2) := dk_54 5 (dk_at dksX0_isAlike_1 8 rfl rfl)
theorem dX0_isAlike_34 : decode cX0_isAlike 34 = .ok (.iload 4, 2) := dk_21 4 (dk_at dksX0_isAlike_1 10 rfl rfl)
theorem dX0_isAlike_36 : decode cX0_isAlike 36 = .ok (.ifCond .eq 122, 3) := dk_153 0 122 (dk_at dksX0_isAlike_1 12 rfl rfl)
theorem dX0_isAlike_39 : decode cX0_isAlike 39 = .ok (.iload_n 3, 1) := dk_29 (dk_at dksX0_isAlike_1 15 rfl rfl)
theorem dX0_isAlike_40 : decode cX0_isAlike 40 = .ok (.bipush 8, 2) := dk_16 8 (dk_at dksX0_isAlike_1 16 rfl rfl)
theorem dX0_isAlike_42 : decode cX0_isAlike 42 = .ok (.if_icmp .ge 116, 3) := dk_162 0 116 (dk_at dksX0_isAlike_1 18 rfl rfl)
theorem dX0_isAlike_45 : decode cX0_isAlike 45 = .ok (.iload 5, 2) := dk_21 5 (dk_at dksX0_isAlike_1 21 rfl rfl)
theorem dX0_isAlike_47 : decode cX0_isAlike 47 = .ok (.aload_n 1, 1) := dk_43 (dk_at dksX0_isAlike_1 23 rfl rfl)
theorem dX0_isAlike_48 : decode cX0_isAlike 48 = .ok (.invokevirtual 319, 3) := dk_182 1 63 (dk_at dksX0_isAlike_2 0 rfl rfl)
theorem dX0_isAlike_51 : decode cX0_isAlike 51 = .ok (.if_icmp .ge 107, 3) := dk_162 0 107 (dk_at dksX0_isAlike_2 3 rfl rfl)
theorem dX0_isAlike_54 : decode cX0_isAlike 54 = .ok (.iload_n 3, 1) := dk_29 (dk_at dksX0_isAlike_2 6 rfl rfl)
theorem dX0_isAlike_55 : decode cX0_isAlike 55 = .ok (.iconst 5, 1) := dk_8 (dk_at dksX0_isAlike_2 7 rfl rfl)
theorem dX0_isAlike_56 : decode cX0_isAlike 56 = .ok (.if_icmp .ne 29, 3) := dk_160 0 29 (dk_at dksX0_isAlike_2 8 rfl rfl)
theorem dX0_isAlike_59 : decode cX0_isAlike 59 = .ok (.aload_n 1, 1) := dk_43 (dk_at dksX0_isAlike_2 11 rfl rfl)
theorem dX0_isAlike_60 : decode cX0_isAlike 60 = .ok (.getfield 47, 3) := dk_180 0 47 (dk_at dksX0_isAlike_2 12 rfl rfl)
theorem dX0_isAlike_63 : decode cX0_isAlike 63 = .ok (.checkcast 284, 3) := dk_192 1 28 (dk_at dksX0_isAlike_2 15 rfl rfl)
theorem dX0_isAlike_66 : decode cX0_isAlike 66 = .ok (.iload 5, 2) := dk_21 5 (dk_at dksX0_isAlike_2 18 rfl rfl)
theorem dX0_isAlike_68 : decode cX0_isAlike 68 = .ok (.aaload, 1) := dk_50 (dk_at dksX0_isAlike_2 20 rfl rfl)
theorem dX0_isAlike_69 : decode cX0_isAlike 69 = .ok (.aload_n 2, 1) := dk_44 (dk_at dksX0_isAlike_2 21 rfl rfl)
theorem dX0_isAlike_70 : decode cX0_isAlike 70 = .ok (.getfield 47, 3) := dk_180 0 47 (dk_at dksX0_isAlike_3 0 rfl rfl)
theorem dX0_isAlike_73 : decode cX0_isAlike 73 = .ok (.checkcast 284, 3) := dk_192 1 28 (dk_at dksX0_isAlike_3 3 rfl rfl)
theorem dX0_isAlike_76 : decode cX0_isAlike 76 = .ok (.iload 5, 2) := dk_21 5 (dk_at dksX0_isAlike_3 6 rfl rfl)
theorem dX0_isAlike_78 : decode cX0_isAlike 78 = .ok (.aaload, 1) := dk_50 (dk_at dksX0_isAlike_3 8 rfl rfl)
theorem dX0_isAlike_79 : decode cX0_isAlike 79 = .ok (.invokestatic 330, 3) := dk_184 1 74 (dk_at dksX0_isAlike_3 9 rfl rfl)
theorem dX0_isAlike_82 : decode cX0_isAlike 82 = .ok (.goto 68, 3) := dk_167 0 68 (dk_at dksX0_isAlike_3 12 rfl rfl)
theorem dX0_isAlike_85 : decode cX0_isAlike 85 = .ok (.iload_n 3, 1) := dk_29 (dk_at dksX0_isAlike_3 15 rfl rfl)
theorem dX0_isAlike_86 : decode cX0_isAlike 86 = .ok (.iconst 5, 1) := dk_8 (dk_at dksX0_isAlike_3 16 rfl rfl)
theorem dX0_isAlike_87 : decode cX0_isAlike 87 = .ok (.if_icmp .le 34, 3) := dk_164 0 34 (dk_at dksX0_isAlike_3 17 rfl rfl)
theorem dX0_isAlike_90 : decode cX0_isAlike 90 = .ok (.aload_n 1, 1) := dk_43 (dk_at dksX0_isAlike_3 20 rfl rfl)
theorem dX0_isAlike_91 : decode cX0_isAlike 91 = .ok (.getfield 47, 3) := dk_180 0 47 (dk_at dksX0_isAlike_3 21 rfl rfl)
theorem dX0_isAlike_94 : decode cX0_isAlike 94 = .ok (.checkcast 291, 3) := dk_192 1 35 (dk_at dksX0_isAlike_4 0 rfl rfl)
theorem dX0_isAlike_97 : decode cX0_isAlike 97 = .ok (.iload 5, 2) := dk_21 5 (dk_at dksX0_isAlike_4 3 rfl rfl)
theorem dX0_isAlike_99 : decode cX0_isAlike 99 = .ok (.aaload, 1) := dk_50 (dk_at dksX0_isAlike_4 5 rfl rfl)
theorem dX0_isAlike_100 : decode cX0_isAlike 100 = .ok (.aload_n 2, 1) := dk_44 (dk_at dksX0_isAlike_4 6 rfl rfl)
theorem dX0_isAlike_101 : decode cX0_isAlike 101 = .ok (.getfield 47, 3) := dk_180 0 47 (dk_at dksX0_isAlike_4 7 rfl rfl)
theorem dX0_isAlike_104 : decode cX0_isAlike 104 = .ok (.checkcast 291, 3) := dk_192 1 35 (dk_at dksX0_isAlike_4 10 rfl rfl)
theorem dX0_isAlike_107 : decode cX0_isAlike 107 = .ok (.iload 5, 2) := dk_21 5 (dk_at dksX0_isAlike_4 13 rfl rfl)
theorem dX0_isAlike_109 : decode cX0_isAlike 109 = .ok (.aaload, 1) := dk_50 (dk_at dksX0_isAlike_4 15 rfl rfl)
theorem dX0_isAlike_110 : decode cX0_isAlike 110 = .ok (.if_acmp .ne 7, 3) := dk_166 0 7 (dk_at dksX0_isAlike_4 16 rfl rfl)
theorem dX0_isAlike_113 : decode cX0_isAlike 113 = .ok (.iconst 1, 1) := dk_4 (dk_at dksX0_isAlike_4 19 rfl rfl)
theorem dX0_isAlike_114 : decode cX0_isAlike 114 = .ok (.goto 36, 3) := dk_167 0 36 (dk_at dksX0_isAlike_4 20 rfl rfl)
theorem dX0_isAlike_117 : decode cX0_isAlike 117 = .ok (.iconst 0, 1) := dk_3 (dk_at dksX0_isAlike_4 23 rfl rfl)
theorem dX0_isAlike_118 : decode cX0_isAlike 118 = .ok (.goto 32, 3) := dk_167 0 32 (dk_at dksX0_isAlike_5 0 rfl rfl)
theorem dX0_isAlike_121 : decode cX0_isAlike 121 = .ok (.aload_n 1, 1) := dk_43 (dk_at dksX0_isAlike_5 3 rfl rfl)
theorem dX0_isAlike_122 : decode cX0_isAlike 122 = .ok (.getfield 47, 3) := dk_180 0 47 (dk_at dksX0_isAlike_5 4 rfl rfl)
theorem dX0_isAlike_125 : decode cX0_isAlike 125 = .ok (.iload_n 3, 1) := dk_29 (dk_at dksX0_isAlike_5 7 rfl rfl)
theorem dX0_isAlike_126 : decode cX0_isAlike 126 = .ok (.iload 5, 2) := dk_21 5 (dk_at dksX0_isAlike_5 8 rfl rfl)
theorem dX0_isAlike_128 : decode cX0_isAlike 128 = .ok (.invokestatic 251, 3) := dk_184 0 251 (dk_at dksX0_isAlike_5 10 rfl rfl)
theorem dX0_isAlike_131 : decode cX0_isAlike 131 = .ok (.aload_n 2, 1) := dk_44 (dk_at dksX0_isAlike_5 13 rfl rfl)
theorem dX0_isAlike_132 : decode cX0_isAlike 132 = .ok (.getfield 47, 3) := dk_180 0 47 (dk_at dksX0_isAlike_5 14 rfl rfl)
theorem dX0_isAlike_135 : decode cX0_isAlike 135 = .ok (.iload_n 3, 1) := dk_29 (dk_at dksX0_isAlike_5 17 rfl rfl)
theorem dX0_isAlike_136 : decode cX0_isAlike 136 = .ok (.iload 5, 2) := dk_21 5 (dk_at dksX0_isAlike_5 18 rfl rfl)
theorem dX0_isAlike_138 : decode cX0_isAlike 138 = .ok (.invokestatic 251, 3) := dk_184 0 251 (dk_at dksX0_isAlike_5 20 rfl rfl)
theorem dX0_isAlike_141 : decode cX0_isAlike 141 = .ok (.lcmp, 1) := dk_148 (dk_at dksX0_isAlike_5 23 rfl rfl)
theorem dX0_isAlike_142 : decode cX0_isAlike 142 = .ok (.ifCond .ne 7, 3) := dk_154 0 7 (dk_at dksX0_isAlike_6 0 rfl rfl)
theorem dX0_isAlike_145 : decode cX0_isAlike 145 = .ok (.iconst 1, 1) := dk_4 (dk_at dksX0_isAlike_6 3 rfl rfl)
theorem dX0_isAlike_146 : decode cX0_isAlike 146 = .ok (.goto 4, 3) := dk_167 0 4 (dk_at dksX0_isAlike_6 4 rfl rfl)
theorem dX0_isAlike_149 : decode cX0_isAlike 149 = .ok (.iconst 0, 1) := dk_3 (dk_at dksX0_isAlike_6 7 rfl rfl)
theorem dX0_isAlike_150 : decode cX0_isAlike 150 = .ok (.istore 4, 2) := dk_54 4 (dk_at dksX0_isAlike_6 8 rfl rfl)
theorem dX0_isAlike_152 : decode cX0_isAlike 152 = .ok (.iinc 5 1, 3) := dk_132 5 1 (dk_at dksX0_isAlike_6 10 rfl rfl)
theorem dX0_isAlike_155 : decode cX0_isAlike 155 = .ok (.goto (-121), 3) := dk_167 255 135 (dk_at dksX0_isAlike_6 13 rfl rfl)
theorem dX0_isAlike_158 : decode cX0_isAlike 158 = .ok (.iload 4, 2) := dk_21 4 (dk_at dksX0_isAlike_6 16 rfl rfl)
theorem dX0_isAlike_160 : decode cX0_isAlike 160 = .ok (.ireturn, 1) := dk_172 (dk_at dksX0_isAlike_6 18 rfl rfl)
abbrev cX0_sameInts : ByteArray := prog_1_method_43_code
def yX0_sameInts : MethodName := ⟨RX0, "sameInts", "([I[I)Z"⟩
def dkwX0_sameInts_2 : List UInt8 := [46, 160, 0, 7, 4, 167, 0, 4, 3, 61, 132, 3, 1, 167, 255, 223, 28, 172]
abbrev dktX0_sameInts_2 : List UInt8 := dkwX0_sameInts_2 ++ []
def dkwX0_sameInts_1 : List UInt8 := [3, 61, 3, 62, 28, 153, 0, 35, 42, 43, 165, 0, 30, 29, 42, 190, 162, 0, 24, 42, 29, 46, 43, 29]
abbrev dktX0_sameInts_1 : List UInt8 := dkwX0_sameInts_1 ++ dktX0_sameInts_2
def dkwX0_sameInts_0 : List UInt8 := [42, 43, 165, 0, 18, 42, 198, 0, 18, 43, 198, 0, 14, 42, 190, 43, 190, 160, 0, 7, 4, 167, 0, 4]
abbrev dktX0_sameInts_0 : List UInt8 := dkwX0_sameInts_0 ++ dktX0_sameInts_1
theorem dksX0_sameInts_0 : cX0_sameInts.data.toList.drop 0 = dktX0_sameInts_0 := by decide +kernel
theorem dksX0_sameInts_1 : cX0_sameInts.data.toList.drop 24 = dktX0_sameInts_1 := dk_seg dksX0_sameInts_0 24 rfl rfl
theorem dksX0_sameInts_2 : cX0_sameInts.data.toList.drop 48 = dktX0_sameInts_2 := dk_seg dksX0_sameInts_1 24 rfl rfl
theorem dX0_sameInts_0 : decode cX0_sameInts 0 = .ok (.aload_n 0, 1) := dk_42 (dk_at dksX0_sameInts_0 0 rfl rfl)
theorem dX0_sameInts_1 : decode cX0_sameInts 1 = .ok (.aload_n 1, 1) := dk_43 (dk_at dksX0_sameInts_0 1 rfl rfl)
theorem dX0_sameInts_2 : decode cX0_sameInts 2 = .ok (.if_acmp .eq 18, 3) := dk_165 0 18 (dk_at dksX0_sameInts_0 2 rfl rfl)
theorem dX0_sameInts_5 : decode cX0_sameInts 5 = .ok (.aload_n 0, 1) := dk_42 (dk_at dksX0_sameInts_0 5 rfl rfl)
theorem dX0_sameInts_6 : decode cX0_sameInts 6 = .ok (.ifnull 18, 3) := dk_198 0 18 (dk_at dksX0_sameInts_0 6 rfl rfl)
theorem dX0_sameInts_9 : decode cX0_sameInts 9 = .ok (.aload_n 1, 1) := dk_43 (dk_at dksX0_sameInts_0 9 rfl rfl)
theorem dX0_sameInts_10 : decode cX0_sameInts 10 = .ok (.ifnull 14, 3) := dk_198 0 14 (dk_at dksX0_sameInts_0 10 rfl rfl)
theorem dX0_sameInts_13 : decode cX0_sameInts 13 = .ok (.aload_n 0, 1) := dk_42 (dk_at dksX0_sameInts_0 13 rfl rfl)
theorem dX0_sameInts_14 : decode cX0_sameInts 14 = .ok (.arraylength, 1) := dk_190 (dk_at dksX0_sameInts_0 14 rfl rfl)
theorem dX0_sameInts_15 : decode cX0_sameInts 15 = .ok (.aload_n 1, 1) := dk_43 (dk_at dksX0_sameInts_0 15 rfl rfl)
theorem dX0_sameInts_16 : decode cX0_sameInts 16 = .ok (.arraylength, 1) := dk_190 (dk_at dksX0_sameInts_0 16 rfl rfl)
theorem dX0_sameInts_17 : decode cX0_sameInts 17 = .ok (.if_icmp .ne 7, 3) := dk_160 0 7 (dk_at dksX0_sameInts_0 17 rfl rfl)
theorem dX0_sameInts_20 : decode cX0_sameInts 20 = .ok (.iconst 1, 1) := dk_4 (dk_at dksX0_sameInts_0 20 rfl rfl)
theorem dX0_sameInts_21 : decode cX0_sameInts 21 = .ok (.goto 4, 3) := dk_167 0 4 (dk_at dksX0_sameInts_0 21 rfl rfl)
theorem dX0_sameInts_24 : decode cX0_sameInts 24 = .ok (.iconst 0, 1) := dk_3 (dk_at dksX0_sameInts_1 0 rfl rfl)
theorem dX0_sameInts_25 : decode cX0_sameInts 25 = .ok (.istore_n 2, 1) := dk_61 (dk_at dksX0_sameInts_1 1 rfl rfl)
theorem dX0_sameInts_26 : decode cX0_sameInts 26 = .ok (.iconst 0, 1) := dk_3 (dk_at dksX0_sameInts_1 2 rfl rfl)
theorem dX0_sameInts_27 : decode cX0_sameInts 27 = .ok (.istore_n 3, 1) := dk_62 (dk_at dksX0_sameInts_1 3 rfl rfl)
theorem dX0_sameInts_28 : decode cX0_sameInts 28 = .ok (.iload_n 2, 1) := dk_28 (dk_at dksX0_sameInts_1 4 rfl rfl)
theorem dX0_sameInts_29 : decode cX0_sameInts 29 = .ok (.ifCond .eq 35, 3) := dk_153 0 35 (dk_at dksX0_sameInts_1 5 rfl rfl)
theorem dX0_sameInts_32 : decode cX0_sameInts 32 = .ok (.aload_n 0, 1) := dk_42 (dk_at dksX0_sameInts_1 8 rfl rfl)
theorem dX0_sameInts_33 : decode cX0_sameInts 33 = .ok (.aload_n 1, 1) := dk_43 (dk_at dksX0_sameInts_1 9 rfl rfl)
theorem dX0_sameInts_34 : decode cX0_sameInts 34 = .ok (.if_acmp .eq 30, 3) := dk_165 0 30 (dk_at dksX0_sameInts_1 10 rfl rfl)
theorem dX0_sameInts_37 : decode cX0_sameInts 37 = .ok (.iload_n 3, 1) := dk_29 (dk_at dksX0_sameInts_1 13 rfl rfl)
theorem dX0_sameInts_38 : decode cX0_sameInts 38 = .ok (.aload_n 0, 1) := dk_42 (dk_at dksX0_sameInts_1 14 rfl rfl)
theorem dX0_sameInts_39 : decode cX0_sameInts 39 = .ok (.arraylength, 1) := dk_190 (dk_at dksX0_sameInts_1 15 rfl rfl)
theorem dX0_sameInts_40 : decode cX0_sameInts 40 = .ok (.if_icmp .ge 24, 3) := dk_162 0 24 (dk_at dksX0_sameInts_1 16 rfl rfl)
theorem dX0_sameInts_43 : decode cX0_sameInts 43 = .ok (.aload_n 0, 1) := dk_42 (dk_at dksX0_sameInts_1 19 rfl rfl)
theorem dX0_sameInts_44 : decode cX0_sameInts 44 = .ok (.iload_n 3, 1) := dk_29 (dk_at dksX0_sameInts_1 20 rfl rfl)
theorem dX0_sameInts_45 : decode cX0_sameInts 45 = .ok (.iaload, 1) := dk_46 (dk_at dksX0_sameInts_1 21 rfl rfl)
theorem dX0_sameInts_46 : decode cX0_sameInts 46 = .ok (.aload_n 1, 1) := dk_43 (dk_at dksX0_sameInts_1 22 rfl rfl)
theorem dX0_sameInts_47 : decode cX0_sameInts 47 = .ok (.iload_n 3, 1) := dk_29 (dk_at dksX0_sameInts_1 23 rfl rfl)
theorem dX0_sameInts_48 : decode cX0_sameInts 48 = .ok (.iaload, 1) := dk_46 (dk_at dksX0_sameInts_2 0 rfl rfl)
theorem dX0_sameInts_49 : decode cX0_sameInts 49 = .ok (.if_icmp .ne 7, 3) := dk_160 0 7 (dk_at dksX0_sameInts_2 1 rfl rfl)
theorem dX0_sameInts_52 : decode cX0_sameInts 52 = .ok (.iconst 1, 1) := dk_4 (dk_at dksX0_sameInts_2 4 rfl rfl)
theorem dX0_sameInts_53 : decode cX0_sameInts 53 = .ok (.goto 4, 3) := dk_167 0 4 (dk_at dksX0_sameInts_2 5 rfl rfl)
theorem dX0_sameInts_56 : decode cX0_sameInts 56 = .ok (.iconst 0, 1) := dk_3 (dk_at dksX0_sameInts_2 8 rfl rfl)
theorem dX0_sameInts_57 : decode cX0_sameInts 57 = .ok (.istore_n 2, 1) := dk_61 (dk_at dksX0_sameInts_2 9 rfl rfl)
theorem dX0_sameInts_58 : decode cX0_sameInts 58 = .ok (.iinc 3 1, 3) := dk_132 3 1 (dk_at dksX0_sameInts_2 10 rfl rfl)
theorem dX0_sameInts_61 : decode cX0_sameInts 61 = .ok (.goto (-33), 3) := dk_167 255 223 (dk_at dksX0_sameInts_2 13 rfl rfl)
theorem dX0_sameInts_64 : decode cX0_sameInts 64 = .ok (.iload_n 2, 1) := dk_28 (dk_at dksX0_sameInts_2 16 rfl rfl)
theorem dX0_sameInts_65 : decode cX0_sameInts 65 = .ok (.ireturn, 1) := dk_172 (dk_at dksX0_sameInts_2 17 rfl rfl)
abbrev cX0_given : ByteArray := prog_1_method_47_code
def yX0_given : MethodName := ⟨RX0, "given", "(II)I"⟩
def dkwX0_given_1 : List UInt8 := [180, 0, 40, 27, 46, 62, 42, 180, 0, 35, 180, 0, 40, 27, 28, 79, 29, 172]
abbrev dktX0_given_1 : List UInt8 := dkwX0_given_1 ++ []
def dkwX0_given_0 : List UInt8 := [27, 184, 0, 80, 153, 0, 14, 28, 4, 17, 3, 255, 184, 0, 73, 154, 0, 5, 2, 172, 42, 180, 0, 35]
abbrev dktX0_given_0 : List UInt8 := dkwX0_given_0 ++ dktX0_given_1
theorem dksX0_given_0 : cX0_given.data.toList.drop 0 = dktX0_given_0 := by decide +kernel
theorem dksX0_given_1 : cX0_given.data.toList.drop 24 = dktX0_given_1 := dk_seg dksX0_given_0 24 rfl rfl
theorem dX0_given_0 : decode cX0_given 0 = .ok (.iload_n 1, 1) := dk_27 (dk_at dksX0_given_0 0 rfl rfl)
theorem dX0_given_1 : decode cX0_given 1 = .ok (.invokestatic 80, 3) := dk_184 0 80 (dk_at dksX0_given_0 1 rfl rfl)
theorem dX0_given_4 : decode cX0_given 4 = .ok (.ifCond .eq 14, 3) := dk_153 0 14 (dk_at dksX0_given_0 4 rfl rfl)
theorem dX0_given_7 : decode cX0_given 7 = .ok (.iload_n 2, 1) := dk_28 (dk_at dksX0_given_0 7 rfl rfl)
theorem dX0_given_8 : decode cX0_given 8 = .ok (.iconst 1, 1) := dk_4 (dk_at dksX0_given_0 8 rfl rfl)
theorem dX0_given_9 : decode cX0_given 9 = .ok (.sipush 1023, 3) := dk_17 3 255 (dk_at dksX0_given_0 9 rfl rfl)
theorem dX0_given_12 : decode cX0_given 12 = .ok (.invokestatic 73, 3) := dk_184 0 73 (dk_at dksX0_given_0 12 rfl rfl)
theorem dX0_given_15 : decode cX0_given 15 = .ok (.ifCond .ne 5, 3) := dk_154 0 5 (dk_at dksX0_given_0 15 rfl rfl)
theorem dX0_given_18 : decode cX0_given 18 = .ok (.iconst (-1), 1) := dk_2 (dk_at dksX0_given_0 18 rfl rfl)
theorem dX0_given_19 : decode cX0_given 19 = .ok (.ireturn, 1) := dk_172 (dk_at dksX0_given_0 19 rfl rfl)
theorem dX0_given_20 : decode cX0_given 20 = .ok (.aload_n 0, 1) := dk_42 (dk_at dksX0_given_0 20 rfl rfl)
theorem dX0_given_21 : decode cX0_given 21 = .ok (.getfield 35, 3) := dk_180 0 35 (dk_at dksX0_given_0 21 rfl rfl)
theorem dX0_given_24 : decode cX0_given 24 = .ok (.getfield 40, 3) := dk_180 0 40 (dk_at dksX0_given_1 0 rfl rfl)
theorem dX0_given_27 : decode cX0_given 27 = .ok (.iload_n 1, 1) := dk_27 (dk_at dksX0_given_1 3 rfl rfl)
theorem dX0_given_28 : decode cX0_given 28 = .ok (.iaload, 1) := dk_46 (dk_at dksX0_given_1 4 rfl rfl)
theorem dX0_given_29 : decode cX0_given 29 = .ok (.istore_n 3, 1) := dk_62 (dk_at dksX0_given_1 5 rfl rfl)
theorem dX0_given_30 : decode cX0_given 30 = .ok (.aload_n 0, 1) := dk_42 (dk_at dksX0_given_1 6 rfl rfl)
theorem dX0_given_31 : decode cX0_given 31 = .ok (.getfield 35, 3) := dk_180 0 35 (dk_at dksX0_given_1 7 rfl rfl)
theorem dX0_given_34 : decode cX0_given 34 = .ok (.getfield 40, 3) := dk_180 0 40 (dk_at dksX0_given_1 10 rfl rfl)
theorem dX0_given_37 : decode cX0_given 37 = .ok (.iload_n 1, 1) := dk_27 (dk_at dksX0_given_1 13 rfl rfl)
theorem dX0_given_38 : decode cX0_given 38 = .ok (.iload_n 2, 1) := dk_28 (dk_at dksX0_given_1 14 rfl rfl)
theorem dX0_given_39 : decode cX0_given 39 = .ok (.iastore, 1) := dk_79 (dk_at dksX0_given_1 15 rfl rfl)
theorem dX0_given_40 : decode cX0_given 40 = .ok (.iload_n 3, 1) := dk_29 (dk_at dksX0_given_1 16 rfl rfl)
theorem dX0_given_41 : decode cX0_given 41 = .ok (.ireturn, 1) := dk_172 (dk_at dksX0_given_1 17 rfl rfl)
abbrev cX0_report : ByteArray := prog_1_method_48_code
def yX0_report : MethodName := ⟨RX0, "report", "(I)I"⟩
def dkwX0_report_2 : List UInt8 := [182, 1, 89, 182, 1, 93, 172]
abbrev dktX0_report_2 : List UInt8 := dkwX0_report_2 ++ []
def dkwX0_report_1 : List UInt8 := [28, 50, 182, 1, 86, 132, 2, 1, 167, 255, 236, 42, 42, 180, 0, 24, 27, 50, 42, 180, 0, 35]
abbrev dktX0_report_1 : List UInt8 := dkwX0_report_1 ++ dktX0_report_2
def dkwX0_report_0 : List UInt8 := [42, 27, 182, 0, 104, 154, 0, 5, 2, 172, 3, 61, 28, 42, 180, 0, 77, 162, 0, 18, 42, 180, 0, 24]
abbrev dktX0_report_0 : List UInt8 := dkwX0_report_0 ++ dktX0_report_1
theorem dksX0_report_0 : cX0_report.data.toList.drop 0 = dktX0_report_0 := by decide +kernel
theorem dksX0_report_1 : cX0_report.data.toList.drop 24 = dktX0_report_1 := dk_seg dksX0_report_0 24 rfl rfl
theorem dksX0_report_2 : cX0_report.data.toList.drop 46 = dktX0_report_2 := dk_seg dksX0_report_1 22 rfl rfl
theorem dX0_report_0 : decode cX0_report 0 = .ok (.aload_n 0, 1) := dk_42 (dk_at dksX0_report_0 0 rfl rfl)
theorem dX0_report_1 : decode cX0_report 1 = .ok (.iload_n 1, 1) := dk_27 (dk_at dksX0_report_0 1 rfl rfl)
theorem dX0_report_2 : decode cX0_report 2 = .ok (.invokevirtual 104, 3) := dk_182 0 104 (dk_at dksX0_report_0 2 rfl rfl)
theorem dX0_report_5 : decode cX0_report 5 = .ok (.ifCond .ne 5, 3) := dk_154 0 5 (dk_at dksX0_report_0 5 rfl rfl)
theorem dX0_report_8 : decode cX0_report 8 = .ok (.iconst (-1), 1) := dk_2 (dk_at dksX0_report_0 8 rfl rfl)
theorem dX0_report_9 : decode cX0_report 9 = .ok (.ireturn, 1) := dk_172 (dk_at dksX0_report_0 9 rfl rfl)
theorem dX0_report_10 : decode cX0_report 10 = .ok (.iconst 0, 1) := dk_3 (dk_at dksX0_report_0 10 rfl rfl)
theorem dX0_report_11 : decode cX0_report 11 = .ok (.istore_n 2, 1) := dk_61 (dk_at dksX0_report_0 11 rfl rfl)
theorem dX0_report_12 : decode cX0_report 12 = .ok (.iload_n 2, 1) := dk_28 (dk_at dksX0_report_0 12 rfl rfl)
theorem dX0_report_13 : decode cX0_report 13 = .ok (.aload_n 0, 1) := dk_42 (dk_at dksX0_report_0 13 rfl rfl)
theorem dX0_report_14 : decode cX0_report 14 = .ok (.getfield 77, 3) := dk_180 0 77 (dk_at dksX0_report_0 14 rfl rfl)
theorem dX0_report_17 : decode cX0_report 17 = .ok (.if_icmp .ge 18, 3) := dk_162 0 18 (dk_at dksX0_report_0 17 rfl rfl)
theorem dX0_report_20 : decode cX0_report 20 = .ok (.aload_n 0, 1) := dk_42 (dk_at dksX0_report_0 20 rfl rfl)
theorem dX0_report_21 : decode cX0_report 21 = .ok (.getfield 24, 3) := dk_180 0 24 (dk_at dksX0_report_0 21 rfl rfl)
theorem dX0_report_24 : decode cX0_report 24 = .ok (.iload_n 2, 1) := dk_28 (dk_at dksX0_report_1 0 rfl rfl)
theorem dX0_report_25 : decode cX0_report 25 = .ok (.aaload, 1) := dk_50 (dk_at dksX0_report_1 1 rfl rfl)
theorem dX0_report_26 : decode cX0_report 26 = .ok (.invokevirtual 342, 3) := dk_182 1 86 (dk_at dksX0_report_1 2 rfl rfl)
theorem dX0_report_29 : decode cX0_report 29 = .ok (.iinc 2 1, 3) := dk_132 2 1 (dk_at dksX0_report_1 5 rfl rfl)
theorem dX0_report_32 : decode cX0_report 32 = .ok (.goto (-20), 3) := dk_167 255 236 (dk_at dksX0_report_1 8 rfl rfl)
theorem dX0_report_35 : decode cX0_report 35 = .ok (.aload_n 0, 1) := dk_42 (dk_at dksX0_report_1 11 rfl rfl)
theorem dX0_report_36 : decode cX0_report 36 = .ok (.aload_n 0, 1) := dk_42 (dk_at dksX0_report_1 12 rfl rfl)
theorem dX0_report_37 : decode cX0_report 37 = .ok (.getfield 24, 3) := dk_180 0 24 (dk_at dksX0_report_1 13 rfl rfl)
theorem dX0_report_40 : decode cX0_report 40 = .ok (.iload_n 1, 1) := dk_27 (dk_at dksX0_report_1 16 rfl rfl)
theorem dX0_report_41 : decode cX0_report 41 = .ok (.aaload, 1) := dk_50 (dk_at dksX0_report_1 17 rfl rfl)
theorem dX0_report_42 : decode cX0_report 42 = .ok (.aload_n 0, 1) := dk_42 (dk_at dksX0_report_1 18 rfl rfl)
theorem dX0_report_43 : decode cX0_report 43 = .ok (.getfield 35, 3) := dk_180 0 35 (dk_at dksX0_report_1 19 rfl rfl)
theorem dX0_report_46 : decode cX0_report 46 = .ok (.invokevirtual 345, 3) := dk_182 1 89 (dk_at dksX0_report_2 0 rfl rfl)
theorem dX0_report_49 : decode cX0_report 49 = .ok (.invokevirtual 349, 3) := dk_182 1 93 (dk_at dksX0_report_2 3 rfl rfl)
theorem dX0_report_52 : decode cX0_report 52 = .ok (.ireturn, 1) := dk_172 (dk_at dksX0_report_2 6 rfl rfl)
abbrev cX0_through : ByteArray := prog_1_method_49_code
def yX0_through : MethodName := ⟨RX0, "through", "(LThrowReports$Node;LThrowReports$State;)LThrowReports$Ways;"⟩
def dkwX0_through_4 : List UInt8 := [180, 1, 113, 45, 182, 1, 93, 128, 181, 1, 113, 45, 176]
abbrev dktX0_through_4 : List UInt8 := dkwX0_through_4 ++ []
def dkwX0_through_3 : List UInt8 := [178, 0, 120, 166, 0, 12, 42, 43, 44, 182, 1, 107, 167, 0, 9, 42, 43, 44, 182, 1, 110, 78, 43, 89]
abbrev dktX0_through_3 : List UInt8 := dkwX0_through_3 ++ dktX0_through_4
def dkwX0_through_2 : List UInt8 := [43, 180, 0, 162, 178, 0, 110, 166, 0, 12, 42, 43, 44, 182, 1, 104, 167, 0, 28, 43, 180, 0, 162]
abbrev dktX0_through_2 : List UInt8 := dkwX0_through_2 ++ dktX0_through_3
def dkwX0_through_1 : List UInt8 := [132, 3, 1, 167, 255, 232, 43, 180, 0, 162, 178, 0, 91, 166, 0, 11, 43, 44, 184, 1, 101, 167, 0, 47]
abbrev dktX0_through_1 : List UInt8 := dkwX0_through_1 ++ dktX0_through_2
def dkwX0_through_0 : List UInt8 := [3, 62, 29, 16, 12, 162, 0, 24, 43, 180, 1, 98, 29, 92, 46, 44, 180, 0, 40, 29, 46, 128, 79]
abbrev dktX0_through_0 : List UInt8 := dkwX0_through_0 ++ dktX0_through_1
theorem dksX0_through_0 : cX0_through.data.toList.drop 0 = dktX0_through_0 := by decide +kernel
theorem dksX0_through_1 : cX0_through.data.toList.drop 23 = dktX0_through_1 := dk_seg dksX0_through_0 23 rfl rfl
theorem dksX0_through_2 : cX0_through.data.toList.drop 47 = dktX0_through_2 := dk_seg dksX0_through_1 24 rfl rfl
theorem dksX0_through_3 : cX0_through.data.toList.drop 70 = dktX0_through_3 := dk_seg dksX0_through_2 23 rfl rfl
theorem dksX0_through_4 : cX0_through.data.toList.drop 94 = dktX0_through_4 := dk_seg dksX0_through_3 24 rfl rfl
theorem dX0_through_0 : decode cX0_through 0 = .ok (.iconst 0, 1) := dk_3 (dk_at dksX0_through_0 0 rfl rfl)
theorem dX0_through_1 : decode cX0_through 1 = .ok (.istore_n 3, 1) := dk_62 (dk_at dksX0_through_0 1 rfl rfl)
theorem dX0_through_2 : decode cX0_through 2 = .ok (.iload_n 3, 1) := dk_29 (dk_at dksX0_through_0 2 rfl rfl)
theorem dX0_through_3 : decode cX0_through 3 = .ok (.bipush 12, 2) := dk_16 12 (dk_at dksX0_through_0 3 rfl rfl)
theorem dX0_through_5 : decode cX0_through 5 = .ok (.if_icmp .ge 24, 3) := dk_162 0 24 (dk_at dksX0_through_0 5 rfl rfl)
theorem dX0_through_8 : decode cX0_through 8 = .ok (.aload_n 1, 1) := dk_43 (dk_at dksX0_through_0 8 rfl rfl)
theorem dX0_through_9 : decode cX0_through 9 = .ok (.getfield 354, 3) := dk_180 1 98 (dk_at dksX0_through_0 9 rfl rfl)
theorem dX0_through_12 : decode cX0_through 12 = .ok (.iload_n 3, 1) := dk_29 (dk_at dksX0_through_0 12 rfl rfl)
theorem dX0_through_13 : decode cX0_through 13 = .ok (.dup2, 1) := dk_92 (dk_at dksX0_through_0 13 rfl rfl)
theorem dX0_through_14 : decode cX0_through 14 = .ok (.iaload, 1) := dk_46 (dk_at dksX0_through_0 14 rfl rfl)
theorem dX0_through_15 : decode cX0_through 15 = .ok (.aload_n 2, 1) := dk_44 (dk_at dksX0_through_0 15 rfl rfl)
theorem dX0_through_16 : decode cX0_through 16 = .ok (.getfield 40, 3) := dk_180 0 40 (dk_at dksX0_through_0 16 rfl rfl)
theorem dX0_through_19 : decode cX0_through 19 = .ok (.iload_n 3, 1) := dk_29 (dk_at dksX0_through_0 19 rfl rfl)
theorem dX0_through_20 : decode cX0_through 20 = .ok (.iaload, 1) := dk_46 (dk_at dksX0_through_0 20 rfl rfl)
theorem dX0_through_21 : decode cX0_through 21 = .ok (.ior, 1) := dk_128 (dk_at dksX0_through_0 21 rfl rfl)
theorem dX0_through_22 : decode cX0_through 22 = .ok (.iastore, 1) := dk_79 (dk_at dksX0_through_0 22 rfl rfl)
theorem dX0_through_23 : decode cX0_through 23 = .ok (.iinc 3 1, 3) := dk_132 3 1 (dk_at dksX0_through_1 0 rfl rfl)
theorem dX0_through_26 : decode cX0_through 26 = .ok (.goto (-24), 3) := dk_167 255 232 (dk_at dksX0_through_1 3 rfl rfl)
theorem dX0_through_29 : decode cX0_through 29 = .ok (.aload_n 1, 1) := dk_43 (dk_at dksX0_through_1 6 rfl rfl)
theorem dX0_through_30 : decode cX0_through 30 = .ok (.getfield 162, 3) := dk_180 0 162 (dk_at dksX0_through_1 7 rfl rfl)
theorem dX0_through_33 : decode cX0_through 33 = .ok (.getstatic 91, 3) := dk_178 0 91 (dk_at dksX0_through_1 10 rfl rfl)
theorem dX0_through_36 : decode cX0_through 36 = .ok (.if_acmp .ne 11, 3) := dk_166 0 11 (dk_at dksX0_through_1 13 rfl rfl)
theorem dX0_through_39 : decode cX0_through 39 = .ok (.aload_n 1, 1) := dk_43 (dk_at dksX0_through_1 16 rfl rfl)
theorem dX0_through_40 : decode cX0_through 40 = .ok (.aload_n 2, 1) := dk_44 (dk_at dksX0_through_1 17 rfl rfl)
theorem dX0_through_41 : decode cX0_through 41 = .ok (.invokestatic 357, 3) := dk_184 1 101 (dk_at dksX0_through_1 18 rfl rfl)
theorem dX0_through_44 : decode cX0_through 44 = .ok (.goto 47, 3) := dk_167 0 47 (dk_at dksX0_through_1 21 rfl rfl)
theorem dX0_through_47 : decode cX0_through 47 = .ok (.aload_n 1, 1) := dk_43 (dk_at dksX0_through_2 0 rfl rfl)
theorem dX0_through_48 : decode cX0_through 48 = .ok (.getfield 162, 3) := dk_180 0 162 (dk_at dksX0_through_2 1 rfl rfl)
theorem dX0_through_51 : decode cX0_through 51 = .ok (.getstatic 110, 3) := dk_178 0 110 (dk_at dksX0_through_2 4 rfl rfl)
theorem dX0_through_54 : decode cX0_through 54 = .ok (.if_acmp .ne 12, 3) := dk_166 0 12 (dk_at dksX0_through_2 7 rfl rfl)
theorem dX0_through_57 : decode cX0_through 57 = .ok (.aload_n 0, 1) := dk_42 (dk_at dksX0_through_2 10 rfl rfl)
theorem dX0_through_58 : decode cX0_through 58 = .ok (.aload_n 1, 1) := dk_43 (dk_at dksX0_through_2 11 rfl rfl)
theorem dX0_through_59 : decode cX0_through 59 = .ok (.aload_n 2, 1) := dk_44 (dk_at dksX0_through_2 12 rfl rfl)
theorem dX0_through_60 : decode cX0_through 60 = .ok (.invokevirtual 360, 3) := dk_182 1 104 (dk_at dksX0_through_2 13 rfl rfl)
theorem dX0_through_63 : decode cX0_through 63 = .ok (.goto 28, 3) := dk_167 0 28 (dk_at dksX0_through_2 16 rfl rfl)
theorem dX0_through_66 : decode cX0_through 66 = .ok (.aload_n 1, 1) := dk_43 (dk_at dksX0_through_2 19 rfl rfl)
theorem dX0_through_67 : decode cX0_through 67 = .ok (.getfield 162, 3) := dk_180 0 162 (dk_at dksX0_through_2 20 rfl rfl)
theorem dX0_through_70 : decode cX0_through 70 = .ok (.getstatic 120, 3) := dk_178 0 120 (dk_at dksX0_through_3 0 rfl rfl)
theorem dX0_through_73 : decode cX0_through 73 = .ok (.if_acmp .ne 12, 3) := dk_166 0 12 (dk_at dksX0_through_3 3 rfl rfl)
theorem dX0_through_76 : decode cX0_through 76 = .ok (.aload_n 0, 1) := dk_42 (dk_at dksX0_through_3 6 rfl rfl)
theorem dX0_through_77 : decode cX0_through 77 = .ok (.aload_n 1, 1) := dk_43 (dk_at dksX0_through_3 7 rfl rfl)
theorem dX0_through_78 : decode cX0_through 78 = .ok (.aload_n 2, 1) := dk_44 (dk_at dksX0_through_3 8 rfl rfl)
theorem dX0_through_79 : decode cX0_through 79 = .ok (.invokevirtual 363, 3) := dk_182 1 107 (dk_at dksX0_through_3 9 rfl rfl)
theorem dX0_through_82 : decode cX0_through 82 = .ok (.goto 9, 3) := dk_167 0 9 (dk_at dksX0_through_3 12 rfl rfl)
theorem dX0_through_85 : decode cX0_through 85 = .ok (.aload_n 0, 1) := dk_42 (dk_at dksX0_through_3 15 rfl rfl)
theorem dX0_through_86 : decode cX0_through 86 = .ok (.aload_n 1, 1) := dk_43 (dk_at dksX0_through_3 16 rfl rfl)
theorem dX0_through_87 : decode cX0_through 87 = .ok (.aload_n 2, 1) := dk_44 (dk_at dksX0_through_3 17 rfl rfl)
theorem dX0_through_88 : decode cX0_through 88 = .ok (.invokevirtual 366, 3) := dk_182 1 110 (dk_at dksX0_through_3 18 rfl rfl)
theorem dX0_through_91 : decode cX0_through 91 = .ok (.astore_n 3, 1) := dk_78 (dk_at dksX0_through_3 21 rfl rfl)
theorem dX0_through_92 : decode cX0_through 92 = .ok (.aload_n 1, 1) := dk_43 (dk_at dksX0_through_3 22 rfl rfl)
theorem dX0_through_93 : decode cX0_through 93 = .ok (.dup, 1) := dk_89 (dk_at dksX0_through_3 23 rfl rfl)
theorem dX0_through_94 : decode cX0_through 94 = .ok (.getfield 369, 3) := dk_180 1 113 (dk_at dksX0_through_4 0 rfl rfl)
theorem dX0_through_97 : decode cX0_through 97 = .ok (.aload_n 3, 1) := dk_45 (dk_at dksX0_through_4 3 rfl rfl)
theorem dX0_through_98 : decode cX0_through 98 = .ok (.invokevirtual 349, 3) := dk_182 1 93 (dk_at dksX0_through_4 4 rfl rfl)
theorem dX0_through_101 : decode cX0_through 101 = .ok (.ior, 1) := dk_128 (dk_at dksX0_through_4 7 rfl rfl)
theorem dX0_through_102 : decode cX0_through 102 = .ok (.putfield 369, 3) := dk_181 1 113 (dk_at dksX0_through_4 8 rfl rfl)
theorem dX0_through_105 : decode cX0_through 105 = .ok (.aload_n 3, 1) := dk_45 (dk_at dksX0_through_4 11 rfl rfl)
theorem dX0_through_106 : decode cX0_through 106 = .ok (.areturn, 1) := dk_176 (dk_at dksX0_through_4 12 rfl rfl)
abbrev cX0_ofAct : ByteArray := prog_1_method_55_code
def yX0_ofAct : MethodName := ⟨RX0, "ofAct", "(LThrowReports$Node;LThrowReports$State;)LThrowReports$Ways;"⟩
def dkwX0_ofAct_21 : List UInt8 := [44, 16, 7, 182, 1, 156, 87, 44, 1, 181, 1, 184, 44, 182, 1, 173, 176, 44, 182, 1, 173, 176]
abbrev dktX0_ofAct_21 : List UInt8 := dkwX0_ofAct_21 ++ []
def dkwX0_ofAct_20 : List UInt8 := [176, 44, 42, 180, 0, 172, 42, 180, 0, 191, 184, 1, 181, 176, 44, 16, 6, 182, 1, 156, 182, 1, 173, 176]
abbrev dktX0_ofAct_20 : List UInt8 := dkwX0_ofAct_20 ++ dktX0_ofAct_21
def dkwX0_ofAct_19 : List UInt8 := [182, 1, 159, 176, 44, 42, 180, 0, 178, 16, 8, 182, 1, 163, 42, 180, 0, 178, 182, 1, 170, 182, 1, 173]
abbrev dktX0_ofAct_19 : List UInt8 := dkwX0_ofAct_19 ++ dktX0_ofAct_20
def dkwX0_ofAct_18 : List UInt8 := [180, 0, 178, 4, 182, 1, 163, 42, 180, 0, 178, 182, 1, 170, 16, 8, 182, 1, 156, 42, 180, 0, 172, 5]
abbrev dktX0_ofAct_18 : List UInt8 := dkwX0_ofAct_18 ++ dktX0_ofAct_19
def dkwX0_ofAct_17 : List UInt8 := [182, 1, 170, 6, 182, 1, 156, 87, 44, 42, 180, 0, 172, 42, 180, 0, 194, 184, 1, 177, 176, 44, 42]
abbrev dktX0_ofAct_17 : List UInt8 := dkwX0_ofAct_17 ++ dktX0_ofAct_18
def dkwX0_ofAct_16 : List UInt8 := [180, 0, 178, 8, 160, 0, 7, 4, 167, 0, 9, 42, 180, 0, 178, 5, 96, 182, 1, 163, 42, 180, 0, 172]
abbrev dktX0_ofAct_16 : List UInt8 := dkwX0_ofAct_16 ++ dktX0_ofAct_17
def dkwX0_ofAct_15 : List UInt8 := [128, 182, 1, 159, 176, 44, 42, 180, 0, 172, 42, 180, 0, 178, 182, 1, 163, 42, 180, 0, 194, 42]
abbrev dktX0_ofAct_15 : List UInt8 := dkwX0_ofAct_15 ++ dktX0_ofAct_16
def dkwX0_ofAct_14 : List UInt8 := [44, 42, 180, 0, 178, 182, 1, 166, 16, 6, 122, 4, 126, 4, 160, 0, 9, 17, 1, 0, 167, 0, 4, 3]
abbrev dktX0_ofAct_14 : List UInt8 := dkwX0_ofAct_14 ++ dktX0_ofAct_15
def dkwX0_ofAct_13 : List UInt8 := [182, 1, 156, 87, 44, 42, 180, 0, 172, 42, 180, 0, 191, 8, 160, 0, 7, 6, 167, 0, 31, 17, 2, 1]
abbrev dktX0_ofAct_13 : List UInt8 := dkwX0_ofAct_13 ++ dktX0_ofAct_14
def dkwX0_ofAct_12 : List UInt8 := [182, 1, 173, 176, 44, 42, 180, 0, 178, 42, 180, 0, 191, 182, 1, 163, 42, 180, 0, 178, 182, 1, 170, 6]
abbrev dktX0_ofAct_12 : List UInt8 := dkwX0_ofAct_12 ++ dktX0_ofAct_13
def dkwX0_ofAct_11 : List UInt8 := [42, 180, 0, 172, 42, 180, 0, 178, 182, 1, 163, 42, 180, 0, 172, 182, 1, 170, 6, 182, 1, 156]
abbrev dktX0_ofAct_11 : List UInt8 := dkwX0_ofAct_11 ++ dktX0_ofAct_12
def dkwX0_ofAct_10 : List UInt8 := [180, 0, 188, 8, 160, 0, 14, 44, 6, 182, 1, 156, 182, 1, 173, 167, 0, 7, 44, 182, 1, 173, 176, 44]
abbrev dktX0_ofAct_10 : List UInt8 := dkwX0_ofAct_10 ++ dktX0_ofAct_11
def dkwX0_ofAct_9 : List UInt8 := [176, 44, 42, 180, 0, 178, 42, 180, 0, 191, 182, 1, 163, 42, 180, 0, 178, 182, 1, 170, 87, 42]
abbrev dktX0_ofAct_9 : List UInt8 := dkwX0_ofAct_9 ++ dktX0_ofAct_10
def dkwX0_ofAct_8 : List UInt8 := [42, 180, 0, 191, 182, 1, 163, 87, 44, 42, 180, 0, 172, 44, 42, 180, 0, 178, 182, 1, 166, 182, 1, 159]
abbrev dktX0_ofAct_8 : List UInt8 := dkwX0_ofAct_8 ++ dktX0_ofAct_9
def dkwX0_ofAct_7 : List UInt8 := [180, 0, 178, 154, 0, 9, 17, 1, 0, 167, 0, 6, 17, 2, 0, 182, 1, 159, 176, 44, 42, 180, 0, 178]
abbrev dktX0_ofAct_7 : List UInt8 := dkwX0_ofAct_7 ++ dktX0_ofAct_8
def dkwX0_ofAct_6 : List UInt8 := [182, 1, 156, 42, 180, 0, 172, 16, 32, 182, 1, 159, 176, 44, 16, 8, 182, 1, 156, 42, 180, 0, 172, 42]
abbrev dktX0_ofAct_6 : List UInt8 := dkwX0_ofAct_6 ++ dktX0_ofAct_7
def dkwX0_ofAct_5 : List UInt8 := [16, 32, 182, 1, 159, 176, 44, 42, 180, 0, 178, 155, 0, 7, 4, 167, 0, 4, 3, 182, 1, 153, 16, 8]
abbrev dktX0_ofAct_5 : List UInt8 := dkwX0_ofAct_5 ++ dktX0_ofAct_6
def dkwX0_ofAct_4 : List UInt8 := [180, 0, 191, 155, 0, 7, 4, 167, 0, 4, 3, 182, 1, 153, 16, 8, 182, 1, 156, 42, 180, 0, 172]
abbrev dktX0_ofAct_4 : List UInt8 := dkwX0_ofAct_4 ++ dktX0_ofAct_5
def dkwX0_ofAct_3 : List UInt8 := [180, 0, 172, 4, 42, 180, 0, 178, 120, 182, 1, 159, 176, 44, 42, 180, 0, 178, 155, 0, 14, 42]
abbrev dktX0_ofAct_3 : List UInt8 := dkwX0_ofAct_3 ++ dktX0_ofAct_4
def dkwX0_ofAct_2 : List UInt8 := [44, 42, 180, 0, 191, 155, 0, 7, 4, 167, 0, 4, 3, 182, 1, 153, 16, 8, 182, 1, 156, 42]
abbrev dktX0_ofAct_2 : List UInt8 := dkwX0_ofAct_2 ++ dktX0_ofAct_3
def dkwX0_ofAct_1 : List UInt8 := [170, 0, 0, 0, 0, 2, 36, 0, 0, 0, 0, 0, 0, 0, 17, 0, 0, 0, 87, 0, 0, 0, 122, 0, 0, 0, 160, 0, 0, 0, 191, 0, 0, 0, 221, 0, 0, 0, 251, 0, 0, 1, 39, 0, 0, 1, 66, 0, 0, 1, 139, 0, 0, 0, 251, 0, 0, 1, 201, 0, 0, 1, 231, 0, 0, 1, 252, 0, 0, 2, 36, 0, 0, 2, 36, 0, 0, 2, 9, 0, 0, 2, 9, 0, 0, 2, 19]
abbrev dktX0_ofAct_1 : List UInt8 := dkwX0_ofAct_1 ++ dktX0_ofAct_2
def dkwX0_ofAct_0 : List UInt8 := [187, 1, 148, 89, 43, 183, 1, 150, 77, 42, 180, 0, 188]
abbrev dktX0_ofAct_0 : List UInt8 := dkwX0_ofAct_0 ++ dktX0_ofAct_1
theorem dksX0_ofAct_0 : cX0_ofAct.data.toList.drop 0 = dktX0_ofAct_0 := by decide +kernel
theorem dksX0_ofAct_1 : cX0_ofAct.data.toList.drop 13 = dktX0_ofAct_1 := dk_seg dksX0_ofAct_0 13 rfl rfl
theorem dksX0_ofAct_2 : cX0_ofAct.data.toList.drop 100 = dktX0_ofAct_2 := dk_seg dksX0_ofAct_1 87 rfl rfl
theorem dksX0_ofAct_3 : cX0_ofAct.data.toList.drop 122 = dktX0_ofAct_3 := dk_seg dksX0_ofAct_2 22 rfl rfl
theorem dksX0_ofAct_4 : cX0_ofAct.data.toList.drop 144 = dktX0_ofAct_4 := dk_seg dksX0_ofAct_3 22 rfl rfl
theorem dksX0_ofAct_5 : cX0_ofAct.data.toList.drop 167 = dktX0_ofAct_5 := dk_seg dksX0_ofAct_4 23 rfl rfl
theorem dksX0_ofAct_6 : cX0_ofAct.data.toList.drop 191 = dktX0_ofAct_6 := dk_seg dksX0_ofAct_5 24 rfl rfl
theorem dksX0_ofAct_7 : cX0_ofAct.data.toList.drop 215 = dktX0_ofAct_7 := dk_seg dksX0_ofAct_6 24 rfl rfl
theorem dksX0_ofAct_8 : cX0_ofAct.data.toList.drop 239 = dktX0_ofAct_8 := dk_seg dksX0_ofAct_7 24 rfl rfl
theorem dksX0_ofAct_9 : cX0_ofAct.data.toList.drop 263 = dktX0_ofAct_9 := dk_seg dksX0_ofAct_8 24 rfl rfl
theorem dksX0_ofAct_10 : cX0_ofAct.data.toList.drop 285 = dktX0_ofAct_10 := dk_seg dksX0_ofAct_9 22 rfl rfl
theorem dksX0_ofAct_11 : cX0_ofAct.data.toList.drop 309 = dktX0_ofAct_11 := dk_seg dksX0_ofAct_10 24 rfl rfl
theorem dksX0_ofAct_12 : cX0_ofAct.data.toList.drop 331 = dktX0_ofAct_12 := dk_seg dksX0_ofAct_11 22 rfl rfl
theorem dksX0_ofAct_13 : cX0_ofAct.data.toList.drop 355 = dktX0_ofAct_13 := dk_seg dksX0_ofAct_12 24 rfl rfl
theorem dksX0_ofAct_14 : cX0_ofAct.data.toList.drop 379 = dktX0_ofAct_14 := dk_seg dksX0_ofAct_13 24 rfl rfl
theorem dksX0_ofAct_15 : cX0_ofAct.data.toList.drop 403 = dktX0_ofAct_15 := dk_seg dksX0_ofAct_14 24 rfl rfl
theorem dksX0_ofAct_16 : cX0_ofAct.data.toList.drop 425 = dktX0_ofAct_16 := dk_seg dksX0_ofAct_15 22 rfl rfl
theorem dksX0_ofAct_17 : cX0_ofAct.data.toList.drop 449 = dktX0_ofAct_17 := dk_seg dksX0_ofAct_16 24 rfl rfl
theorem dksX0_ofAct_18 : cX0_ofAct.data.toList.drop 472 = dktX0_ofAct_18 := dk_seg dksX0_ofAct_17 23 rfl rfl
theorem dksX0_ofAct_19 : cX0_ofAct.data.toList.drop 496 = dktX0_ofAct_19 := dk_seg dksX0_ofAct_18 24 rfl rfl
theorem dksX0_ofAct_20 : cX0_ofAct.data.toList.drop 520 = dktX0_ofAct_20 := dk_seg dksX0_ofAct_19 24 rfl rfl
theorem dksX0_ofAct_21 : cX0_ofAct.data.toList.drop 544 = dktX0_ofAct_21 := dk_seg dksX0_ofAct_20 24 rfl rfl
theorem dX0_ofAct_0 : decode cX0_ofAct 0 = .ok (.new 404, 3) := dk_187 1 148 (dk_at dksX0_ofAct_0 0 rfl rfl)
theorem dX0_ofAct_3 : decode cX0_ofAct 3 = .ok (.dup, 1) := dk_89 (dk_at dksX0_ofAct_0 3 rfl rfl)
theorem dX0_ofAct_4 : decode cX0_ofAct 4 = .ok (.aload_n 1, 1) := dk_43 (dk_at dksX0_ofAct_0 4 rfl rfl)
theorem dX0_ofAct_5 : decode cX0_ofAct 5 = .ok (.invokespecial 406, 3) := dk_183 1 150 (dk_at dksX0_ofAct_0 5 rfl rfl)
theorem dX0_ofAct_8 : decode cX0_ofAct 8 = .ok (.astore_n 2, 1) := dk_77 (dk_at dksX0_ofAct_0 8 rfl rfl)
theorem dX0_ofAct_9 : decode cX0_ofAct 9 = .ok (.aload_n 0, 1) := dk_42 (dk_at dksX0_ofAct_0 9 rfl rfl)
theorem dX0_ofAct_10 : decode cX0_ofAct 10 = .ok (.getfield 188, 3) := dk_180 0 188 (dk_at dksX0_ofAct_0 10 rfl rfl)
theorem dX0_ofAct_13 : decode cX0_ofAct 13 = .ok (.tableswitch 548 0 17 #[87, 122, 160, 191, 221, 251, 295, 322, 395, 251, 457, 487, 508, 548, 548, 521, 521, 531], 87) := by decide +kernel
theorem dX0_ofAct_100 : decode cX0_ofAct 100 = .ok (.aload_n 2, 1) := dk_44 (dk_at dksX0_ofAct_2 0 rfl rfl)
theorem dX0_ofAct_101 : decode cX0_ofAct 101 = .ok (.aload_n 0, 1) := dk_42 (dk_at dksX0_ofAct_2 1 rfl rfl)
theorem dX0_ofAct_102 : decode cX0_ofAct 102 = .ok (.getfield 191, 3) := dk_180 0 191 (dk_at dksX0_ofAct_2 2 rfl rfl)
theorem dX0_ofAct_105 : decode cX0_ofAct 105 = .ok (.ifCond .lt 7, 3) := dk_155 0 7 (dk_at dksX0_ofAct_2 5 rfl rfl)
theorem dX0_ofAct_108 : decode cX0_ofAct 108 = .ok (.iconst 1, 1) := dk_4 (dk_at dksX0_ofAct_2 8 rfl rfl)
theorem dX0_ofAct_109 : decode cX0_ofAct 109 = .ok (.goto 4, 3) := dk_167 0 4 (dk_at dksX0_ofAct_2 9 rfl rfl)
theorem dX0_ofAct_112 : decode cX0_ofAct 112 = .ok (.iconst 0, 1) := dk_3 (dk_at dksX0_ofAct_2 12 rfl rfl)
theorem dX0_ofAct_113 : decode cX0_ofAct 113 = .ok (.invokevirtual 409, 3) := dk_182 1 153 (dk_at dksX0_ofAct_2 13 rfl rfl)
theorem dX0_ofAct_116 : decode cX0_ofAct 116 = .ok (.bipush 8, 2) := dk_16 8 (dk_at dksX0_ofAct_2 16 rfl rfl)
theorem dX0_ofAct_118 : decode cX0_ofAct 118 = .ok (.invokevirtual 412, 3) := dk_182 1 156 (dk_at dksX0_ofAct_2 18 rfl rfl)
theorem dX0_ofAct_121 : decode cX0_ofAct 121 = .ok (.aload_n 0, 1) := dk_42 (dk_at dksX0_ofAct_2 21 rfl rfl)
theorem dX0_ofAct_122 : decode cX0_ofAct 122 = .ok (.getfield 172, 3) := dk_180 0 172 (dk_at dksX0_ofAct_3 0 rfl rfl)
theorem dX0_ofAct_125 : decode cX0_ofAct 125 = .ok (.iconst 1, 1) := dk_4 (dk_at dksX0_ofAct_3 3 rfl rfl)
theorem dX0_ofAct_126 : decode cX0_ofAct 126 = .ok (.aload_n 0, 1) := dk_42 (dk_at dksX0_ofAct_3 4 rfl rfl)
theorem dX0_ofAct_127 : decode cX0_ofAct 127 = .ok (.getfield 178, 3) := dk_180 0 178 (dk_at dksX0_ofAct_3 5 rfl rfl)
theorem dX0_ofAct_130 : decode cX0_ofAct 130 = .ok (.ishl, 1) := dk_120 (dk_at dksX0_ofAct_3 8 rfl rfl)
theorem dX0_ofAct_131 : decode cX0_ofAct 131 = .ok (.invokevirtual 415, 3) := dk_182 1 159 (dk_at dksX0_ofAct_3 9 rfl rfl)
theorem dX0_ofAct_134 : decode cX0_ofAct 134 = .ok (.areturn, 1) := dk_176 (dk_at dksX0_ofAct_3 12 rfl rfl)
theorem dX0_ofAct_135 : decode cX0_ofAct 135 = .ok (.aload_n 2, 1) := dk_44 (dk_at dksX0_ofAct_3 13 rfl rfl)
theorem dX0_ofAct_136 : decode cX0_ofAct 136 = .ok (.aload_n 0, 1) := dk_42 (dk_at dksX0_ofAct_3 14 rfl rfl)
theorem dX0_ofAct_137 : decode cX0_ofAct 137 = .ok (.getfield 178, 3) := dk_180 0 178 (dk_at dksX0_ofAct_3 15 rfl rfl)
theorem dX0_ofAct_140 : decode cX0_ofAct 140 = .ok (.ifCond .lt 14, 3) := dk_155 0 14 (dk_at dksX0_ofAct_3 18 rfl rfl)
theorem dX0_ofAct_143 : decode cX0_ofAct 143 = .ok (.aload_n 0, 1) := dk_42 (dk_at dksX0_ofAct_3 21 rfl rfl)
theorem dX0_ofAct_144 : decode cX0_ofAct 144 = .ok (.getfield 191, 3) := dk_180 0 191 (dk_at dksX0_ofAct_4 0 rfl rfl)
theorem dX0_ofAct_147 : decode cX0_ofAct 147 = .ok (.ifCond .lt 7, 3) := dk_155 0 7 (dk_at dksX0_ofAct_4 3 rfl rfl)
theorem dX0_ofAct_150 : decode cX0_ofAct 150 = .ok (.iconst 1, 1) := dk_4 (dk_at dksX0_ofAct_4 6 rfl rfl)
theorem dX0_ofAct_151 : decode cX0_ofAct 151 = .ok (.goto 4, 3) := dk_167 0 4 (dk_at dksX0_ofAct_4 7 rfl rfl)
theorem dX0_ofAct_154 : decode cX0_ofAct 154 = .ok (.iconst 0, 1) := dk_3 (dk_at dksX0_ofAct_4 10 rfl rfl)
theorem dX0_ofAct_155 : decode cX0_ofAct 155 = .ok (.invokevirtual 409, 3) := dk_182 1 153 (dk_at dksX0_ofAct_4 11 rfl rfl)
theorem dX0_ofAct_158 : decode cX0_ofAct 158 = .ok (.bipush 8, 2) := dk_16 8 (dk_at dksX0_ofAct_4 14 rfl rfl)
theorem dX0_ofAct_160 : decode cX0_ofAct 160 = .ok (.invokevirtual 412, 3) := dk_182 1 156 (dk_at dksX0_ofAct_4 16 rfl rfl)
theorem dX0_ofAct_163 : decode cX0_ofAct 163 = .ok (.aload_n 0, 1) := dk_42 (dk_at dksX0_ofAct_4 19 rfl rfl)
theorem dX0_ofAct_164 : decode cX0_ofAct 164 = .ok (.getfield 172, 3) := dk_180 0 172 (dk_at dksX0_ofAct_4 20 rfl rfl)
theorem dX0_ofAct_167 : decode cX0_ofAct 167 = .ok (.bipush 32, 2) := dk_16 32 (dk_at dksX0_ofAct_5 0 rfl rfl)
theorem dX0_ofAct_169 : decode cX0_ofAct 169 = .ok (.invokevirtual 415, 3) := dk_182 1 159 (dk_at dksX0_ofAct_5 2 rfl rfl)
theorem dX0_ofAct_172 : decode cX0_ofAct 172 = .ok (.areturn, 1) := dk_176 (dk_at dksX0_ofAct_5 5 rfl rfl)
theorem dX0_ofAct_173 : decode cX0_ofAct 173 = .ok (.aload_n 2, 1) := dk_44 (dk_at dksX0_ofAct_5 6 rfl rfl)
theorem dX0_ofAct_174 : decode cX0_ofAct 174 = .ok (.aload_n 0, 1) := dk_42 (dk_at dksX0_ofAct_5 7 rfl rfl)
theorem dX0_ofAct_175 : decode cX0_ofAct 175 = .ok (.getfield 178, 3) := dk_180 0 178 (dk_at dksX0_ofAct_5 8 rfl rfl)
theorem dX0_ofAct_178 : decode cX0_ofAct 178 = .ok (.ifCond .lt 7, 3) := dk_155 0 7 (dk_at dksX0_ofAct_5 11 rfl rfl)
theorem dX0_ofAct_181 : decode cX0_ofAct 181 = .ok (.iconst 1, 1) := dk_4 (dk_at dksX0_ofAct_5 14 rfl rfl)
theorem dX0_ofAct_182 : decode cX0_ofAct 182 = .ok (.goto 4, 3) := dk_167 0 4 (dk_at dksX0_ofAct_5 15 rfl rfl)
theorem dX0_ofAct_185 : decode cX0_ofAct 185 = .ok (.iconst 0, 1) := dk_3 (dk_at dksX0_ofAct_5 18 rfl rfl)
theorem dX0_ofAct_186 : decode cX0_ofAct 186 = .ok (.invokevirtual 409, 3) := dk_182 1 153 (dk_at dksX0_ofAct_5 19 rfl rfl)
theorem dX0_ofAct_189 : decode cX0_ofAct 189 = .ok (.bipush 8, 2) := dk_16 8 (dk_at dksX0_ofAct_5 22 rfl rfl)
theorem dX0_ofAct_191 : decode cX0_ofAct 191 = .ok (.invokevirtual 412, 3) := dk_182 1 156 (dk_at dksX0_ofAct_6 0 rfl rfl)
theorem dX0_ofAct_194 : decode cX0_ofAct 194 = .ok (.aload_n 0, 1) := dk_42 (dk_at dksX0_ofAct_6 3 rfl rfl)
theorem dX0_ofAct_195 : decode cX0_ofAct 195 = .ok (.getfield 172, 3) := dk_180 0 172 (dk_at dksX0_ofAct_6 4 rfl rfl)
theorem dX0_ofAct_198 : decode cX0_ofAct 198 = .ok (.bipush 32, 2) := dk_16 32 (dk_at dksX0_ofAct_6 7 rfl rfl)
theorem dX0_ofAct_200 : decode cX0_ofAct 200 = .ok (.invokevirtual 415, 3) := dk_182 1 159 (dk_at dksX0_ofAct_6 9 rfl rfl)
theorem dX0_ofAct_203 : decode cX0_ofAct 203 = .ok (.areturn, 1) := dk_176 (dk_at dksX0_ofAct_6 12 rfl rfl)
theorem dX0_ofAct_204 : decode cX0_ofAct 204 = .ok (.aload_n 2, 1) := dk_44 (dk_at dksX0_ofAct_6 13 rfl rfl)
theorem dX0_ofAct_205 : decode cX0_ofAct 205 = .ok (.bipush 8, 2) := dk_16 8 (dk_at dksX0_ofAct_6 14 rfl rfl)
theorem dX0_ofAct_207 : decode cX0_ofAct 207 = .ok (.invokevirtual 412, 3) := dk_182 1 156 (dk_at dksX0_ofAct_6 16 rfl rfl)
theorem dX0_ofAct_210 : decode cX0_ofAct 210 = .ok (.aload_n 0, 1) := dk_42 (dk_at dksX0_ofAct_6 19 rfl rfl)
theorem dX0_ofAct_211 : decode cX0_ofAct 211 = .ok (.getfield 172, 3) := dk_180 0 172 (dk_at dksX0_ofAct_6 20 rfl rfl)
theorem dX0_ofAct_214 : decode cX0_ofAct 214 = .ok (.aload_n 0, 1) := dk_42 (dk_at dksX0_ofAct_6 23 rfl rfl)
theorem dX0_ofAct_215 : decode cX0_ofAct 215 = .ok (.getfield 178, 3) := dk_180 0 178 (dk_at dksX0_ofAct_7 0 rfl rfl)
theorem dX0_ofAct_218 : decode cX0_ofAct 218 = .ok (.ifCond .ne 9, 3) := dk_154 0 9 (dk_at dksX0_ofAct_7 3 rfl rfl)
theorem dX0_ofAct_221 : decode cX0_ofAct 221 = .ok (.sipush 256, 3) := dk_17 1 0 (dk_at dksX0_ofAct_7 6 rfl rfl)
theorem dX0_ofAct_224 : decode cX0_ofAct 224 = .ok (.goto 6, 3) := dk_167 0 6 (dk_at dksX0_ofAct_7 9 rfl rfl)
theorem dX0_ofAct_227 : decode cX0_ofAct 227 = .ok (.sipush 512, 3) := dk_17 2 0 (dk_at dksX0_ofAct_7 12 rfl rfl)
theorem dX0_ofAct_230 : decode cX0_ofAct 230 = .ok (.invokevirtual 415, 3) := dk_182 1 159 (dk_at dksX0_ofAct_7 15 rfl rfl)
theorem dX0_ofAct_233 : decode cX0_ofAct 233 = .ok (.areturn, 1) := dk_176 (dk_at dksX0_ofAct_7 18 rfl rfl)
theorem dX0_ofAct_234 : decode cX0_ofAct 234 = .ok (.aload_n 2, 1) := dk_44 (dk_at dksX0_ofAct_7 19 rfl rfl)
theorem dX0_ofAct_235 : decode cX0_ofAct 235 = .ok (.aload_n 0, 1) := dk_42 (dk_at dksX0_ofAct_7 20 rfl rfl)
theorem dX0_ofAct_236 : decode cX0_ofAct 236 = .ok (.getfield 178, 3) := dk_180 0 178 (dk_at dksX0_ofAct_7 21 rfl rfl)
theorem dX0_ofAct_239 : decode cX0_ofAct 239 = .ok (.aload_n 0, 1) := dk_42 (dk_at dksX0_ofAct_8 0 rfl rfl)
theorem dX0_ofAct_240 : decode cX0_ofAct 240 = .ok (.getfield 191, 3) := dk_180 0 191 (dk_at dksX0_ofAct_8 1 rfl rfl)
theorem dX0_ofAct_243 : decode cX0_ofAct 243 = .ok (.invokevirtual 419, 3) := dk_182 1 163 (dk_at dksX0_ofAct_8 4 rfl rfl)
theorem dX0_ofAct_246 : decode cX0_ofAct 246 = .ok (.pop, 1) := dk_87 (dk_at dksX0_ofAct_8 7 rfl rfl)
theorem dX0_ofAct_247 : decode cX0_ofAct 247 = .ok (.aload_n 2, 1) := dk_44 (dk_at dksX0_ofAct_8 8 rfl rfl)
theorem dX0_ofAct_248 : decode cX0_ofAct 248 = .ok (.aload_n 0, 1) := dk_42 (dk_at dksX0_ofAct_8 9 rfl rfl)
theorem dX0_ofAct_249 : decode cX0_ofAct 249 = .ok (.getfield 172, 3) := dk_180 0 172 (dk_at dksX0_ofAct_8 10 rfl rfl)
theorem dX0_ofAct_252 : decode cX0_ofAct 252 = .ok (.aload_n 2, 1) := dk_44 (dk_at dksX0_ofAct_8 13 rfl rfl)
theorem dX0_ofAct_253 : decode cX0_ofAct 253 = .ok (.aload_n 0, 1) := dk_42 (dk_at dksX0_ofAct_8 14 rfl rfl)
theorem dX0_ofAct_254 : decode cX0_ofAct 254 = .ok (.getfield 178, 3) := dk_180 0 178 (dk_at dksX0_ofAct_8 15 rfl rfl)
theorem dX0_ofAct_257 : decode cX0_ofAct 257 = .ok (.invokevirtual 422, 3) := dk_182 1 166 (dk_at dksX0_ofAct_8 18 rfl rfl)
theorem dX0_ofAct_260 : decode cX0_ofAct 260 = .ok (.invokevirtual 415, 3) := dk_182 1 159 (dk_at dksX0_ofAct_8 21 rfl rfl)
theorem dX0_ofAct_263 : decode cX0_ofAct 263 = .ok (.areturn, 1) := dk_176 (dk_at dksX0_ofAct_9 0 rfl rfl)
theorem dX0_ofAct_264 : decode cX0_ofAct 264 = .ok (.aload_n 2, 1) := dk_44 (dk_at dksX0_ofAct_9 1 rfl rfl)
theorem dX0_ofAct_265 : decode cX0_ofAct 265 = .ok (.aload_n 0, 1) := dk_42 (dk_at dksX0_ofAct_9 2 rfl rfl)
theorem dX0_ofAct_266 : decode cX0_ofAct 266 = .ok (.getfield 178, 3) := dk_180 0 178 (dk_at dksX0_ofAct_9 3 rfl rfl)
theorem dX0_ofAct_269 : decode cX0_ofAct 269 = .ok (.aload_n 0, 1) := dk_42 (dk_at dksX0_ofAct_9 6 rfl rfl)
theorem dX0_ofAct_270 : decode cX0_ofAct 270 = .ok (.getfield 191, 3) := dk_180 0 191 (dk_at dksX0_ofAct_9 7 rfl rfl)
theorem dX0_ofAct_273 : decode cX0_ofAct 273 = .ok (.invokevirtual 419, 3) := dk_182 1 163 (dk_at dksX0_ofAct_9 10 rfl rfl)
theorem dX0_ofAct_276 : decode cX0_ofAct 276 = .ok (.aload_n 0, 1) := dk_42 (dk_at dksX0_ofAct_9 13 rfl rfl)
theorem dX0_ofAct_277 : decode cX0_ofAct 277 = .ok (.getfield 178, 3) := dk_180 0 178 (dk_at dksX0_ofAct_9 14 rfl rfl)
theorem dX0_ofAct_280 : decode cX0_ofAct 280 = .ok (.invokevirtual 426, 3) := dk_182 1 170 (dk_at dksX0_ofAct_9 17 rfl rfl)
theorem dX0_ofAct_283 : decode cX0_ofAct 283 = .ok (.pop, 1) := dk_87 (dk_at dksX0_ofAct_9 20 rfl rfl)
theorem dX0_ofAct_284 : decode cX0_ofAct 284 = .ok (.aload_n 0, 1) := dk_42 (dk_at dksX0_ofAct_9 21 rfl rfl)
theorem dX0_ofAct_285 : decode cX0_ofAct 285 = .ok (.getfield 188, 3) := dk_180 0 188 (dk_at dksX0_ofAct_10 0 rfl rfl)
theorem dX0_ofAct_288 : decode cX0_ofAct 288 = .ok (.iconst 5, 1) := dk_8 (dk_at dksX0_ofAct_10 3 rfl rfl)
theorem dX0_ofAct_289 : decode cX0_ofAct 289 = .ok (.if_icmp .ne 14, 3) := dk_160 0 14 (dk_at dksX0_ofAct_10 4 rfl rfl)
theorem dX0_ofAct_292 : decode cX0_ofAct 292 = .ok (.aload_n 2, 1) := dk_44 (dk_at dksX0_ofAct_10 7 rfl rfl)
theorem dX0_ofAct_293 : decode cX0_ofAct 293 = .ok (.iconst 3, 1) := dk_6 (dk_at dksX0_ofAct_10 8 rfl rfl)
theorem dX0_ofAct_294 : decode cX0_ofAct 294 = .ok (.invokevirtual 412, 3) := dk_182 1 156 (dk_at dksX0_ofAct_10 9 rfl rfl)
theorem dX0_ofAct_297 : decode cX0_ofAct 297 = .ok (.invokevirtual 429, 3) := dk_182 1 173 (dk_at dksX0_ofAct_10 12 rfl rfl)
theorem dX0_ofAct_300 : decode cX0_ofAct 300 = .ok (.goto 7, 3) := dk_167 0 7 (dk_at dksX0_ofAct_10 15 rfl rfl)
theorem dX0_ofAct_303 : decode cX0_ofAct 303 = .ok (.aload_n 2, 1) := dk_44 (dk_at dksX0_ofAct_10 18 rfl rfl)
theorem dX0_ofAct_304 : decode cX0_ofAct 304 = .ok (.invokevirtual 429, 3) := dk_182 1 173 (dk_at dksX0_ofAct_10 19 rfl rfl)
theorem dX0_ofAct_307 : decode cX0_ofAct 307 = .ok (.areturn, 1) := dk_176 (dk_at dksX0_ofAct_10 22 rfl rfl)
theorem dX0_ofAct_308 : decode cX0_ofAct 308 = .ok (.aload_n 2, 1) := dk_44 (dk_at dksX0_ofAct_10 23 rfl rfl)
theorem dX0_ofAct_309 : decode cX0_ofAct 309 = .ok (.aload_n 0, 1) := dk_42 (dk_at dksX0_ofAct_11 0 rfl rfl)
theorem dX0_ofAct_310 : decode cX0_ofAct 310 = .ok (.getfield 172, 3) := dk_180 0 172 (dk_at dksX0_ofAct_11 1 rfl rfl)
theorem dX0_ofAct_313 : decode cX0_ofAct 313 = .ok (.aload_n 0, 1) := dk_42 (dk_at dksX0_ofAct_11 4 rfl rfl)
theorem dX0_ofAct_314 : decode cX0_ofAct 314 = .ok (.getfield 178, 3) := dk_180 0 178 (dk_at dksX0_ofAct_11 5 rfl rfl)
theorem dX0_ofAct_317 : decode cX0_ofAct 317 = .ok (.invokevirtual 419, 3) := dk_182 1 163 (dk_at dksX0_ofAct_11 8 rfl rfl)
theorem dX0_ofAct_320 : decode cX0_ofAct 320 = .ok (.aload_n 0, 1) := dk_42 (dk_at dksX0_ofAct_11 11 rfl rfl)
theorem dX0_ofAct_321 : decode cX0_ofAct 321 = .ok (.getfield 172, 3) := dk_180 0 172 (dk_at dksX0_ofAct_11 12 rfl rfl)
theorem dX0_ofAct_324 : decode cX0_ofAct 324 = .ok (.invokevirtual 426, 3) := dk_182 1 170 (dk_at dksX0_ofAct_11 15 rfl rfl)
theorem dX0_ofAct_327 : decode cX0_ofAct 327 = .ok (.iconst 3, 1) := dk_6 (dk_at dksX0_ofAct_11 18 rfl rfl)
theorem dX0_ofAct_328 : decode cX0_ofAct 328 = .ok (.invokevirtual 412, 3) := dk_182 1 156 (dk_at dksX0_ofAct_11 19 rfl rfl)
theorem dX0_ofAct_331 : decode cX0_ofAct 331 = .ok (.invokevirtual 429, 3) := dk_182 1 173 (dk_at dksX0_ofAct_12 0 rfl rfl)
theorem dX0_ofAct_334 : decode cX0_ofAct 334 = .ok (.areturn, 1) := dk_176 (dk_at dksX0_ofAct_12 3 rfl rfl)
theorem dX0_ofAct_335 : decode cX0_ofAct 335 = .ok (.aload_n 2, 1) := dk_44 (dk_at dksX0_ofAct_12 4 rfl rfl)
theorem dX0_ofAct_336 : decode cX0_ofAct 336 = .ok (.aload_n 0, 1) := dk_42 (dk_at dksX0_ofAct_12 5 rfl rfl)
theorem dX0_ofAct_337 : decode cX0_ofAct 337 = .ok (.getfield 178, 3) := dk_180 0 178 (dk_at dksX0_ofAct_12 6 rfl rfl)
theorem dX0_ofAct_340 : decode cX0_ofAct 340 = .ok (.aload_n 0, 1) := dk_42 (dk_at dksX0_ofAct_12 9 rfl rfl)
theorem dX0_ofAct_341 : decode cX0_ofAct 341 = .ok (.getfield 191, 3) := dk_180 0 191 (dk_at dksX0_ofAct_12 10 rfl rfl)
theorem dX0_ofAct_344 : decode cX0_ofAct 344 = .ok (.invokevirtual 419, 3) := dk_182 1 163 (dk_at dksX0_ofAct_12 13 rfl rfl)
theorem dX0_ofAct_347 : decode cX0_ofAct 347 = .ok (.aload_n 0, 1) := dk_42 (dk_at dksX0_ofAct_12 16 rfl rfl)
theorem dX0_ofAct_348 : decode cX0_ofAct 348 = .ok (.getfield 178, 3) := dk_180 0 178 (dk_at dksX0_ofAct_12 17 rfl rfl)
theorem dX0_ofAct_351 : decode cX0_ofAct 351 = .ok (.invokevirtual 426, 3) := dk_182 1 170 (dk_at dksX0_ofAct_12 20 rfl rfl)
theorem dX0_ofAct_354 : decode cX0_ofAct 354 = .ok (.iconst 3, 1) := dk_6 (dk_at dksX0_ofAct_12 23 rfl rfl)
theorem dX0_ofAct_355 : decode cX0_ofAct 355 = .ok (.invokevirtual 412, 3) := dk_182 1 156 (dk_at dksX0_ofAct_13 0 rfl rfl)
theorem dX0_ofAct_358 : decode cX0_ofAct 358 = .ok (.pop, 1) := dk_87 (dk_at dksX0_ofAct_13 3 rfl rfl)
theorem dX0_ofAct_359 : decode cX0_ofAct 359 = .ok (.aload_n 2, 1) := dk_44 (dk_at dksX0_ofAct_13 4 rfl rfl)
theorem dX0_ofAct_360 : decode cX0_ofAct 360 = .ok (.aload_n 0, 1) := dk_42 (dk_at dksX0_ofAct_13 5 rfl rfl)
theorem dX0_ofAct_361 : decode cX0_ofAct 361 = .ok (.getfield 172, 3) := dk_180 0 172 (dk_at dksX0_ofAct_13 6 rfl rfl)
theorem dX0_ofAct_364 : decode cX0_ofAct 364 = .ok (.aload_n 0, 1) := dk_42 (dk_at dksX0_ofAct_13 9 rfl rfl)
theorem dX0_ofAct_365 : decode cX0_ofAct 365 = .ok (.getfield 191, 3) := dk_180 0 191 (dk_at dksX0_ofAct_13 10 rfl rfl)
theorem dX0_ofAct_368 : decode cX0_ofAct 368 = .ok (.iconst 5, 1) := dk_8 (dk_at dksX0_ofAct_13 13 rfl rfl)
theorem dX0_ofAct_369 : decode cX0_ofAct 369 = .ok (.if_icmp .ne 7, 3) := dk_160 0 7 (dk_at dksX0_ofAct_13 14 rfl rfl)
theorem dX0_ofAct_372 : decode cX0_ofAct 372 = .ok (.iconst 3, 1) := dk_6 (dk_at dksX0_ofAct_13 17 rfl rfl)
theorem dX0_ofAct_373 : decode cX0_ofAct 373 = .ok (.goto 31, 3) := dk_167 0 31 (dk_at dksX0_ofAct_13 18 rfl rfl)
theorem dX0_ofAct_376 : decode cX0_ofAct 376 = .ok (.sipush 513, 3) := dk_17 2 1 (dk_at dksX0_ofAct_13 21 rfl rfl)
theorem dX0_ofAct_379 : decode cX0_ofAct 379 = .ok (.aload_n 2, 1) := dk_44 (dk_at dksX0_ofAct_14 0 rfl rfl)
theorem dX0_ofAct_380 : decode cX0_ofAct 380 = .ok (.aload_n 0, 1) := dk_42 (dk_at dksX0_ofAct_14 1 rfl rfl)
theorem dX0_ofAct_381 : decode cX0_ofAct 381 = .ok (.getfield 178, 3) := dk_180 0 178 (dk_at dksX0_ofAct_14 2 rfl rfl)
theorem dX0_ofAct_384 : decode cX0_ofAct 384 = .ok (.invokevirtual 422, 3) := dk_182 1 166 (dk_at dksX0_ofAct_14 5 rfl rfl)
theorem dX0_ofAct_387 : decode cX0_ofAct 387 = .ok (.bipush 6, 2) := dk_16 6 (dk_at dksX0_ofAct_14 8 rfl rfl)
theorem dX0_ofAct_389 : decode cX0_ofAct 389 = .ok (.ishr, 1) := dk_122 (dk_at dksX0_ofAct_14 10 rfl rfl)
theorem dX0_ofAct_390 : decode cX0_ofAct 390 = .ok (.iconst 1, 1) := dk_4 (dk_at dksX0_ofAct_14 11 rfl rfl)
theorem dX0_ofAct_391 : decode cX0_ofAct 391 = .ok (.iand, 1) := dk_126 (dk_at dksX0_ofAct_14 12 rfl rfl)
theorem dX0_ofAct_392 : decode cX0_ofAct 392 = .ok (.iconst 1, 1) := dk_4 (dk_at dksX0_ofAct_14 13 rfl rfl)
theorem dX0_ofAct_393 : decode cX0_ofAct 393 = .ok (.if_icmp .ne 9, 3) := dk_160 0 9 (dk_at dksX0_ofAct_14 14 rfl rfl)
theorem dX0_ofAct_396 : decode cX0_ofAct 396 = .ok (.sipush 256, 3) := dk_17 1 0 (dk_at dksX0_ofAct_14 17 rfl rfl)
theorem dX0_ofAct_399 : decode cX0_ofAct 399 = .ok (.goto 4, 3) := dk_167 0 4 (dk_at dksX0_ofAct_14 20 rfl rfl)
theorem dX0_ofAct_402 : decode cX0_ofAct 402 = .ok (.iconst 0, 1) := dk_3 (dk_at dksX0_ofAct_14 23 rfl rfl)
theorem dX0_ofAct_403 : decode cX0_ofAct 403 = .ok (.ior, 1) := dk_128 (dk_at dksX0_ofAct_15 0 rfl rfl)
theorem dX0_ofAct_404 : decode cX0_ofAct 404 = .ok (.invokevirtual 415, 3) := dk_182 1 159 (dk_at dksX0_ofAct_15 1 rfl rfl)
theorem dX0_ofAct_407 : decode cX0_ofAct 407 = .ok (.areturn, 1) := dk_176 (dk_at dksX0_ofAct_15 4 rfl rfl)
theorem dX0_ofAct_408 : decode cX0_ofAct 408 = .ok (.aload_n 2, 1) := dk_44 (dk_at dksX0_ofAct_15 5 rfl rfl)
theorem dX0_ofAct_409 : decode cX0_ofAct 409 = .ok (.aload_n 0, 1) := dk_42 (dk_at dksX0_ofAct_15 6 rfl rfl)
theorem dX0_ofAct_410 : decode cX0_ofAct 410 = .ok (.getfield 172, 3) := dk_180 0 172 (dk_at dksX0_ofAct_15 7 rfl rfl)
theorem dX0_ofAct_413 : decode cX0_ofAct 413 = .ok (.aload_n 0, 1) := dk_42 (dk_at dksX0_ofAct_15 10 rfl rfl)
theorem dX0_ofAct_414 : decode cX0_ofAct 414 = .ok (.getfield 178, 3) := dk_180 0 178 (dk_at dksX0_ofAct_15 11 rfl rfl)
theorem dX0_ofAct_417 : decode cX0_ofAct 417 = .ok (.invokevirtual 419, 3) := dk_182 1 163 (dk_at dksX0_ofAct_15 14 rfl rfl)
theorem dX0_ofAct_420 : decode cX0_ofAct 420 = .ok (.aload_n 0, 1) := dk_42 (dk_at dksX0_ofAct_15 17 rfl rfl)
theorem dX0_ofAct_421 : decode cX0_ofAct 421 = .ok (.getfield 194, 3) := dk_180 0 194 (dk_at dksX0_ofAct_15 18 rfl rfl)
theorem dX0_ofAct_424 : decode cX0_ofAct 424 = .ok (.aload_n 0, 1) := dk_42 (dk_at dksX0_ofAct_15 21 rfl rfl)
theorem dX0_ofAct_425 : decode cX0_ofAct 425 = .ok (.getfield 178, 3) := dk_180 0 178 (dk_at dksX0_ofAct_16 0 rfl rfl)
theorem dX0_ofAct_428 : decode cX0_ofAct 428 = .ok (.iconst 5, 1) := dk_8 (dk_at dksX0_ofAct_16 3 rfl rfl)
theorem dX0_ofAct_429 : decode cX0_ofAct 429 = .ok (.if_icmp .ne 7, 3) := dk_160 0 7 (dk_at dksX0_ofAct_16 4 rfl rfl)
theorem dX0_ofAct_432 : decode cX0_ofAct 432 = .ok (.iconst 1, 1) := dk_4 (dk_at dksX0_ofAct_16 7 rfl rfl)
theorem dX0_ofAct_433 : decode cX0_ofAct 433 = .ok (.goto 9, 3) := dk_167 0 9 (dk_at dksX0_ofAct_16 8 rfl rfl)
theorem dX0_ofAct_436 : decode cX0_ofAct 436 = .ok (.aload_n 0, 1) := dk_42 (dk_at dksX0_ofAct_16 11 rfl rfl)
theorem dX0_ofAct_437 : decode cX0_ofAct 437 = .ok (.getfield 178, 3) := dk_180 0 178 (dk_at dksX0_ofAct_16 12 rfl rfl)
theorem dX0_ofAct_440 : decode cX0_ofAct 440 = .ok (.iconst 2, 1) := dk_5 (dk_at dksX0_ofAct_16 15 rfl rfl)
theorem dX0_ofAct_441 : decode cX0_ofAct 441 = .ok (.iadd, 1) := dk_96 (dk_at dksX0_ofAct_16 16 rfl rfl)
theorem dX0_ofAct_442 : decode cX0_ofAct 442 = .ok (.invokevirtual 419, 3) := dk_182 1 163 (dk_at dksX0_ofAct_16 17 rfl rfl)
theorem dX0_ofAct_445 : decode cX0_ofAct 445 = .ok (.aload_n 0, 1) := dk_42 (dk_at dksX0_ofAct_16 20 rfl rfl)
theorem dX0_ofAct_446 : decode cX0_ofAct 446 = .ok (.getfield 172, 3) := dk_180 0 172 (dk_at dksX0_ofAct_16 21 rfl rfl)
theorem dX0_ofAct_449 : decode cX0_ofAct 449 = .ok (.invokevirtual 426, 3) := dk_182 1 170 (dk_at dksX0_ofAct_17 0 rfl rfl)
theorem dX0_ofAct_452 : decode cX0_ofAct 452 = .ok (.iconst 3, 1) := dk_6 (dk_at dksX0_ofAct_17 3 rfl rfl)
theorem dX0_ofAct_453 : decode cX0_ofAct 453 = .ok (.invokevirtual 412, 3) := dk_182 1 156 (dk_at dksX0_ofAct_17 4 rfl rfl)
theorem dX0_ofAct_456 : decode cX0_ofAct 456 = .ok (.pop, 1) := dk_87 (dk_at dksX0_ofAct_17 7 rfl rfl)
theorem dX0_ofAct_457 : decode cX0_ofAct 457 = .ok (.aload_n 2, 1) := dk_44 (dk_at dksX0_ofAct_17 8 rfl rfl)
theorem dX0_ofAct_458 : decode cX0_ofAct 458 = .ok (.aload_n 0, 1) := dk_42 (dk_at dksX0_ofAct_17 9 rfl rfl)
theorem dX0_ofAct_459 : decode cX0_ofAct 459 = .ok (.getfield 172, 3) := dk_180 0 172 (dk_at dksX0_ofAct_17 10 rfl rfl)
theorem dX0_ofAct_462 : decode cX0_ofAct 462 = .ok (.aload_n 0, 1) := dk_42 (dk_at dksX0_ofAct_17 13 rfl rfl)
theorem dX0_ofAct_463 : decode cX0_ofAct 463 = .ok (.getfield 194, 3) := dk_180 0 194 (dk_at dksX0_ofAct_17 14 rfl rfl)
theorem dX0_ofAct_466 : decode cX0_ofAct 466 = .ok (.invokestatic 433, 3) := dk_184 1 177 (dk_at dksX0_ofAct_17 17 rfl rfl)
theorem dX0_ofAct_469 : decode cX0_ofAct 469 = .ok (.areturn, 1) := dk_176 (dk_at dksX0_ofAct_17 20 rfl rfl)
theorem dX0_ofAct_470 : decode cX0_ofAct 470 = .ok (.aload_n 2, 1) := dk_44 (dk_at dksX0_ofAct_17 21 rfl rfl)
theorem dX0_ofAct_471 : decode cX0_ofAct 471 = .ok (.aload_n 0, 1) := dk_42 (dk_at dksX0_ofAct_17 22 rfl rfl)
theorem dX0_ofAct_472 : decode cX0_ofAct 472 = .ok (.getfield 178, 3) := dk_180 0 178 (dk_at dksX0_ofAct_18 0 rfl rfl)
theorem dX0_ofAct_475 : decode cX0_ofAct 475 = .ok (.iconst 1, 1) := dk_4 (dk_at dksX0_ofAct_18 3 rfl rfl)
theorem dX0_ofAct_476 : decode cX0_ofAct 476 = .ok (.invokevirtual 419, 3) := dk_182 1 163 (dk_at dksX0_ofAct_18 4 rfl rfl)
theorem dX0_ofAct_479 : decode cX0_ofAct 479 = .ok (.aload_n 0, 1) := dk_42 (dk_at dksX0_ofAct_18 7 rfl rfl)
theorem dX0_ofAct_480 : decode cX0_ofAct 480 = .ok (.getfield 178, 3) := dk_180 0 178 (dk_at dksX0_ofAct_18 8 rfl rfl)
theorem dX0_ofAct_483 : decode cX0_ofAct 483 = .ok (.invokevirtual 426, 3) := dk_182 1 170 (dk_at dksX0_ofAct_18 11 rfl rfl)
theorem dX0_ofAct_486 : decode cX0_ofAct 486 = .ok (.bipush 8, 2) := dk_16 8 (dk_at dksX0_ofAct_18 14 rfl rfl)
theorem dX0_ofAct_488 : decode cX0_ofAct 488 = .ok (.invokevirtual 412, 3) := dk_182 1 156 (dk_at dksX0_ofAct_18 16 rfl rfl)
theorem dX0_ofAct_491 : decode cX0_ofAct 491 = .ok (.aload_n 0, 1) := dk_42 (dk_at dksX0_ofAct_18 19 rfl rfl)
theorem dX0_ofAct_492 : decode cX0_ofAct 492 = .ok (.getfield 172, 3) := dk_180 0 172 (dk_at dksX0_ofAct_18 20 rfl rfl)
theorem dX0_ofAct_495 : decode cX0_ofAct 495 = .ok (.iconst 2, 1) := dk_5 (dk_at dksX0_ofAct_18 23 rfl rfl)
theorem dX0_ofAct_496 : decode cX0_ofAct 496 = .ok (.invokevirtual 415, 3) := dk_182 1 159 (dk_at dksX0_ofAct_19 0 rfl rfl)
theorem dX0_ofAct_499 : decode cX0_ofAct 499 = .ok (.areturn, 1) := dk_176 (dk_at dksX0_ofAct_19 3 rfl rfl)
theorem dX0_ofAct_500 : decode cX0_ofAct 500 = .ok (.aload_n 2, 1) := dk_44 (dk_at dksX0_ofAct_19 4 rfl rfl)
theorem dX0_ofAct_501 : decode cX0_ofAct 501 = .ok (.aload_n 0, 1) := dk_42 (dk_at dksX0_ofAct_19 5 rfl rfl)
theorem dX0_ofAct_502 : decode cX0_ofAct 502 = .ok (.getfield 178, 3) := dk_180 0 178 (dk_at dksX0_ofAct_19 6 rfl rfl)
theorem dX0_ofAct_505 : decode cX0_ofAct 505 = .ok (.bipush 8, 2) := dk_16 8 (dk_at dksX0_ofAct_19 9 rfl rfl)
theorem dX0_ofAct_507 : decode cX0_ofAct 507 = .ok (.invokevirtual 419, 3) := dk_182 1 163 (dk_at dksX0_ofAct_19 11 rfl rfl)
theorem dX0_ofAct_510 : decode cX0_ofAct 510 = .ok (.aload_n 0, 1) := dk_42 (dk_at dksX0_ofAct_19 14 rfl rfl)
theorem dX0_ofAct_511 : decode cX0_ofAct 511 = .ok (.getfield 178, 3) := dk_180 0 178 (dk_at dksX0_ofAct_19 15 rfl rfl)
theorem dX0_ofAct_514 : decode cX0_ofAct 514 = .ok (.invokevirtual 426, 3) := dk_182 1 170 (dk_at dksX0_ofAct_19 18 rfl rfl)
theorem dX0_ofAct_517 : decode cX0_ofAct 517 = .ok (.invokevirtual 429, 3) := dk_182 1 173 (dk_at dksX0_ofAct_19 21 rfl rfl)
theorem dX0_ofAct_520 : decode cX0_ofAct 520 = .ok (.areturn, 1) := dk_176 (dk_at dksX0_ofAct_20 0 rfl rfl)
theorem dX0_ofAct_521 : decode cX0_ofAct 521 = .ok (.aload_n 2, 1) := dk_44 (dk_at dksX0_ofAct_20 1 rfl rfl)
theorem dX0_ofAct_522 : decode cX0_ofAct 522 = .ok (.aload_n 0, 1) := dk_42 (dk_at dksX0_ofAct_20 2 rfl rfl)
theorem dX0_ofAct_523 : decode cX0_ofAct 523 = .ok (.getfield 172, 3) := dk_180 0 172 (dk_at dksX0_ofAct_20 3 rfl rfl)
theorem dX0_ofAct_526 : decode cX0_ofAct 526 = .ok (.aload_n 0, 1) := dk_42 (dk_at dksX0_ofAct_20 6 rfl rfl)
theorem dX0_ofAct_527 : decode cX0_ofAct 527 = .ok (.getfield 191, 3) := dk_180 0 191 (dk_at dksX0_ofAct_20 7 rfl rfl)
theorem dX0_ofAct_530 : decode cX0_ofAct 530 = .ok (.invokestatic 437, 3) := dk_184 1 181 (dk_at dksX0_ofAct_20 10 rfl rfl)
theorem dX0_ofAct_533 : decode cX0_ofAct 533 = .ok (.areturn, 1) := dk_176 (dk_at dksX0_ofAct_20 13 rfl rfl)
theorem dX0_ofAct_534 : decode cX0_ofAct 534 = .ok (.aload_n 2, 1) := dk_44 (dk_at dksX0_ofAct_20 14 rfl rfl)
theorem dX0_ofAct_535 : decode cX0_ofAct 535 = .ok (.bipush 6, 2) := dk_16 6 (dk_at dksX0_ofAct_20 15 rfl rfl)
theorem dX0_ofAct_537 : decode cX0_ofAct 537 = .ok (.invokevirtual 412, 3) := dk_182 1 156 (dk_at dksX0_ofAct_20 17 rfl rfl)
theorem dX0_ofAct_540 : decode cX0_ofAct 540 = .ok (.invokevirtual 429, 3) := dk_182 1 173 (dk_at dksX0_ofAct_20 20 rfl rfl)
theorem dX0_ofAct_543 : decode cX0_ofAct 543 = .ok (.areturn, 1) := dk_176 (dk_at dksX0_ofAct_20 23 rfl rfl)
theorem dX0_ofAct_544 : decode cX0_ofAct 544 = .ok (.aload_n 2, 1) := dk_44 (dk_at dksX0_ofAct_21 0 rfl rfl)
theorem dX0_ofAct_545 : decode cX0_ofAct 545 = .ok (.bipush 7, 2) := dk_16 7 (dk_at dksX0_ofAct_21 1 rfl rfl)
theorem dX0_ofAct_547 : decode cX0_ofAct 547 = .ok (.invokevirtual 412, 3) := dk_182 1 156 (dk_at dksX0_ofAct_21 3 rfl rfl)
theorem dX0_ofAct_550 : decode cX0_ofAct 550 = .ok (.pop, 1) := dk_87 (dk_at dksX0_ofAct_21 6 rfl rfl)
theorem dX0_ofAct_551 : decode cX0_ofAct 551 = .ok (.aload_n 2, 1) := dk_44 (dk_at dksX0_ofAct_21 7 rfl rfl)
theorem dX0_ofAct_552 : decode cX0_ofAct 552 = .ok (.aconst_null, 1) := dk_1 (dk_at dksX0_ofAct_21 8 rfl rfl)
theorem dX0_ofAct_553 : decode cX0_ofAct 553 = .ok (.putfield 440, 3) := dk_181 1 184 (dk_at dksX0_ofAct_21 9 rfl rfl)
theorem dX0_ofAct_556 : decode cX0_ofAct 556 = .ok (.aload_n 2, 1) := dk_44 (dk_at dksX0_ofAct_21 12 rfl rfl)
theorem dX0_ofAct_557 : decode cX0_ofAct 557 = .ok (.invokevirtual 429, 3) := dk_182 1 173 (dk_at dksX0_ofAct_21 13 rfl rfl)
theorem dX0_ofAct_560 : decode cX0_ofAct 560 = .ok (.areturn, 1) := dk_176 (dk_at dksX0_ofAct_21 16 rfl rfl)
theorem dX0_ofAct_561 : decode cX0_ofAct 561 = .ok (.aload_n 2, 1) := dk_44 (dk_at dksX0_ofAct_21 17 rfl rfl)
theorem dX0_ofAct_562 : decode cX0_ofAct 562 = .ok (.invokevirtual 429, 3) := dk_182 1 173 (dk_at dksX0_ofAct_21 18 rfl rfl)
theorem dX0_ofAct_565 : decode cX0_ofAct 565 = .ok (.areturn, 1) := dk_176 (dk_at dksX0_ofAct_21 21 rfl rfl)
abbrev cX0_together : ByteArray := prog_1_method_46_code
def yX0_together : MethodName := ⟨RX0, "together", "(LThrowReports$State;LThrowReports$State;)LThrowReports$State;"⟩
def dkwX0_together_2 : List UInt8 := [132, 3, 1, 167, 255, 232, 44, 176]
abbrev dktX0_together_2 : List UInt8 := dkwX0_together_2 ++ []
def dkwX0_together_1 : List UInt8 := [62, 29, 16, 12, 162, 0, 24, 44, 180, 0, 40, 29, 92, 46, 43, 180, 0, 40, 29, 46, 128, 79]
abbrev dktX0_together_1 : List UInt8 := dkwX0_together_1 ++ dktX0_together_2
def dkwX0_together_0 : List UInt8 := [42, 198, 0, 7, 43, 199, 0, 13, 42, 199, 0, 7, 43, 167, 0, 4, 42, 176, 42, 182, 1, 82, 77, 3]
abbrev dktX0_together_0 : List UInt8 := dkwX0_together_0 ++ dktX0_together_1
theorem dksX0_together_0 : cX0_together.data.toList.drop 0 = dktX0_together_0 := by decide +kernel
theorem dksX0_together_1 : cX0_together.data.toList.drop 24 = dktX0_together_1 := dk_seg dksX0_together_0 24 rfl rfl
theorem dksX0_together_2 : cX0_together.data.toList.drop 46 = dktX0_together_2 := dk_seg dksX0_together_1 22 rfl rfl
theorem dX0_together_0 : decode cX0_together 0 = .ok (.aload_n 0, 1) := dk_42 (dk_at dksX0_together_0 0 rfl rfl)
theorem dX0_together_1 : decode cX0_together 1 = .ok (.ifnull 7, 3) := dk_198 0 7 (dk_at dksX0_together_0 1 rfl rfl)
theorem dX0_together_4 : decode cX0_together 4 = .ok (.aload_n 1, 1) := dk_43 (dk_at dksX0_together_0 4 rfl rfl)
theorem dX0_together_5 : decode cX0_together 5 = .ok (.ifnonnull 13, 3) := dk_199 0 13 (dk_at dksX0_together_0 5 rfl rfl)
theorem dX0_together_8 : decode cX0_together 8 = .ok (.aload_n 0, 1) := dk_42 (dk_at dksX0_together_0 8 rfl rfl)
theorem dX0_together_9 : decode cX0_together 9 = .ok (.ifnonnull 7, 3) := dk_199 0 7 (dk_at dksX0_together_0 9 rfl rfl)
theorem dX0_together_12 : decode cX0_together 12 = .ok (.aload_n 1, 1) := dk_43 (dk_at dksX0_together_0 12 rfl rfl)
theorem dX0_together_13 : decode cX0_together 13 = .ok (.goto 4, 3) := dk_167 0 4 (dk_at dksX0_together_0 13 rfl rfl)
theorem dX0_together_16 : decode cX0_together 16 = .ok (.aload_n 0, 1) := dk_42 (dk_at dksX0_together_0 16 rfl rfl)
theorem dX0_together_17 : decode cX0_together 17 = .ok (.areturn, 1) := dk_176 (dk_at dksX0_together_0 17 rfl rfl)
theorem dX0_together_18 : decode cX0_together 18 = .ok (.aload_n 0, 1) := dk_42 (dk_at dksX0_together_0 18 rfl rfl)
theorem dX0_together_19 : decode cX0_together 19 = .ok (.invokevirtual 338, 3) := dk_182 1 82 (dk_at dksX0_together_0 19 rfl rfl)
theorem dX0_together_22 : decode cX0_together 22 = .ok (.astore_n 2, 1) := dk_77 (dk_at dksX0_together_0 22 rfl rfl)
theorem dX0_together_23 : decode cX0_together 23 = .ok (.iconst 0, 1) := dk_3 (dk_at dksX0_together_0 23 rfl rfl)
theorem dX0_together_24 : decode cX0_together 24 = .ok (.istore_n 3, 1) := dk_62 (dk_at dksX0_together_1 0 rfl rfl)
theorem dX0_together_25 : decode cX0_together 25 = .ok (.iload_n 3, 1) := dk_29 (dk_at dksX0_together_1 1 rfl rfl)
theorem dX0_together_26 : decode cX0_together 26 = .ok (.bipush 12, 2) := dk_16 12 (dk_at dksX0_together_1 2 rfl rfl)
theorem dX0_together_28 : decode cX0_together 28 = .ok (.if_icmp .ge 24, 3) := dk_162 0 24 (dk_at dksX0_together_1 4 rfl rfl)
theorem dX0_together_31 : decode cX0_together 31 = .ok (.aload_n 2, 1) := dk_44 (dk_at dksX0_together_1 7 rfl rfl)
theorem dX0_together_32 : decode cX0_together 32 = .ok (.getfield 40, 3) := dk_180 0 40 (dk_at dksX0_together_1 8 rfl rfl)
theorem dX0_together_35 : decode cX0_together 35 = .ok (.iload_n 3, 1) := dk_29 (dk_at dksX0_together_1 11 rfl rfl)
theorem dX0_together_36 : decode cX0_together 36 = .ok (.dup2, 1) := dk_92 (dk_at dksX0_together_1 12 rfl rfl)
theorem dX0_together_37 : decode cX0_together 37 = .ok (.iaload, 1) := dk_46 (dk_at dksX0_together_1 13 rfl rfl)
theorem dX0_together_38 : decode cX0_together 38 = .ok (.aload_n 1, 1) := dk_43 (dk_at dksX0_together_1 14 rfl rfl)
theorem dX0_together_39 : decode cX0_together 39 = .ok (.getfield 40, 3) := dk_180 0 40 (dk_at dksX0_together_1 15 rfl rfl)
theorem dX0_together_42 : decode cX0_together 42 = .ok (.iload_n 3, 1) := dk_29 (dk_at dksX0_together_1 18 rfl rfl)
theorem dX0_together_43 : decode cX0_together 43 = .ok (.iaload, 1) := dk_46 (dk_at dksX0_together_1 19 rfl rfl)
theorem dX0_together_44 : decode cX0_together 44 = .ok (.ior, 1) := dk_128 (dk_at dksX0_together_1 20 rfl rfl)
theorem dX0_together_45 : decode cX0_together 45 = .ok (.iastore, 1) := dk_79 (dk_at dksX0_together_1 21 rfl rfl)
theorem dX0_together_46 : decode cX0_together 46 = .ok (.iinc 3 1, 3) := dk_132 3 1 (dk_at dksX0_together_2 0 rfl rfl)
theorem dX0_together_49 : decode cX0_together 49 = .ok (.goto (-24), 3) := dk_167 255 232 (dk_at dksX0_together_2 3 rfl rfl)
theorem dX0_together_52 : decode cX0_together 52 = .ok (.aload_n 2, 1) := dk_44 (dk_at dksX0_together_2 6 rfl rfl)
theorem dX0_together_53 : decode cX0_together 53 = .ok (.areturn, 1) := dk_176 (dk_at dksX0_together_2 7 rfl rfl)
abbrev cX0_thatAre : ByteArray := prog_1_method_54_code
def yX0_thatAre : MethodName := ⟨RX0, "thatAre", "(II)I"⟩
def dkwX0_thatAre_1 : List UInt8 := [184, 0, 181, 153, 0, 9, 4, 29, 120, 167, 0, 4, 3, 128, 61, 132, 3, 1, 167, 255, 220, 28, 172]
abbrev dktX0_thatAre_1 : List UInt8 := dkwX0_thatAre_1 ++ []
def dkwX0_thatAre_0 : List UInt8 := [3, 61, 4, 62, 29, 16, 10, 162, 0, 36, 28, 26, 29, 122, 4, 126, 4, 160, 0, 17, 29, 27]
abbrev dktX0_thatAre_0 : List UInt8 := dkwX0_thatAre_0 ++ dktX0_thatAre_1
theorem dksX0_thatAre_0 : cX0_thatAre.data.toList.drop 0 = dktX0_thatAre_0 := by decide +kernel
theorem dksX0_thatAre_1 : cX0_thatAre.data.toList.drop 22 = dktX0_thatAre_1 := dk_seg dksX0_thatAre_0 22 rfl rfl
theorem dX0_thatAre_0 : decode cX0_thatAre 0 = .ok (.iconst 0, 1) := dk_3 (dk_at dksX0_thatAre_0 0 rfl rfl)
theorem dX0_thatAre_1 : decode cX0_thatAre 1 = .ok (.istore_n 2, 1) := dk_61 (dk_at dksX0_thatAre_0 1 rfl rfl)
theorem dX0_thatAre_2 : decode cX0_thatAre 2 = .ok (.iconst 1, 1) := dk_4 (dk_at dksX0_thatAre_0 2 rfl rfl)
theorem dX0_thatAre_3 : decode cX0_thatAre 3 = .ok (.istore_n 3, 1) := dk_62 (dk_at dksX0_thatAre_0 3 rfl rfl)
theorem dX0_thatAre_4 : decode cX0_thatAre 4 = .ok (.iload_n 3, 1) := dk_29 (dk_at dksX0_thatAre_0 4 rfl rfl)
theorem dX0_thatAre_5 : decode cX0_thatAre 5 = .ok (.bipush 10, 2) := dk_16 10 (dk_at dksX0_thatAre_0 5 rfl rfl)
theorem dX0_thatAre_7 : decode cX0_thatAre 7 = .ok (.if_icmp .ge 36, 3) := dk_162 0 36 (dk_at dksX0_thatAre_0 7 rfl rfl)
theorem dX0_thatAre_10 : decode cX0_thatAre 10 = .ok (.iload_n 2, 1) := dk_28 (dk_at dksX0_thatAre_0 10 rfl rfl)
theorem dX0_thatAre_11 : decode cX0_thatAre 11 = .ok (.iload_n 0, 1) := dk_26 (dk_at dksX0_thatAre_0 11 rfl rfl)
theorem dX0_thatAre_12 : decode cX0_thatAre 12 = .ok (.iload_n 3, 1) := dk_29 (dk_at dksX0_thatAre_0 12 rfl rfl)
theorem dX0_thatAre_13 : decode cX0_thatAre 13 = .ok (.ishr, 1) := dk_122 (dk_at dksX0_thatAre_0 13 rfl rfl)
theorem dX0_thatAre_14 : decode cX0_thatAre 14 = .ok (.iconst 1, 1) := dk_4 (dk_at dksX0_thatAre_0 14 rfl rfl)
theorem dX0_thatAre_15 : decode cX0_thatAre 15 = .ok (.iand, 1) := dk_126 (dk_at dksX0_thatAre_0 15 rfl rfl)
theorem dX0_thatAre_16 : decode cX0_thatAre 16 = .ok (.iconst 1, 1) := dk_4 (dk_at dksX0_thatAre_0 16 rfl rfl)
theorem dX0_thatAre_17 : decode cX0_thatAre 17 = .ok (.if_icmp .ne 17, 3) := dk_160 0 17 (dk_at dksX0_thatAre_0 17 rfl rfl)
theorem dX0_thatAre_20 : decode cX0_thatAre 20 = .ok (.iload_n 3, 1) := dk_29 (dk_at dksX0_thatAre_0 20 rfl rfl)
theorem dX0_thatAre_21 : decode cX0_thatAre 21 = .ok (.iload_n 1, 1) := dk_27 (dk_at dksX0_thatAre_0 21 rfl rfl)
theorem dX0_thatAre_22 : decode cX0_thatAre 22 = .ok (.invokestatic 181, 3) := dk_184 0 181 (dk_at dksX0_thatAre_1 0 rfl rfl)
theorem dX0_thatAre_25 : decode cX0_thatAre 25 = .ok (.ifCond .eq 9, 3) := dk_153 0 9 (dk_at dksX0_thatAre_1 3 rfl rfl)
theorem dX0_thatAre_28 : decode cX0_thatAre 28 = .ok (.iconst 1, 1) := dk_4 (dk_at dksX0_thatAre_1 6 rfl rfl)
theorem dX0_thatAre_29 : decode cX0_thatAre 29 = .ok (.iload_n 3, 1) := dk_29 (dk_at dksX0_thatAre_1 7 rfl rfl)
theorem dX0_thatAre_30 : decode cX0_thatAre 30 = .ok (.ishl, 1) := dk_120 (dk_at dksX0_thatAre_1 8 rfl rfl)
theorem dX0_thatAre_31 : decode cX0_thatAre 31 = .ok (.goto 4, 3) := dk_167 0 4 (dk_at dksX0_thatAre_1 9 rfl rfl)
theorem dX0_thatAre_34 : decode cX0_thatAre 34 = .ok (.iconst 0, 1) := dk_3 (dk_at dksX0_thatAre_1 12 rfl rfl)
theorem dX0_thatAre_35 : decode cX0_thatAre 35 = .ok (.ior, 1) := dk_128 (dk_at dksX0_thatAre_1 13 rfl rfl)
theorem dX0_thatAre_36 : decode cX0_thatAre 36 = .ok (.istore_n 2, 1) := dk_61 (dk_at dksX0_thatAre_1 14 rfl rfl)
theorem dX0_thatAre_37 : decode cX0_thatAre 37 = .ok (.iinc 3 1, 3) := dk_132 3 1 (dk_at dksX0_thatAre_1 15 rfl rfl)
theorem dX0_thatAre_40 : decode cX0_thatAre 40 = .ok (.goto (-36), 3) := dk_167 255 220 (dk_at dksX0_thatAre_1 18 rfl rfl)
theorem dX0_thatAre_43 : decode cX0_thatAre 43 = .ok (.iload_n 2, 1) := dk_28 (dk_at dksX0_thatAre_1 21 rfl rfl)
theorem dX0_thatAre_44 : decode cX0_thatAre 44 = .ok (.ireturn, 1) := dk_172 (dk_at dksX0_thatAre_1 22 rfl rfl)
abbrev cX0_stores : ByteArray := prog_1_method_56_code
def yX0_stores : MethodName := ⟨RX0, "stores", "(LThrowReports$Questions;II)LThrowReports$Ways;"⟩
def dkwX0_stores_5 : List UInt8 := [42, 42, 180, 1, 184, 27, 29, 17, 255, 127, 126, 182, 1, 128, 181, 1, 184, 42, 182, 1, 173, 176]
abbrev dktX0_stores_5 : List UInt8 := dkwX0_stores_5 ++ []
def dkwX0_stores_4 : List UInt8 := [180, 1, 184, 28, 21, 4, 17, 254, 255, 126, 182, 1, 128, 181, 1, 184, 167, 0, 25, 21, 6, 153, 0, 20]
abbrev dktX0_stores_4 : List UInt8 := dkwX0_stores_4 ++ dktX0_stores_5
def dkwX0_stores_3 : List UInt8 := [153, 0, 16, 21, 6, 153, 0, 11, 42, 1, 181, 1, 184, 167, 0, 51, 21, 5, 153, 0, 24, 42, 42]
abbrev dktX0_stores_3 : List UInt8 := dkwX0_stores_3 ++ dktX0_stores_4
def dkwX0_stores_2 : List UInt8 := [4, 167, 0, 4, 3, 54, 5, 21, 4, 17, 1, 0, 160, 0, 7, 4, 167, 0, 4, 3, 54, 6, 21, 5]
abbrev dktX0_stores_2 : List UInt8 := dkwX0_stores_2 ++ dktX0_stores_3
def dkwX0_stores_1 : List UInt8 := [21, 4, 16, 8, 122, 4, 126, 4, 160, 0, 104, 42, 8, 182, 1, 156, 87, 29, 17, 0, 128, 160, 0, 7]
abbrev dktX0_stores_1 : List UInt8 := dkwX0_stores_1 ++ dktX0_stores_2
def dkwX0_stores_0 : List UInt8 := [42, 27, 182, 1, 166, 62, 42, 28, 182, 1, 166, 54, 4, 29, 16, 7, 122, 4, 126, 4, 160, 0, 115]
abbrev dktX0_stores_0 : List UInt8 := dkwX0_stores_0 ++ dktX0_stores_1
theorem dksX0_stores_0 : cX0_stores.data.toList.drop 0 = dktX0_stores_0 := by decide +kernel
theorem dksX0_stores_1 : cX0_stores.data.toList.drop 23 = dktX0_stores_1 := dk_seg dksX0_stores_0 23 rfl rfl
theorem dksX0_stores_2 : cX0_stores.data.toList.drop 47 = dktX0_stores_2 := dk_seg dksX0_stores_1 24 rfl rfl
theorem dksX0_stores_3 : cX0_stores.data.toList.drop 71 = dktX0_stores_3 := dk_seg dksX0_stores_2 24 rfl rfl
theorem dksX0_stores_4 : cX0_stores.data.toList.drop 94 = dktX0_stores_4 := dk_seg dksX0_stores_3 23 rfl rfl
theorem dksX0_stores_5 : cX0_stores.data.toList.drop 118 = dktX0_stores_5 := dk_seg dksX0_stores_4 24 rfl rfl
theorem dX0_stores_0 : decode cX0_stores 0 = .ok (.aload_n 0, 1) := dk_42 (dk_at dksX0_stores_0 0 rfl rfl)
theorem dX0_stores_1 : decode cX0_stores 1 = .ok (.iload_n 1, 1) := dk_27 (dk_at dksX0_stores_0 1 rfl rfl)
theorem dX0_stores_2 : decode cX0_stores 2 = .ok (.invokevirtual 422, 3) := dk_182 1 166 (dk_at dksX0_stores_0 2 rfl rfl)
theorem dX0_stores_5 : decode cX0_stores 5 = .ok (.istore_n 3, 1) := dk_62 (dk_at dksX0_stores_0 5 rfl rfl)
theorem dX0_stores_6 : decode cX0_stores 6 = .ok (.aload_n 0, 1) := dk_42 (dk_at dksX0_stores_0 6 rfl rfl)
theorem dX0_stores_7 : decode cX0_stores 7 = .ok (.iload_n 2, 1) := dk_28 (dk_at dksX0_stores_0 7 rfl rfl)
theorem dX0_stores_8 : decode cX0_stores 8 = .ok (.invokevirtual 422, 3) := dk_182 1 166 (dk_at dksX0_stores_0 8 rfl rfl)
theorem dX0_stores_11 : decode cX0_stores 11 = .ok (.istore 4, 2) := dk_54 4 (dk_at dksX0_stores_0 11 rfl rfl)
theorem dX0_stores_13 : decode cX0_stores 13 = .ok (.iload_n 3, 1) := dk_29 (dk_at dksX0_stores_0 13 rfl rfl)
theorem dX0_stores_14 : decode cX0_stores 14 = .ok (.bipush 7, 2) := dk_16 7 (dk_at dksX0_stores_0 14 rfl rfl)
theorem dX0_stores_16 : decode cX0_stores 16 = .ok (.ishr, 1) := dk_122 (dk_at dksX0_stores_0 16 rfl rfl)
theorem dX0_stores_17 : decode cX0_stores 17 = .ok (.iconst 1, 1) := dk_4 (dk_at dksX0_stores_0 17 rfl rfl)
theorem dX0_stores_18 : decode cX0_stores 18 = .ok (.iand, 1) := dk_126 (dk_at dksX0_stores_0 18 rfl rfl)
theorem dX0_stores_19 : decode cX0_stores 19 = .ok (.iconst 1, 1) := dk_4 (dk_at dksX0_stores_0 19 rfl rfl)
theorem dX0_stores_20 : decode cX0_stores 20 = .ok (.if_icmp .ne 115, 3) := dk_160 0 115 (dk_at dksX0_stores_0 20 rfl rfl)
theorem dX0_stores_23 : decode cX0_stores 23 = .ok (.iload 4, 2) := dk_21 4 (dk_at dksX0_stores_1 0 rfl rfl)
theorem dX0_stores_25 : decode cX0_stores 25 = .ok (.bipush 8, 2) := dk_16 8 (dk_at dksX0_stores_1 2 rfl rfl)
theorem dX0_stores_27 : decode cX0_stores 27 = .ok (.ishr, 1) := dk_122 (dk_at dksX0_stores_1 4 rfl rfl)
theorem dX0_stores_28 : decode cX0_stores 28 = .ok (.iconst 1, 1) := dk_4 (dk_at dksX0_stores_1 5 rfl rfl)
theorem dX0_stores_29 : decode cX0_stores 29 = .ok (.iand, 1) := dk_126 (dk_at dksX0_stores_1 6 rfl rfl)
theorem dX0_stores_30 : decode cX0_stores 30 = .ok (.iconst 1, 1) := dk_4 (dk_at dksX0_stores_1 7 rfl rfl)
theorem dX0_stores_31 : decode cX0_stores 31 = .ok (.if_icmp .ne 104, 3) := dk_160 0 104 (dk_at dksX0_stores_1 8 rfl rfl)
theorem dX0_stores_34 : decode cX0_stores 34 = .ok (.aload_n 0, 1) := dk_42 (dk_at dksX0_stores_1 11 rfl rfl)
theorem dX0_stores_35 : decode cX0_stores 35 = .ok (.iconst 5, 1) := dk_8 (dk_at dksX0_stores_1 12 rfl rfl)
theorem dX0_stores_36 : decode cX0_stores 36 = .ok (.invokevirtual 412, 3) := dk_182 1 156 (dk_at dksX0_stores_1 13 rfl rfl)
theorem dX0_stores_39 : decode cX0_stores 39 = .ok (.pop, 1) := dk_87 (dk_at dksX0_stores_1 16 rfl rfl)
theorem dX0_stores_40 : decode cX0_stores 40 = .ok (.iload_n 3, 1) := dk_29 (dk_at dksX0_stores_1 17 rfl rfl)
theorem dX0_stores_41 : decode cX0_stores 41 = .ok (.sipush 128, 3) := dk_17 0 128 (dk_at dksX0_stores_1 18 rfl rfl)
theorem dX0_stores_44 : decode cX0_stores 44 = .ok (.if_icmp .ne 7, 3) := dk_160 0 7 (dk_at dksX0_stores_1 21 rfl rfl)
theorem dX0_stores_47 : decode cX0_stores 47 = .ok (.iconst 1, 1) := dk_4 (dk_at dksX0_stores_2 0 rfl rfl)
theorem dX0_stores_48 : decode cX0_stores 48 = .ok (.goto 4, 3) := dk_167 0 4 (dk_at dksX0_stores_2 1 rfl rfl)
theorem dX0_stores_51 : decode cX0_stores 51 = .ok (.iconst 0, 1) := dk_3 (dk_at dksX0_stores_2 4 rfl rfl)
theorem dX0_stores_52 : decode cX0_stores 52 = .ok (.istore 5, 2) := dk_54 5 (dk_at dksX0_stores_2 5 rfl rfl)
theorem dX0_stores_54 : decode cX0_stores 54 = .ok (.iload 4, 2) := dk_21 4 (dk_at dksX0_stores_2 7 rfl rfl)
theorem dX0_stores_56 : decode cX0_stores 56 = .ok (.sipush 256, 3) := dk_17 1 0 (dk_at dksX0_stores_2 9 rfl rfl)
theorem dX0_stores_59 : decode cX0_stores 59 = .ok (.if_icmp .ne 7, 3) := dk_160 0 7 (dk_at dksX0_stores_2 12 rfl rfl)
theorem dX0_stores_62 : decode cX0_stores 62 = .ok (.iconst 1, 1) := dk_4 (dk_at dksX0_stores_2 15 rfl rfl)
theorem dX0_stores_63 : decode cX0_stores 63 = .ok (.goto 4, 3) := dk_167 0 4 (dk_at dksX0_stores_2 16 rfl rfl)
theorem dX0_stores_66 : decode cX0_stores 66 = .ok (.iconst 0, 1) := dk_3 (dk_at dksX0_stores_2 19 rfl rfl)
theorem dX0_stores_67 : decode cX0_stores 67 = .ok (.istore 6, 2) := dk_54 6 (dk_at dksX0_stores_2 20 rfl rfl)
theorem dX0_stores_69 : decode cX0_stores 69 = .ok (.iload 5, 2) := dk_21 5 (dk_at dksX0_stores_2 22 rfl rfl)
theorem dX0_stores_71 : decode cX0_stores 71 = .ok (.ifCond .eq 16, 3) := dk_153 0 16 (dk_at dksX0_stores_3 0 rfl rfl)
theorem dX0_stores_74 : decode cX0_stores 74 = .ok (.iload 6, 2) := dk_21 6 (dk_at dksX0_stores_3 3 rfl rfl)
theorem dX0_stores_76 : decode cX0_stores 76 = .ok (.ifCond .eq 11, 3) := dk_153 0 11 (dk_at dksX0_stores_3 5 rfl rfl)
theorem dX0_stores_79 : decode cX0_stores 79 = .ok (.aload_n 0, 1) := dk_42 (dk_at dksX0_stores_3 8 rfl rfl)
theorem dX0_stores_80 : decode cX0_stores 80 = .ok (.aconst_null, 1) := dk_1 (dk_at dksX0_stores_3 9 rfl rfl)
theorem dX0_stores_81 : decode cX0_stores 81 = .ok (.putfield 440, 3) := dk_181 1 184 (dk_at dksX0_stores_3 10 rfl rfl)
theorem dX0_stores_84 : decode cX0_stores 84 = .ok (.goto 51, 3) := dk_167 0 51 (dk_at dksX0_stores_3 13 rfl rfl)
theorem dX0_stores_87 : decode cX0_stores 87 = .ok (.iload 5, 2) := dk_21 5 (dk_at dksX0_stores_3 16 rfl rfl)
theorem dX0_stores_89 : decode cX0_stores 89 = .ok (.ifCond .eq 24, 3) := dk_153 0 24 (dk_at dksX0_stores_3 18 rfl rfl)
theorem dX0_stores_92 : decode cX0_stores 92 = .ok (.aload_n 0, 1) := dk_42 (dk_at dksX0_stores_3 21 rfl rfl)
theorem dX0_stores_93 : decode cX0_stores 93 = .ok (.aload_n 0, 1) := dk_42 (dk_at dksX0_stores_3 22 rfl rfl)
theorem dX0_stores_94 : decode cX0_stores 94 = .ok (.getfield 440, 3) := dk_180 1 184 (dk_at dksX0_stores_4 0 rfl rfl)
theorem dX0_stores_97 : decode cX0_stores 97 = .ok (.iload_n 2, 1) := dk_28 (dk_at dksX0_stores_4 3 rfl rfl)
theorem dX0_stores_98 : decode cX0_stores 98 = .ok (.iload 4, 2) := dk_21 4 (dk_at dksX0_stores_4 4 rfl rfl)
theorem dX0_stores_100 : decode cX0_stores 100 = .ok (.sipush (-257), 3) := dk_17 254 255 (dk_at dksX0_stores_4 6 rfl rfl)
theorem dX0_stores_103 : decode cX0_stores 103 = .ok (.iand, 1) := dk_126 (dk_at dksX0_stores_4 9 rfl rfl)
theorem dX0_stores_104 : decode cX0_stores 104 = .ok (.invokevirtual 384, 3) := dk_182 1 128 (dk_at dksX0_stores_4 10 rfl rfl)
theorem dX0_stores_107 : decode cX0_stores 107 = .ok (.putfield 440, 3) := dk_181 1 184 (dk_at dksX0_stores_4 13 rfl rfl)
theorem dX0_stores_110 : decode cX0_stores 110 = .ok (.goto 25, 3) := dk_167 0 25 (dk_at dksX0_stores_4 16 rfl rfl)
theorem dX0_stores_113 : decode cX0_stores 113 = .ok (.iload 6, 2) := dk_21 6 (dk_at dksX0_stores_4 19 rfl rfl)
theorem dX0_stores_115 : decode cX0_stores 115 = .ok (.ifCond .eq 20, 3) := dk_153 0 20 (dk_at dksX0_stores_4 21 rfl rfl)
theorem dX0_stores_118 : decode cX0_stores 118 = .ok (.aload_n 0, 1) := dk_42 (dk_at dksX0_stores_5 0 rfl rfl)
theorem dX0_stores_119 : decode cX0_stores 119 = .ok (.aload_n 0, 1) := dk_42 (dk_at dksX0_stores_5 1 rfl rfl)
theorem dX0_stores_120 : decode cX0_stores 120 = .ok (.getfield 440, 3) := dk_180 1 184 (dk_at dksX0_stores_5 2 rfl rfl)
theorem dX0_stores_123 : decode cX0_stores 123 = .ok (.iload_n 1, 1) := dk_27 (dk_at dksX0_stores_5 5 rfl rfl)
theorem dX0_stores_124 : decode cX0_stores 124 = .ok (.iload_n 3, 1) := dk_29 (dk_at dksX0_stores_5 6 rfl rfl)
theorem dX0_stores_125 : decode cX0_stores 125 = .ok (.sipush (-129), 3) := dk_17 255 127 (dk_at dksX0_stores_5 7 rfl rfl)
theorem dX0_stores_128 : decode cX0_stores 128 = .ok (.iand, 1) := dk_126 (dk_at dksX0_stores_5 10 rfl rfl)
theorem dX0_stores_129 : decode cX0_stores 129 = .ok (.invokevirtual 384, 3) := dk_182 1 128 (dk_at dksX0_stores_5 11 rfl rfl)
theorem dX0_stores_132 : decode cX0_stores 132 = .ok (.putfield 440, 3) := dk_181 1 184 (dk_at dksX0_stores_5 14 rfl rfl)
theorem dX0_stores_135 : decode cX0_stores 135 = .ok (.aload_n 0, 1) := dk_42 (dk_at dksX0_stores_5 17 rfl rfl)
theorem dX0_stores_136 : decode cX0_stores 136 = .ok (.invokevirtual 429, 3) := dk_182 1 173 (dk_at dksX0_stores_5 18 rfl rfl)
theorem dX0_stores_139 : decode cX0_stores 139 = .ok (.areturn, 1) := dk_176 (dk_at dksX0_stores_5 21 rfl rfl)
abbrev cX0_ofCopy : ByteArray := prog_1_method_60_code
def yX0_ofCopy : MethodName := ⟨RX0, "ofCopy", "(LThrowReports$Questions;II)LThrowReports$Ways;"⟩
def dkwX0_ofCopy_6 : List UInt8 := [28, 21, 6, 182, 1, 128, 181, 1, 184, 42, 6, 182, 1, 156, 182, 1, 173, 176]
abbrev dktX0_ofCopy_6 : List UInt8 := dkwX0_ofCopy_6 ++ []
def dkwX0_ofCopy_5 : List UInt8 := [154, 0, 13, 42, 1, 181, 1, 184, 42, 182, 1, 173, 176, 42, 42, 180, 1, 184, 27, 21, 5, 182, 1, 128]
abbrev dktX0_ofCopy_5 : List UInt8 := dkwX0_ofCopy_5 ++ dktX0_ofCopy_6
def dkwX0_ofCopy_4 : List UInt8 := [21, 4, 184, 1, 190, 54, 5, 21, 4, 29, 184, 1, 190, 54, 6, 21, 5, 153, 0, 8, 21, 6]
abbrev dktX0_ofCopy_4 : List UInt8 := dkwX0_ofCopy_4 ++ dktX0_ofCopy_5
def dkwX0_ofCopy_3 : List UInt8 := [21, 4, 182, 1, 128, 181, 1, 184, 29, 21, 4, 184, 1, 187, 153, 0, 65, 42, 8, 182, 1, 156, 87, 29]
abbrev dktX0_ofCopy_3 : List UInt8 := dkwX0_ofCopy_3 ++ dktX0_ofCopy_4
def dkwX0_ofCopy_2 : List UInt8 := [154, 0, 13, 42, 1, 181, 1, 184, 42, 182, 1, 173, 176, 42, 42, 180, 1, 184, 27, 29, 182, 1, 128, 28]
abbrev dktX0_ofCopy_2 : List UInt8 := dkwX0_ofCopy_2 ++ dktX0_ofCopy_3
def dkwX0_ofCopy_1 : List UInt8 := [4, 182, 1, 156, 87, 29, 16, 254, 126, 62, 21, 4, 16, 254, 126, 54, 4, 29, 153, 0, 8, 21, 4]
abbrev dktX0_ofCopy_1 : List UInt8 := dkwX0_ofCopy_1 ++ dktX0_ofCopy_2
def dkwX0_ofCopy_0 : List UInt8 := [42, 27, 182, 1, 166, 62, 42, 28, 182, 1, 166, 54, 4, 29, 21, 4, 128, 4, 126, 4, 160, 0, 59, 42]
abbrev dktX0_ofCopy_0 : List UInt8 := dkwX0_ofCopy_0 ++ dktX0_ofCopy_1
theorem dksX0_ofCopy_0 : cX0_ofCopy.data.toList.drop 0 = dktX0_ofCopy_0 := by decide +kernel
theorem dksX0_ofCopy_1 : cX0_ofCopy.data.toList.drop 24 = dktX0_ofCopy_1 := dk_seg dksX0_ofCopy_0 24 rfl rfl
theorem dksX0_ofCopy_2 : cX0_ofCopy.data.toList.drop 47 = dktX0_ofCopy_2 := dk_seg dksX0_ofCopy_1 23 rfl rfl
theorem dksX0_ofCopy_3 : cX0_ofCopy.data.toList.drop 71 = dktX0_ofCopy_3 := dk_seg dksX0_ofCopy_2 24 rfl rfl
theorem dksX0_ofCopy_4 : cX0_ofCopy.data.toList.drop 95 = dktX0_ofCopy_4 := dk_seg dksX0_ofCopy_3 24 rfl rfl
theorem dksX0_ofCopy_5 : cX0_ofCopy.data.toList.drop 117 = dktX0_ofCopy_5 := dk_seg dksX0_ofCopy_4 22 rfl rfl
theorem dksX0_ofCopy_6 : cX0_ofCopy.data.toList.drop 141 = dktX0_ofCopy_6 := dk_seg dksX0_ofCopy_5 24 rfl rfl
theorem dX0_ofCopy_0 : decode cX0_ofCopy 0 = .ok (.aload_n 0, 1) := dk_42 (dk_at dksX0_ofCopy_0 0 rfl rfl)
theorem dX0_ofCopy_1 : decode cX0_ofCopy 1 = .ok (.iload_n 1, 1) := dk_27 (dk_at dksX0_ofCopy_0 1 rfl rfl)
theorem dX0_ofCopy_2 : decode cX0_ofCopy 2 = .ok (.invokevirtual 422, 3) := dk_182 1 166 (dk_at dksX0_ofCopy_0 2 rfl rfl)
theorem dX0_ofCopy_5 : decode cX0_ofCopy 5 = .ok (.istore_n 3, 1) := dk_62 (dk_at dksX0_ofCopy_0 5 rfl rfl)
theorem dX0_ofCopy_6 : decode cX0_ofCopy 6 = .ok (.aload_n 0, 1) := dk_42 (dk_at dksX0_ofCopy_0 6 rfl rfl)
theorem dX0_ofCopy_7 : decode cX0_ofCopy 7 = .ok (.iload_n 2, 1) := dk_28 (dk_at dksX0_ofCopy_0 7 rfl rfl)
theorem dX0_ofCopy_8 : decode cX0_ofCopy 8 = .ok (.invokevirtual 422, 3) := dk_182 1 166 (dk_at dksX0_ofCopy_0 8 rfl rfl)
theorem dX0_ofCopy_11 : decode cX0_ofCopy 11 = .ok (.istore 4, 2) := dk_54 4 (dk_at dksX0_ofCopy_0 11 rfl rfl)
theorem dX0_ofCopy_13 : decode cX0_ofCopy 13 = .ok (.iload_n 3, 1) := dk_29 (dk_at dksX0_ofCopy_0 13 rfl rfl)
theorem dX0_ofCopy_14 : decode cX0_ofCopy 14 = .ok (.iload 4, 2) := dk_21 4 (dk_at dksX0_ofCopy_0 14 rfl rfl)
theorem dX0_ofCopy_16 : decode cX0_ofCopy 16 = .ok (.ior, 1) := dk_128 (dk_at dksX0_ofCopy_0 16 rfl rfl)
theorem dX0_ofCopy_17 : decode cX0_ofCopy 17 = .ok (.iconst 1, 1) := dk_4 (dk_at dksX0_ofCopy_0 17 rfl rfl)
theorem dX0_ofCopy_18 : decode cX0_ofCopy 18 = .ok (.iand, 1) := dk_126 (dk_at dksX0_ofCopy_0 18 rfl rfl)
theorem dX0_ofCopy_19 : decode cX0_ofCopy 19 = .ok (.iconst 1, 1) := dk_4 (dk_at dksX0_ofCopy_0 19 rfl rfl)
theorem dX0_ofCopy_20 : decode cX0_ofCopy 20 = .ok (.if_icmp .ne 59, 3) := dk_160 0 59 (dk_at dksX0_ofCopy_0 20 rfl rfl)
theorem dX0_ofCopy_23 : decode cX0_ofCopy 23 = .ok (.aload_n 0, 1) := dk_42 (dk_at dksX0_ofCopy_0 23 rfl rfl)
theorem dX0_ofCopy_24 : decode cX0_ofCopy 24 = .ok (.iconst 1, 1) := dk_4 (dk_at dksX0_ofCopy_1 0 rfl rfl)
theorem dX0_ofCopy_25 : decode cX0_ofCopy 25 = .ok (.invokevirtual 412, 3) := dk_182 1 156 (dk_at dksX0_ofCopy_1 1 rfl rfl)
theorem dX0_ofCopy_28 : decode cX0_ofCopy 28 = .ok (.pop, 1) := dk_87 (dk_at dksX0_ofCopy_1 4 rfl rfl)
theorem dX0_ofCopy_29 : decode cX0_ofCopy 29 = .ok (.iload_n 3, 1) := dk_29 (dk_at dksX0_ofCopy_1 5 rfl rfl)
theorem dX0_ofCopy_30 : decode cX0_ofCopy 30 = .ok (.bipush (-2), 2) := dk_16 254 (dk_at dksX0_ofCopy_1 6 rfl rfl)
theorem dX0_ofCopy_32 : decode cX0_ofCopy 32 = .ok (.iand, 1) := dk_126 (dk_at dksX0_ofCopy_1 8 rfl rfl)
theorem dX0_ofCopy_33 : decode cX0_ofCopy 33 = .ok (.istore_n 3, 1) := dk_62 (dk_at dksX0_ofCopy_1 9 rfl rfl)
theorem dX0_ofCopy_34 : decode cX0_ofCopy 34 = .ok (.iload 4, 2) := dk_21 4 (dk_at dksX0_ofCopy_1 10 rfl rfl)
theorem dX0_ofCopy_36 : decode cX0_ofCopy 36 = .ok (.bipush (-2), 2) := dk_16 254 (dk_at dksX0_ofCopy_1 12 rfl rfl)
theorem dX0_ofCopy_38 : decode cX0_ofCopy 38 = .ok (.iand, 1) := dk_126 (dk_at dksX0_ofCopy_1 14 rfl rfl)
theorem dX0_ofCopy_39 : decode cX0_ofCopy 39 = .ok (.istore 4, 2) := dk_54 4 (dk_at dksX0_ofCopy_1 15 rfl rfl)
theorem dX0_ofCopy_41 : decode cX0_ofCopy 41 = .ok (.iload_n 3, 1) := dk_29 (dk_at dksX0_ofCopy_1 17 rfl rfl)
theorem dX0_ofCopy_42 : decode cX0_ofCopy 42 = .ok (.ifCond .eq 8, 3) := dk_153 0 8 (dk_at dksX0_ofCopy_1 18 rfl rfl)
theorem dX0_ofCopy_45 : decode cX0_ofCopy 45 = .ok (.iload 4, 2) := dk_21 4 (dk_at dksX0_ofCopy_1 21 rfl rfl)
theorem dX0_ofCopy_47 : decode cX0_ofCopy 47 = .ok (.ifCond .ne 13, 3) := dk_154 0 13 (dk_at dksX0_ofCopy_2 0 rfl rfl)
theorem dX0_ofCopy_50 : decode cX0_ofCopy 50 = .ok (.aload_n 0, 1) := dk_42 (dk_at dksX0_ofCopy_2 3 rfl rfl)
theorem dX0_ofCopy_51 : decode cX0_ofCopy 51 = .ok (.aconst_null, 1) := dk_1 (dk_at dksX0_ofCopy_2 4 rfl rfl)
theorem dX0_ofCopy_52 : decode cX0_ofCopy 52 = .ok (.putfield 440, 3) := dk_181 1 184 (dk_at dksX0_ofCopy_2 5 rfl rfl)
theorem dX0_ofCopy_55 : decode cX0_ofCopy 55 = .ok (.aload_n 0, 1) := dk_42 (dk_at dksX0_ofCopy_2 8 rfl rfl)
theorem dX0_ofCopy_56 : decode cX0_ofCopy 56 = .ok (.invokevirtual 429, 3) := dk_182 1 173 (dk_at dksX0_ofCopy_2 9 rfl rfl)
theorem dX0_ofCopy_59 : decode cX0_ofCopy 59 = .ok (.areturn, 1) := dk_176 (dk_at dksX0_ofCopy_2 12 rfl rfl)
theorem dX0_ofCopy_60 : decode cX0_ofCopy 60 = .ok (.aload_n 0, 1) := dk_42 (dk_at dksX0_ofCopy_2 13 rfl rfl)
theorem dX0_ofCopy_61 : decode cX0_ofCopy 61 = .ok (.aload_n 0, 1) := dk_42 (dk_at dksX0_ofCopy_2 14 rfl rfl)
theorem dX0_ofCopy_62 : decode cX0_ofCopy 62 = .ok (.getfield 440, 3) := dk_180 1 184 (dk_at dksX0_ofCopy_2 15 rfl rfl)
theorem dX0_ofCopy_65 : decode cX0_ofCopy 65 = .ok (.iload_n 1, 1) := dk_27 (dk_at dksX0_ofCopy_2 18 rfl rfl)
theorem dX0_ofCopy_66 : decode cX0_ofCopy 66 = .ok (.iload_n 3, 1) := dk_29 (dk_at dksX0_ofCopy_2 19 rfl rfl)
theorem dX0_ofCopy_67 : decode cX0_ofCopy 67 = .ok (.invokevirtual 384, 3) := dk_182 1 128 (dk_at dksX0_ofCopy_2 20 rfl rfl)
theorem dX0_ofCopy_70 : decode cX0_ofCopy 70 = .ok (.iload_n 2, 1) := dk_28 (dk_at dksX0_ofCopy_2 23 rfl rfl)
theorem dX0_ofCopy_71 : decode cX0_ofCopy 71 = .ok (.iload 4, 2) := dk_21 4 (dk_at dksX0_ofCopy_3 0 rfl rfl)
theorem dX0_ofCopy_73 : decode cX0_ofCopy 73 = .ok (.invokevirtual 384, 3) := dk_182 1 128 (dk_at dksX0_ofCopy_3 2 rfl rfl)
theorem dX0_ofCopy_76 : decode cX0_ofCopy 76 = .ok (.putfield 440, 3) := dk_181 1 184 (dk_at dksX0_ofCopy_3 5 rfl rfl)
theorem dX0_ofCopy_79 : decode cX0_ofCopy 79 = .ok (.iload_n 3, 1) := dk_29 (dk_at dksX0_ofCopy_3 8 rfl rfl)
theorem dX0_ofCopy_80 : decode cX0_ofCopy 80 = .ok (.iload 4, 2) := dk_21 4 (dk_at dksX0_ofCopy_3 9 rfl rfl)
theorem dX0_ofCopy_82 : decode cX0_ofCopy 82 = .ok (.invokestatic 443, 3) := dk_184 1 187 (dk_at dksX0_ofCopy_3 11 rfl rfl)
theorem dX0_ofCopy_85 : decode cX0_ofCopy 85 = .ok (.ifCond .eq 65, 3) := dk_153 0 65 (dk_at dksX0_ofCopy_3 14 rfl rfl)
theorem dX0_ofCopy_88 : decode cX0_ofCopy 88 = .ok (.aload_n 0, 1) := dk_42 (dk_at dksX0_ofCopy_3 17 rfl rfl)
theorem dX0_ofCopy_89 : decode cX0_ofCopy 89 = .ok (.iconst 5, 1) := dk_8 (dk_at dksX0_ofCopy_3 18 rfl rfl)
theorem dX0_ofCopy_90 : decode cX0_ofCopy 90 = .ok (.invokevirtual 412, 3) := dk_182 1 156 (dk_at dksX0_ofCopy_3 19 rfl rfl)
theorem dX0_ofCopy_93 : decode cX0_ofCopy 93 = .ok (.pop, 1) := dk_87 (dk_at dksX0_ofCopy_3 22 rfl rfl)
theorem dX0_ofCopy_94 : decode cX0_ofCopy 94 = .ok (.iload_n 3, 1) := dk_29 (dk_at dksX0_ofCopy_3 23 rfl rfl)
theorem dX0_ofCopy_95 : decode cX0_ofCopy 95 = .ok (.iload 4, 2) := dk_21 4 (dk_at dksX0_ofCopy_4 0 rfl rfl)
theorem dX0_ofCopy_97 : decode cX0_ofCopy 97 = .ok (.invokestatic 446, 3) := dk_184 1 190 (dk_at dksX0_ofCopy_4 2 rfl rfl)
theorem dX0_ofCopy_100 : decode cX0_ofCopy 100 = .ok (.istore 5, 2) := dk_54 5 (dk_at dksX0_ofCopy_4 5 rfl rfl)
theorem dX0_ofCopy_102 : decode cX0_ofCopy 102 = .ok (.iload 4, 2) := dk_21 4 (dk_at dksX0_ofCopy_4 7 rfl rfl)
theorem dX0_ofCopy_104 : decode cX0_ofCopy 104 = .ok (.iload_n 3, 1) := dk_29 (dk_at dksX0_ofCopy_4 9 rfl rfl)
theorem dX0_ofCopy_105 : decode cX0_ofCopy 105 = .ok (.invokestatic 446, 3) := dk_184 1 190 (dk_at dksX0_ofCopy_4 10 rfl rfl)
theorem dX0_ofCopy_108 : decode cX0_ofCopy 108 = .ok (.istore 6, 2) := dk_54 6 (dk_at dksX0_ofCopy_4 13 rfl rfl)
theorem dX0_ofCopy_110 : decode cX0_ofCopy 110 = .ok (.iload 5, 2) := dk_21 5 (dk_at dksX0_ofCopy_4 15 rfl rfl)
theorem dX0_ofCopy_112 : decode cX0_ofCopy 112 = .ok (.ifCond .eq 8, 3) := dk_153 0 8 (dk_at dksX0_ofCopy_4 17 rfl rfl)
theorem dX0_ofCopy_115 : decode cX0_ofCopy 115 = .ok (.iload 6, 2) := dk_21 6 (dk_at dksX0_ofCopy_4 20 rfl rfl)
theorem dX0_ofCopy_117 : decode cX0_ofCopy 117 = .ok (.ifCond .ne 13, 3) := dk_154 0 13 (dk_at dksX0_ofCopy_5 0 rfl rfl)
theorem dX0_ofCopy_120 : decode cX0_ofCopy 120 = .ok (.aload_n 0, 1) := dk_42 (dk_at dksX0_ofCopy_5 3 rfl rfl)
theorem dX0_ofCopy_121 : decode cX0_ofCopy 121 = .ok (.aconst_null, 1) := dk_1 (dk_at dksX0_ofCopy_5 4 rfl rfl)
theorem dX0_ofCopy_122 : decode cX0_ofCopy 122 = .ok (.putfield 440, 3) := dk_181 1 184 (dk_at dksX0_ofCopy_5 5 rfl rfl)
theorem dX0_ofCopy_125 : decode cX0_ofCopy 125 = .ok (.aload_n 0, 1) := dk_42 (dk_at dksX0_ofCopy_5 8 rfl rfl)
theorem dX0_ofCopy_126 : decode cX0_ofCopy 126 = .ok (.invokevirtual 429, 3) := dk_182 1 173 (dk_at dksX0_ofCopy_5 9 rfl rfl)
theorem dX0_ofCopy_129 : decode cX0_ofCopy 129 = .ok (.areturn, 1) := dk_176 (dk_at dksX0_ofCopy_5 12 rfl rfl)
theorem dX0_ofCopy_130 : decode cX0_ofCopy 130 = .ok (.aload_n 0, 1) := dk_42 (dk_at dksX0_ofCopy_5 13 rfl rfl)
theorem dX0_ofCopy_131 : decode cX0_ofCopy 131 = .ok (.aload_n 0, 1) := dk_42 (dk_at dksX0_ofCopy_5 14 rfl rfl)
theorem dX0_ofCopy_132 : decode cX0_ofCopy 132 = .ok (.getfield 440, 3) := dk_180 1 184 (dk_at dksX0_ofCopy_5 15 rfl rfl)
theorem dX0_ofCopy_135 : decode cX0_ofCopy 135 = .ok (.iload_n 1, 1) := dk_27 (dk_at dksX0_ofCopy_5 18 rfl rfl)
theorem dX0_ofCopy_136 : decode cX0_ofCopy 136 = .ok (.iload 5, 2) := dk_21 5 (dk_at dksX0_ofCopy_5 19 rfl rfl)
theorem dX0_ofCopy_138 : decode cX0_ofCopy 138 = .ok (.invokevirtual 384, 3) := dk_182 1 128 (dk_at dksX0_ofCopy_5 21 rfl rfl)
theorem dX0_ofCopy_141 : decode cX0_ofCopy 141 = .ok (.iload_n 2, 1) := dk_28 (dk_at dksX0_ofCopy_6 0 rfl rfl)
theorem dX0_ofCopy_142 : decode cX0_ofCopy 142 = .ok (.iload 6, 2) := dk_21 6 (dk_at dksX0_ofCopy_6 1 rfl rfl)
theorem dX0_ofCopy_144 : decode cX0_ofCopy 144 = .ok (.invokevirtual 384, 3) := dk_182 1 128 (dk_at dksX0_ofCopy_6 3 rfl rfl)
theorem dX0_ofCopy_147 : decode cX0_ofCopy 147 = .ok (.putfield 440, 3) := dk_181 1 184 (dk_at dksX0_ofCopy_6 6 rfl rfl)
theorem dX0_ofCopy_150 : decode cX0_ofCopy 150 = .ok (.aload_n 0, 1) := dk_42 (dk_at dksX0_ofCopy_6 9 rfl rfl)
theorem dX0_ofCopy_151 : decode cX0_ofCopy 151 = .ok (.iconst 3, 1) := dk_6 (dk_at dksX0_ofCopy_6 10 rfl rfl)
theorem dX0_ofCopy_152 : decode cX0_ofCopy 152 = .ok (.invokevirtual 412, 3) := dk_182 1 156 (dk_at dksX0_ofCopy_6 11 rfl rfl)
theorem dX0_ofCopy_155 : decode cX0_ofCopy 155 = .ok (.invokevirtual 429, 3) := dk_182 1 173 (dk_at dksX0_ofCopy_6 14 rfl rfl)
theorem dX0_ofCopy_158 : decode cX0_ofCopy 158 = .ok (.areturn, 1) := dk_176 (dk_at dksX0_ofCopy_6 17 rfl rfl)
abbrev cX0_mayUnlike : ByteArray := prog_1_method_59_code
def yX0_mayUnlike : MethodName := ⟨RX0, "mayUnlike", "(II)Z"⟩
def dkwX0_mayUnlike_4 : List UInt8 := [160, 0, 7, 4, 167, 0, 4, 3, 128, 61, 132, 4, 1, 167, 255, 163, 132, 3, 1, 167, 255, 148, 28, 172]
abbrev dktX0_mayUnlike_4 : List UInt8 := dkwX0_mayUnlike_4 ++ []
def dkwX0_mayUnlike_3 : List UInt8 := [163, 0, 27, 29, 8, 164, 0, 9, 21, 4, 8, 159, 0, 16, 29, 16, 6, 160, 0, 14, 21, 4, 16, 7]
abbrev dktX0_mayUnlike_3 : List UInt8 := dkwX0_mayUnlike_3 ++ dktX0_mayUnlike_4
def dkwX0_mayUnlike_2 : List UInt8 := [21, 5, 153, 0, 51, 29, 21, 4, 184, 1, 60, 153, 0, 38, 29, 8, 160, 0, 9, 21, 4, 8]
abbrev dktX0_mayUnlike_2 : List UInt8 := dkwX0_mayUnlike_2 ++ dktX0_mayUnlike_3
def dkwX0_mayUnlike_1 : List UInt8 := [126, 4, 160, 0, 17, 27, 21, 4, 122, 4, 126, 4, 160, 0, 7, 4, 167, 0, 4, 3, 54, 5, 28]
abbrev dktX0_mayUnlike_1 : List UInt8 := dkwX0_mayUnlike_1 ++ dktX0_mayUnlike_2
def dkwX0_mayUnlike_0 : List UInt8 := [3, 61, 4, 62, 29, 16, 10, 162, 0, 108, 4, 54, 4, 21, 4, 16, 10, 162, 0, 92, 26, 29, 122, 4]
abbrev dktX0_mayUnlike_0 : List UInt8 := dkwX0_mayUnlike_0 ++ dktX0_mayUnlike_1
theorem dksX0_mayUnlike_0 : cX0_mayUnlike.data.toList.drop 0 = dktX0_mayUnlike_0 := by decide +kernel
theorem dksX0_mayUnlike_1 : cX0_mayUnlike.data.toList.drop 24 = dktX0_mayUnlike_1 := dk_seg dksX0_mayUnlike_0 24 rfl rfl
theorem dksX0_mayUnlike_2 : cX0_mayUnlike.data.toList.drop 47 = dktX0_mayUnlike_2 := dk_seg dksX0_mayUnlike_1 23 rfl rfl
theorem dksX0_mayUnlike_3 : cX0_mayUnlike.data.toList.drop 69 = dktX0_mayUnlike_3 := dk_seg dksX0_mayUnlike_2 22 rfl rfl
theorem dksX0_mayUnlike_4 : cX0_mayUnlike.data.toList.drop 93 = dktX0_mayUnlike_4 := dk_seg dksX0_mayUnlike_3 24 rfl rfl
theorem dX0_mayUnlike_0 : decode cX0_mayUnlike 0 = .ok (.iconst 0, 1) := dk_3 (dk_at dksX0_mayUnlike_0 0 rfl rfl)
theorem dX0_mayUnlike_1 : decode cX0_mayUnlike 1 = .ok (.istore_n 2, 1) := dk_61 (dk_at dksX0_mayUnlike_0 1 rfl rfl)
theorem dX0_mayUnlike_2 : decode cX0_mayUnlike 2 = .ok (.iconst 1, 1) := dk_4 (dk_at dksX0_mayUnlike_0 2 rfl rfl)
theorem dX0_mayUnlike_3 : decode cX0_mayUnlike 3 = .ok (.istore_n 3, 1) := dk_62 (dk_at dksX0_mayUnlike_0 3 rfl rfl)
theorem dX0_mayUnlike_4 : decode cX0_mayUnlike 4 = .ok (.iload_n 3, 1) := dk_29 (dk_at dksX0_mayUnlike_0 4 rfl rfl)
theorem dX0_mayUnlike_5 : decode cX0_mayUnlike 5 = .ok (.bipush 10, 2) := dk_16 10 (dk_at dksX0_mayUnlike_0 5 rfl rfl)
theorem dX0_mayUnlike_7 : decode cX0_mayUnlike 7 = .ok (.if_icmp .ge 108, 3) := dk_162 0 108 (dk_at dksX0_mayUnlike_0 7 rfl rfl)
theorem dX0_mayUnlike_10 : decode cX0_mayUnlike 10 = .ok (.iconst 1, 1) := dk_4 (dk_at dksX0_mayUnlike_0 10 rfl rfl)
theorem dX0_mayUnlike_11 : decode cX0_mayUnlike 11 = .ok (.istore 4, 2) := dk_54 4 (dk_at dksX0_mayUnlike_0 11 rfl rfl)
theorem dX0_mayUnlike_13 : decode cX0_mayUnlike 13 = .ok (.iload 4, 2) := dk_21 4 (dk_at dksX0_mayUnlike_0 13 rfl rfl)
theorem dX0_mayUnlike_15 : decode cX0_mayUnlike 15 = .ok (.bipush 10, 2) := dk_16 10 (dk_at dksX0_mayUnlike_0 15 rfl rfl)
theorem dX0_mayUnlike_17 : decode cX0_mayUnlike 17 = .ok (.if_icmp .ge 92, 3) := dk_162 0 92 (dk_at dksX0_mayUnlike_0 17 rfl rfl)
theorem dX0_mayUnlike_20 : decode cX0_mayUnlike 20 = .ok (.iload_n 0, 1) := dk_26 (dk_at dksX0_mayUnlike_0 20 rfl rfl)
theorem dX0_mayUnlike_21 : decode cX0_mayUnlike 21 = .ok (.iload_n 3, 1) := dk_29 (dk_at dksX0_mayUnlike_0 21 rfl rfl)
theorem dX0_mayUnlike_22 : decode cX0_mayUnlike 22 = .ok (.ishr, 1) := dk_122 (dk_at dksX0_mayUnlike_0 22 rfl rfl)
theorem dX0_mayUnlike_23 : decode cX0_mayUnlike 23 = .ok (.iconst 1, 1) := dk_4 (dk_at dksX0_mayUnlike_0 23 rfl rfl)
theorem dX0_mayUnlike_24 : decode cX0_mayUnlike 24 = .ok (.iand, 1) := dk_126 (dk_at dksX0_mayUnlike_1 0 rfl rfl)
theorem dX0_mayUnlike_25 : decode cX0_mayUnlike 25 = .ok (.iconst 1, 1) := dk_4 (dk_at dksX0_mayUnlike_1 1 rfl rfl)
theorem dX0_mayUnlike_26 : decode cX0_mayUnlike 26 = .ok (.if_icmp .ne 17, 3) := dk_160 0 17 (dk_at dksX0_mayUnlike_1 2 rfl rfl)
theorem dX0_mayUnlike_29 : decode cX0_mayUnlike 29 = .ok (.iload_n 1, 1) := dk_27 (dk_at dksX0_mayUnlike_1 5 rfl rfl)
theorem dX0_mayUnlike_30 : decode cX0_mayUnlike 30 = .ok (.iload 4, 2) := dk_21 4 (dk_at dksX0_mayUnlike_1 6 rfl rfl)
theorem dX0_mayUnlike_32 : decode cX0_mayUnlike 32 = .ok (.ishr, 1) := dk_122 (dk_at dksX0_mayUnlike_1 8 rfl rfl)
theorem dX0_mayUnlike_33 : decode cX0_mayUnlike 33 = .ok (.iconst 1, 1) := dk_4 (dk_at dksX0_mayUnlike_1 9 rfl rfl)
theorem dX0_mayUnlike_34 : decode cX0_mayUnlike 34 = .ok (.iand, 1) := dk_126 (dk_at dksX0_mayUnlike_1 10 rfl rfl)
theorem dX0_mayUnlike_35 : decode cX0_mayUnlike 35 = .ok (.iconst 1, 1) := dk_4 (dk_at dksX0_mayUnlike_1 11 rfl rfl)
theorem dX0_mayUnlike_36 : decode cX0_mayUnlike 36 = .ok (.if_icmp .ne 7, 3) := dk_160 0 7 (dk_at dksX0_mayUnlike_1 12 rfl rfl)
theorem dX0_mayUnlike_39 : decode cX0_mayUnlike 39 = .ok (.iconst 1, 1) := dk_4 (dk_at dksX0_mayUnlike_1 15 rfl rfl)
theorem dX0_mayUnlike_40 : decode cX0_mayUnlike 40 = .ok (.goto 4, 3) := dk_167 0 4 (dk_at dksX0_mayUnlike_1 16 rfl rfl)
theorem dX0_mayUnlike_43 : decode cX0_mayUnlike 43 = .ok (.iconst 0, 1) := dk_3 (dk_at dksX0_mayUnlike_1 19 rfl rfl)
theorem dX0_mayUnlike_44 : decode cX0_mayUnlike 44 = .ok (.istore 5, 2) := dk_54 5 (dk_at dksX0_mayUnlike_1 20 rfl rfl)
theorem dX0_mayUnlike_46 : decode cX0_mayUnlike 46 = .ok (.iload_n 2, 1) := dk_28 (dk_at dksX0_mayUnlike_1 22 rfl rfl)
theorem dX0_mayUnlike_47 : decode cX0_mayUnlike 47 = .ok (.iload 5, 2) := dk_21 5 (dk_at dksX0_mayUnlike_2 0 rfl rfl)
theorem dX0_mayUnlike_49 : decode cX0_mayUnlike 49 = .ok (.ifCond .eq 51, 3) := dk_153 0 51 (dk_at dksX0_mayUnlike_2 2 rfl rfl)
theorem dX0_mayUnlike_52 : decode cX0_mayUnlike 52 = .ok (.iload_n 3, 1) := dk_29 (dk_at dksX0_mayUnlike_2 5 rfl rfl)
theorem dX0_mayUnlike_53 : decode cX0_mayUnlike 53 = .ok (.iload 4, 2) := dk_21 4 (dk_at dksX0_mayUnlike_2 6 rfl rfl)
theorem dX0_mayUnlike_55 : decode cX0_mayUnlike 55 = .ok (.invokestatic 316, 3) := dk_184 1 60 (dk_at dksX0_mayUnlike_2 8 rfl rfl)
theorem dX0_mayUnlike_58 : decode cX0_mayUnlike 58 = .ok (.ifCond .eq 38, 3) := dk_153 0 38 (dk_at dksX0_mayUnlike_2 11 rfl rfl)
theorem dX0_mayUnlike_61 : decode cX0_mayUnlike 61 = .ok (.iload_n 3, 1) := dk_29 (dk_at dksX0_mayUnlike_2 14 rfl rfl)
theorem dX0_mayUnlike_62 : decode cX0_mayUnlike 62 = .ok (.iconst 5, 1) := dk_8 (dk_at dksX0_mayUnlike_2 15 rfl rfl)
theorem dX0_mayUnlike_63 : decode cX0_mayUnlike 63 = .ok (.if_icmp .ne 9, 3) := dk_160 0 9 (dk_at dksX0_mayUnlike_2 16 rfl rfl)
theorem dX0_mayUnlike_66 : decode cX0_mayUnlike 66 = .ok (.iload 4, 2) := dk_21 4 (dk_at dksX0_mayUnlike_2 19 rfl rfl)
theorem dX0_mayUnlike_68 : decode cX0_mayUnlike 68 = .ok (.iconst 5, 1) := dk_8 (dk_at dksX0_mayUnlike_2 21 rfl rfl)
theorem dX0_mayUnlike_69 : decode cX0_mayUnlike 69 = .ok (.if_icmp .gt 27, 3) := dk_163 0 27 (dk_at dksX0_mayUnlike_3 0 rfl rfl)
theorem dX0_mayUnlike_72 : decode cX0_mayUnlike 72 = .ok (.iload_n 3, 1) := dk_29 (dk_at dksX0_mayUnlike_3 3 rfl rfl)
theorem dX0_mayUnlike_73 : decode cX0_mayUnlike 73 = .ok (.iconst 5, 1) := dk_8 (dk_at dksX0_mayUnlike_3 4 rfl rfl)
theorem dX0_mayUnlike_74 : decode cX0_mayUnlike 74 = .ok (.if_icmp .le 9, 3) := dk_164 0 9 (dk_at dksX0_mayUnlike_3 5 rfl rfl)
theorem dX0_mayUnlike_77 : decode cX0_mayUnlike 77 = .ok (.iload 4, 2) := dk_21 4 (dk_at dksX0_mayUnlike_3 8 rfl rfl)
theorem dX0_mayUnlike_79 : decode cX0_mayUnlike 79 = .ok (.iconst 5, 1) := dk_8 (dk_at dksX0_mayUnlike_3 10 rfl rfl)
theorem dX0_mayUnlike_80 : decode cX0_mayUnlike 80 = .ok (.if_icmp .eq 16, 3) := dk_159 0 16 (dk_at dksX0_mayUnlike_3 11 rfl rfl)
theorem dX0_mayUnlike_83 : decode cX0_mayUnlike 83 = .ok (.iload_n 3, 1) := dk_29 (dk_at dksX0_mayUnlike_3 14 rfl rfl)
theorem dX0_mayUnlike_84 : decode cX0_mayUnlike 84 = .ok (.bipush 6, 2) := dk_16 6 (dk_at dksX0_mayUnlike_3 15 rfl rfl)
theorem dX0_mayUnlike_86 : decode cX0_mayUnlike 86 = .ok (.if_icmp .ne 14, 3) := dk_160 0 14 (dk_at dksX0_mayUnlike_3 17 rfl rfl)
theorem dX0_mayUnlike_89 : decode cX0_mayUnlike 89 = .ok (.iload 4, 2) := dk_21 4 (dk_at dksX0_mayUnlike_3 20 rfl rfl)
theorem dX0_mayUnlike_91 : decode cX0_mayUnlike 91 = .ok (.bipush 7, 2) := dk_16 7 (dk_at dksX0_mayUnlike_3 22 rfl rfl)
theorem dX0_mayUnlike_93 : decode cX0_mayUnlike 93 = .ok (.if_icmp .ne 7, 3) := dk_160 0 7 (dk_at dksX0_mayUnlike_4 0 rfl rfl)
theorem dX0_mayUnlike_96 : decode cX0_mayUnlike 96 = .ok (.iconst 1, 1) := dk_4 (dk_at dksX0_mayUnlike_4 3 rfl rfl)
theorem dX0_mayUnlike_97 : decode cX0_mayUnlike 97 = .ok (.goto 4, 3) := dk_167 0 4 (dk_at dksX0_mayUnlike_4 4 rfl rfl)
theorem dX0_mayUnlike_100 : decode cX0_mayUnlike 100 = .ok (.iconst 0, 1) := dk_3 (dk_at dksX0_mayUnlike_4 7 rfl rfl)
theorem dX0_mayUnlike_101 : decode cX0_mayUnlike 101 = .ok (.ior, 1) := dk_128 (dk_at dksX0_mayUnlike_4 8 rfl rfl)
theorem dX0_mayUnlike_102 : decode cX0_mayUnlike 102 = .ok (.istore_n 2, 1) := dk_61 (dk_at dksX0_mayUnlike_4 9 rfl rfl)
theorem dX0_mayUnlike_103 : decode cX0_mayUnlike 103 = .ok (.iinc 4 1, 3) := dk_132 4 1 (dk_at dksX0_mayUnlike_4 10 rfl rfl)
theorem dX0_mayUnlike_106 : decode cX0_mayUnlike 106 = .ok (.goto (-93), 3) := dk_167 255 163 (dk_at dksX0_mayUnlike_4 13 rfl rfl)
theorem dX0_mayUnlike_109 : decode cX0_mayUnlike 109 = .ok (.iinc 3 1, 3) := dk_132 3 1 (dk_at dksX0_mayUnlike_4 16 rfl rfl)
theorem dX0_mayUnlike_112 : decode cX0_mayUnlike 112 = .ok (.goto (-108), 3) := dk_167 255 148 (dk_at dksX0_mayUnlike_4 19 rfl rfl)
theorem dX0_mayUnlike_115 : decode cX0_mayUnlike 115 = .ok (.iload_n 2, 1) := dk_28 (dk_at dksX0_mayUnlike_4 22 rfl rfl)
theorem dX0_mayUnlike_116 : decode cX0_mayUnlike 116 = .ok (.ireturn, 1) := dk_172 (dk_at dksX0_mayUnlike_4 23 rfl rfl)
abbrev cX0_meeting : ByteArray := prog_1_method_58_code
def yX0_meeting : MethodName := ⟨RX0, "meeting", "(II)I"⟩
def dkwX0_meeting_3 : List UInt8 := [28, 172]
abbrev dktX0_meeting_3 : List UInt8 := dkwX0_meeting_3 ++ []
def dkwX0_meeting_2 : List UInt8 := [153, 0, 9, 4, 29, 120, 167, 0, 4, 3, 128, 61, 132, 4, 1, 167, 255, 208, 132, 3, 1, 167, 255, 193]
abbrev dktX0_meeting_2 : List UInt8 := dkwX0_meeting_2 ++ dktX0_meeting_3
def dkwX0_meeting_1 : List UInt8 := [4, 126, 4, 160, 0, 28, 27, 21, 4, 122, 4, 126, 4, 160, 0, 18, 29, 21, 4, 184, 1, 60]
abbrev dktX0_meeting_1 : List UInt8 := dkwX0_meeting_1 ++ dktX0_meeting_2
def dkwX0_meeting_0 : List UInt8 := [3, 61, 4, 62, 29, 16, 8, 162, 0, 63, 4, 54, 4, 21, 4, 16, 8, 162, 0, 47, 28, 26, 29, 122]
abbrev dktX0_meeting_0 : List UInt8 := dkwX0_meeting_0 ++ dktX0_meeting_1
theorem dksX0_meeting_0 : cX0_meeting.data.toList.drop 0 = dktX0_meeting_0 := by decide +kernel
theorem dksX0_meeting_1 : cX0_meeting.data.toList.drop 24 = dktX0_meeting_1 := dk_seg dksX0_meeting_0 24 rfl rfl
theorem dksX0_meeting_2 : cX0_meeting.data.toList.drop 46 = dktX0_meeting_2 := dk_seg dksX0_meeting_1 22 rfl rfl
theorem dksX0_meeting_3 : cX0_meeting.data.toList.drop 70 = dktX0_meeting_3 := dk_seg dksX0_meeting_2 24 rfl rfl
theorem dX0_meeting_0 : decode cX0_meeting 0 = .ok (.iconst 0, 1) := dk_3 (dk_at dksX0_meeting_0 0 rfl rfl)
theorem dX0_meeting_1 : decode cX0_meeting 1 = .ok (.istore_n 2, 1) := dk_61 (dk_at dksX0_meeting_0 1 rfl rfl)
theorem dX0_meeting_2 : decode cX0_meeting 2 = .ok (.iconst 1, 1) := dk_4 (dk_at dksX0_meeting_0 2 rfl rfl)
theorem dX0_meeting_3 : decode cX0_meeting 3 = .ok (.istore_n 3, 1) := dk_62 (dk_at dksX0_meeting_0 3 rfl rfl)
theorem dX0_meeting_4 : decode cX0_meeting 4 = .ok (.iload_n 3, 1) := dk_29 (dk_at dksX0_meeting_0 4 rfl rfl)
theorem dX0_meeting_5 : decode cX0_meeting 5 = .ok (.bipush 8, 2) := dk_16 8 (dk_at dksX0_meeting_0 5 rfl rfl)
theorem dX0_meeting_7 : decode cX0_meeting 7 = .ok (.if_icmp .ge 63, 3) := dk_162 0 63 (dk_at dksX0_meeting_0 7 rfl rfl)
theorem dX0_meeting_10 : decode cX0_meeting 10 = .ok (.iconst 1, 1) := dk_4 (dk_at dksX0_meeting_0 10 rfl rfl)
theorem dX0_meeting_11 : decode cX0_meeting 11 = .ok (.istore 4, 2) := dk_54 4 (dk_at dksX0_meeting_0 11 rfl rfl)
theorem dX0_meeting_13 : decode cX0_meeting 13 = .ok (.iload 4, 2) := dk_21 4 (dk_at dksX0_meeting_0 13 rfl rfl)
theorem dX0_meeting_15 : decode cX0_meeting 15 = .ok (.bipush 8, 2) := dk_16 8 (dk_at dksX0_meeting_0 15 rfl rfl)
theorem dX0_meeting_17 : decode cX0_meeting 17 = .ok (.if_icmp .ge 47, 3) := dk_162 0 47 (dk_at dksX0_meeting_0 17 rfl rfl)
theorem dX0_meeting_20 : decode cX0_meeting 20 = .ok (.iload_n 2, 1) := dk_28 (dk_at dksX0_meeting_0 20 rfl rfl)
theorem dX0_meeting_21 : decode cX0_meeting 21 = .ok (.iload_n 0, 1) := dk_26 (dk_at dksX0_meeting_0 21 rfl rfl)
theorem dX0_meeting_22 : decode cX0_meeting 22 = .ok (.iload_n 3, 1) := dk_29 (dk_at dksX0_meeting_0 22 rfl rfl)
theorem dX0_meeting_23 : decode cX0_meeting 23 = .ok (.ishr, 1) := dk_122 (dk_at dksX0_meeting_0 23 rfl rfl)
theorem dX0_meeting_24 : decode cX0_meeting 24 = .ok (.iconst 1, 1) := dk_4 (dk_at dksX0_meeting_1 0 rfl rfl)
theorem dX0_meeting_25 : decode cX0_meeting 25 = .ok (.iand, 1) := dk_126 (dk_at dksX0_meeting_1 1 rfl rfl)
theorem dX0_meeting_26 : decode cX0_meeting 26 = .ok (.iconst 1, 1) := dk_4 (dk_at dksX0_meeting_1 2 rfl rfl)
theorem dX0_meeting_27 : decode cX0_meeting 27 = .ok (.if_icmp .ne 28, 3) := dk_160 0 28 (dk_at dksX0_meeting_1 3 rfl rfl)
theorem dX0_meeting_30 : decode cX0_meeting 30 = .ok (.iload_n 1, 1) := dk_27 (dk_at dksX0_meeting_1 6 rfl rfl)
theorem dX0_meeting_31 : decode cX0_meeting 31 = .ok (.iload 4, 2) := dk_21 4 (dk_at dksX0_meeting_1 7 rfl rfl)
theorem dX0_meeting_33 : decode cX0_meeting 33 = .ok (.ishr, 1) := dk_122 (dk_at dksX0_meeting_1 9 rfl rfl)
theorem dX0_meeting_34 : decode cX0_meeting 34 = .ok (.iconst 1, 1) := dk_4 (dk_at dksX0_meeting_1 10 rfl rfl)
theorem dX0_meeting_35 : decode cX0_meeting 35 = .ok (.iand, 1) := dk_126 (dk_at dksX0_meeting_1 11 rfl rfl)
theorem dX0_meeting_36 : decode cX0_meeting 36 = .ok (.iconst 1, 1) := dk_4 (dk_at dksX0_meeting_1 12 rfl rfl)
theorem dX0_meeting_37 : decode cX0_meeting 37 = .ok (.if_icmp .ne 18, 3) := dk_160 0 18 (dk_at dksX0_meeting_1 13 rfl rfl)
theorem dX0_meeting_40 : decode cX0_meeting 40 = .ok (.iload_n 3, 1) := dk_29 (dk_at dksX0_meeting_1 16 rfl rfl)
theorem dX0_meeting_41 : decode cX0_meeting 41 = .ok (.iload 4, 2) := dk_21 4 (dk_at dksX0_meeting_1 17 rfl rfl)
theorem dX0_meeting_43 : decode cX0_meeting 43 = .ok (.invokestatic 316, 3) := dk_184 1 60 (dk_at dksX0_meeting_1 19 rfl rfl)
theorem dX0_meeting_46 : decode cX0_meeting 46 = .ok (.ifCond .eq 9, 3) := dk_153 0 9 (dk_at dksX0_meeting_2 0 rfl rfl)
theorem dX0_meeting_49 : decode cX0_meeting 49 = .ok (.iconst 1, 1) := dk_4 (dk_at dksX0_meeting_2 3 rfl rfl)
theorem dX0_meeting_50 : decode cX0_meeting 50 = .ok (.iload_n 3, 1) := dk_29 (dk_at dksX0_meeting_2 4 rfl rfl)
theorem dX0_meeting_51 : decode cX0_meeting 51 = .ok (.ishl, 1) := dk_120 (dk_at dksX0_meeting_2 5 rfl rfl)
theorem dX0_meeting_52 : decode cX0_meeting 52 = .ok (.goto 4, 3) := dk_167 0 4 (dk_at dksX0_meeting_2 6 rfl rfl)
theorem dX0_meeting_55 : decode cX0_meeting 55 = .ok (.iconst 0, 1) := dk_3 (dk_at dksX0_meeting_2 9 rfl rfl)
theorem dX0_meeting_56 : decode cX0_meeting 56 = .ok (.ior, 1) := dk_128 (dk_at dksX0_meeting_2 10 rfl rfl)
theorem dX0_meeting_57 : decode cX0_meeting 57 = .ok (.istore_n 2, 1) := dk_61 (dk_at dksX0_meeting_2 11 rfl rfl)
theorem dX0_meeting_58 : decode cX0_meeting 58 = .ok (.iinc 4 1, 3) := dk_132 4 1 (dk_at dksX0_meeting_2 12 rfl rfl)
theorem dX0_meeting_61 : decode cX0_meeting 61 = .ok (.goto (-48), 3) := dk_167 255 208 (dk_at dksX0_meeting_2 15 rfl rfl)
theorem dX0_meeting_64 : decode cX0_meeting 64 = .ok (.iinc 3 1, 3) := dk_132 3 1 (dk_at dksX0_meeting_2 18 rfl rfl)
theorem dX0_meeting_67 : decode cX0_meeting 67 = .ok (.goto (-63), 3) := dk_167 255 193 (dk_at dksX0_meeting_2 21 rfl rfl)
theorem dX0_meeting_70 : decode cX0_meeting 70 = .ok (.iload_n 2, 1) := dk_28 (dk_at dksX0_meeting_3 0 rfl rfl)
theorem dX0_meeting_71 : decode cX0_meeting 71 = .ok (.ireturn, 1) := dk_172 (dk_at dksX0_meeting_3 1 rfl rfl)
abbrev cX0_ofBoth : ByteArray := prog_1_method_50_code
def yX0_ofBoth : MethodName := ⟨RX0, "ofBoth", "(LThrowReports$Node;LThrowReports$State;)LThrowReports$Ways;"⟩
def dkwX0_ofBoth_1 : List UInt8 := [83, 25, 4, 198, 0, 17, 45, 42, 43, 180, 0, 117, 25, 4, 182, 1, 89, 182, 1, 120, 45, 176]
abbrev dktX0_ofBoth_1 : List UInt8 := dkwX0_ofBoth_1 ++ []
def dkwX0_ofBoth_0 : List UInt8 := [42, 43, 180, 0, 113, 44, 182, 1, 89, 78, 45, 180, 1, 116, 3, 50, 58, 4, 45, 180, 1, 116, 3, 1]
abbrev dktX0_ofBoth_0 : List UInt8 := dkwX0_ofBoth_0 ++ dktX0_ofBoth_1
theorem dksX0_ofBoth_0 : cX0_ofBoth.data.toList.drop 0 = dktX0_ofBoth_0 := by decide +kernel
theorem dksX0_ofBoth_1 : cX0_ofBoth.data.toList.drop 24 = dktX0_ofBoth_1 := dk_seg dksX0_ofBoth_0 24 rfl rfl
theorem dX0_ofBoth_0 : decode cX0_ofBoth 0 = .ok (.aload_n 0, 1) := dk_42 (dk_at dksX0_ofBoth_0 0 rfl rfl)
theorem dX0_ofBoth_1 : decode cX0_ofBoth 1 = .ok (.aload_n 1, 1) := dk_43 (dk_at dksX0_ofBoth_0 1 rfl rfl)
theorem dX0_ofBoth_2 : decode cX0_ofBoth 2 = .ok (.getfield 113, 3) := dk_180 0 113 (dk_at dksX0_ofBoth_0 2 rfl rfl)
theorem dX0_ofBoth_5 : decode cX0_ofBoth 5 = .ok (.aload_n 2, 1) := dk_44 (dk_at dksX0_ofBoth_0 5 rfl rfl)
theorem dX0_ofBoth_6 : decode cX0_ofBoth 6 = .ok (.invokevirtual 345, 3) := dk_182 1 89 (dk_at dksX0_ofBoth_0 6 rfl rfl)
theorem dX0_ofBoth_9 : decode cX0_ofBoth 9 = .ok (.astore_n 3, 1) := dk_78 (dk_at dksX0_ofBoth_0 9 rfl rfl)
theorem dX0_ofBoth_10 : decode cX0_ofBoth 10 = .ok (.aload_n 3, 1) := dk_45 (dk_at dksX0_ofBoth_0 10 rfl rfl)
theorem dX0_ofBoth_11 : decode cX0_ofBoth 11 = .ok (.getfield 372, 3) := dk_180 1 116 (dk_at dksX0_ofBoth_0 11 rfl rfl)
theorem dX0_ofBoth_14 : decode cX0_ofBoth 14 = .ok (.iconst 0, 1) := dk_3 (dk_at dksX0_ofBoth_0 14 rfl rfl)
theorem dX0_ofBoth_15 : decode cX0_ofBoth 15 = .ok (.aaload, 1) := dk_50 (dk_at dksX0_ofBoth_0 15 rfl rfl)
theorem dX0_ofBoth_16 : decode cX0_ofBoth 16 = .ok (.astore 4, 2) := dk_58 4 (dk_at dksX0_ofBoth_0 16 rfl rfl)
theorem dX0_ofBoth_18 : decode cX0_ofBoth 18 = .ok (.aload_n 3, 1) := dk_45 (dk_at dksX0_ofBoth_0 18 rfl rfl)
theorem dX0_ofBoth_19 : decode cX0_ofBoth 19 = .ok (.getfield 372, 3) := dk_180 1 116 (dk_at dksX0_ofBoth_0 19 rfl rfl)
theorem dX0_ofBoth_22 : decode cX0_ofBoth 22 = .ok (.iconst 0, 1) := dk_3 (dk_at dksX0_ofBoth_0 22 rfl rfl)
theorem dX0_ofBoth_23 : decode cX0_ofBoth 23 = .ok (.aconst_null, 1) := dk_1 (dk_at dksX0_ofBoth_0 23 rfl rfl)
theorem dX0_ofBoth_24 : decode cX0_ofBoth 24 = .ok (.aastore, 1) := dk_83 (dk_at dksX0_ofBoth_1 0 rfl rfl)
theorem dX0_ofBoth_25 : decode cX0_ofBoth 25 = .ok (.aload 4, 2) := dk_25 4 (dk_at dksX0_ofBoth_1 1 rfl rfl)
theorem dX0_ofBoth_27 : decode cX0_ofBoth 27 = .ok (.ifnull 17, 3) := dk_198 0 17 (dk_at dksX0_ofBoth_1 3 rfl rfl)
theorem dX0_ofBoth_30 : decode cX0_ofBoth 30 = .ok (.aload_n 3, 1) := dk_45 (dk_at dksX0_ofBoth_1 6 rfl rfl)
theorem dX0_ofBoth_31 : decode cX0_ofBoth 31 = .ok (.aload_n 0, 1) := dk_42 (dk_at dksX0_ofBoth_1 7 rfl rfl)
theorem dX0_ofBoth_32 : decode cX0_ofBoth 32 = .ok (.aload_n 1, 1) := dk_43 (dk_at dksX0_ofBoth_1 8 rfl rfl)
theorem dX0_ofBoth_33 : decode cX0_ofBoth 33 = .ok (.getfield 117, 3) := dk_180 0 117 (dk_at dksX0_ofBoth_1 9 rfl rfl)
theorem dX0_ofBoth_36 : decode cX0_ofBoth 36 = .ok (.aload 4, 2) := dk_25 4 (dk_at dksX0_ofBoth_1 12 rfl rfl)
theorem dX0_ofBoth_38 : decode cX0_ofBoth 38 = .ok (.invokevirtual 345, 3) := dk_182 1 89 (dk_at dksX0_ofBoth_1 14 rfl rfl)
theorem dX0_ofBoth_41 : decode cX0_ofBoth 41 = .ok (.invokevirtual 376, 3) := dk_182 1 120 (dk_at dksX0_ofBoth_1 17 rfl rfl)
theorem dX0_ofBoth_44 : decode cX0_ofBoth 44 = .ok (.aload_n 3, 1) := dk_45 (dk_at dksX0_ofBoth_1 20 rfl rfl)
theorem dX0_ofBoth_45 : decode cX0_ofBoth 45 = .ok (.areturn, 1) := dk_176 (dk_at dksX0_ofBoth_1 21 rfl rfl)
abbrev cX0_ofChoice : ByteArray := prog_1_method_51_code
def yX0_ofChoice : MethodName := ⟨RX0, "ofChoice", "(LThrowReports$Node;LThrowReports$State;)LThrowReports$Ways;"⟩
def dkwX0_ofChoice_5 : List UInt8 := [25, 5, 176]
abbrev dktX0_ofChoice_5 : List UInt8 := dkwX0_ofChoice_5 ++ []
def dkwX0_ofChoice_4 : List UInt8 := [25, 5, 42, 43, 180, 0, 117, 44, 43, 180, 0, 172, 21, 4, 182, 1, 128, 182, 1, 89, 182, 1, 120]
abbrev dktX0_ofChoice_4 : List UInt8 := dkwX0_ofChoice_4 ++ dktX0_ofChoice_5
def dkwX0_ofChoice_3 : List UInt8 := [180, 0, 113, 44, 43, 180, 0, 172, 29, 182, 1, 128, 182, 1, 89, 182, 1, 120, 21, 4, 153, 0, 26]
abbrev dktX0_ofChoice_3 : List UInt8 := dkwX0_ofChoice_3 ++ dktX0_ofChoice_4
def dkwX0_ofChoice_2 : List UInt8 := [46, 29, 2, 130, 126, 54, 4, 187, 1, 94, 89, 183, 1, 127, 58, 5, 29, 153, 0, 25, 25, 5, 42, 43]
abbrev dktX0_ofChoice_2 : List UInt8 := dkwX0_ofChoice_2 ++ dktX0_ofChoice_3
def dkwX0_ofChoice_1 : List UInt8 := [180, 0, 40, 43, 180, 0, 172, 46, 43, 180, 0, 178, 184, 1, 124, 62, 44, 180, 0, 40, 43, 180, 0, 172]
abbrev dktX0_ofChoice_1 : List UInt8 := dkwX0_ofChoice_1 ++ dktX0_ofChoice_2
def dkwX0_ofChoice_0 : List UInt8 := [43, 180, 0, 178, 154, 0, 17, 44, 180, 0, 40, 43, 180, 0, 172, 46, 4, 126, 167, 0, 19, 44]
abbrev dktX0_ofChoice_0 : List UInt8 := dkwX0_ofChoice_0 ++ dktX0_ofChoice_1
theorem dksX0_ofChoice_0 : cX0_ofChoice.data.toList.drop 0 = dktX0_ofChoice_0 := by decide +kernel
theorem dksX0_ofChoice_1 : cX0_ofChoice.data.toList.drop 22 = dktX0_ofChoice_1 := dk_seg dksX0_ofChoice_0 22 rfl rfl
theorem dksX0_ofChoice_2 : cX0_ofChoice.data.toList.drop 46 = dktX0_ofChoice_2 := dk_seg dksX0_ofChoice_1 24 rfl rfl
theorem dksX0_ofChoice_3 : cX0_ofChoice.data.toList.drop 70 = dktX0_ofChoice_3 := dk_seg dksX0_ofChoice_2 24 rfl rfl
theorem dksX0_ofChoice_4 : cX0_ofChoice.data.toList.drop 93 = dktX0_ofChoice_4 := dk_seg dksX0_ofChoice_3 23 rfl rfl
theorem dksX0_ofChoice_5 : cX0_ofChoice.data.toList.drop 116 = dktX0_ofChoice_5 := dk_seg dksX0_ofChoice_4 23 rfl rfl
theorem dX0_ofChoice_0 : decode cX0_ofChoice 0 = .ok (.aload_n 1, 1) := dk_43 (dk_at dksX0_ofChoice_0 0 rfl rfl)
theorem dX0_ofChoice_1 : decode cX0_ofChoice 1 = .ok (.getfield 178, 3) := dk_180 0 178 (dk_at dksX0_ofChoice_0 1 rfl rfl)
theorem dX0_ofChoice_4 : decode cX0_ofChoice 4 = .ok (.ifCond .ne 17, 3) := dk_154 0 17 (dk_at dksX0_ofChoice_0 4 rfl rfl)
theorem dX0_ofChoice_7 : decode cX0_ofChoice 7 = .ok (.aload_n 2, 1) := dk_44 (dk_at dksX0_ofChoice_0 7 rfl rfl)
theorem dX0_ofChoice_8 : decode cX0_ofChoice 8 = .ok (.getfield 40, 3) := dk_180 0 40 (dk_at dksX0_ofChoice_0 8 rfl rfl)
theorem dX0_ofChoice_11 : decode cX0_ofChoice 11 = .ok (.aload_n 1, 1) := dk_43 (dk_at dksX0_ofChoice_0 11 rfl rfl)
theorem dX0_ofChoice_12 : decode cX0_ofChoice 12 = .ok (.getfield 172, 3) := dk_180 0 172 (dk_at dksX0_ofChoice_0 12 rfl rfl)
theorem dX0_ofChoice_15 : decode cX0_ofChoice 15 = .ok (.iaload, 1) := dk_46 (dk_at dksX0_ofChoice_0 15 rfl rfl)
theorem dX0_ofChoice_16 : decode cX0_ofChoice 16 = .ok (.iconst 1, 1) := dk_4 (dk_at dksX0_ofChoice_0 16 rfl rfl)
theorem dX0_ofChoice_17 : decode cX0_ofChoice 17 = .ok (.iand, 1) := dk_126 (dk_at dksX0_ofChoice_0 17 rfl rfl)
theorem dX0_ofChoice_18 : decode cX0_ofChoice 18 = .ok (.goto 19, 3) := dk_167 0 19 (dk_at dksX0_ofChoice_0 18 rfl rfl)
theorem dX0_ofChoice_21 : decode cX0_ofChoice 21 = .ok (.aload_n 2, 1) := dk_44 (dk_at dksX0_ofChoice_0 21 rfl rfl)
theorem dX0_ofChoice_22 : decode cX0_ofChoice 22 = .ok (.getfield 40, 3) := dk_180 0 40 (dk_at dksX0_ofChoice_1 0 rfl rfl)
theorem dX0_ofChoice_25 : decode cX0_ofChoice 25 = .ok (.aload_n 1, 1) := dk_43 (dk_at dksX0_ofChoice_1 3 rfl rfl)
theorem dX0_ofChoice_26 : decode cX0_ofChoice 26 = .ok (.getfield 172, 3) := dk_180 0 172 (dk_at dksX0_ofChoice_1 4 rfl rfl)
theorem dX0_ofChoice_29 : decode cX0_ofChoice 29 = .ok (.iaload, 1) := dk_46 (dk_at dksX0_ofChoice_1 7 rfl rfl)
theorem dX0_ofChoice_30 : decode cX0_ofChoice 30 = .ok (.aload_n 1, 1) := dk_43 (dk_at dksX0_ofChoice_1 8 rfl rfl)
theorem dX0_ofChoice_31 : decode cX0_ofChoice 31 = .ok (.getfield 178, 3) := dk_180 0 178 (dk_at dksX0_ofChoice_1 9 rfl rfl)
theorem dX0_ofChoice_34 : decode cX0_ofChoice 34 = .ok (.invokestatic 380, 3) := dk_184 1 124 (dk_at dksX0_ofChoice_1 12 rfl rfl)
theorem dX0_ofChoice_37 : decode cX0_ofChoice 37 = .ok (.istore_n 3, 1) := dk_62 (dk_at dksX0_ofChoice_1 15 rfl rfl)
theorem dX0_ofChoice_38 : decode cX0_ofChoice 38 = .ok (.aload_n 2, 1) := dk_44 (dk_at dksX0_ofChoice_1 16 rfl rfl)
theorem dX0_ofChoice_39 : decode cX0_ofChoice 39 = .ok (.getfield 40, 3) := dk_180 0 40 (dk_at dksX0_ofChoice_1 17 rfl rfl)
theorem dX0_ofChoice_42 : decode cX0_ofChoice 42 = .ok (.aload_n 1, 1) := dk_43 (dk_at dksX0_ofChoice_1 20 rfl rfl)
theorem dX0_ofChoice_43 : decode cX0_ofChoice 43 = .ok (.getfield 172, 3) := dk_180 0 172 (dk_at dksX0_ofChoice_1 21 rfl rfl)
theorem dX0_ofChoice_46 : decode cX0_ofChoice 46 = .ok (.iaload, 1) := dk_46 (dk_at dksX0_ofChoice_2 0 rfl rfl)
theorem dX0_ofChoice_47 : decode cX0_ofChoice 47 = .ok (.iload_n 3, 1) := dk_29 (dk_at dksX0_ofChoice_2 1 rfl rfl)
theorem dX0_ofChoice_48 : decode cX0_ofChoice 48 = .ok (.iconst (-1), 1) := dk_2 (dk_at dksX0_ofChoice_2 2 rfl rfl)
theorem dX0_ofChoice_49 : decode cX0_ofChoice 49 = .ok (.ixor, 1) := dk_130 (dk_at dksX0_ofChoice_2 3 rfl rfl)
theorem dX0_ofChoice_50 : decode cX0_ofChoice 50 = .ok (.iand, 1) := dk_126 (dk_at dksX0_ofChoice_2 4 rfl rfl)
theorem dX0_ofChoice_51 : decode cX0_ofChoice 51 = .ok (.istore 4, 2) := dk_54 4 (dk_at dksX0_ofChoice_2 5 rfl rfl)
theorem dX0_ofChoice_53 : decode cX0_ofChoice 53 = .ok (.new 350, 3) := dk_187 1 94 (dk_at dksX0_ofChoice_2 7 rfl rfl)
theorem dX0_ofChoice_56 : decode cX0_ofChoice 56 = .ok (.dup, 1) := dk_89 (dk_at dksX0_ofChoice_2 10 rfl rfl)
theorem dX0_ofChoice_57 : decode cX0_ofChoice 57 = .ok (.invokespecial 383, 3) := dk_183 1 127 (dk_at dksX0_ofChoice_2 11 rfl rfl)
theorem dX0_ofChoice_60 : decode cX0_ofChoice 60 = .ok (.astore 5, 2) := dk_58 5 (dk_at dksX0_ofChoice_2 14 rfl rfl)
theorem dX0_ofChoice_62 : decode cX0_ofChoice 62 = .ok (.iload_n 3, 1) := dk_29 (dk_at dksX0_ofChoice_2 16 rfl rfl)
theorem dX0_ofChoice_63 : decode cX0_ofChoice 63 = .ok (.ifCond .eq 25, 3) := dk_153 0 25 (dk_at dksX0_ofChoice_2 17 rfl rfl)
theorem dX0_ofChoice_66 : decode cX0_ofChoice 66 = .ok (.aload 5, 2) := dk_25 5 (dk_at dksX0_ofChoice_2 20 rfl rfl)
theorem dX0_ofChoice_68 : decode cX0_ofChoice 68 = .ok (.aload_n 0, 1) := dk_42 (dk_at dksX0_ofChoice_2 22 rfl rfl)
theorem dX0_ofChoice_69 : decode cX0_ofChoice 69 = .ok (.aload_n 1, 1) := dk_43 (dk_at dksX0_ofChoice_2 23 rfl rfl)
theorem dX0_ofChoice_70 : decode cX0_ofChoice 70 = .ok (.getfield 113, 3) := dk_180 0 113 (dk_at dksX0_ofChoice_3 0 rfl rfl)
theorem dX0_ofChoice_73 : decode cX0_ofChoice 73 = .ok (.aload_n 2, 1) := dk_44 (dk_at dksX0_ofChoice_3 3 rfl rfl)
theorem dX0_ofChoice_74 : decode cX0_ofChoice 74 = .ok (.aload_n 1, 1) := dk_43 (dk_at dksX0_ofChoice_3 4 rfl rfl)
theorem dX0_ofChoice_75 : decode cX0_ofChoice 75 = .ok (.getfield 172, 3) := dk_180 0 172 (dk_at dksX0_ofChoice_3 5 rfl rfl)
theorem dX0_ofChoice_78 : decode cX0_ofChoice 78 = .ok (.iload_n 3, 1) := dk_29 (dk_at dksX0_ofChoice_3 8 rfl rfl)
theorem dX0_ofChoice_79 : decode cX0_ofChoice 79 = .ok (.invokevirtual 384, 3) := dk_182 1 128 (dk_at dksX0_ofChoice_3 9 rfl rfl)
theorem dX0_ofChoice_82 : decode cX0_ofChoice 82 = .ok (.invokevirtual 345, 3) := dk_182 1 89 (dk_at dksX0_ofChoice_3 12 rfl rfl)
theorem dX0_ofChoice_85 : decode cX0_ofChoice 85 = .ok (.invokevirtual 376, 3) := dk_182 1 120 (dk_at dksX0_ofChoice_3 15 rfl rfl)
theorem dX0_ofChoice_88 : decode cX0_ofChoice 88 = .ok (.iload 4, 2) := dk_21 4 (dk_at dksX0_ofChoice_3 18 rfl rfl)
theorem dX0_ofChoice_90 : decode cX0_ofChoice 90 = .ok (.ifCond .eq 26, 3) := dk_153 0 26 (dk_at dksX0_ofChoice_3 20 rfl rfl)
theorem dX0_ofChoice_93 : decode cX0_ofChoice 93 = .ok (.aload 5, 2) := dk_25 5 (dk_at dksX0_ofChoice_4 0 rfl rfl)
theorem dX0_ofChoice_95 : decode cX0_ofChoice 95 = .ok (.aload_n 0, 1) := dk_42 (dk_at dksX0_ofChoice_4 2 rfl rfl)
theorem dX0_ofChoice_96 : decode cX0_ofChoice 96 = .ok (.aload_n 1, 1) := dk_43 (dk_at dksX0_ofChoice_4 3 rfl rfl)
theorem dX0_ofChoice_97 : decode cX0_ofChoice 97 = .ok (.getfield 117, 3) := dk_180 0 117 (dk_at dksX0_ofChoice_4 4 rfl rfl)
theorem dX0_ofChoice_100 : decode cX0_ofChoice 100 = .ok (.aload_n 2, 1) := dk_44 (dk_at dksX0_ofChoice_4 7 rfl rfl)
theorem dX0_ofChoice_101 : decode cX0_ofChoice 101 = .ok (.aload_n 1, 1) := dk_43 (dk_at dksX0_ofChoice_4 8 rfl rfl)
theorem dX0_ofChoice_102 : decode cX0_ofChoice 102 = .ok (.getfield 172, 3) := dk_180 0 172 (dk_at dksX0_ofChoice_4 9 rfl rfl)
theorem dX0_ofChoice_105 : decode cX0_ofChoice 105 = .ok (.iload 4, 2) := dk_21 4 (dk_at dksX0_ofChoice_4 12 rfl rfl)
theorem dX0_ofChoice_107 : decode cX0_ofChoice 107 = .ok (.invokevirtual 384, 3) := dk_182 1 128 (dk_at dksX0_ofChoice_4 14 rfl rfl)
theorem dX0_ofChoice_110 : decode cX0_ofChoice 110 = .ok (.invokevirtual 345, 3) := dk_182 1 89 (dk_at dksX0_ofChoice_4 17 rfl rfl)
theorem dX0_ofChoice_113 : decode cX0_ofChoice 113 = .ok (.invokevirtual 376, 3) := dk_182 1 120 (dk_at dksX0_ofChoice_4 20 rfl rfl)
theorem dX0_ofChoice_116 : decode cX0_ofChoice 116 = .ok (.aload 5, 2) := dk_25 5 (dk_at dksX0_ofChoice_5 0 rfl rfl)
theorem dX0_ofChoice_118 : decode cX0_ofChoice 118 = .ok (.areturn, 1) := dk_176 (dk_at dksX0_ofChoice_5 2 rfl rfl)
abbrev cX0_ofGuard : ByteArray := prog_1_method_52_code
def yX0_ofGuard : MethodName := ⟨RX0, "ofGuard", "(LThrowReports$Node;LThrowReports$State;)LThrowReports$Ways;"⟩
def dkwX0_ofGuard_5 : List UInt8 := [180, 0, 126, 199, 0, 7, 45, 167, 0, 9, 42, 43, 45, 182, 1, 143, 176]
abbrev dktX0_ofGuard_5 : List UInt8 := dkwX0_ofGuard_5 ++ []
def dkwX0_ofGuard_4 : List UInt8 := [167, 0, 22, 25, 4, 198, 0, 17, 45, 42, 43, 180, 0, 117, 25, 4, 182, 1, 89, 182, 1, 120, 43]
abbrev dktX0_ofGuard_4 : List UInt8 := dkwX0_ofGuard_4 ++ dktX0_ofGuard_5
def dkwX0_ofGuard_3 : List UInt8 := [167, 255, 215, 25, 4, 198, 0, 20, 43, 180, 0, 117, 199, 0, 13, 45, 3, 25, 4, 182, 1, 139]
abbrev dktX0_ofGuard_3 : List UInt8 := dkwX0_ofGuard_3 ++ dktX0_ofGuard_4
def dkwX0_ofGuard_2 : List UInt8 := [180, 1, 116, 21, 5, 50, 184, 1, 135, 58, 4, 45, 180, 1, 116, 21, 5, 1, 83, 132, 5, 1]
abbrev dktX0_ofGuard_2 : List UInt8 := dkwX0_ofGuard_2 ++ dktX0_ofGuard_3
def dkwX0_ofGuard_1 : List UInt8 := [58, 4, 4, 54, 5, 21, 5, 16, 8, 163, 0, 40, 43, 21, 5, 182, 0, 211, 153, 0, 25, 25, 4, 45]
abbrev dktX0_ofGuard_1 : List UInt8 := dkwX0_ofGuard_1 ++ dktX0_ofGuard_2
def dkwX0_ofGuard_0 : List UInt8 := [42, 43, 180, 0, 113, 44, 182, 1, 89, 78, 43, 89, 180, 1, 132, 45, 182, 1, 93, 128, 181, 1, 132, 1]
abbrev dktX0_ofGuard_0 : List UInt8 := dkwX0_ofGuard_0 ++ dktX0_ofGuard_1
theorem dksX0_ofGuard_0 : cX0_ofGuard.data.toList.drop 0 = dktX0_ofGuard_0 := by decide +kernel
theorem dksX0_ofGuard_1 : cX0_ofGuard.data.toList.drop 24 = dktX0_ofGuard_1 := dk_seg dksX0_ofGuard_0 24 rfl rfl
theorem dksX0_ofGuard_2 : cX0_ofGuard.data.toList.drop 48 = dktX0_ofGuard_2 := dk_seg dksX0_ofGuard_1 24 rfl rfl
theorem dksX0_ofGuard_3 : cX0_ofGuard.data.toList.drop 70 = dktX0_ofGuard_3 := dk_seg dksX0_ofGuard_2 22 rfl rfl
theorem dksX0_ofGuard_4 : cX0_ofGuard.data.toList.drop 92 = dktX0_ofGuard_4 := dk_seg dksX0_ofGuard_3 22 rfl rfl
theorem dksX0_ofGuard_5 : cX0_ofGuard.data.toList.drop 115 = dktX0_ofGuard_5 := dk_seg dksX0_ofGuard_4 23 rfl rfl
theorem dX0_ofGuard_0 : decode cX0_ofGuard 0 = .ok (.aload_n 0, 1) := dk_42 (dk_at dksX0_ofGuard_0 0 rfl rfl)
theorem dX0_ofGuard_1 : decode cX0_ofGuard 1 = .ok (.aload_n 1, 1) := dk_43 (dk_at dksX0_ofGuard_0 1 rfl rfl)
theorem dX0_ofGuard_2 : decode cX0_ofGuard 2 = .ok (.getfield 113, 3) := dk_180 0 113 (dk_at dksX0_ofGuard_0 2 rfl rfl)
theorem dX0_ofGuard_5 : decode cX0_ofGuard 5 = .ok (.aload_n 2, 1) := dk_44 (dk_at dksX0_ofGuard_0 5 rfl rfl)
theorem dX0_ofGuard_6 : decode cX0_ofGuard 6 = .ok (.invokevirtual 345, 3) := dk_182 1 89 (dk_at dksX0_ofGuard_0 6 rfl rfl)
theorem dX0_ofGuard_9 : decode cX0_ofGuard 9 = .ok (.astore_n 3, 1) := dk_78 (dk_at dksX0_ofGuard_0 9 rfl rfl)
theorem dX0_ofGuard_10 : decode cX0_ofGuard 10 = .ok (.aload_n 1, 1) := dk_43 (dk_at dksX0_ofGuard_0 10 rfl rfl)
theorem dX0_ofGuard_11 : decode cX0_ofGuard 11 = .ok (.dup, 1) := dk_89 (dk_at dksX0_ofGuard_0 11 rfl rfl)
theorem dX0_ofGuard_12 : decode cX0_ofGuard 12 = .ok (.getfield 388, 3) := dk_180 1 132 (dk_at dksX0_ofGuard_0 12 rfl rfl)
theorem dX0_ofGuard_15 : decode cX0_ofGuard 15 = .ok (.aload_n 3, 1) := dk_45 (dk_at dksX0_ofGuard_0 15 rfl rfl)
theorem dX0_ofGuard_16 : decode cX0_ofGuard 16 = .ok (.invokevirtual 349, 3) := dk_182 1 93 (dk_at dksX0_ofGuard_0 16 rfl rfl)
theorem dX0_ofGuard_19 : decode cX0_ofGuard 19 = .ok (.ior, 1) := dk_128 (dk_at dksX0_ofGuard_0 19 rfl rfl)
theorem dX0_ofGuard_20 : decode cX0_ofGuard 20 = .ok (.putfield 388, 3) := dk_181 1 132 (dk_at dksX0_ofGuard_0 20 rfl rfl)
theorem dX0_ofGuard_23 : decode cX0_ofGuard 23 = .ok (.aconst_null, 1) := dk_1 (dk_at dksX0_ofGuard_0 23 rfl rfl)
theorem dX0_ofGuard_24 : decode cX0_ofGuard 24 = .ok (.astore 4, 2) := dk_58 4 (dk_at dksX0_ofGuard_1 0 rfl rfl)
theorem dX0_ofGuard_26 : decode cX0_ofGuard 26 = .ok (.iconst 1, 1) := dk_4 (dk_at dksX0_ofGuard_1 2 rfl rfl)
theorem dX0_ofGuard_27 : decode cX0_ofGuard 27 = .ok (.istore 5, 2) := dk_54 5 (dk_at dksX0_ofGuard_1 3 rfl rfl)
theorem dX0_ofGuard_29 : decode cX0_ofGuard 29 = .ok (.iload 5, 2) := dk_21 5 (dk_at dksX0_ofGuard_1 5 rfl rfl)
theorem dX0_ofGuard_31 : decode cX0_ofGuard 31 = .ok (.bipush 8, 2) := dk_16 8 (dk_at dksX0_ofGuard_1 7 rfl rfl)
theorem dX0_ofGuard_33 : decode cX0_ofGuard 33 = .ok (.if_icmp .gt 40, 3) := dk_163 0 40 (dk_at dksX0_ofGuard_1 9 rfl rfl)
theorem dX0_ofGuard_36 : decode cX0_ofGuard 36 = .ok (.aload_n 1, 1) := dk_43 (dk_at dksX0_ofGuard_1 12 rfl rfl)
theorem dX0_ofGuard_37 : decode cX0_ofGuard 37 = .ok (.iload 5, 2) := dk_21 5 (dk_at dksX0_ofGuard_1 13 rfl rfl)
theorem dX0_ofGuard_39 : decode cX0_ofGuard 39 = .ok (.invokevirtual 211, 3) := dk_182 0 211 (dk_at dksX0_ofGuard_1 15 rfl rfl)
theorem dX0_ofGuard_42 : decode cX0_ofGuard 42 = .ok (.ifCond .eq 25, 3) := dk_153 0 25 (dk_at dksX0_ofGuard_1 18 rfl rfl)
theorem dX0_ofGuard_45 : decode cX0_ofGuard 45 = .ok (.aload 4, 2) := dk_25 4 (dk_at dksX0_ofGuard_1 21 rfl rfl)
theorem dX0_ofGuard_47 : decode cX0_ofGuard 47 = .ok (.aload_n 3, 1) := dk_45 (dk_at dksX0_ofGuard_1 23 rfl rfl)
theorem dX0_ofGuard_48 : decode cX0_ofGuard 48 = .ok (.getfield 372, 3) := dk_180 1 116 (dk_at dksX0_ofGuard_2 0 rfl rfl)
theorem dX0_ofGuard_51 : decode cX0_ofGuard 51 = .ok (.iload 5, 2) := dk_21 5 (dk_at dksX0_ofGuard_2 3 rfl rfl)
theorem dX0_ofGuard_53 : decode cX0_ofGuard 53 = .ok (.aaload, 1) := dk_50 (dk_at dksX0_ofGuard_2 5 rfl rfl)
theorem dX0_ofGuard_54 : decode cX0_ofGuard 54 = .ok (.invokestatic 391, 3) := dk_184 1 135 (dk_at dksX0_ofGuard_2 6 rfl rfl)
theorem dX0_ofGuard_57 : decode cX0_ofGuard 57 = .ok (.astore 4, 2) := dk_58 4 (dk_at dksX0_ofGuard_2 9 rfl rfl)
theorem dX0_ofGuard_59 : decode cX0_ofGuard 59 = .ok (.aload_n 3, 1) := dk_45 (dk_at dksX0_ofGuard_2 11 rfl rfl)
theorem dX0_ofGuard_60 : decode cX0_ofGuard 60 = .ok (.getfield 372, 3) := dk_180 1 116 (dk_at dksX0_ofGuard_2 12 rfl rfl)
theorem dX0_ofGuard_63 : decode cX0_ofGuard 63 = .ok (.iload 5, 2) := dk_21 5 (dk_at dksX0_ofGuard_2 15 rfl rfl)
theorem dX0_ofGuard_65 : decode cX0_ofGuard 65 = .ok (.aconst_null, 1) := dk_1 (dk_at dksX0_ofGuard_2 17 rfl rfl)
theorem dX0_ofGuard_66 : decode cX0_ofGuard 66 = .ok (.aastore, 1) := dk_83 (dk_at dksX0_ofGuard_2 18 rfl rfl)
theorem dX0_ofGuard_67 : decode cX0_ofGuard 67 = .ok (.iinc 5 1, 3) := dk_132 5 1 (dk_at dksX0_ofGuard_2 19 rfl rfl)
theorem dX0_ofGuard_70 : decode cX0_ofGuard 70 = .ok (.goto (-41), 3) := dk_167 255 215 (dk_at dksX0_ofGuard_3 0 rfl rfl)
theorem dX0_ofGuard_73 : decode cX0_ofGuard 73 = .ok (.aload 4, 2) := dk_25 4 (dk_at dksX0_ofGuard_3 3 rfl rfl)
theorem dX0_ofGuard_75 : decode cX0_ofGuard 75 = .ok (.ifnull 20, 3) := dk_198 0 20 (dk_at dksX0_ofGuard_3 5 rfl rfl)
theorem dX0_ofGuard_78 : decode cX0_ofGuard 78 = .ok (.aload_n 1, 1) := dk_43 (dk_at dksX0_ofGuard_3 8 rfl rfl)
theorem dX0_ofGuard_79 : decode cX0_ofGuard 79 = .ok (.getfield 117, 3) := dk_180 0 117 (dk_at dksX0_ofGuard_3 9 rfl rfl)
theorem dX0_ofGuard_82 : decode cX0_ofGuard 82 = .ok (.ifnonnull 13, 3) := dk_199 0 13 (dk_at dksX0_ofGuard_3 12 rfl rfl)
theorem dX0_ofGuard_85 : decode cX0_ofGuard 85 = .ok (.aload_n 3, 1) := dk_45 (dk_at dksX0_ofGuard_3 15 rfl rfl)
theorem dX0_ofGuard_86 : decode cX0_ofGuard 86 = .ok (.iconst 0, 1) := dk_3 (dk_at dksX0_ofGuard_3 16 rfl rfl)
theorem dX0_ofGuard_87 : decode cX0_ofGuard 87 = .ok (.aload 4, 2) := dk_25 4 (dk_at dksX0_ofGuard_3 17 rfl rfl)
theorem dX0_ofGuard_89 : decode cX0_ofGuard 89 = .ok (.invokevirtual 395, 3) := dk_182 1 139 (dk_at dksX0_ofGuard_3 19 rfl rfl)
theorem dX0_ofGuard_92 : decode cX0_ofGuard 92 = .ok (.goto 22, 3) := dk_167 0 22 (dk_at dksX0_ofGuard_4 0 rfl rfl)
theorem dX0_ofGuard_95 : decode cX0_ofGuard 95 = .ok (.aload 4, 2) := dk_25 4 (dk_at dksX0_ofGuard_4 3 rfl rfl)
theorem dX0_ofGuard_97 : decode cX0_ofGuard 97 = .ok (.ifnull 17, 3) := dk_198 0 17 (dk_at dksX0_ofGuard_4 5 rfl rfl)
theorem dX0_ofGuard_100 : decode cX0_ofGuard 100 = .ok (.aload_n 3, 1) := dk_45 (dk_at dksX0_ofGuard_4 8 rfl rfl)
theorem dX0_ofGuard_101 : decode cX0_ofGuard 101 = .ok (.aload_n 0, 1) := dk_42 (dk_at dksX0_ofGuard_4 9 rfl rfl)
theorem dX0_ofGuard_102 : decode cX0_ofGuard 102 = .ok (.aload_n 1, 1) := dk_43 (dk_at dksX0_ofGuard_4 10 rfl rfl)
theorem dX0_ofGuard_103 : decode cX0_ofGuard 103 = .ok (.getfield 117, 3) := dk_180 0 117 (dk_at dksX0_ofGuard_4 11 rfl rfl)
theorem dX0_ofGuard_106 : decode cX0_ofGuard 106 = .ok (.aload 4, 2) := dk_25 4 (dk_at dksX0_ofGuard_4 14 rfl rfl)
theorem dX0_ofGuard_108 : decode cX0_ofGuard 108 = .ok (.invokevirtual 345, 3) := dk_182 1 89 (dk_at dksX0_ofGuard_4 16 rfl rfl)
theorem dX0_ofGuard_111 : decode cX0_ofGuard 111 = .ok (.invokevirtual 376, 3) := dk_182 1 120 (dk_at dksX0_ofGuard_4 19 rfl rfl)
theorem dX0_ofGuard_114 : decode cX0_ofGuard 114 = .ok (.aload_n 1, 1) := dk_43 (dk_at dksX0_ofGuard_4 22 rfl rfl)
theorem dX0_ofGuard_115 : decode cX0_ofGuard 115 = .ok (.getfield 126, 3) := dk_180 0 126 (dk_at dksX0_ofGuard_5 0 rfl rfl)
theorem dX0_ofGuard_118 : decode cX0_ofGuard 118 = .ok (.ifnonnull 7, 3) := dk_199 0 7 (dk_at dksX0_ofGuard_5 3 rfl rfl)
theorem dX0_ofGuard_121 : decode cX0_ofGuard 121 = .ok (.aload_n 3, 1) := dk_45 (dk_at dksX0_ofGuard_5 6 rfl rfl)
theorem dX0_ofGuard_122 : decode cX0_ofGuard 122 = .ok (.goto 9, 3) := dk_167 0 9 (dk_at dksX0_ofGuard_5 7 rfl rfl)
theorem dX0_ofGuard_125 : decode cX0_ofGuard 125 = .ok (.aload_n 0, 1) := dk_42 (dk_at dksX0_ofGuard_5 10 rfl rfl)
theorem dX0_ofGuard_126 : decode cX0_ofGuard 126 = .ok (.aload_n 1, 1) := dk_43 (dk_at dksX0_ofGuard_5 11 rfl rfl)
theorem dX0_ofGuard_127 : decode cX0_ofGuard 127 = .ok (.aload_n 3, 1) := dk_45 (dk_at dksX0_ofGuard_5 12 rfl rfl)
theorem dX0_ofGuard_128 : decode cX0_ofGuard 128 = .ok (.invokevirtual 399, 3) := dk_182 1 143 (dk_at dksX0_ofGuard_5 13 rfl rfl)
theorem dX0_ofGuard_131 : decode cX0_ofGuard 131 = .ok (.areturn, 1) := dk_176 (dk_at dksX0_ofGuard_5 16 rfl rfl)
abbrev cX0_behind : ByteArray := prog_1_method_53_code
def yX0_behind : MethodName := ⟨RX0, "behind", "(LThrowReports$Node;LThrowReports$Ways;)LThrowReports$Ways;"⟩
def dkwX0_behind_4 : List UInt8 := [1, 83, 45, 25, 5, 182, 1, 120, 132, 4, 1, 167, 255, 161, 45, 176]
abbrev dktX0_behind_4 : List UInt8 := dkwX0_behind_4 ++ []
def dkwX0_behind_3 : List UInt8 := [3, 128, 181, 1, 147, 45, 21, 4, 25, 5, 180, 1, 116, 3, 50, 182, 1, 139, 25, 5, 180, 1, 116, 3]
abbrev dktX0_behind_3 : List UInt8 := dkwX0_behind_3 ++ dktX0_behind_4
def dkwX0_behind_2 : List UInt8 := [180, 1, 147, 21, 4, 158, 0, 19, 25, 5, 182, 1, 93, 4, 164, 0, 10, 4, 21, 4, 120, 167, 0, 4]
abbrev dktX0_behind_2 : List UInt8 := dkwX0_behind_2 ++ dktX0_behind_3
def dkwX0_behind_1 : List UInt8 := [50, 198, 0, 78, 42, 43, 180, 0, 126, 44, 180, 1, 116, 21, 4, 50, 182, 1, 89, 58, 5, 43, 89]
abbrev dktX0_behind_1 : List UInt8 := dkwX0_behind_1 ++ dktX0_behind_2
def dkwX0_behind_0 : List UInt8 := [187, 1, 94, 89, 183, 1, 127, 78, 3, 54, 4, 21, 4, 16, 8, 163, 0, 94, 44, 180, 1, 116, 21, 4]
abbrev dktX0_behind_0 : List UInt8 := dkwX0_behind_0 ++ dktX0_behind_1
theorem dksX0_behind_0 : cX0_behind.data.toList.drop 0 = dktX0_behind_0 := by decide +kernel
theorem dksX0_behind_1 : cX0_behind.data.toList.drop 24 = dktX0_behind_1 := dk_seg dksX0_behind_0 24 rfl rfl
theorem dksX0_behind_2 : cX0_behind.data.toList.drop 47 = dktX0_behind_2 := dk_seg dksX0_behind_1 23 rfl rfl
theorem dksX0_behind_3 : cX0_behind.data.toList.drop 71 = dktX0_behind_3 := dk_seg dksX0_behind_2 24 rfl rfl
theorem dksX0_behind_4 : cX0_behind.data.toList.drop 95 = dktX0_behind_4 := dk_seg dksX0_behind_3 24 rfl rfl
theorem dX0_behind_0 : decode cX0_behind 0 = .ok (.new 350, 3) := dk_187 1 94 (dk_at dksX0_behind_0 0 rfl rfl)
theorem dX0_behind_3 : decode cX0_behind 3 = .ok (.dup, 1) := dk_89 (dk_at dksX0_behind_0 3 rfl rfl)
theorem dX0_behind_4 : decode cX0_behind 4 = .ok (.invokespecial 383, 3) := dk_183 1 127 (dk_at dksX0_behind_0 4 rfl rfl)
theorem dX0_behind_7 : decode cX0_behind 7 = .ok (.astore_n 3, 1) := dk_78 (dk_at dksX0_behind_0 7 rfl rfl)
theorem dX0_behind_8 : decode cX0_behind 8 = .ok (.iconst 0, 1) := dk_3 (dk_at dksX0_behind_0 8 rfl rfl)
theorem dX0_behind_9 : decode cX0_behind 9 = .ok (.istore 4, 2) := dk_54 4 (dk_at dksX0_behind_0 9 rfl rfl)
theorem dX0_behind_11 : decode cX0_behind 11 = .ok (.iload 4, 2) := dk_21 4 (dk_at dksX0_behind_0 11 rfl rfl)
theorem dX0_behind_13 : decode cX0_behind 13 = .ok (.bipush 8, 2) := dk_16 8 (dk_at dksX0_behind_0 13 rfl rfl)
theorem dX0_behind_15 : decode cX0_behind 15 = .ok (.if_icmp .gt 94, 3) := dk_163 0 94 (dk_at dksX0_behind_0 15 rfl rfl)
theorem dX0_behind_18 : decode cX0_behind 18 = .ok (.aload_n 2, 1) := dk_44 (dk_at dksX0_behind_0 18 rfl rfl)
theorem dX0_behind_19 : decode cX0_behind 19 = .ok (.getfield 372, 3) := dk_180 1 116 (dk_at dksX0_behind_0 19 rfl rfl)
theorem dX0_behind_22 : decode cX0_behind 22 = .ok (.iload 4, 2) := dk_21 4 (dk_at dksX0_behind_0 22 rfl rfl)
theorem dX0_behind_24 : decode cX0_behind 24 = .ok (.aaload, 1) := dk_50 (dk_at dksX0_behind_1 0 rfl rfl)
theorem dX0_behind_25 : decode cX0_behind 25 = .ok (.ifnull 78, 3) := dk_198 0 78 (dk_at dksX0_behind_1 1 rfl rfl)
theorem dX0_behind_28 : decode cX0_behind 28 = .ok (.aload_n 0, 1) := dk_42 (dk_at dksX0_behind_1 4 rfl rfl)
theorem dX0_behind_29 : decode cX0_behind 29 = .ok (.aload_n 1, 1) := dk_43 (dk_at dksX0_behind_1 5 rfl rfl)
theorem dX0_behind_30 : decode cX0_behind 30 = .ok (.getfield 126, 3) := dk_180 0 126 (dk_at dksX0_behind_1 6 rfl rfl)
theorem dX0_behind_33 : decode cX0_behind 33 = .ok (.aload_n 2, 1) := dk_44 (dk_at dksX0_behind_1 9 rfl rfl)
theorem dX0_behind_34 : decode cX0_behind 34 = .ok (.getfield 372, 3) := dk_180 1 116 (dk_at dksX0_behind_1 10 rfl rfl)
theorem dX0_behind_37 : decode cX0_behind 37 = .ok (.iload 4, 2) := dk_21 4 (dk_at dksX0_behind_1 13 rfl rfl)
theorem dX0_behind_39 : decode cX0_behind 39 = .ok (.aaload, 1) := dk_50 (dk_at dksX0_behind_1 15 rfl rfl)
theorem dX0_behind_40 : decode cX0_behind 40 = .ok (.invokevirtual 345, 3) := dk_182 1 89 (dk_at dksX0_behind_1 16 rfl rfl)
theorem dX0_behind_43 : decode cX0_behind 43 = .ok (.astore 5, 2) := dk_58 5 (dk_at dksX0_behind_1 19 rfl rfl)
theorem dX0_behind_45 : decode cX0_behind 45 = .ok (.aload_n 1, 1) := dk_43 (dk_at dksX0_behind_1 21 rfl rfl)
theorem dX0_behind_46 : decode cX0_behind 46 = .ok (.dup, 1) := dk_89 (dk_at dksX0_behind_1 22 rfl rfl)
theorem dX0_behind_47 : decode cX0_behind 47 = .ok (.getfield 403, 3) := dk_180 1 147 (dk_at dksX0_behind_2 0 rfl rfl)
theorem dX0_behind_50 : decode cX0_behind 50 = .ok (.iload 4, 2) := dk_21 4 (dk_at dksX0_behind_2 3 rfl rfl)
theorem dX0_behind_52 : decode cX0_behind 52 = .ok (.ifCond .le 19, 3) := dk_158 0 19 (dk_at dksX0_behind_2 5 rfl rfl)
theorem dX0_behind_55 : decode cX0_behind 55 = .ok (.aload 5, 2) := dk_25 5 (dk_at dksX0_behind_2 8 rfl rfl)
theorem dX0_behind_57 : decode cX0_behind 57 = .ok (.invokevirtual 349, 3) := dk_182 1 93 (dk_at dksX0_behind_2 10 rfl rfl)
theorem dX0_behind_60 : decode cX0_behind 60 = .ok (.iconst 1, 1) := dk_4 (dk_at dksX0_behind_2 13 rfl rfl)
theorem dX0_behind_61 : decode cX0_behind 61 = .ok (.if_icmp .le 10, 3) := dk_164 0 10 (dk_at dksX0_behind_2 14 rfl rfl)
theorem dX0_behind_64 : decode cX0_behind 64 = .ok (.iconst 1, 1) := dk_4 (dk_at dksX0_behind_2 17 rfl rfl)
theorem dX0_behind_65 : decode cX0_behind 65 = .ok (.iload 4, 2) := dk_21 4 (dk_at dksX0_behind_2 18 rfl rfl)
theorem dX0_behind_67 : decode cX0_behind 67 = .ok (.ishl, 1) := dk_120 (dk_at dksX0_behind_2 20 rfl rfl)
theorem dX0_behind_68 : decode cX0_behind 68 = .ok (.goto 4, 3) := dk_167 0 4 (dk_at dksX0_behind_2 21 rfl rfl)
theorem dX0_behind_71 : decode cX0_behind 71 = .ok (.iconst 0, 1) := dk_3 (dk_at dksX0_behind_3 0 rfl rfl)
theorem dX0_behind_72 : decode cX0_behind 72 = .ok (.ior, 1) := dk_128 (dk_at dksX0_behind_3 1 rfl rfl)
theorem dX0_behind_73 : decode cX0_behind 73 = .ok (.putfield 403, 3) := dk_181 1 147 (dk_at dksX0_behind_3 2 rfl rfl)
theorem dX0_behind_76 : decode cX0_behind 76 = .ok (.aload_n 3, 1) := dk_45 (dk_at dksX0_behind_3 5 rfl rfl)
theorem dX0_behind_77 : decode cX0_behind 77 = .ok (.iload 4, 2) := dk_21 4 (dk_at dksX0_behind_3 6 rfl rfl)
theorem dX0_behind_79 : decode cX0_behind 79 = .ok (.aload 5, 2) := dk_25 5 (dk_at dksX0_behind_3 8 rfl rfl)
theorem dX0_behind_81 : decode cX0_behind 81 = .ok (.getfield 372, 3) := dk_180 1 116 (dk_at dksX0_behind_3 10 rfl rfl)
theorem dX0_behind_84 : decode cX0_behind 84 = .ok (.iconst 0, 1) := dk_3 (dk_at dksX0_behind_3 13 rfl rfl)
theorem dX0_behind_85 : decode cX0_behind 85 = .ok (.aaload, 1) := dk_50 (dk_at dksX0_behind_3 14 rfl rfl)
theorem dX0_behind_86 : decode cX0_behind 86 = .ok (.invokevirtual 395, 3) := dk_182 1 139 (dk_at dksX0_behind_3 15 rfl rfl)
theorem dX0_behind_89 : decode cX0_behind 89 = .ok (.aload 5, 2) := dk_25 5 (dk_at dksX0_behind_3 18 rfl rfl)
theorem dX0_behind_91 : decode cX0_behind 91 = .ok (.getfield 372, 3) := dk_180 1 116 (dk_at dksX0_behind_3 20 rfl rfl)
theorem dX0_behind_94 : decode cX0_behind 94 = .ok (.iconst 0, 1) := dk_3 (dk_at dksX0_behind_3 23 rfl rfl)
theorem dX0_behind_95 : decode cX0_behind 95 = .ok (.aconst_null, 1) := dk_1 (dk_at dksX0_behind_4 0 rfl rfl)
theorem dX0_behind_96 : decode cX0_behind 96 = .ok (.aastore, 1) := dk_83 (dk_at dksX0_behind_4 1 rfl rfl)
theorem dX0_behind_97 : decode cX0_behind 97 = .ok (.aload_n 3, 1) := dk_45 (dk_at dksX0_behind_4 2 rfl rfl)
theorem dX0_behind_98 : decode cX0_behind 98 = .ok (.aload 5, 2) := dk_25 5 (dk_at dksX0_behind_4 3 rfl rfl)
theorem dX0_behind_100 : decode cX0_behind 100 = .ok (.invokevirtual 376, 3) := dk_182 1 120 (dk_at dksX0_behind_4 5 rfl rfl)
theorem dX0_behind_103 : decode cX0_behind 103 = .ok (.iinc 4 1, 3) := dk_132 4 1 (dk_at dksX0_behind_4 8 rfl rfl)
theorem dX0_behind_106 : decode cX0_behind 106 = .ok (.goto (-95), 3) := dk_167 255 161 (dk_at dksX0_behind_4 11 rfl rfl)
theorem dX0_behind_109 : decode cX0_behind 109 = .ok (.aload_n 3, 1) := dk_45 (dk_at dksX0_behind_4 14 rfl rfl)
theorem dX0_behind_110 : decode cX0_behind 110 = .ok (.areturn, 1) := dk_176 (dk_at dksX0_behind_4 15 rfl rfl)
abbrev cX0_reached : ByteArray := prog_1_method_61_code
def yX0_reached : MethodName := ⟨RX0, "reached", "(I)I"⟩
def dkwX0_reached_1 : List UInt8 := [167, 0, 8, 4, 167, 0, 4, 2, 172]
abbrev dktX0_reached_1 : List UInt8 := dkwX0_reached_1 ++ []
def dkwX0_reached_0 : List UInt8 := [42, 27, 182, 0, 104, 153, 0, 25, 42, 180, 0, 24, 27, 50, 180, 1, 98, 3, 46, 154, 0, 7, 3]
abbrev dktX0_reached_0 : List UInt8 := dkwX0_reached_0 ++ dktX0_reached_1
theorem dksX0_reached_0 : cX0_reached.data.toList.drop 0 = dktX0_reached_0 := by decide +kernel
theorem dksX0_reached_1 : cX0_reached.data.toList.drop 23 = dktX0_reached_1 := dk_seg dksX0_reached_0 23 rfl rfl
theorem dX0_reached_0 : decode cX0_reached 0 = .ok (.aload_n 0, 1) := dk_42 (dk_at dksX0_reached_0 0 rfl rfl)
theorem dX0_reached_1 : decode cX0_reached 1 = .ok (.iload_n 1, 1) := dk_27 (dk_at dksX0_reached_0 1 rfl rfl)
theorem dX0_reached_2 : decode cX0_reached 2 = .ok (.invokevirtual 104, 3) := dk_182 0 104 (dk_at dksX0_reached_0 2 rfl rfl)
theorem dX0_reached_5 : decode cX0_reached 5 = .ok (.ifCond .eq 25, 3) := dk_153 0 25 (dk_at dksX0_reached_0 5 rfl rfl)
theorem dX0_reached_8 : decode cX0_reached 8 = .ok (.aload_n 0, 1) := dk_42 (dk_at dksX0_reached_0 8 rfl rfl)
theorem dX0_reached_9 : decode cX0_reached 9 = .ok (.getfield 24, 3) := dk_180 0 24 (dk_at dksX0_reached_0 9 rfl rfl)
theorem dX0_reached_12 : decode cX0_reached 12 = .ok (.iload_n 1, 1) := dk_27 (dk_at dksX0_reached_0 12 rfl rfl)
theorem dX0_reached_13 : decode cX0_reached 13 = .ok (.aaload, 1) := dk_50 (dk_at dksX0_reached_0 13 rfl rfl)
theorem dX0_reached_14 : decode cX0_reached 14 = .ok (.getfield 354, 3) := dk_180 1 98 (dk_at dksX0_reached_0 14 rfl rfl)
theorem dX0_reached_17 : decode cX0_reached 17 = .ok (.iconst 0, 1) := dk_3 (dk_at dksX0_reached_0 17 rfl rfl)
theorem dX0_reached_18 : decode cX0_reached 18 = .ok (.iaload, 1) := dk_46 (dk_at dksX0_reached_0 18 rfl rfl)
theorem dX0_reached_19 : decode cX0_reached 19 = .ok (.ifCond .ne 7, 3) := dk_154 0 7 (dk_at dksX0_reached_0 19 rfl rfl)
theorem dX0_reached_22 : decode cX0_reached 22 = .ok (.iconst 0, 1) := dk_3 (dk_at dksX0_reached_0 22 rfl rfl)
theorem dX0_reached_23 : decode cX0_reached 23 = .ok (.goto 8, 3) := dk_167 0 8 (dk_at dksX0_reached_1 0 rfl rfl)
theorem dX0_reached_26 : decode cX0_reached 26 = .ok (.iconst 1, 1) := dk_4 (dk_at dksX0_reached_1 3 rfl rfl)
theorem dX0_reached_27 : decode cX0_reached 27 = .ok (.goto 4, 3) := dk_167 0 4 (dk_at dksX0_reached_1 4 rfl rfl)
theorem dX0_reached_30 : decode cX0_reached 30 = .ok (.iconst (-1), 1) := dk_2 (dk_at dksX0_reached_1 7 rfl rfl)
theorem dX0_reached_31 : decode cX0_reached 31 = .ok (.ireturn, 1) := dk_172 (dk_at dksX0_reached_1 8 rfl rfl)
abbrev cX0_may : ByteArray := prog_1_method_62_code
def yX0_may : MethodName := ⟨RX0, "may", "(I)I"⟩
def dkwX0_may_0 : List UInt8 := [42, 27, 182, 0, 104, 153, 0, 15, 42, 180, 0, 24, 27, 50, 180, 1, 113, 167, 0, 4, 2, 172]
abbrev dktX0_may_0 : List UInt8 := dkwX0_may_0 ++ []
theorem dksX0_may_0 : cX0_may.data.toList.drop 0 = dktX0_may_0 := by decide +kernel
theorem dX0_may_0 : decode cX0_may 0 = .ok (.aload_n 0, 1) := dk_42 (dk_at dksX0_may_0 0 rfl rfl)
theorem dX0_may_1 : decode cX0_may 1 = .ok (.iload_n 1, 1) := dk_27 (dk_at dksX0_may_0 1 rfl rfl)
theorem dX0_may_2 : decode cX0_may 2 = .ok (.invokevirtual 104, 3) := dk_182 0 104 (dk_at dksX0_may_0 2 rfl rfl)
theorem dX0_may_5 : decode cX0_may 5 = .ok (.ifCond .eq 15, 3) := dk_153 0 15 (dk_at dksX0_may_0 5 rfl rfl)
theorem dX0_may_8 : decode cX0_may 8 = .ok (.aload_n 0, 1) := dk_42 (dk_at dksX0_may_0 8 rfl rfl)
theorem dX0_may_9 : decode cX0_may 9 = .ok (.getfield 24, 3) := dk_180 0 24 (dk_at dksX0_may_0 9 rfl rfl)
theorem dX0_may_12 : decode cX0_may 12 = .ok (.iload_n 1, 1) := dk_27 (dk_at dksX0_may_0 12 rfl rfl)
theorem dX0_may_13 : decode cX0_may 13 = .ok (.aaload, 1) := dk_50 (dk_at dksX0_may_0 13 rfl rfl)
theorem dX0_may_14 : decode cX0_may 14 = .ok (.getfield 369, 3) := dk_180 1 113 (dk_at dksX0_may_0 14 rfl rfl)
theorem dX0_may_17 : decode cX0_may 17 = .ok (.goto 4, 3) := dk_167 0 4 (dk_at dksX0_may_0 17 rfl rfl)
theorem dX0_may_20 : decode cX0_may 20 = .ok (.iconst (-1), 1) := dk_2 (dk_at dksX0_may_0 20 rfl rfl)
theorem dX0_may_21 : decode cX0_may 21 = .ok (.ireturn, 1) := dk_172 (dk_at dksX0_may_0 21 rfl rfl)
abbrev cX0_ahead : ByteArray := prog_1_method_63_code
def yX0_ahead : MethodName := ⟨RX0, "ahead", "(II)I"⟩
def dkwX0_ahead_1 : List UInt8 := [28, 46, 167, 0, 4, 2, 172]
abbrev dktX0_ahead_1 : List UInt8 := dkwX0_ahead_1 ++ []
def dkwX0_ahead_0 : List UInt8 := [42, 27, 182, 0, 104, 153, 0, 24, 28, 184, 0, 80, 153, 0, 17, 42, 180, 0, 24, 27, 50, 180, 1, 98]
abbrev dktX0_ahead_0 : List UInt8 := dkwX0_ahead_0 ++ dktX0_ahead_1
theorem dksX0_ahead_0 : cX0_ahead.data.toList.drop 0 = dktX0_ahead_0 := by decide +kernel
theorem dksX0_ahead_1 : cX0_ahead.data.toList.drop 24 = dktX0_ahead_1 := dk_seg dksX0_ahead_0 24 rfl rfl
theorem dX0_ahead_0 : decode cX0_ahead 0 = .ok (.aload_n 0, 1) := dk_42 (dk_at dksX0_ahead_0 0 rfl rfl)
theorem dX0_ahead_1 : decode cX0_ahead 1 = .ok (.iload_n 1, 1) := dk_27 (dk_at dksX0_ahead_0 1 rfl rfl)
theorem dX0_ahead_2 : decode cX0_ahead 2 = .ok (.invokevirtual 104, 3) := dk_182 0 104 (dk_at dksX0_ahead_0 2 rfl rfl)
theorem dX0_ahead_5 : decode cX0_ahead 5 = .ok (.ifCond .eq 24, 3) := dk_153 0 24 (dk_at dksX0_ahead_0 5 rfl rfl)
theorem dX0_ahead_8 : decode cX0_ahead 8 = .ok (.iload_n 2, 1) := dk_28 (dk_at dksX0_ahead_0 8 rfl rfl)
theorem dX0_ahead_9 : decode cX0_ahead 9 = .ok (.invokestatic 80, 3) := dk_184 0 80 (dk_at dksX0_ahead_0 9 rfl rfl)
theorem dX0_ahead_12 : decode cX0_ahead 12 = .ok (.ifCond .eq 17, 3) := dk_153 0 17 (dk_at dksX0_ahead_0 12 rfl rfl)
theorem dX0_ahead_15 : decode cX0_ahead 15 = .ok (.aload_n 0, 1) := dk_42 (dk_at dksX0_ahead_0 15 rfl rfl)
theorem dX0_ahead_16 : decode cX0_ahead 16 = .ok (.getfield 24, 3) := dk_180 0 24 (dk_at dksX0_ahead_0 16 rfl rfl)
theorem dX0_ahead_19 : decode cX0_ahead 19 = .ok (.iload_n 1, 1) := dk_27 (dk_at dksX0_ahead_0 19 rfl rfl)
theorem dX0_ahead_20 : decode cX0_ahead 20 = .ok (.aaload, 1) := dk_50 (dk_at dksX0_ahead_0 20 rfl rfl)
theorem dX0_ahead_21 : decode cX0_ahead 21 = .ok (.getfield 354, 3) := dk_180 1 98 (dk_at dksX0_ahead_0 21 rfl rfl)
theorem dX0_ahead_24 : decode cX0_ahead 24 = .ok (.iload_n 2, 1) := dk_28 (dk_at dksX0_ahead_1 0 rfl rfl)
theorem dX0_ahead_25 : decode cX0_ahead 25 = .ok (.iaload, 1) := dk_46 (dk_at dksX0_ahead_1 1 rfl rfl)
theorem dX0_ahead_26 : decode cX0_ahead 26 = .ok (.goto 4, 3) := dk_167 0 4 (dk_at dksX0_ahead_1 2 rfl rfl)
theorem dX0_ahead_29 : decode cX0_ahead 29 = .ok (.iconst (-1), 1) := dk_2 (dk_at dksX0_ahead_1 5 rfl rfl)
theorem dX0_ahead_30 : decode cX0_ahead 30 = .ok (.ireturn, 1) := dk_172 (dk_at dksX0_ahead_1 6 rfl rfl)
abbrev cX0_guarded : ByteArray := prog_1_method_64_code
def yX0_guarded : MethodName := ⟨RX0, "guarded", "(II)I"⟩
def dkwX0_guarded_3 : List UInt8 := [167, 0, 7, 45, 180, 1, 147, 172]
abbrev dktX0_guarded_3 : List UInt8 := dkwX0_guarded_3 ++ []
def dkwX0_guarded_2 : List UInt8 := [154, 0, 7, 3, 167, 0, 25, 28, 154, 0, 17, 45, 180, 0, 172, 45, 180, 1, 132, 2, 130, 126]
abbrev dktX0_guarded_2 : List UInt8 := dkwX0_guarded_2 ++ dktX0_guarded_3
def dkwX0_guarded_1 : List UInt8 := [3, 4, 184, 0, 73, 154, 0, 5, 2, 172, 42, 180, 0, 24, 27, 50, 78, 45, 180, 1, 98, 3, 46]
abbrev dktX0_guarded_1 : List UInt8 := dkwX0_guarded_1 ++ dktX0_guarded_2
def dkwX0_guarded_0 : List UInt8 := [42, 27, 182, 0, 104, 153, 0, 27, 42, 180, 0, 24, 27, 50, 180, 0, 162, 178, 0, 123, 166, 0, 12, 28]
abbrev dktX0_guarded_0 : List UInt8 := dkwX0_guarded_0 ++ dktX0_guarded_1
theorem dksX0_guarded_0 : cX0_guarded.data.toList.drop 0 = dktX0_guarded_0 := by decide +kernel
theorem dksX0_guarded_1 : cX0_guarded.data.toList.drop 24 = dktX0_guarded_1 := dk_seg dksX0_guarded_0 24 rfl rfl
theorem dksX0_guarded_2 : cX0_guarded.data.toList.drop 47 = dktX0_guarded_2 := dk_seg dksX0_guarded_1 23 rfl rfl
theorem dksX0_guarded_3 : cX0_guarded.data.toList.drop 69 = dktX0_guarded_3 := dk_seg dksX0_guarded_2 22 rfl rfl
theorem dX0_guarded_0 : decode cX0_guarded 0 = .ok (.aload_n 0, 1) := dk_42 (dk_at dksX0_guarded_0 0 rfl rfl)
theorem dX0_guarded_1 : decode cX0_guarded 1 = .ok (.iload_n 1, 1) := dk_27 (dk_at dksX0_guarded_0 1 rfl rfl)
theorem dX0_guarded_2 : decode cX0_guarded 2 = .ok (.invokevirtual 104, 3) := dk_182 0 104 (dk_at dksX0_guarded_0 2 rfl rfl)
theorem dX0_guarded_5 : decode cX0_guarded 5 = .ok (.ifCond .eq 27, 3) := dk_153 0 27 (dk_at dksX0_guarded_0 5 rfl rfl)
theorem dX0_guarded_8 : decode cX0_guarded 8 = .ok (.aload_n 0, 1) := dk_42 (dk_at dksX0_guarded_0 8 rfl rfl)
theorem dX0_guarded_9 : decode cX0_guarded 9 = .ok (.getfield 24, 3) := dk_180 0 24 (dk_at dksX0_guarded_0 9 rfl rfl)
theorem dX0_guarded_12 : decode cX0_guarded 12 = .ok (.iload_n 1, 1) := dk_27 (dk_at dksX0_guarded_0 12 rfl rfl)
theorem dX0_guarded_13 : decode cX0_guarded 13 = .ok (.aaload, 1) := dk_50 (dk_at dksX0_guarded_0 13 rfl rfl)
theorem dX0_guarded_14 : decode cX0_guarded 14 = .ok (.getfield 162, 3) := dk_180 0 162 (dk_at dksX0_guarded_0 14 rfl rfl)
theorem dX0_guarded_17 : decode cX0_guarded 17 = .ok (.getstatic 123, 3) := dk_178 0 123 (dk_at dksX0_guarded_0 17 rfl rfl)
theorem dX0_guarded_20 : decode cX0_guarded 20 = .ok (.if_acmp .ne 12, 3) := dk_166 0 12 (dk_at dksX0_guarded_0 20 rfl rfl)
theorem dX0_guarded_23 : decode cX0_guarded 23 = .ok (.iload_n 2, 1) := dk_28 (dk_at dksX0_guarded_0 23 rfl rfl)
theorem dX0_guarded_24 : decode cX0_guarded 24 = .ok (.iconst 0, 1) := dk_3 (dk_at dksX0_guarded_1 0 rfl rfl)
theorem dX0_guarded_25 : decode cX0_guarded 25 = .ok (.iconst 1, 1) := dk_4 (dk_at dksX0_guarded_1 1 rfl rfl)
theorem dX0_guarded_26 : decode cX0_guarded 26 = .ok (.invokestatic 73, 3) := dk_184 0 73 (dk_at dksX0_guarded_1 2 rfl rfl)
theorem dX0_guarded_29 : decode cX0_guarded 29 = .ok (.ifCond .ne 5, 3) := dk_154 0 5 (dk_at dksX0_guarded_1 5 rfl rfl)
theorem dX0_guarded_32 : decode cX0_guarded 32 = .ok (.iconst (-1), 1) := dk_2 (dk_at dksX0_guarded_1 8 rfl rfl)
theorem dX0_guarded_33 : decode cX0_guarded 33 = .ok (.ireturn, 1) := dk_172 (dk_at dksX0_guarded_1 9 rfl rfl)
theorem dX0_guarded_34 : decode cX0_guarded 34 = .ok (.aload_n 0, 1) := dk_42 (dk_at dksX0_guarded_1 10 rfl rfl)
theorem dX0_guarded_35 : decode cX0_guarded 35 = .ok (.getfield 24, 3) := dk_180 0 24 (dk_at dksX0_guarded_1 11 rfl rfl)
theorem dX0_guarded_38 : decode cX0_guarded 38 = .ok (.iload_n 1, 1) := dk_27 (dk_at dksX0_guarded_1 14 rfl rfl)
theorem dX0_guarded_39 : decode cX0_guarded 39 = .ok (.aaload, 1) := dk_50 (dk_at dksX0_guarded_1 15 rfl rfl)
theorem dX0_guarded_40 : decode cX0_guarded 40 = .ok (.astore_n 3, 1) := dk_78 (dk_at dksX0_guarded_1 16 rfl rfl)
theorem dX0_guarded_41 : decode cX0_guarded 41 = .ok (.aload_n 3, 1) := dk_45 (dk_at dksX0_guarded_1 17 rfl rfl)
theorem dX0_guarded_42 : decode cX0_guarded 42 = .ok (.getfield 354, 3) := dk_180 1 98 (dk_at dksX0_guarded_1 18 rfl rfl)
theorem dX0_guarded_45 : decode cX0_guarded 45 = .ok (.iconst 0, 1) := dk_3 (dk_at dksX0_guarded_1 21 rfl rfl)
theorem dX0_guarded_46 : decode cX0_guarded 46 = .ok (.iaload, 1) := dk_46 (dk_at dksX0_guarded_1 22 rfl rfl)
theorem dX0_guarded_47 : decode cX0_guarded 47 = .ok (.ifCond .ne 7, 3) := dk_154 0 7 (dk_at dksX0_guarded_2 0 rfl rfl)
theorem dX0_guarded_50 : decode cX0_guarded 50 = .ok (.iconst 0, 1) := dk_3 (dk_at dksX0_guarded_2 3 rfl rfl)
theorem dX0_guarded_51 : decode cX0_guarded 51 = .ok (.goto 25, 3) := dk_167 0 25 (dk_at dksX0_guarded_2 4 rfl rfl)
theorem dX0_guarded_54 : decode cX0_guarded 54 = .ok (.iload_n 2, 1) := dk_28 (dk_at dksX0_guarded_2 7 rfl rfl)
theorem dX0_guarded_55 : decode cX0_guarded 55 = .ok (.ifCond .ne 17, 3) := dk_154 0 17 (dk_at dksX0_guarded_2 8 rfl rfl)
theorem dX0_guarded_58 : decode cX0_guarded 58 = .ok (.aload_n 3, 1) := dk_45 (dk_at dksX0_guarded_2 11 rfl rfl)
theorem dX0_guarded_59 : decode cX0_guarded 59 = .ok (.getfield 172, 3) := dk_180 0 172 (dk_at dksX0_guarded_2 12 rfl rfl)
theorem dX0_guarded_62 : decode cX0_guarded 62 = .ok (.aload_n 3, 1) := dk_45 (dk_at dksX0_guarded_2 15 rfl rfl)
theorem dX0_guarded_63 : decode cX0_guarded 63 = .ok (.getfield 388, 3) := dk_180 1 132 (dk_at dksX0_guarded_2 16 rfl rfl)
theorem dX0_guarded_66 : decode cX0_guarded 66 = .ok (.iconst (-1), 1) := dk_2 (dk_at dksX0_guarded_2 19 rfl rfl)
theorem dX0_guarded_67 : decode cX0_guarded 67 = .ok (.ixor, 1) := dk_130 (dk_at dksX0_guarded_2 20 rfl rfl)
theorem dX0_guarded_68 : decode cX0_guarded 68 = .ok (.iand, 1) := dk_126 (dk_at dksX0_guarded_2 21 rfl rfl)
theorem dX0_guarded_69 : decode cX0_guarded 69 = .ok (.goto 7, 3) := dk_167 0 7 (dk_at dksX0_guarded_3 0 rfl rfl)
theorem dX0_guarded_72 : decode cX0_guarded 72 = .ok (.aload_n 3, 1) := dk_45 (dk_at dksX0_guarded_3 3 rfl rfl)
theorem dX0_guarded_73 : decode cX0_guarded 73 = .ok (.getfield 403, 3) := dk_180 1 147 (dk_at dksX0_guarded_3 4 rfl rfl)
theorem dX0_guarded_76 : decode cX0_guarded 76 = .ok (.ireturn, 1) := dk_172 (dk_at dksX0_guarded_3 7 rfl rfl)
theorem q94 : (Jvm.Cond.initialized "ThrowReports") ∈ lw_all := lw_g (lw_at lw_m1 1 rfl) rfl
theorem q123 : (Jvm.Cond.instantiable "ThrowReports" (14 : Nat)) ∈ lw_all := lw_g (lw_at lw_m1 30 rfl) rfl
theorem q125 : (Jvm.Cond.instanceMethod ({ cls := "ThrowReports", name := "<init>", desc := "()V" } : Jvm.MethodName)) ∈ lw_all := lw_g (lw_at lw_m1 32 rfl) rfl
theorem q126 : (Jvm.Cond.code ({ cls := "ThrowReports", name := "<init>", desc := "()V" } : Jvm.MethodName) prog_1_method_2_code (2 : Nat) (Option.none : Option Jvm.ClassFile.FieldType)) ∈ lw_all := lw_g (lw_at lw_m1 33 rfl) rfl
theorem q127 : (Jvm.Cond.methodLink "ThrowReports" (1 : Nat) ({ cls := "java/lang/Object", name := "<init>", desc := "()V" } : Jvm.MethodName)) ∈ lw_all := lw_g (lw_at lw_m1 34 rfl) rfl
theorem q130 : (Jvm.Cond.classLink "ThrowReports" (9 : Nat) "ThrowReports$Holder") ∈ lw_all := lw_g (lw_at lw_m1 37 rfl) rfl
theorem q132 : (Jvm.Cond.classLink "ThrowReports" (22 : Nat) "ThrowReports$Node") ∈ lw_all := lw_g (lw_at lw_m1 39 rfl) rfl
theorem q134 : (Jvm.Cond.classLink "ThrowReports" (32 : Nat) "ThrowReports$State") ∈ lw_all := lw_g (lw_at lw_m1 41 rfl) rfl
theorem q136 : (Jvm.Cond.methodLinkNest "ThrowReports" (34 : Nat) ({ cls := "ThrowReports$State", name := "<init>", desc := "()V" } : Jvm.MethodName) "ThrowReports") ∈ lw_tbl := lw_at lw_m1 43 rfl
theorem q142 : (Jvm.Cond.fieldLinkNest "ThrowReports" (40 : Nat) "ThrowReports$State" "sets" "[I" "ThrowReports") ∈ lw_tbl := lw_at lw_m1 49 rfl
theorem q149 : (Jvm.Cond.methodLinkNest "ThrowReports" (39 : Nat) ({ cls := "ThrowReports$Holder", name := "<init>", desc := "()V" } : Jvm.MethodName) "ThrowReports") ∈ lw_tbl := lw_at lw_m1 56 rfl
theorem q154 : (Jvm.Cond.fieldLinkNest "ThrowReports" (47 : Nat) "ThrowReports$Holder" "held" "Ljava/lang/Object;" "ThrowReports") ∈ lw_tbl := lw_at lw_m1 61 rfl
theorem q158 : (Jvm.Cond.fieldLink "ThrowReports" (11 : Nat) "ThrowReports" "things" "[LThrowReports$Holder;") ∈ lw_all := lw_g (lw_at lw_m1 65 rfl) rfl
theorem q159 : (Jvm.Cond.fieldLink "ThrowReports" (44 : Nat) "ThrowReports" "made" "I") ∈ lw_all := lw_g (lw_at lw_m1 66 rfl) rfl
theorem q160 : (Jvm.Cond.fieldLink "ThrowReports" (53 : Nat) "ThrowReports" "items" "I") ∈ lw_all := lw_g (lw_at lw_m1 67 rfl) rfl
theorem q161 : (Jvm.Cond.fieldLink "ThrowReports" (15 : Nat) "ThrowReports" "slots" "[LThrowReports$Holder;") ∈ lw_all := lw_g (lw_at lw_m1 68 rfl) rfl
theorem q162 : (Jvm.Cond.fieldLink "ThrowReports" (18 : Nat) "ThrowReports" "registers" "[J") ∈ lw_all := lw_g (lw_at lw_m1 69 rfl) rfl
theorem q163 : (Jvm.Cond.fieldLink "ThrowReports" (24 : Nat) "ThrowReports" "nodes" "[LThrowReports$Node;") ∈ lw_all := lw_g (lw_at lw_m1 70 rfl) rfl
theorem q164 : (Jvm.Cond.fieldLink "ThrowReports" (77 : Nat) "ThrowReports" "many" "I") ∈ lw_all := lw_g (lw_at lw_m1 71 rfl) rfl
theorem q165 : (Jvm.Cond.fieldLink "ThrowReports" (129 : Nat) "ThrowReports" "begun" "I") ∈ lw_all := lw_g (lw_at lw_m1 72 rfl) rfl
theorem q166 : (Jvm.Cond.fieldLink "ThrowReports" (132 : Nat) "ThrowReports" "failed" "I") ∈ lw_all := lw_g (lw_at lw_m1 73 rfl) rfl
theorem q167 : (Jvm.Cond.fieldLink "ThrowReports" (135 : Nat) "ThrowReports" "came" "I") ∈ lw_all := lw_g (lw_at lw_m1 74 rfl) rfl
theorem q168 : (Jvm.Cond.fieldLink "ThrowReports" (138 : Nat) "ThrowReports" "lasts" "I") ∈ lw_all := lw_g (lw_at lw_m1 75 rfl) rfl
theorem q169 : (Jvm.Cond.fieldLink "ThrowReports" (141 : Nat) "ThrowReports" "lost" "I") ∈ lw_all := lw_g (lw_at lw_m1 76 rfl) rfl
theorem q170 : (Jvm.Cond.fieldLink "ThrowReports" (28 : Nat) "ThrowReports" "failedNode" "I") ∈ lw_all := lw_g (lw_at lw_m1 77 rfl) rfl
theorem q171 : (Jvm.Cond.fieldLink "ThrowReports" (35 : Nat) "ThrowReports" "start" "LThrowReports$State;") ∈ lw_all := lw_g (lw_at lw_m1 78 rfl) rfl
theorem q172 : (Jvm.Cond.laysFinal "ThrowReports" "ThrowReports" "things" "[LThrowReports$Holder;") ∈ lw_all := lw_g (lw_at lw_m1 79 rfl) rfl
theorem q173 : (Jvm.Cond.soleField "ThrowReports" "things") ∈ lw_all := lw_g (lw_at lw_m1 80 rfl) rfl
theorem q174 : (Jvm.Cond.lays "ThrowReports" "ThrowReports" "made" "I") ∈ lw_all := lw_g (lw_at lw_m1 81 rfl) rfl
theorem q175 : (Jvm.Cond.soleField "ThrowReports" "made") ∈ lw_all := lw_g (lw_at lw_m1 82 rfl) rfl
theorem q176 : (Jvm.Cond.lays "ThrowReports" "ThrowReports" "items" "I") ∈ lw_all := lw_g (lw_at lw_m1 83 rfl) rfl
theorem q177 : (Jvm.Cond.soleField "ThrowReports" "items") ∈ lw_all := lw_g (lw_at lw_m1 84 rfl) rfl
theorem q178 : (Jvm.Cond.laysFinal "ThrowReports" "ThrowReports" "slots" "[LThrowReports$Holder;") ∈ lw_all := lw_g (lw_at lw_m1 85 rfl) rfl
theorem q179 : (Jvm.Cond.soleField "ThrowReports" "slots") ∈ lw_all := lw_g (lw_at lw_m1 86 rfl) rfl
theorem q180 : (Jvm.Cond.laysFinal "ThrowReports" "ThrowReports" "registers" "[J") ∈ lw_all := lw_g (lw_at lw_m1 87 rfl) rfl
theorem q181 : (Jvm.Cond.soleField "ThrowReports" "registers") ∈ lw_all := lw_g (lw_at lw_m1 88 rfl) rfl
theorem q182 : (Jvm.Cond.laysFinal "ThrowReports" "ThrowReports" "nodes" "[LThrowReports$Node;") ∈ lw_all := lw_g (lw_at lw_m1 89 rfl) rfl
theorem q183 : (Jvm.Cond.soleField "ThrowReports" "nodes") ∈ lw_all := lw_g (lw_at lw_m1 90 rfl) rfl
theorem q184 : (Jvm.Cond.lays "ThrowReports" "ThrowReports" "many" "I") ∈ lw_all := lw_g (lw_at lw_m1 91 rfl) rfl
theorem q185 : (Jvm.Cond.soleField "ThrowReports" "many") ∈ lw_all := lw_g (lw_at lw_m1 92 rfl) rfl
theorem q186 : (Jvm.Cond.lays "ThrowReports" "ThrowReports" "begun" "I") ∈ lw_all := lw_g (lw_at lw_m1 93 rfl) rfl
theorem q187 : (Jvm.Cond.soleField "ThrowReports" "begun") ∈ lw_all := lw_g (lw_at lw_m1 94 rfl) rfl
theorem q188 : (Jvm.Cond.lays "ThrowReports" "ThrowReports" "failed" "I") ∈ lw_all := lw_g (lw_at lw_m1 95 rfl) rfl
theorem q189 : (Jvm.Cond.soleField "ThrowReports" "failed") ∈ lw_all := lw_g (lw_at lw_m1 96 rfl) rfl
theorem q190 : (Jvm.Cond.lays "ThrowReports" "ThrowReports" "came" "I") ∈ lw_all := lw_g (lw_at lw_m1 97 rfl) rfl
theorem q191 : (Jvm.Cond.soleField "ThrowReports" "came") ∈ lw_all := lw_g (lw_at lw_m1 98 rfl) rfl
theorem q192 : (Jvm.Cond.lays "ThrowReports" "ThrowReports" "lasts" "I") ∈ lw_all := lw_g (lw_at lw_m1 99 rfl) rfl
theorem q193 : (Jvm.Cond.soleField "ThrowReports" "lasts") ∈ lw_all := lw_g (lw_at lw_m1 100 rfl) rfl
theorem q194 : (Jvm.Cond.lays "ThrowReports" "ThrowReports" "lost" "I") ∈ lw_all := lw_g (lw_at lw_m1 101 rfl) rfl
theorem q195 : (Jvm.Cond.soleField "ThrowReports" "lost") ∈ lw_all := lw_g (lw_at lw_m1 102 rfl) rfl
theorem q196 : (Jvm.Cond.lays "ThrowReports" "ThrowReports" "failedNode" "I") ∈ lw_all := lw_g (lw_at lw_m1 103 rfl) rfl
theorem q197 : (Jvm.Cond.soleField "ThrowReports" "failedNode") ∈ lw_all := lw_g (lw_at lw_m1 104 rfl) rfl
theorem q198 : (Jvm.Cond.laysFinal "ThrowReports" "ThrowReports" "start" "LThrowReports$State;") ∈ lw_all := lw_g (lw_at lw_m1 105 rfl) rfl
theorem q199 : (Jvm.Cond.soleField "ThrowReports" "start") ∈ lw_all := lw_g (lw_at lw_m1 106 rfl) rfl
theorem q200 : (Jvm.Cond.superclass "ThrowReports" "java/lang/Object") ∈ lw_all := lw_g (lw_at lw_m1 107 rfl) rfl
theorem q202 : (Jvm.Cond.instanceMethod ({ cls := "ThrowReports", name := "act", desc := "(IIIII)I" } : Jvm.MethodName)) ∈ lw_all := lw_g (lw_at lw_m1 109 rfl) rfl
theorem q203 : (Jvm.Cond.selects "ThrowReports" ({ cls := "ThrowReports", name := "act", desc := "(IIIII)I" } : Jvm.MethodName) ({ cls := "ThrowReports", name := "act", desc := "(IIIII)I" } : Jvm.MethodName)) ∈ lw_all := lw_g (lw_at lw_m1 110 rfl) rfl
theorem q204 : (Jvm.Cond.code ({ cls := "ThrowReports", name := "act", desc := "(IIIII)I" } : Jvm.MethodName) prog_1_method_13_code (6 : Nat) (Option.some Jvm.ClassFile.FieldType.int)) ∈ lw_all := lw_g (lw_at lw_m1 111 rfl) rfl
theorem q205 : (Jvm.Cond.methodLink "ThrowReports" (87 : Nat) ({ cls := "ThrowReports", name := "isAct", desc := "(IIIII)Z" } : Jvm.MethodName)) ∈ lw_all := lw_g (lw_at lw_m1 112 rfl) rfl
theorem q206 : (Jvm.Cond.static ({ cls := "ThrowReports", name := "isAct", desc := "(IIIII)Z" } : Jvm.MethodName)) ∈ lw_all := lw_g (lw_at lw_m1 113 rfl) rfl
theorem q207 : (Jvm.Cond.code ({ cls := "ThrowReports", name := "isAct", desc := "(IIIII)Z" } : Jvm.MethodName) prog_1_method_11_code (5 : Nat) (Option.some Jvm.ClassFile.FieldType.boolean)) ∈ lw_all := lw_g (lw_at lw_m1 114 rfl) rfl
theorem q208 : (Jvm.Cond.methodLink "ThrowReports" (80 : Nat) ({ cls := "ThrowReports", name := "isSlot", desc := "(I)Z" } : Jvm.MethodName)) ∈ lw_all := lw_g (lw_at lw_m1 115 rfl) rfl
theorem q209 : (Jvm.Cond.static ({ cls := "ThrowReports", name := "isSlot", desc := "(I)Z" } : Jvm.MethodName)) ∈ lw_all := lw_g (lw_at lw_m1 116 rfl) rfl
theorem q210 : (Jvm.Cond.code ({ cls := "ThrowReports", name := "isSlot", desc := "(I)Z" } : Jvm.MethodName) prog_1_method_8_code (1 : Nat) (Option.some Jvm.ClassFile.FieldType.boolean)) ∈ lw_all := lw_g (lw_at lw_m1 117 rfl) rfl
theorem q211 : (Jvm.Cond.methodLink "ThrowReports" (73 : Nat) ({ cls := "ThrowReports", name := "in", desc := "(III)Z" } : Jvm.MethodName)) ∈ lw_all := lw_g (lw_at lw_m1 118 rfl) rfl
theorem q212 : (Jvm.Cond.static ({ cls := "ThrowReports", name := "in", desc := "(III)Z" } : Jvm.MethodName)) ∈ lw_all := lw_g (lw_at lw_m1 119 rfl) rfl
theorem q213 : (Jvm.Cond.code ({ cls := "ThrowReports", name := "in", desc := "(III)Z" } : Jvm.MethodName) prog_1_method_7_code (3 : Nat) (Option.some Jvm.ClassFile.FieldType.boolean)) ∈ lw_all := lw_g (lw_at lw_m1 120 rfl) rfl
theorem q214 : (Jvm.Cond.methodLink "ThrowReports" (84 : Nat) ({ cls := "ThrowReports", name := "isRegister", desc := "(I)Z" } : Jvm.MethodName)) ∈ lw_all := lw_g (lw_at lw_m1 121 rfl) rfl
theorem q215 : (Jvm.Cond.static ({ cls := "ThrowReports", name := "isRegister", desc := "(I)Z" } : Jvm.MethodName)) ∈ lw_all := lw_g (lw_at lw_m1 122 rfl) rfl
theorem q216 : (Jvm.Cond.code ({ cls := "ThrowReports", name := "isRegister", desc := "(I)Z" } : Jvm.MethodName) prog_1_method_9_code (1 : Nat) (Option.some Jvm.ClassFile.FieldType.boolean)) ∈ lw_all := lw_g (lw_at lw_m1 123 rfl) rfl
theorem q218 : (Jvm.Cond.fieldLink "ThrowReports" (91 : Nat) "ThrowReports$Sort" "ACT" "LThrowReports$Sort;") ∈ lw_all := lw_g (lw_at lw_m1 125 rfl) rfl
theorem q220 : (Jvm.Cond.methodLinkNest "ThrowReports" (97 : Nat) ({ cls := "ThrowReports$Node", name := "<init>", desc := "(LThrowReports$Sort;IIIIII)V" } : Jvm.MethodName) "ThrowReports") ∈ lw_tbl := lw_at lw_m1 127 rfl
theorem q225 : (Jvm.Cond.fieldLinkNest "ThrowReports" (162 : Nat) "ThrowReports$Node" "sort" "LThrowReports$Sort;" "ThrowReports") ∈ lw_tbl := lw_at lw_m1 132 rfl
theorem q227 : (Jvm.Cond.fieldLinkNest "ThrowReports" (201 : Nat) "ThrowReports$Node" "number" "I" "ThrowReports") ∈ lw_tbl := lw_at lw_m1 134 rfl
theorem q229 : (Jvm.Cond.fieldLinkNest "ThrowReports" (188 : Nat) "ThrowReports$Node" "op" "I" "ThrowReports") ∈ lw_tbl := lw_at lw_m1 136 rfl
theorem q231 : (Jvm.Cond.fieldLinkNest "ThrowReports" (172 : Nat) "ThrowReports$Node" "a" "I" "ThrowReports") ∈ lw_tbl := lw_at lw_m1 138 rfl
theorem q233 : (Jvm.Cond.fieldLinkNest "ThrowReports" (178 : Nat) "ThrowReports$Node" "b" "I" "ThrowReports") ∈ lw_tbl := lw_at lw_m1 140 rfl
theorem q235 : (Jvm.Cond.fieldLinkNest "ThrowReports" (191 : Nat) "ThrowReports$Node" "c" "I" "ThrowReports") ∈ lw_tbl := lw_at lw_m1 142 rfl
theorem q237 : (Jvm.Cond.fieldLinkNest "ThrowReports" (194 : Nat) "ThrowReports$Node" "d" "I" "ThrowReports") ∈ lw_tbl := lw_at lw_m1 144 rfl
theorem q239 : (Jvm.Cond.fieldLinkNest "ThrowReports" (107 : Nat) "ThrowReports$Node" "cost" "I" "ThrowReports") ∈ lw_tbl := lw_at lw_m1 146 rfl
theorem q240 : (Jvm.Cond.fieldLinkNest "ThrowReports" (113 : Nat) "ThrowReports$Node" "one" "LThrowReports$Node;" "ThrowReports") ∈ lw_tbl := lw_at lw_m1 147 rfl
theorem q241 : (Jvm.Cond.fieldLinkNest "ThrowReports" (117 : Nat) "ThrowReports$Node" "other" "LThrowReports$Node;" "ThrowReports") ∈ lw_tbl := lw_at lw_m1 148 rfl
theorem q242 : (Jvm.Cond.fieldLinkNest "ThrowReports" (126 : Nat) "ThrowReports$Node" "last" "LThrowReports$Node;" "ThrowReports") ∈ lw_tbl := lw_at lw_m1 149 rfl
theorem q244 : (Jvm.Cond.fieldLinkNest "ThrowReports" (369 : Nat) "ThrowReports$Node" "may" "I" "ThrowReports") ∈ lw_tbl := lw_at lw_m1 151 rfl
theorem q246 : (Jvm.Cond.fieldLinkNest "ThrowReports" (354 : Nat) "ThrowReports$Node" "ahead" "[I" "ThrowReports") ∈ lw_tbl := lw_at lw_m1 153 rfl
theorem q248 : (Jvm.Cond.fieldLinkNest "ThrowReports" (388 : Nat) "ThrowReports$Node" "bodyMay" "I" "ThrowReports") ∈ lw_tbl := lw_at lw_m1 155 rfl
theorem q250 : (Jvm.Cond.fieldLinkNest "ThrowReports" (403 : Nat) "ThrowReports$Node" "lost" "I" "ThrowReports") ∈ lw_tbl := lw_at lw_m1 157 rfl
theorem q282 : (Jvm.Cond.methodLink "ThrowReports" (100 : Nat) ({ cls := "ThrowReports", name := "more", desc := "(LThrowReports$Node;)I" } : Jvm.MethodName)) ∈ lw_all := lw_g (lw_at lw_m1 189 rfl) rfl
theorem q283 : (Jvm.Cond.privateMethod ({ cls := "ThrowReports", name := "more", desc := "(LThrowReports$Node;)I" } : Jvm.MethodName)) ∈ lw_tbl := lw_at lw_m1 190 rfl
theorem q284 : (Jvm.Cond.instanceMethod ({ cls := "ThrowReports", name := "more", desc := "(LThrowReports$Node;)I" } : Jvm.MethodName)) ∈ lw_all := lw_g (lw_at lw_m1 191 rfl) rfl
theorem q285 : (Jvm.Cond.code ({ cls := "ThrowReports", name := "more", desc := "(LThrowReports$Node;)I" } : Jvm.MethodName) prog_1_method_12_code (2 : Nat) (Option.some Jvm.ClassFile.FieldType.int)) ∈ lw_all := lw_g (lw_at lw_m1 192 rfl) rfl
theorem q287 : (Jvm.Cond.instanceMethod ({ cls := "ThrowReports", name := "both", desc := "(II)I" } : Jvm.MethodName)) ∈ lw_all := lw_g (lw_at lw_m1 194 rfl) rfl
theorem q288 : (Jvm.Cond.selects "ThrowReports" ({ cls := "ThrowReports", name := "both", desc := "(II)I" } : Jvm.MethodName) ({ cls := "ThrowReports", name := "both", desc := "(II)I" } : Jvm.MethodName)) ∈ lw_all := lw_g (lw_at lw_m1 195 rfl) rfl
theorem q289 : (Jvm.Cond.code ({ cls := "ThrowReports", name := "both", desc := "(II)I" } : Jvm.MethodName) prog_1_method_14_code (5 : Nat) (Option.some Jvm.ClassFile.FieldType.int)) ∈ lw_all := lw_g (lw_at lw_m1 196 rfl) rfl
theorem q290 : (Jvm.Cond.methodLink "ThrowReports" (104 : Nat) ({ cls := "ThrowReports", name := "isNode", desc := "(I)Z" } : Jvm.MethodName)) ∈ lw_all := lw_g (lw_at lw_m1 197 rfl) rfl
theorem q291 : (Jvm.Cond.privateMethod ({ cls := "ThrowReports", name := "isNode", desc := "(I)Z" } : Jvm.MethodName)) ∈ lw_tbl := lw_at lw_m1 198 rfl
theorem q292 : (Jvm.Cond.instanceMethod ({ cls := "ThrowReports", name := "isNode", desc := "(I)Z" } : Jvm.MethodName)) ∈ lw_all := lw_g (lw_at lw_m1 199 rfl) rfl
theorem q293 : (Jvm.Cond.code ({ cls := "ThrowReports", name := "isNode", desc := "(I)Z" } : Jvm.MethodName) prog_1_method_10_code (2 : Nat) (Option.some Jvm.ClassFile.FieldType.boolean)) ∈ lw_all := lw_g (lw_at lw_m1 200 rfl) rfl
theorem q294 : (Jvm.Cond.fieldLink "ThrowReports" (110 : Nat) "ThrowReports$Sort" "BOTH" "LThrowReports$Sort;") ∈ lw_all := lw_g (lw_at lw_m1 201 rfl) rfl
theorem q297 : (Jvm.Cond.instanceMethod ({ cls := "ThrowReports", name := "choice", desc := "(IIII)I" } : Jvm.MethodName)) ∈ lw_all := lw_g (lw_at lw_m1 204 rfl) rfl
theorem q298 : (Jvm.Cond.selects "ThrowReports" ({ cls := "ThrowReports", name := "choice", desc := "(IIII)I" } : Jvm.MethodName) ({ cls := "ThrowReports", name := "choice", desc := "(IIII)I" } : Jvm.MethodName)) ∈ lw_all := lw_g (lw_at lw_m1 205 rfl) rfl
theorem q299 : (Jvm.Cond.code ({ cls := "ThrowReports", name := "choice", desc := "(IIII)I" } : Jvm.MethodName) prog_1_method_15_code (7 : Nat) (Option.some Jvm.ClassFile.FieldType.int)) ∈ lw_all := lw_g (lw_at lw_m1 206 rfl) rfl
theorem q300 : (Jvm.Cond.fieldLink "ThrowReports" (120 : Nat) "ThrowReports$Sort" "CHOICE" "LThrowReports$Sort;") ∈ lw_all := lw_g (lw_at lw_m1 207 rfl) rfl
theorem q303 : (Jvm.Cond.instanceMethod ({ cls := "ThrowReports", name := "guard", desc := "(IIII)I" } : Jvm.MethodName)) ∈ lw_all := lw_g (lw_at lw_m1 210 rfl) rfl
theorem q304 : (Jvm.Cond.selects "ThrowReports" ({ cls := "ThrowReports", name := "guard", desc := "(IIII)I" } : Jvm.MethodName) ({ cls := "ThrowReports", name := "guard", desc := "(IIII)I" } : Jvm.MethodName)) ∈ lw_all := lw_g (lw_at lw_m1 211 rfl) rfl
theorem q305 : (Jvm.Cond.code ({ cls := "ThrowReports", name := "guard", desc := "(IIII)I" } : Jvm.MethodName) prog_1_method_16_code (7 : Nat) (Option.some Jvm.ClassFile.FieldType.int)) ∈ lw_all := lw_g (lw_at lw_m1 212 rfl) rfl
theorem q306 : (Jvm.Cond.fieldLink "ThrowReports" (123 : Nat) "ThrowReports$Sort" "GUARD" "LThrowReports$Sort;") ∈ lw_all := lw_g (lw_at lw_m1 213 rfl) rfl
theorem q309 : (Jvm.Cond.instanceMethod ({ cls := "ThrowReports", name := "forget", desc := "()I" } : Jvm.MethodName)) ∈ lw_all := lw_g (lw_at lw_m1 216 rfl) rfl
theorem q310 : (Jvm.Cond.selects "ThrowReports" ({ cls := "ThrowReports", name := "forget", desc := "()I" } : Jvm.MethodName) ({ cls := "ThrowReports", name := "forget", desc := "()I" } : Jvm.MethodName)) ∈ lw_all := lw_g (lw_at lw_m1 217 rfl) rfl
theorem q311 : (Jvm.Cond.code ({ cls := "ThrowReports", name := "forget", desc := "()I" } : Jvm.MethodName) prog_1_method_17_code (2 : Nat) (Option.some Jvm.ClassFile.FieldType.int)) ∈ lw_all := lw_g (lw_at lw_m1 218 rfl) rfl
theorem q313 : (Jvm.Cond.instanceMethod ({ cls := "ThrowReports", name := "run", desc := "(I)I" } : Jvm.MethodName)) ∈ lw_all := lw_g (lw_at lw_m1 220 rfl) rfl
theorem q314 : (Jvm.Cond.selects "ThrowReports" ({ cls := "ThrowReports", name := "run", desc := "(I)I" } : Jvm.MethodName) ({ cls := "ThrowReports", name := "run", desc := "(I)I" } : Jvm.MethodName)) ∈ lw_all := lw_g (lw_at lw_m1 221 rfl) rfl
theorem q315 : (Jvm.Cond.codeWith ({ cls := "ThrowReports", name := "run", desc := "(I)I" } : Jvm.MethodName) prog_1_method_18_code (3 : Nat) (Option.some Jvm.ClassFile.FieldType.int) [((40 : Nat), (51 : Nat), (52 : Nat), (148 : Nat)), ((40 : Nat), (51 : Nat), (55 : Nat), (150 : Nat)), ((40 : Nat), (51 : Nat), (58 : Nat), (152 : Nat)), ((40 : Nat), (51 : Nat), (61 : Nat), (154 : Nat)), ((40 : Nat), (51 : Nat), (64 : Nat), (156 : Nat)), ((40 : Nat), (51 : Nat), (67 : Nat), (158 : Nat)), ((40 : Nat), (51 : Nat), (71 : Nat), (160 : Nat)), ((40 : Nat), (51 : Nat), (75 : Nat), (58 : Nat))]) ∈ lw_all := lw_g (lw_at lw_m1 222 rfl) rfl
theorem q316 : (Jvm.Cond.classLink "ThrowReports" (148 : Nat) "java/lang/NullPointerException") ∈ lw_all := lw_g (lw_at lw_m1 223 rfl) rfl
theorem q402 : (Jvm.Cond.classLink "ThrowReports" (150 : Nat) "java/lang/ClassCastException") ∈ lw_all := lw_g (lw_at lw_m2 69 rfl) rfl
theorem q430 : (Jvm.Cond.classLink "ThrowReports" (152 : Nat) "java/lang/ArrayIndexOutOfBoundsException") ∈ lw_all := lw_g (lw_at lw_m2 97 rfl) rfl
theorem q449 : (Jvm.Cond.classLink "ThrowReports" (154 : Nat) "java/lang/NegativeArraySizeException") ∈ lw_all := lw_g (lw_at lw_m2 116 rfl) rfl
theorem q463 : (Jvm.Cond.classLink "ThrowReports" (156 : Nat) "java/lang/ArrayStoreException") ∈ lw_all := lw_g (lw_at lw_m2 130 rfl) rfl
theorem q477 : (Jvm.Cond.classLink "ThrowReports" (158 : Nat) "java/lang/ArithmeticException") ∈ lw_all := lw_g (lw_at lw_m2 144 rfl) rfl
theorem q491 : (Jvm.Cond.classLink "ThrowReports" (160 : Nat) "ThrowReports$OwnFailure") ∈ lw_all := lw_g (lw_at lw_m2 158 rfl) rfl
theorem q492 : (Jvm.Cond.classLink "ThrowReports" (58 : Nat) "ThrowReports$RoomFailure") ∈ lw_all := lw_g (lw_at lw_m2 159 rfl) rfl
theorem q493 : (Jvm.Cond.methodLink "ThrowReports" (144 : Nat) ({ cls := "ThrowReports", name := "does", desc := "(LThrowReports$Node;)V" } : Jvm.MethodName)) ∈ lw_all := lw_g (lw_at lw_m2 160 rfl) rfl
theorem q494 : (Jvm.Cond.privateMethod ({ cls := "ThrowReports", name := "does", desc := "(LThrowReports$Node;)V" } : Jvm.MethodName)) ∈ lw_tbl := lw_at lw_m2 161 rfl
theorem q495 : (Jvm.Cond.instanceMethod ({ cls := "ThrowReports", name := "does", desc := "(LThrowReports$Node;)V" } : Jvm.MethodName)) ∈ lw_all := lw_g (lw_at lw_m2 162 rfl) rfl
theorem q496 : (Jvm.Cond.code ({ cls := "ThrowReports", name := "does", desc := "(LThrowReports$Node;)V" } : Jvm.MethodName) prog_1_method_19_code (3 : Nat) (Option.none : Option Jvm.ClassFile.FieldType)) ∈ lw_all := lw_g (lw_at lw_m2 163 rfl) rfl
theorem q497 : (Jvm.Cond.methodLink "ThrowReports" (165 : Nat) ({ cls := "ThrowReports$Sort", name := "ordinal", desc := "()I" } : Jvm.MethodName)) ∈ lw_all := lw_g (lw_at lw_m2 164 rfl) rfl
theorem q503 : (Jvm.Cond.methodLink "ThrowReports" (169 : Nat) ({ cls := "ThrowReports", name := "begins", desc := "(LThrowReports$Node;)V" } : Jvm.MethodName)) ∈ lw_all := lw_g (lw_at lw_m2 170 rfl) rfl
theorem q504 : (Jvm.Cond.privateMethod ({ cls := "ThrowReports", name := "begins", desc := "(LThrowReports$Node;)V" } : Jvm.MethodName)) ∈ lw_tbl := lw_at lw_m2 171 rfl
theorem q505 : (Jvm.Cond.instanceMethod ({ cls := "ThrowReports", name := "begins", desc := "(LThrowReports$Node;)V" } : Jvm.MethodName)) ∈ lw_all := lw_g (lw_at lw_m2 172 rfl) rfl
theorem q506 : (Jvm.Cond.codeWith ({ cls := "ThrowReports", name := "begins", desc := "(LThrowReports$Node;)V" } : Jvm.MethodName) prog_1_method_20_code (4 : Nat) (Option.none : Option Jvm.ClassFile.FieldType) [((12 : Nat), (38 : Nat), (78 : Nat), (0 : Nat))]) ∈ lw_all := lw_g (lw_at lw_m2 173 rfl) rfl
theorem q507 : (Jvm.Cond.methodLink "ThrowReports" (197 : Nat) ({ cls := "ThrowReports", name := "acts", desc := "(IIIII)V" } : Jvm.MethodName)) ∈ lw_all := lw_g (lw_at lw_m2 174 rfl) rfl
theorem q508 : (Jvm.Cond.privateMethod ({ cls := "ThrowReports", name := "acts", desc := "(IIIII)V" } : Jvm.MethodName)) ∈ lw_tbl := lw_at lw_m2 175 rfl
theorem q509 : (Jvm.Cond.instanceMethod ({ cls := "ThrowReports", name := "acts", desc := "(IIIII)V" } : Jvm.MethodName)) ∈ lw_all := lw_g (lw_at lw_m2 176 rfl) rfl
theorem q510 : (Jvm.Cond.code ({ cls := "ThrowReports", name := "acts", desc := "(IIIII)V" } : Jvm.MethodName) prog_1_method_25_code (8 : Nat) (Option.none : Option Jvm.ClassFile.FieldType)) ∈ lw_all := lw_g (lw_at lw_m2 177 rfl) rfl
theorem q511 : (Jvm.Cond.methodLink "ThrowReports" (217 : Nat) ({ cls := "ThrowReports", name := "makes", desc := "(III)V" } : Jvm.MethodName)) ∈ lw_all := lw_g (lw_at lw_m2 178 rfl) rfl
theorem q512 : (Jvm.Cond.privateMethod ({ cls := "ThrowReports", name := "makes", desc := "(III)V" } : Jvm.MethodName)) ∈ lw_tbl := lw_at lw_m2 179 rfl
theorem q513 : (Jvm.Cond.instanceMethod ({ cls := "ThrowReports", name := "makes", desc := "(III)V" } : Jvm.MethodName)) ∈ lw_all := lw_g (lw_at lw_m2 180 rfl) rfl
theorem q514 : (Jvm.Cond.code ({ cls := "ThrowReports", name := "makes", desc := "(III)V" } : Jvm.MethodName) prog_1_method_26_code (5 : Nat) (Option.none : Option Jvm.ClassFile.FieldType)) ∈ lw_all := lw_g (lw_at lw_m2 181 rfl) rfl
theorem q515 : (Jvm.Cond.methodLink "ThrowReports" (224 : Nat) ({ cls := "java/lang/Math", name := "max", desc := "(II)I" } : Jvm.MethodName)) ∈ lw_all := lw_g (lw_at lw_m2 182 rfl) rfl
theorem q518 : (Jvm.Cond.methodLink "ThrowReports" (230 : Nat) ({ cls := "ThrowReports", name := "need", desc := "(JJ)V" } : Jvm.MethodName)) ∈ lw_all := lw_g (lw_at lw_m2 185 rfl) rfl
theorem q519 : (Jvm.Cond.privateMethod ({ cls := "ThrowReports", name := "need", desc := "(JJ)V" } : Jvm.MethodName)) ∈ lw_tbl := lw_at lw_m2 186 rfl
theorem q520 : (Jvm.Cond.instanceMethod ({ cls := "ThrowReports", name := "need", desc := "(JJ)V" } : Jvm.MethodName)) ∈ lw_all := lw_g (lw_at lw_m2 187 rfl) rfl
theorem q521 : (Jvm.Cond.code ({ cls := "ThrowReports", name := "need", desc := "(JJ)V" } : Jvm.MethodName) prog_1_method_4_code (5 : Nat) (Option.none : Option Jvm.ClassFile.FieldType)) ∈ lw_all := lw_g (lw_at lw_m2 188 rfl) rfl
theorem q522 : (Jvm.Cond.constantLong "ThrowReports" (51 : Nat) (200 : Int64)) ∈ lw_all := lw_g (lw_at lw_m2 189 rfl) rfl
theorem q523 : (Jvm.Cond.constantLong "ThrowReports" (56 : Nat) (3000 : Int64)) ∈ lw_all := lw_g (lw_at lw_m2 190 rfl) rfl
theorem q532 : (Jvm.Cond.methodLinkNest "ThrowReports" (60 : Nat) ({ cls := "ThrowReports$RoomFailure", name := "<init>", desc := "()V" } : Jvm.MethodName) "ThrowReports") ∈ lw_tbl := lw_at lw_m2 199 rfl
theorem q546 : (Jvm.Cond.classLink "ThrowReports" (239 : Nat) "ThrowReports$Figure") ∈ lw_all := lw_g (lw_at lw_m2 213 rfl) rfl
theorem q548 : (Jvm.Cond.classLink "ThrowReports" (244 : Nat) "ThrowReports$Round") ∈ lw_all := lw_g (lw_at lw_m2 215 rfl) rfl
theorem q550 : (Jvm.Cond.methodLink "ThrowReports" (235 : Nat) ({ cls := "ThrowReports", name := "becomes", desc := "(ILjava/lang/Object;I)V" } : Jvm.MethodName)) ∈ lw_all := lw_g (lw_at lw_m2 217 rfl) rfl
theorem q551 : (Jvm.Cond.privateMethod ({ cls := "ThrowReports", name := "becomes", desc := "(ILjava/lang/Object;I)V" } : Jvm.MethodName)) ∈ lw_tbl := lw_at lw_m2 218 rfl
theorem q552 : (Jvm.Cond.instanceMethod ({ cls := "ThrowReports", name := "becomes", desc := "(ILjava/lang/Object;I)V" } : Jvm.MethodName)) ∈ lw_all := lw_g (lw_at lw_m2 219 rfl) rfl
theorem q553 : (Jvm.Cond.code ({ cls := "ThrowReports", name := "becomes", desc := "(ILjava/lang/Object;I)V" } : Jvm.MethodName) prog_1_method_5_code (4 : Nat) (Option.none : Option Jvm.ClassFile.FieldType)) ∈ lw_all := lw_g (lw_at lw_m2 220 rfl) rfl
theorem q554 : (Jvm.Cond.methodLink "ThrowReports" (221 : Nat) ({ cls := "ThrowReports", name := "deep", desc := "(III)V" } : Jvm.MethodName)) ∈ lw_all := lw_g (lw_at lw_m2 221 rfl) rfl
theorem q555 : (Jvm.Cond.privateMethod ({ cls := "ThrowReports", name := "deep", desc := "(III)V" } : Jvm.MethodName)) ∈ lw_tbl := lw_at lw_m2 222 rfl
theorem q556 : (Jvm.Cond.instanceMethod ({ cls := "ThrowReports", name := "deep", desc := "(III)V" } : Jvm.MethodName)) ∈ lw_all := lw_g (lw_at lw_m2 223 rfl) rfl
theorem q557 : (Jvm.Cond.code ({ cls := "ThrowReports", name := "deep", desc := "(III)V" } : Jvm.MethodName) prog_1_method_27_code (10 : Nat) (Option.none : Option Jvm.ClassFile.FieldType)) ∈ lw_all := lw_g (lw_at lw_m2 224 rfl) rfl
theorem q558 : (Jvm.Cond.classLink "ThrowReports" (284 : Nat) "[[I") ∈ lw_all := lw_g (lw_at lw_m2 225 rfl) rfl
theorem q560 : (Jvm.Cond.classLink "ThrowReports" (234 : Nat) "[I") ∈ lw_all := lw_g (lw_at lw_m2 227 rfl) rfl
theorem q562 : (Jvm.Cond.methodLinkNest "ThrowReports" (241 : Nat) ({ cls := "ThrowReports$Figure", name := "<init>", desc := "(I)V" } : Jvm.MethodName) "ThrowReports") ∈ lw_tbl := lw_at lw_m2 229 rfl
theorem q572 : (Jvm.Cond.methodLinkNest "ThrowReports" (246 : Nat) ({ cls := "ThrowReports$Round", name := "<init>", desc := "(I)V" } : Jvm.MethodName) "ThrowReports") ∈ lw_tbl := lw_at lw_m2 239 rfl
theorem q578 : (Jvm.Cond.methodLink "ThrowReports" (247 : Nat) ({ cls := "ThrowReports", name := "as", desc := "(Ljava/lang/Object;I)Ljava/lang/Object;" } : Jvm.MethodName)) ∈ lw_all := lw_g (lw_at lw_m3 5 rfl) rfl
theorem q579 : (Jvm.Cond.static ({ cls := "ThrowReports", name := "as", desc := "(Ljava/lang/Object;I)Ljava/lang/Object;" } : Jvm.MethodName)) ∈ lw_all := lw_g (lw_at lw_m3 6 rfl) rfl
theorem q580 : (Jvm.Cond.code ({ cls := "ThrowReports", name := "as", desc := "(Ljava/lang/Object;I)Ljava/lang/Object;" } : Jvm.MethodName) prog_1_method_28_code (2 : Nat) (Option.some (Jvm.ClassFile.FieldType.object "java/lang/Object"))) ∈ lw_all := lw_g (lw_at lw_m3 7 rfl) rfl
theorem q581 : (Jvm.Cond.classLink "ThrowReports" (286 : Nat) "[B") ∈ lw_all := lw_g (lw_at lw_m3 8 rfl) rfl
theorem q582 : (Jvm.Cond.classLink "ThrowReports" (288 : Nat) "[J") ∈ lw_all := lw_g (lw_at lw_m3 9 rfl) rfl
theorem q583 : (Jvm.Cond.classLink "ThrowReports" (289 : Nat) "[D") ∈ lw_all := lw_g (lw_at lw_m3 10 rfl) rfl
theorem q584 : (Jvm.Cond.classLink "ThrowReports" (291 : Nat) "[LThrowReports$Figure;") ∈ lw_all := lw_g (lw_at lw_m3 11 rfl) rfl
theorem q585 : (Jvm.Cond.classLink "ThrowReports" (293 : Nat) "[LThrowReports$Round;") ∈ lw_all := lw_g (lw_at lw_m3 12 rfl) rfl
theorem q586 : (Jvm.Cond.methodLink "ThrowReports" (251 : Nat) ({ cls := "ThrowReports", name := "got", desc := "(Ljava/lang/Object;II)J" } : Jvm.MethodName)) ∈ lw_all := lw_g (lw_at lw_m3 13 rfl) rfl
theorem q587 : (Jvm.Cond.static ({ cls := "ThrowReports", name := "got", desc := "(Ljava/lang/Object;II)J" } : Jvm.MethodName)) ∈ lw_all := lw_g (lw_at lw_m3 14 rfl) rfl
theorem q588 : (Jvm.Cond.code ({ cls := "ThrowReports", name := "got", desc := "(Ljava/lang/Object;II)J" } : Jvm.MethodName) prog_1_method_29_code (3 : Nat) (Option.some Jvm.ClassFile.FieldType.long)) ∈ lw_all := lw_g (lw_at lw_m3 15 rfl) rfl
theorem q589 : (Jvm.Cond.methodLink "ThrowReports" (295 : Nat) ({ cls := "java/lang/Double", name := "doubleToLongBits", desc := "(D)J" } : Jvm.MethodName)) ∈ lw_all := lw_g (lw_at lw_m3 16 rfl) rfl
theorem q599 : (Jvm.Cond.methodLink "ThrowReports" (255 : Nat) ({ cls := "ThrowReports", name := "sets", desc := "(Ljava/lang/Object;IIJ)V" } : Jvm.MethodName)) ∈ lw_all := lw_g (lw_at lw_m3 26 rfl) rfl
theorem q600 : (Jvm.Cond.static ({ cls := "ThrowReports", name := "sets", desc := "(Ljava/lang/Object;IIJ)V" } : Jvm.MethodName)) ∈ lw_all := lw_g (lw_at lw_m3 27 rfl) rfl
theorem q601 : (Jvm.Cond.code ({ cls := "ThrowReports", name := "sets", desc := "(Ljava/lang/Object;IIJ)V" } : Jvm.MethodName) prog_1_method_30_code (5 : Nat) (Option.none : Option Jvm.ClassFile.FieldType)) ∈ lw_all := lw_g (lw_at lw_m3 28 rfl) rfl
theorem q602 : (Jvm.Cond.methodLink "ThrowReports" (299 : Nat) ({ cls := "ThrowReports", name := "loaded", desc := "(J)D" } : Jvm.MethodName)) ∈ lw_all := lw_g (lw_at lw_m3 29 rfl) rfl
theorem q603 : (Jvm.Cond.static ({ cls := "ThrowReports", name := "loaded", desc := "(J)D" } : Jvm.MethodName)) ∈ lw_all := lw_g (lw_at lw_m3 30 rfl) rfl
theorem q604 : (Jvm.Cond.code ({ cls := "ThrowReports", name := "loaded", desc := "(J)D" } : Jvm.MethodName) prog_1_method_6_code (2 : Nat) (Option.some Jvm.ClassFile.FieldType.double)) ∈ lw_all := lw_g (lw_at lw_m3 31 rfl) rfl
theorem q605 : (Jvm.Cond.constantLong "ThrowReports" (61 : Nat) (9223372036854775807 : Int64)) ∈ lw_all := lw_g (lw_at lw_m3 32 rfl) rfl
theorem q606 : (Jvm.Cond.constantLong "ThrowReports" (63 : Nat) (9218868437227405312 : Int64)) ∈ lw_all := lw_g (lw_at lw_m3 33 rfl) rfl
theorem q607 : (Jvm.Cond.constantDouble "ThrowReports" (67 : Nat) (9221120237041090560 : UInt64)) ∈ lw_all := lw_g (lw_at lw_m3 34 rfl) rfl
theorem q608 : (Jvm.Cond.methodLink "ThrowReports" (69 : Nat) ({ cls := "java/lang/Double", name := "longBitsToDouble", desc := "(J)D" } : Jvm.MethodName)) ∈ lw_all := lw_g (lw_at lw_m3 35 rfl) rfl
theorem q611 : (Jvm.Cond.methodLink "ThrowReports" (258 : Nat) ({ cls := "ThrowReports", name := "takesItem", desc := "(ILjava/lang/Object;II)V" } : Jvm.MethodName)) ∈ lw_all := lw_g (lw_at lw_m3 38 rfl) rfl
theorem q612 : (Jvm.Cond.privateMethod ({ cls := "ThrowReports", name := "takesItem", desc := "(ILjava/lang/Object;II)V" } : Jvm.MethodName)) ∈ lw_tbl := lw_at lw_m3 39 rfl
theorem q613 : (Jvm.Cond.instanceMethod ({ cls := "ThrowReports", name := "takesItem", desc := "(ILjava/lang/Object;II)V" } : Jvm.MethodName)) ∈ lw_all := lw_g (lw_at lw_m3 40 rfl) rfl
theorem q614 : (Jvm.Cond.code ({ cls := "ThrowReports", name := "takesItem", desc := "(ILjava/lang/Object;II)V" } : Jvm.MethodName) prog_1_method_31_code (5 : Nat) (Option.none : Option Jvm.ClassFile.FieldType)) ∈ lw_all := lw_g (lw_at lw_m3 41 rfl) rfl
theorem q615 : (Jvm.Cond.methodLink "ThrowReports" (262 : Nat) ({ cls := "ThrowReports", name := "lays", desc := "(Ljava/lang/Object;IILjava/lang/Object;)V" } : Jvm.MethodName)) ∈ lw_all := lw_g (lw_at lw_m3 42 rfl) rfl
theorem q616 : (Jvm.Cond.static ({ cls := "ThrowReports", name := "lays", desc := "(Ljava/lang/Object;IILjava/lang/Object;)V" } : Jvm.MethodName)) ∈ lw_all := lw_g (lw_at lw_m3 43 rfl) rfl
theorem q617 : (Jvm.Cond.code ({ cls := "ThrowReports", name := "lays", desc := "(Ljava/lang/Object;IILjava/lang/Object;)V" } : Jvm.MethodName) prog_1_method_32_code (10 : Nat) (Option.none : Option Jvm.ClassFile.FieldType)) ∈ lw_all := lw_g (lw_at lw_m3 44 rfl) rfl
theorem q618 : (Jvm.Cond.methodLink "ThrowReports" (266 : Nat) ({ cls := "ThrowReports", name := "lengthOf", desc := "(Ljava/lang/Object;I)I" } : Jvm.MethodName)) ∈ lw_all := lw_g (lw_at lw_m3 45 rfl) rfl
theorem q619 : (Jvm.Cond.static ({ cls := "ThrowReports", name := "lengthOf", desc := "(Ljava/lang/Object;I)I" } : Jvm.MethodName)) ∈ lw_all := lw_g (lw_at lw_m3 46 rfl) rfl
theorem q620 : (Jvm.Cond.code ({ cls := "ThrowReports", name := "lengthOf", desc := "(Ljava/lang/Object;I)I" } : Jvm.MethodName) prog_1_method_33_code (2 : Nat) (Option.some Jvm.ClassFile.FieldType.int)) ∈ lw_all := lw_g (lw_at lw_m3 47 rfl) rfl
theorem q621 : (Jvm.Cond.methodLink "ThrowReports" (270 : Nat) ({ cls := "[I", name := "clone", desc := "()Ljava/lang/Object;" } : Jvm.MethodName)) ∈ lw_all := lw_g (lw_at lw_m3 48 rfl) rfl
theorem q627 : (Jvm.Cond.interfaceEntry "ThrowReports" (274 : Nat)) ∈ lw_tbl := lw_at lw_m3 54 rfl
theorem q628 : (Jvm.Cond.methodLink "ThrowReports" (274 : Nat) ({ cls := "ThrowReports$Told", name := "tells", desc := "()I" } : Jvm.MethodName)) ∈ lw_all := lw_g (lw_at lw_m3 55 rfl) rfl
theorem q656 : (Jvm.Cond.methodLink "ThrowReports" (279 : Nat) ({ cls := "ThrowReports", name := "copies", desc := "(LThrowReports$Holder;ILThrowReports$Holder;II)V" } : Jvm.MethodName)) ∈ lw_all := lw_g (lw_at lw_m3 83 rfl) rfl
theorem q657 : (Jvm.Cond.privateMethod ({ cls := "ThrowReports", name := "copies", desc := "(LThrowReports$Holder;ILThrowReports$Holder;II)V" } : Jvm.MethodName)) ∈ lw_tbl := lw_at lw_m3 84 rfl
theorem q658 : (Jvm.Cond.instanceMethod ({ cls := "ThrowReports", name := "copies", desc := "(LThrowReports$Holder;ILThrowReports$Holder;II)V" } : Jvm.MethodName)) ∈ lw_all := lw_g (lw_at lw_m3 85 rfl) rfl
theorem q659 : (Jvm.Cond.codeWith ({ cls := "ThrowReports", name := "copies", desc := "(LThrowReports$Holder;ILThrowReports$Holder;II)V" } : Jvm.MethodName) prog_1_method_34_code (8 : Nat) (Option.none : Option Jvm.ClassFile.FieldType) [((3 : Nat), (22 : Nat), (54 : Nat), (0 : Nat)), ((54 : Nat), (56 : Nat), (54 : Nat), (0 : Nat))]) ∈ lw_all := lw_g (lw_at lw_m3 86 rfl) rfl
theorem q660 : (Jvm.Cond.methodLink "ThrowReports" (302 : Nat) ({ cls := "java/lang/System", name := "arraycopy", desc := "(Ljava/lang/Object;ILjava/lang/Object;II)V" } : Jvm.MethodName)) ∈ lw_all := lw_g (lw_at lw_m3 87 rfl) rfl
theorem q663 : (Jvm.Cond.methodLink "ThrowReports" (308 : Nat) ({ cls := "ThrowReports", name := "cameOf", desc := "(LThrowReports$Holder;ILThrowReports$Holder;II)I" } : Jvm.MethodName)) ∈ lw_all := lw_g (lw_at lw_m3 90 rfl) rfl
theorem q664 : (Jvm.Cond.static ({ cls := "ThrowReports", name := "cameOf", desc := "(LThrowReports$Holder;ILThrowReports$Holder;II)I" } : Jvm.MethodName)) ∈ lw_all := lw_g (lw_at lw_m3 91 rfl) rfl
theorem q665 : (Jvm.Cond.code ({ cls := "ThrowReports", name := "cameOf", desc := "(LThrowReports$Holder;ILThrowReports$Holder;II)I" } : Jvm.MethodName) prog_1_method_35_code (7 : Nat) (Option.some Jvm.ClassFile.FieldType.int)) ∈ lw_all := lw_g (lw_at lw_m3 92 rfl) rfl
theorem q666 : (Jvm.Cond.methodLinkNest "ThrowReports" (312 : Nat) ({ cls := "ThrowReports$Holder", name := "isRow", desc := "()Z" } : Jvm.MethodName) "ThrowReports") ∈ lw_tbl := lw_at lw_m3 93 rfl
theorem q683 : (Jvm.Cond.methodLinkNest "ThrowReports" (175 : Nat) ({ cls := "ThrowReports$Holder", name := "kind", desc := "()I" } : Jvm.MethodName) "ThrowReports") ∈ lw_tbl := lw_at lw_m3 110 rfl
theorem q684 : (Jvm.Cond.methodLink "ThrowReports" (316 : Nat) ({ cls := "ThrowReports", name := "meet", desc := "(II)Z" } : Jvm.MethodName)) ∈ lw_all := lw_g (lw_at lw_m3 111 rfl) rfl
theorem q685 : (Jvm.Cond.static ({ cls := "ThrowReports", name := "meet", desc := "(II)Z" } : Jvm.MethodName)) ∈ lw_all := lw_g (lw_at lw_m3 112 rfl) rfl
theorem q686 : (Jvm.Cond.code ({ cls := "ThrowReports", name := "meet", desc := "(II)Z" } : Jvm.MethodName) prog_1_method_57_code (2 : Nat) (Option.some Jvm.ClassFile.FieldType.boolean)) ∈ lw_all := lw_g (lw_at lw_m3 113 rfl) rfl
theorem q687 : (Jvm.Cond.methodLinkNest "ThrowReports" (319 : Nat) ({ cls := "ThrowReports$Holder", name := "size", desc := "()I" } : Jvm.MethodName) "ThrowReports") ∈ lw_tbl := lw_at lw_m3 114 rfl
theorem q692 : (Jvm.Cond.methodLink "ThrowReports" (322 : Nat) ({ cls := "ThrowReports", name := "has", desc := "(ILThrowReports$Holder;I)Z" } : Jvm.MethodName)) ∈ lw_all := lw_g (lw_at lw_m3 119 rfl) rfl
theorem q693 : (Jvm.Cond.static ({ cls := "ThrowReports", name := "has", desc := "(ILThrowReports$Holder;I)Z" } : Jvm.MethodName)) ∈ lw_all := lw_g (lw_at lw_m3 120 rfl) rfl
theorem q694 : (Jvm.Cond.code ({ cls := "ThrowReports", name := "has", desc := "(ILThrowReports$Holder;I)Z" } : Jvm.MethodName) prog_1_method_36_code (4 : Nat) (Option.some Jvm.ClassFile.FieldType.boolean)) ∈ lw_all := lw_g (lw_at lw_m3 121 rfl) rfl
theorem q703 : (Jvm.Cond.methodLinkNest "ThrowReports" (283 : Nat) ({ cls := "ThrowReports$OwnFailure", name := "<init>", desc := "()V" } : Jvm.MethodName) "ThrowReports") ∈ lw_tbl := lw_at lw_m3 130 rfl
theorem q709 : (Jvm.Cond.methodLink "ThrowReports" (181 : Nat) ({ cls := "ThrowReports", name := "is", desc := "(II)Z" } : Jvm.MethodName)) ∈ lw_all := lw_g (lw_at lw_m3 136 rfl) rfl
theorem q710 : (Jvm.Cond.static ({ cls := "ThrowReports", name := "is", desc := "(II)Z" } : Jvm.MethodName)) ∈ lw_all := lw_g (lw_at lw_m3 137 rfl) rfl
theorem q711 : (Jvm.Cond.code ({ cls := "ThrowReports", name := "is", desc := "(II)Z" } : Jvm.MethodName) prog_1_method_1_code (2 : Nat) (Option.some Jvm.ClassFile.FieldType.boolean)) ∈ lw_all := lw_g (lw_at lw_m3 138 rfl) rfl
theorem q712 : (Jvm.Cond.methodLink "ThrowReports" (185 : Nat) ({ cls := "ThrowReports", name := "guards", desc := "(LThrowReports$Node;)V" } : Jvm.MethodName)) ∈ lw_all := lw_g (lw_at lw_m3 139 rfl) rfl
theorem q713 : (Jvm.Cond.privateMethod ({ cls := "ThrowReports", name := "guards", desc := "(LThrowReports$Node;)V" } : Jvm.MethodName)) ∈ lw_tbl := lw_at lw_m3 140 rfl
theorem q714 : (Jvm.Cond.instanceMethod ({ cls := "ThrowReports", name := "guards", desc := "(LThrowReports$Node;)V" } : Jvm.MethodName)) ∈ lw_all := lw_g (lw_at lw_m3 141 rfl) rfl
theorem q715 : (Jvm.Cond.codeWith ({ cls := "ThrowReports", name := "guards", desc := "(LThrowReports$Node;)V" } : Jvm.MethodName) prog_1_method_21_code (4 : Nat) (Option.none : Option Jvm.ClassFile.FieldType) [((2 : Nat), (9 : Nat), (28 : Nat), (0 : Nat))]) ∈ lw_all := lw_g (lw_at lw_m3 142 rfl) rfl
theorem q716 : (Jvm.Cond.methodLink "ThrowReports" (204 : Nat) ({ cls := "ThrowReports", name := "takes", desc := "(LThrowReports$Node;)V" } : Jvm.MethodName)) ∈ lw_all := lw_g (lw_at lw_m3 143 rfl) rfl
theorem q717 : (Jvm.Cond.privateMethod ({ cls := "ThrowReports", name := "takes", desc := "(LThrowReports$Node;)V" } : Jvm.MethodName)) ∈ lw_tbl := lw_at lw_m3 144 rfl
theorem q718 : (Jvm.Cond.instanceMethod ({ cls := "ThrowReports", name := "takes", desc := "(LThrowReports$Node;)V" } : Jvm.MethodName)) ∈ lw_all := lw_g (lw_at lw_m3 145 rfl) rfl
theorem q719 : (Jvm.Cond.codeWith ({ cls := "ThrowReports", name := "takes", desc := "(LThrowReports$Node;)V" } : Jvm.MethodName) prog_1_method_24_code (3 : Nat) (Option.none : Option Jvm.ClassFile.FieldType) [((0 : Nat), (8 : Nat), (11 : Nat), (148 : Nat)), ((0 : Nat), (8 : Nat), (22 : Nat), (150 : Nat)), ((0 : Nat), (8 : Nat), (33 : Nat), (152 : Nat)), ((0 : Nat), (8 : Nat), (44 : Nat), (154 : Nat)), ((0 : Nat), (8 : Nat), (55 : Nat), (156 : Nat)), ((0 : Nat), (8 : Nat), (66 : Nat), (158 : Nat)), ((0 : Nat), (8 : Nat), (78 : Nat), (160 : Nat)), ((0 : Nat), (8 : Nat), (90 : Nat), (58 : Nat))]) ∈ lw_all := lw_g (lw_at lw_m3 146 rfl) rfl
theorem q720 : (Jvm.Cond.methodLink "ThrowReports" (213 : Nat) ({ cls := "ThrowReports", name := "handles", desc := "(LThrowReports$Node;ILjava/lang/RuntimeException;)V" } : Jvm.MethodName)) ∈ lw_all := lw_g (lw_at lw_m3 147 rfl) rfl
theorem q721 : (Jvm.Cond.privateMethod ({ cls := "ThrowReports", name := "handles", desc := "(LThrowReports$Node;ILjava/lang/RuntimeException;)V" } : Jvm.MethodName)) ∈ lw_tbl := lw_at lw_m3 148 rfl
theorem q722 : (Jvm.Cond.instanceMethod ({ cls := "ThrowReports", name := "handles", desc := "(LThrowReports$Node;ILjava/lang/RuntimeException;)V" } : Jvm.MethodName)) ∈ lw_all := lw_g (lw_at lw_m3 149 rfl) rfl
theorem q723 : (Jvm.Cond.code ({ cls := "ThrowReports", name := "handles", desc := "(LThrowReports$Node;ILjava/lang/RuntimeException;)V" } : Jvm.MethodName) prog_1_method_23_code (4 : Nat) (Option.none : Option Jvm.ClassFile.FieldType)) ∈ lw_all := lw_g (lw_at lw_m3 150 rfl) rfl
theorem q724 : (Jvm.Cond.methodLinkNest "ThrowReports" (211 : Nat) ({ cls := "ThrowReports$Node", name := "takes", desc := "(I)Z" } : Jvm.MethodName) "ThrowReports") ∈ lw_tbl := lw_at lw_m3 151 rfl
theorem q728 : (Jvm.Cond.methodLink "ThrowReports" (207 : Nat) ({ cls := "ThrowReports", name := "ends", desc := "(LThrowReports$Node;Z)V" } : Jvm.MethodName)) ∈ lw_all := lw_g (lw_at lw_m3 155 rfl) rfl
theorem q729 : (Jvm.Cond.privateMethod ({ cls := "ThrowReports", name := "ends", desc := "(LThrowReports$Node;Z)V" } : Jvm.MethodName)) ∈ lw_tbl := lw_at lw_m3 156 rfl
theorem q730 : (Jvm.Cond.instanceMethod ({ cls := "ThrowReports", name := "ends", desc := "(LThrowReports$Node;Z)V" } : Jvm.MethodName)) ∈ lw_all := lw_g (lw_at lw_m3 157 rfl) rfl
theorem q731 : (Jvm.Cond.codeWith ({ cls := "ThrowReports", name := "ends", desc := "(LThrowReports$Node;Z)V" } : Jvm.MethodName) prog_1_method_22_code (5 : Nat) (Option.none : Option Jvm.ClassFile.FieldType) [((12 : Nat), (19 : Nat), (44 : Nat), (0 : Nat)), ((44 : Nat), (46 : Nat), (44 : Nat), (0 : Nat))]) ∈ lw_all := lw_g (lw_at lw_m3 158 rfl) rfl
theorem q733 : (Jvm.Cond.instanceMethod ({ cls := "ThrowReports", name := "ran", desc := "(I)I" } : Jvm.MethodName)) ∈ lw_all := lw_g (lw_at lw_m3 160 rfl) rfl
theorem q734 : (Jvm.Cond.selects "ThrowReports" ({ cls := "ThrowReports", name := "ran", desc := "(I)I" } : Jvm.MethodName) ({ cls := "ThrowReports", name := "ran", desc := "(I)I" } : Jvm.MethodName)) ∈ lw_all := lw_g (lw_at lw_m3 161 rfl) rfl
theorem q735 : (Jvm.Cond.code ({ cls := "ThrowReports", name := "ran", desc := "(I)I" } : Jvm.MethodName) prog_1_method_37_code (2 : Nat) (Option.some Jvm.ClassFile.FieldType.int)) ∈ lw_all := lw_g (lw_at lw_m3 162 rfl) rfl
theorem q737 : (Jvm.Cond.instanceMethod ({ cls := "ThrowReports", name := "clear", desc := "()I" } : Jvm.MethodName)) ∈ lw_all := lw_g (lw_at lw_m3 164 rfl) rfl
theorem q738 : (Jvm.Cond.selects "ThrowReports" ({ cls := "ThrowReports", name := "clear", desc := "()I" } : Jvm.MethodName) ({ cls := "ThrowReports", name := "clear", desc := "()I" } : Jvm.MethodName)) ∈ lw_all := lw_g (lw_at lw_m3 165 rfl) rfl
theorem q739 : (Jvm.Cond.code ({ cls := "ThrowReports", name := "clear", desc := "()I" } : Jvm.MethodName) prog_1_method_38_code (3 : Nat) (Option.some Jvm.ClassFile.FieldType.int)) ∈ lw_all := lw_g (lw_at lw_m3 166 rfl) rfl
theorem q741 : (Jvm.Cond.instanceMethod ({ cls := "ThrowReports", name := "count", desc := "(I)I" } : Jvm.MethodName)) ∈ lw_all := lw_g (lw_at lw_m3 168 rfl) rfl
theorem q742 : (Jvm.Cond.selects "ThrowReports" ({ cls := "ThrowReports", name := "count", desc := "(I)I" } : Jvm.MethodName) ({ cls := "ThrowReports", name := "count", desc := "(I)I" } : Jvm.MethodName)) ∈ lw_all := lw_g (lw_at lw_m3 169 rfl) rfl
theorem q743 : (Jvm.Cond.code ({ cls := "ThrowReports", name := "count", desc := "(I)I" } : Jvm.MethodName) prog_1_method_39_code (2 : Nat) (Option.some Jvm.ClassFile.FieldType.int)) ∈ lw_all := lw_g (lw_at lw_m3 170 rfl) rfl
theorem q745 : (Jvm.Cond.instanceMethod ({ cls := "ThrowReports", name := "slot", desc := "(II)I" } : Jvm.MethodName)) ∈ lw_all := lw_g (lw_at lw_m3 172 rfl) rfl
theorem q746 : (Jvm.Cond.selects "ThrowReports" ({ cls := "ThrowReports", name := "slot", desc := "(II)I" } : Jvm.MethodName) ({ cls := "ThrowReports", name := "slot", desc := "(II)I" } : Jvm.MethodName)) ∈ lw_all := lw_g (lw_at lw_m3 173 rfl) rfl
theorem q747 : (Jvm.Cond.code ({ cls := "ThrowReports", name := "slot", desc := "(II)I" } : Jvm.MethodName) prog_1_method_40_code (4 : Nat) (Option.some Jvm.ClassFile.FieldType.int)) ∈ lw_all := lw_g (lw_at lw_m3 174 rfl) rfl
theorem q748 : (Jvm.Cond.methodLink "ThrowReports" (326 : Nat) ({ cls := "ThrowReports", name := "numberOf", desc := "(Ljava/lang/Object;)I" } : Jvm.MethodName)) ∈ lw_all := lw_g (lw_at lw_m3 175 rfl) rfl
theorem q749 : (Jvm.Cond.privateMethod ({ cls := "ThrowReports", name := "numberOf", desc := "(Ljava/lang/Object;)I" } : Jvm.MethodName)) ∈ lw_tbl := lw_at lw_m3 176 rfl
theorem q750 : (Jvm.Cond.instanceMethod ({ cls := "ThrowReports", name := "numberOf", desc := "(Ljava/lang/Object;)I" } : Jvm.MethodName)) ∈ lw_all := lw_g (lw_at lw_m3 177 rfl) rfl
theorem q751 : (Jvm.Cond.code ({ cls := "ThrowReports", name := "numberOf", desc := "(Ljava/lang/Object;)I" } : Jvm.MethodName) prog_1_method_3_code (3 : Nat) (Option.some Jvm.ClassFile.FieldType.int)) ∈ lw_all := lw_g (lw_at lw_m3 178 rfl) rfl
theorem q753 : (Jvm.Cond.instanceMethod ({ cls := "ThrowReports", name := "item", desc := "(II)J" } : Jvm.MethodName)) ∈ lw_all := lw_g (lw_at lw_m3 180 rfl) rfl
theorem q754 : (Jvm.Cond.selects "ThrowReports" ({ cls := "ThrowReports", name := "item", desc := "(II)J" } : Jvm.MethodName) ({ cls := "ThrowReports", name := "item", desc := "(II)J" } : Jvm.MethodName)) ∈ lw_all := lw_g (lw_at lw_m3 181 rfl) rfl
theorem q755 : (Jvm.Cond.code ({ cls := "ThrowReports", name := "item", desc := "(II)J" } : Jvm.MethodName) prog_1_method_41_code (5 : Nat) (Option.some Jvm.ClassFile.FieldType.long)) ∈ lw_all := lw_g (lw_at lw_m3 182 rfl) rfl
theorem q757 : (Jvm.Cond.instanceMethod ({ cls := "ThrowReports", name := "register", desc := "(I)J" } : Jvm.MethodName)) ∈ lw_all := lw_g (lw_at lw_m3 184 rfl) rfl
theorem q758 : (Jvm.Cond.selects "ThrowReports" ({ cls := "ThrowReports", name := "register", desc := "(I)J" } : Jvm.MethodName) ({ cls := "ThrowReports", name := "register", desc := "(I)J" } : Jvm.MethodName)) ∈ lw_all := lw_g (lw_at lw_m3 185 rfl) rfl
theorem q759 : (Jvm.Cond.code ({ cls := "ThrowReports", name := "register", desc := "(I)J" } : Jvm.MethodName) prog_1_method_42_code (2 : Nat) (Option.some Jvm.ClassFile.FieldType.long)) ∈ lw_all := lw_g (lw_at lw_m3 186 rfl) rfl
theorem q761 : (Jvm.Cond.instanceMethod ({ cls := "ThrowReports", name := "alike", desc := "(II)I" } : Jvm.MethodName)) ∈ lw_all := lw_g (lw_at lw_m3 188 rfl) rfl
theorem q762 : (Jvm.Cond.selects "ThrowReports" ({ cls := "ThrowReports", name := "alike", desc := "(II)I" } : Jvm.MethodName) ({ cls := "ThrowReports", name := "alike", desc := "(II)I" } : Jvm.MethodName)) ∈ lw_all := lw_g (lw_at lw_m3 189 rfl) rfl
theorem q763 : (Jvm.Cond.code ({ cls := "ThrowReports", name := "alike", desc := "(II)I" } : Jvm.MethodName) prog_1_method_45_code (5 : Nat) (Option.some Jvm.ClassFile.FieldType.int)) ∈ lw_all := lw_g (lw_at lw_m3 190 rfl) rfl
theorem q764 : (Jvm.Cond.methodLink "ThrowReports" (334 : Nat) ({ cls := "ThrowReports", name := "isAlike", desc := "(LThrowReports$Holder;LThrowReports$Holder;)Z" } : Jvm.MethodName)) ∈ lw_all := lw_g (lw_at lw_m3 191 rfl) rfl
theorem q765 : (Jvm.Cond.privateMethod ({ cls := "ThrowReports", name := "isAlike", desc := "(LThrowReports$Holder;LThrowReports$Holder;)Z" } : Jvm.MethodName)) ∈ lw_tbl := lw_at lw_m3 192 rfl
theorem q766 : (Jvm.Cond.instanceMethod ({ cls := "ThrowReports", name := "isAlike", desc := "(LThrowReports$Holder;LThrowReports$Holder;)Z" } : Jvm.MethodName)) ∈ lw_all := lw_g (lw_at lw_m3 193 rfl) rfl
theorem q767 : (Jvm.Cond.code ({ cls := "ThrowReports", name := "isAlike", desc := "(LThrowReports$Holder;LThrowReports$Holder;)Z" } : Jvm.MethodName) prog_1_method_44_code (6 : Nat) (Option.some Jvm.ClassFile.FieldType.boolean)) ∈ lw_all := lw_g (lw_at lw_m3 194 rfl) rfl
theorem q768 : (Jvm.Cond.methodLink "ThrowReports" (330 : Nat) ({ cls := "ThrowReports", name := "sameInts", desc := "([I[I)Z" } : Jvm.MethodName)) ∈ lw_all := lw_g (lw_at lw_m3 195 rfl) rfl
theorem q769 : (Jvm.Cond.static ({ cls := "ThrowReports", name := "sameInts", desc := "([I[I)Z" } : Jvm.MethodName)) ∈ lw_all := lw_g (lw_at lw_m3 196 rfl) rfl
theorem q770 : (Jvm.Cond.code ({ cls := "ThrowReports", name := "sameInts", desc := "([I[I)Z" } : Jvm.MethodName) prog_1_method_43_code (4 : Nat) (Option.some Jvm.ClassFile.FieldType.boolean)) ∈ lw_all := lw_g (lw_at lw_m3 197 rfl) rfl
theorem q772 : (Jvm.Cond.instanceMethod ({ cls := "ThrowReports", name := "given", desc := "(II)I" } : Jvm.MethodName)) ∈ lw_all := lw_g (lw_at lw_m3 199 rfl) rfl
theorem q773 : (Jvm.Cond.selects "ThrowReports" ({ cls := "ThrowReports", name := "given", desc := "(II)I" } : Jvm.MethodName) ({ cls := "ThrowReports", name := "given", desc := "(II)I" } : Jvm.MethodName)) ∈ lw_all := lw_g (lw_at lw_m3 200 rfl) rfl
theorem q774 : (Jvm.Cond.code ({ cls := "ThrowReports", name := "given", desc := "(II)I" } : Jvm.MethodName) prog_1_method_47_code (4 : Nat) (Option.some Jvm.ClassFile.FieldType.int)) ∈ lw_all := lw_g (lw_at lw_m3 201 rfl) rfl
theorem q776 : (Jvm.Cond.instanceMethod ({ cls := "ThrowReports", name := "report", desc := "(I)I" } : Jvm.MethodName)) ∈ lw_all := lw_g (lw_at lw_m3 203 rfl) rfl
theorem q777 : (Jvm.Cond.selects "ThrowReports" ({ cls := "ThrowReports", name := "report", desc := "(I)I" } : Jvm.MethodName) ({ cls := "ThrowReports", name := "report", desc := "(I)I" } : Jvm.MethodName)) ∈ lw_all := lw_g (lw_at lw_m3 204 rfl) rfl
theorem q778 : (Jvm.Cond.code ({ cls := "ThrowReports", name := "report", desc := "(I)I" } : Jvm.MethodName) prog_1_method_48_code (3 : Nat) (Option.some Jvm.ClassFile.FieldType.int)) ∈ lw_all := lw_g (lw_at lw_m3 205 rfl) rfl
theorem q779 : (Jvm.Cond.methodLinkNest "ThrowReports" (342 : Nat) ({ cls := "ThrowReports$Node", name := "forget", desc := "()V" } : Jvm.MethodName) "ThrowReports") ∈ lw_tbl := lw_at lw_m3 206 rfl
theorem q783 : (Jvm.Cond.methodLink "ThrowReports" (345 : Nat) ({ cls := "ThrowReports", name := "through", desc := "(LThrowReports$Node;LThrowReports$State;)LThrowReports$Ways;" } : Jvm.MethodName)) ∈ lw_all := lw_g (lw_at lw_m3 210 rfl) rfl
theorem q784 : (Jvm.Cond.privateMethod ({ cls := "ThrowReports", name := "through", desc := "(LThrowReports$Node;LThrowReports$State;)LThrowReports$Ways;" } : Jvm.MethodName)) ∈ lw_tbl := lw_at lw_m3 211 rfl
theorem q785 : (Jvm.Cond.instanceMethod ({ cls := "ThrowReports", name := "through", desc := "(LThrowReports$Node;LThrowReports$State;)LThrowReports$Ways;" } : Jvm.MethodName)) ∈ lw_all := lw_g (lw_at lw_m3 212 rfl) rfl
theorem q786 : (Jvm.Cond.code ({ cls := "ThrowReports", name := "through", desc := "(LThrowReports$Node;LThrowReports$State;)LThrowReports$Ways;" } : Jvm.MethodName) prog_1_method_49_code (4 : Nat) (Option.some (Jvm.ClassFile.FieldType.object "ThrowReports$Ways"))) ∈ lw_all := lw_g (lw_at lw_m3 213 rfl) rfl
theorem q787 : (Jvm.Cond.methodLink "ThrowReports" (357 : Nat) ({ cls := "ThrowReports", name := "ofAct", desc := "(LThrowReports$Node;LThrowReports$State;)LThrowReports$Ways;" } : Jvm.MethodName)) ∈ lw_all := lw_g (lw_at lw_m3 214 rfl) rfl
theorem q788 : (Jvm.Cond.static ({ cls := "ThrowReports", name := "ofAct", desc := "(LThrowReports$Node;LThrowReports$State;)LThrowReports$Ways;" } : Jvm.MethodName)) ∈ lw_all := lw_g (lw_at lw_m3 215 rfl) rfl
theorem q789 : (Jvm.Cond.code ({ cls := "ThrowReports", name := "ofAct", desc := "(LThrowReports$Node;LThrowReports$State;)LThrowReports$Ways;" } : Jvm.MethodName) prog_1_method_55_code (3 : Nat) (Option.some (Jvm.ClassFile.FieldType.object "ThrowReports$Ways"))) ∈ lw_all := lw_g (lw_at lw_m3 216 rfl) rfl
theorem q790 : (Jvm.Cond.classLink "ThrowReports" (404 : Nat) "ThrowReports$Questions") ∈ lw_all := lw_g (lw_at lw_m3 217 rfl) rfl
theorem q792 : (Jvm.Cond.methodLinkNest "ThrowReports" (406 : Nat) ({ cls := "ThrowReports$Questions", name := "<init>", desc := "(LThrowReports$State;)V" } : Jvm.MethodName) "ThrowReports") ∈ lw_tbl := lw_at lw_m3 219 rfl
theorem q805 : (Jvm.Cond.fieldLinkNest "ThrowReports" (372 : Nat) "ThrowReports$Ways" "by" "[LThrowReports$State;" "ThrowReports") ∈ lw_tbl := lw_at lw_m3 232 rfl
theorem q811 : (Jvm.Cond.fieldLinkNest "ThrowReports" (440 : Nat) "ThrowReports$Questions" "now" "LThrowReports$State;" "ThrowReports") ∈ lw_tbl := lw_at lw_m3 238 rfl
theorem q817 : (Jvm.Cond.methodLinkNest "ThrowReports" (409 : Nat) ({ cls := "ThrowReports$Questions", name := "size", desc := "(Z)LThrowReports$Questions;" } : Jvm.MethodName) "ThrowReports") ∈ lw_tbl := lw_at lw_m4 4 rfl
theorem q826 : (Jvm.Cond.static ({ cls := "ThrowReports", name := "together", desc := "(LThrowReports$State;LThrowReports$State;)LThrowReports$State;" } : Jvm.MethodName)) ∈ lw_all := lw_g (lw_at lw_m4 13 rfl) rfl
theorem q827 : (Jvm.Cond.code ({ cls := "ThrowReports", name := "together", desc := "(LThrowReports$State;LThrowReports$State;)LThrowReports$State;" } : Jvm.MethodName) prog_1_method_46_code (4 : Nat) (Option.some (Jvm.ClassFile.FieldType.object "ThrowReports$State"))) ∈ lw_all := lw_g (lw_at lw_m4 14 rfl) rfl
theorem q828 : (Jvm.Cond.methodLinkNest "ThrowReports" (338 : Nat) ({ cls := "ThrowReports$State", name := "copy", desc := "()LThrowReports$State;" } : Jvm.MethodName) "ThrowReports") ∈ lw_tbl := lw_at lw_m4 15 rfl
theorem q835 : (Jvm.Cond.methodLinkNest "ThrowReports" (412 : Nat) ({ cls := "ThrowReports$Questions", name := "may", desc := "(I)LThrowReports$Questions;" } : Jvm.MethodName) "ThrowReports") ∈ lw_tbl := lw_at lw_m4 22 rfl
theorem q839 : (Jvm.Cond.methodLinkNest "ThrowReports" (415 : Nat) ({ cls := "ThrowReports$Questions", name := "anew", desc := "(II)LThrowReports$Ways;" } : Jvm.MethodName) "ThrowReports") ∈ lw_tbl := lw_at lw_m4 26 rfl
theorem q852 : (Jvm.Cond.methodLinkNest "ThrowReports" (419 : Nat) ({ cls := "ThrowReports$Questions", name := "as", desc := "(II)LThrowReports$Questions;" } : Jvm.MethodName) "ThrowReports") ∈ lw_tbl := lw_at lw_m4 39 rfl
theorem q861 : (Jvm.Cond.static ({ cls := "ThrowReports", name := "thatAre", desc := "(II)I" } : Jvm.MethodName)) ∈ lw_all := lw_g (lw_at lw_m4 48 rfl) rfl
theorem q862 : (Jvm.Cond.code ({ cls := "ThrowReports", name := "thatAre", desc := "(II)I" } : Jvm.MethodName) prog_1_method_54_code (4 : Nat) (Option.some Jvm.ClassFile.FieldType.int)) ∈ lw_all := lw_g (lw_at lw_m4 49 rfl) rfl
theorem q867 : (Jvm.Cond.methodLinkNest "ThrowReports" (422 : Nat) ({ cls := "ThrowReports$Questions", name := "set", desc := "(I)I" } : Jvm.MethodName) "ThrowReports") ∈ lw_tbl := lw_at lw_m4 54 rfl
theorem q868 : (Jvm.Cond.methodLinkNest "ThrowReports" (426 : Nat) ({ cls := "ThrowReports$Questions", name := "there", desc := "(I)LThrowReports$Questions;" } : Jvm.MethodName) "ThrowReports") ∈ lw_tbl := lw_at lw_m4 55 rfl
theorem q872 : (Jvm.Cond.methodLinkNest "ThrowReports" (429 : Nat) ({ cls := "ThrowReports$Questions", name := "end", desc := "()LThrowReports$Ways;" } : Jvm.MethodName) "ThrowReports") ∈ lw_tbl := lw_at lw_m4 59 rfl
theorem q873 : (Jvm.Cond.methodLink "ThrowReports" (433 : Nat) ({ cls := "ThrowReports", name := "stores", desc := "(LThrowReports$Questions;II)LThrowReports$Ways;" } : Jvm.MethodName)) ∈ lw_all := lw_g (lw_at lw_m4 60 rfl) rfl
theorem q874 : (Jvm.Cond.static ({ cls := "ThrowReports", name := "stores", desc := "(LThrowReports$Questions;II)LThrowReports$Ways;" } : Jvm.MethodName)) ∈ lw_all := lw_g (lw_at lw_m4 61 rfl) rfl
theorem q875 : (Jvm.Cond.code ({ cls := "ThrowReports", name := "stores", desc := "(LThrowReports$Questions;II)LThrowReports$Ways;" } : Jvm.MethodName) prog_1_method_56_code (7 : Nat) (Option.some (Jvm.ClassFile.FieldType.object "ThrowReports$Ways"))) ∈ lw_all := lw_g (lw_at lw_m4 62 rfl) rfl
theorem q876 : (Jvm.Cond.methodLinkNest "ThrowReports" (384 : Nat) ({ cls := "ThrowReports$State", name := "with", desc := "(II)LThrowReports$State;" } : Jvm.MethodName) "ThrowReports") ∈ lw_tbl := lw_at lw_m4 63 rfl
theorem q877 : (Jvm.Cond.methodLink "ThrowReports" (437 : Nat) ({ cls := "ThrowReports", name := "ofCopy", desc := "(LThrowReports$Questions;II)LThrowReports$Ways;" } : Jvm.MethodName)) ∈ lw_all := lw_g (lw_at lw_m4 64 rfl) rfl
theorem q878 : (Jvm.Cond.static ({ cls := "ThrowReports", name := "ofCopy", desc := "(LThrowReports$Questions;II)LThrowReports$Ways;" } : Jvm.MethodName)) ∈ lw_all := lw_g (lw_at lw_m4 65 rfl) rfl
theorem q879 : (Jvm.Cond.code ({ cls := "ThrowReports", name := "ofCopy", desc := "(LThrowReports$Questions;II)LThrowReports$Ways;" } : Jvm.MethodName) prog_1_method_60_code (7 : Nat) (Option.some (Jvm.ClassFile.FieldType.object "ThrowReports$Ways"))) ∈ lw_all := lw_g (lw_at lw_m4 66 rfl) rfl
theorem q880 : (Jvm.Cond.methodLink "ThrowReports" (443 : Nat) ({ cls := "ThrowReports", name := "mayUnlike", desc := "(II)Z" } : Jvm.MethodName)) ∈ lw_all := lw_g (lw_at lw_m4 67 rfl) rfl
theorem q881 : (Jvm.Cond.static ({ cls := "ThrowReports", name := "mayUnlike", desc := "(II)Z" } : Jvm.MethodName)) ∈ lw_all := lw_g (lw_at lw_m4 68 rfl) rfl
theorem q882 : (Jvm.Cond.code ({ cls := "ThrowReports", name := "mayUnlike", desc := "(II)Z" } : Jvm.MethodName) prog_1_method_59_code (6 : Nat) (Option.some Jvm.ClassFile.FieldType.boolean)) ∈ lw_all := lw_g (lw_at lw_m4 69 rfl) rfl
theorem q883 : (Jvm.Cond.methodLink "ThrowReports" (446 : Nat) ({ cls := "ThrowReports", name := "meeting", desc := "(II)I" } : Jvm.MethodName)) ∈ lw_all := lw_g (lw_at lw_m4 70 rfl) rfl
theorem q884 : (Jvm.Cond.static ({ cls := "ThrowReports", name := "meeting", desc := "(II)I" } : Jvm.MethodName)) ∈ lw_all := lw_g (lw_at lw_m4 71 rfl) rfl
theorem q885 : (Jvm.Cond.code ({ cls := "ThrowReports", name := "meeting", desc := "(II)I" } : Jvm.MethodName) prog_1_method_58_code (5 : Nat) (Option.some Jvm.ClassFile.FieldType.int)) ∈ lw_all := lw_g (lw_at lw_m4 72 rfl) rfl
theorem q886 : (Jvm.Cond.methodLink "ThrowReports" (360 : Nat) ({ cls := "ThrowReports", name := "ofBoth", desc := "(LThrowReports$Node;LThrowReports$State;)LThrowReports$Ways;" } : Jvm.MethodName)) ∈ lw_all := lw_g (lw_at lw_m4 73 rfl) rfl
theorem q887 : (Jvm.Cond.privateMethod ({ cls := "ThrowReports", name := "ofBoth", desc := "(LThrowReports$Node;LThrowReports$State;)LThrowReports$Ways;" } : Jvm.MethodName)) ∈ lw_tbl := lw_at lw_m4 74 rfl
theorem q888 : (Jvm.Cond.instanceMethod ({ cls := "ThrowReports", name := "ofBoth", desc := "(LThrowReports$Node;LThrowReports$State;)LThrowReports$Ways;" } : Jvm.MethodName)) ∈ lw_all := lw_g (lw_at lw_m4 75 rfl) rfl
theorem q889 : (Jvm.Cond.code ({ cls := "ThrowReports", name := "ofBoth", desc := "(LThrowReports$Node;LThrowReports$State;)LThrowReports$Ways;" } : Jvm.MethodName) prog_1_method_50_code (5 : Nat) (Option.some (Jvm.ClassFile.FieldType.object "ThrowReports$Ways"))) ∈ lw_all := lw_g (lw_at lw_m4 76 rfl) rfl
theorem q890 : (Jvm.Cond.methodLinkNest "ThrowReports" (376 : Nat) ({ cls := "ThrowReports$Ways", name := "addAll", desc := "(LThrowReports$Ways;)V" } : Jvm.MethodName) "ThrowReports") ∈ lw_tbl := lw_at lw_m4 77 rfl
theorem q895 : (Jvm.Cond.methodLink "ThrowReports" (363 : Nat) ({ cls := "ThrowReports", name := "ofChoice", desc := "(LThrowReports$Node;LThrowReports$State;)LThrowReports$Ways;" } : Jvm.MethodName)) ∈ lw_all := lw_g (lw_at lw_m4 82 rfl) rfl
theorem q896 : (Jvm.Cond.privateMethod ({ cls := "ThrowReports", name := "ofChoice", desc := "(LThrowReports$Node;LThrowReports$State;)LThrowReports$Ways;" } : Jvm.MethodName)) ∈ lw_tbl := lw_at lw_m4 83 rfl
theorem q897 : (Jvm.Cond.instanceMethod ({ cls := "ThrowReports", name := "ofChoice", desc := "(LThrowReports$Node;LThrowReports$State;)LThrowReports$Ways;" } : Jvm.MethodName)) ∈ lw_all := lw_g (lw_at lw_m4 84 rfl) rfl
theorem q898 : (Jvm.Cond.code ({ cls := "ThrowReports", name := "ofChoice", desc := "(LThrowReports$Node;LThrowReports$State;)LThrowReports$Ways;" } : Jvm.MethodName) prog_1_method_51_code (6 : Nat) (Option.some (Jvm.ClassFile.FieldType.object "ThrowReports$Ways"))) ∈ lw_all := lw_g (lw_at lw_m4 85 rfl) rfl
theorem q899 : (Jvm.Cond.methodLink "ThrowReports" (380 : Nat) ({ cls := "ThrowReports", name := "thatAre", desc := "(II)I" } : Jvm.MethodName)) ∈ lw_all := lw_g (lw_at lw_m4 86 rfl) rfl
theorem q900 : (Jvm.Cond.classLink "ThrowReports" (350 : Nat) "ThrowReports$Ways") ∈ lw_all := lw_g (lw_at lw_m4 87 rfl) rfl
theorem q901 : (Jvm.Cond.methodLinkNest "ThrowReports" (383 : Nat) ({ cls := "ThrowReports$Ways", name := "<init>", desc := "()V" } : Jvm.MethodName) "ThrowReports") ∈ lw_tbl := lw_at lw_m4 88 rfl
theorem q902 : (Jvm.Cond.methodLink "ThrowReports" (366 : Nat) ({ cls := "ThrowReports", name := "ofGuard", desc := "(LThrowReports$Node;LThrowReports$State;)LThrowReports$Ways;" } : Jvm.MethodName)) ∈ lw_all := lw_g (lw_at lw_m4 89 rfl) rfl
theorem q903 : (Jvm.Cond.privateMethod ({ cls := "ThrowReports", name := "ofGuard", desc := "(LThrowReports$Node;LThrowReports$State;)LThrowReports$Ways;" } : Jvm.MethodName)) ∈ lw_tbl := lw_at lw_m4 90 rfl
theorem q904 : (Jvm.Cond.instanceMethod ({ cls := "ThrowReports", name := "ofGuard", desc := "(LThrowReports$Node;LThrowReports$State;)LThrowReports$Ways;" } : Jvm.MethodName)) ∈ lw_all := lw_g (lw_at lw_m4 91 rfl) rfl
theorem q905 : (Jvm.Cond.code ({ cls := "ThrowReports", name := "ofGuard", desc := "(LThrowReports$Node;LThrowReports$State;)LThrowReports$Ways;" } : Jvm.MethodName) prog_1_method_52_code (6 : Nat) (Option.some (Jvm.ClassFile.FieldType.object "ThrowReports$Ways"))) ∈ lw_all := lw_g (lw_at lw_m4 92 rfl) rfl
theorem q906 : (Jvm.Cond.methodLinkNest "ThrowReports" (349 : Nat) ({ cls := "ThrowReports$Ways", name := "bits", desc := "()I" } : Jvm.MethodName) "ThrowReports") ∈ lw_tbl := lw_at lw_m4 93 rfl
theorem q910 : (Jvm.Cond.methodLink "ThrowReports" (391 : Nat) ({ cls := "ThrowReports", name := "together", desc := "(LThrowReports$State;LThrowReports$State;)LThrowReports$State;" } : Jvm.MethodName)) ∈ lw_all := lw_g (lw_at lw_m4 97 rfl) rfl
theorem q911 : (Jvm.Cond.methodLinkNest "ThrowReports" (395 : Nat) ({ cls := "ThrowReports$Ways", name := "add", desc := "(ILThrowReports$State;)V" } : Jvm.MethodName) "ThrowReports") ∈ lw_tbl := lw_at lw_m4 98 rfl
theorem q912 : (Jvm.Cond.methodLink "ThrowReports" (399 : Nat) ({ cls := "ThrowReports", name := "behind", desc := "(LThrowReports$Node;LThrowReports$Ways;)LThrowReports$Ways;" } : Jvm.MethodName)) ∈ lw_all := lw_g (lw_at lw_m4 99 rfl) rfl
theorem q913 : (Jvm.Cond.privateMethod ({ cls := "ThrowReports", name := "behind", desc := "(LThrowReports$Node;LThrowReports$Ways;)LThrowReports$Ways;" } : Jvm.MethodName)) ∈ lw_tbl := lw_at lw_m4 100 rfl
theorem q914 : (Jvm.Cond.instanceMethod ({ cls := "ThrowReports", name := "behind", desc := "(LThrowReports$Node;LThrowReports$Ways;)LThrowReports$Ways;" } : Jvm.MethodName)) ∈ lw_all := lw_g (lw_at lw_m4 101 rfl) rfl
theorem q915 : (Jvm.Cond.code ({ cls := "ThrowReports", name := "behind", desc := "(LThrowReports$Node;LThrowReports$Ways;)LThrowReports$Ways;" } : Jvm.MethodName) prog_1_method_53_code (6 : Nat) (Option.some (Jvm.ClassFile.FieldType.object "ThrowReports$Ways"))) ∈ lw_all := lw_g (lw_at lw_m4 102 rfl) rfl
theorem q917 : (Jvm.Cond.instanceMethod ({ cls := "ThrowReports", name := "reached", desc := "(I)I" } : Jvm.MethodName)) ∈ lw_all := lw_g (lw_at lw_m4 104 rfl) rfl
theorem q918 : (Jvm.Cond.selects "ThrowReports" ({ cls := "ThrowReports", name := "reached", desc := "(I)I" } : Jvm.MethodName) ({ cls := "ThrowReports", name := "reached", desc := "(I)I" } : Jvm.MethodName)) ∈ lw_all := lw_g (lw_at lw_m4 105 rfl) rfl
theorem q919 : (Jvm.Cond.code ({ cls := "ThrowReports", name := "reached", desc := "(I)I" } : Jvm.MethodName) prog_1_method_61_code (2 : Nat) (Option.some Jvm.ClassFile.FieldType.int)) ∈ lw_all := lw_g (lw_at lw_m4 106 rfl) rfl
theorem q921 : (Jvm.Cond.instanceMethod ({ cls := "ThrowReports", name := "may", desc := "(I)I" } : Jvm.MethodName)) ∈ lw_all := lw_g (lw_at lw_m4 108 rfl) rfl
theorem q922 : (Jvm.Cond.selects "ThrowReports" ({ cls := "ThrowReports", name := "may", desc := "(I)I" } : Jvm.MethodName) ({ cls := "ThrowReports", name := "may", desc := "(I)I" } : Jvm.MethodName)) ∈ lw_all := lw_g (lw_at lw_m4 109 rfl) rfl
theorem q923 : (Jvm.Cond.code ({ cls := "ThrowReports", name := "may", desc := "(I)I" } : Jvm.MethodName) prog_1_method_62_code (2 : Nat) (Option.some Jvm.ClassFile.FieldType.int)) ∈ lw_all := lw_g (lw_at lw_m4 110 rfl) rfl
theorem q925 : (Jvm.Cond.instanceMethod ({ cls := "ThrowReports", name := "ahead", desc := "(II)I" } : Jvm.MethodName)) ∈ lw_all := lw_g (lw_at lw_m4 112 rfl) rfl
theorem q926 : (Jvm.Cond.selects "ThrowReports" ({ cls := "ThrowReports", name := "ahead", desc := "(II)I" } : Jvm.MethodName) ({ cls := "ThrowReports", name := "ahead", desc := "(II)I" } : Jvm.MethodName)) ∈ lw_all := lw_g (lw_at lw_m4 113 rfl) rfl
theorem q927 : (Jvm.Cond.code ({ cls := "ThrowReports", name := "ahead", desc := "(II)I" } : Jvm.MethodName) prog_1_method_63_code (3 : Nat) (Option.some Jvm.ClassFile.FieldType.int)) ∈ lw_all := lw_g (lw_at lw_m4 114 rfl) rfl
theorem q929 : (Jvm.Cond.instanceMethod ({ cls := "ThrowReports", name := "guarded", desc := "(II)I" } : Jvm.MethodName)) ∈ lw_all := lw_g (lw_at lw_m4 116 rfl) rfl
theorem q930 : (Jvm.Cond.selects "ThrowReports" ({ cls := "ThrowReports", name := "guarded", desc := "(II)I" } : Jvm.MethodName) ({ cls := "ThrowReports", name := "guarded", desc := "(II)I" } : Jvm.MethodName)) ∈ lw_all := lw_g (lw_at lw_m4 117 rfl) rfl
theorem q931 : (Jvm.Cond.code ({ cls := "ThrowReports", name := "guarded", desc := "(II)I" } : Jvm.MethodName) prog_1_method_64_code (4 : Nat) (Option.some Jvm.ClassFile.FieldType.int)) ∈ lw_all := lw_g (lw_at lw_m4 118 rfl) rfl
theorem in_X0 : ∀ w ∈ wsX00, w ∈ lw_all := lw_in wsX00 [172, 174, 176, 178, 180, 182, 184, 186, 188, 190, 192, 194, 196, 198] (by decide +kernel) (by decide +kernel)
