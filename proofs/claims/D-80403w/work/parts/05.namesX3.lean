/-! ThrowReportsModel -/
set_option maxRecDepth 100000
def RX3 : String := "ThrowReportsModel"
def TX3 : u_T := fun k => match k with
  | 0 => ("ThrowReportsModel", "things", "I", false)
  | 1 => ("ThrowReportsModel", "items", "I", false)
  | 2 => ("ThrowReportsModel", "kind", "[I", true)
  | 3 => ("ThrowReportsModel", "begin", "[I", true)
  | 4 => ("ThrowReportsModel", "length", "[I", true)
  | 5 => ("ThrowReportsModel", "number", "[I", true)
  | 6 => ("ThrowReportsModel", "item", "[J", true)
  | 7 => ("ThrowReportsModel", "slots", "[I", true)
  | 8 => ("ThrowReportsModel", "registers", "[J", true)
  | 9 => ("ThrowReportsModel", "nodes", "I", false)
  | 10 => ("ThrowReportsModel", "sort", "[I", true)
  | 11 => ("ThrowReportsModel", "op", "[I", true)
  | 12 => ("ThrowReportsModel", "na", "[I", true)
  | 13 => ("ThrowReportsModel", "nb", "[I", true)
  | 14 => ("ThrowReportsModel", "nc", "[I", true)
  | 15 => ("ThrowReportsModel", "nd", "[I", true)
  | 16 => ("ThrowReportsModel", "cost", "[I", true)
  | 17 => ("ThrowReportsModel", "begun", "I", false)
  | 18 => ("ThrowReportsModel", "failed", "I", false)
  | 19 => ("ThrowReportsModel", "came", "I", false)
  | 20 => ("ThrowReportsModel", "lasts", "I", false)
  | 21 => ("ThrowReportsModel", "losts", "I", false)
  | 22 => ("ThrowReportsModel", "latest", "I", false)
  | 23 => ("ThrowReportsModel", "middle", "[J", true)
  | 24 => ("ThrowReportsModel", "stack", "[I", true)
  | 25 => ("ThrowReportsModel", "phase", "[I", true)
  | 26 => ("ThrowReportsModel", "held", "[I", true)
  | 27 => ("ThrowReportsModel", "top", "I", false)
  | 28 => ("ThrowReportsModel", "reports", "Z", false)
  | 29 => ("ThrowReportsModel", "start", "[I", true)
  | 30 => ("ThrowReportsModel", "startTold", "[Z", true)
  | 31 => ("ThrowReportsModel", "reached", "[Z", true)
  | 32 => ("ThrowReportsModel", "mays", "[I", true)
  | 33 => ("ThrowReportsModel", "aheads", "[I", true)
  | 34 => ("ThrowReportsModel", "bodies", "[I", true)
  | 35 => ("ThrowReportsModel", "lost", "[I", true)
  | 36 => ("ThrowReportsModel", "outs", "[I", true)
  | 37 => ("ThrowReportsModel", "ways", "[I", true)
  | 38 => ("ThrowReportsModel", "ins", "[I", true)
  | _ => ("ThrowReportsModel", "now", "[I", true)
def tyX3 : Nat → FieldType := fun k => match k with
  | 0 => .int
  | 1 => .int
  | 2 => .array .int
  | 3 => .array .int
  | 4 => .array .int
  | 5 => .array .int
  | 6 => .array .long
  | 7 => .array .int
  | 8 => .array .long
  | 9 => .int
  | 10 => .array .int
  | 11 => .array .int
  | 12 => .array .int
  | 13 => .array .int
  | 14 => .array .int
  | 15 => .array .int
  | 16 => .array .int
  | 17 => .int
  | 18 => .int
  | 19 => .int
  | 20 => .int
  | 21 => .int
  | 22 => .int
  | 23 => .array .long
  | 24 => .array .int
  | 25 => .array .int
  | 26 => .array .int
  | 27 => .int
  | 28 => .boolean
  | 29 => .array .int
  | 30 => .array .boolean
  | 31 => .array .boolean
  | 32 => .array .int
  | 33 => .array .int
  | 34 => .array .int
  | 35 => .array .int
  | 36 => .array .int
  | 37 => .array .int
  | 38 => .array .int
  | _ => .array .int
abbrev wsX30 : List Cond := u_ws RX3 TX3 40
set_option maxRecDepth 100000 in
theorem nmX3 : ∀ a, a < 40 → ∀ b, b < 40 → a ≠ b → (TX3 a).2.1 ≠ (TX3 b).2.1 := by decide +kernel
set_option maxRecDepth 100000 in
theorem tyX3_ok : ∀ k, k < 40 → parseFieldDescriptor (TX3 k).2.2.1 = some (tyX3 k) := by decide +kernel
abbrev cX3_init : ByteArray := prog_15_method_1_code
def yX3_init : MethodName := ⟨RX3, "<init>", "()V"⟩
def dkwX3_init_10 : List UInt8 := [17, 3, 216, 188, 10, 181, 0, 97, 42, 16, 12, 188, 10, 181, 0, 100, 177]
abbrev dktX3_init_10 : List UInt8 := dkwX3_init_10 ++ []
def dkwX3_init_9 : List UInt8 := [188, 10, 181, 0, 88, 42, 17, 34, 152, 188, 10, 181, 0, 91, 42, 17, 34, 152, 188, 10, 181, 0, 94, 42]
abbrev dktX3_init_9 : List UInt8 := dkwX3_init_9 ++ dktX3_init_10
def dkwX3_init_8 : List UInt8 := [181, 0, 79, 42, 17, 3, 192, 188, 10, 181, 0, 82, 42, 16, 80, 188, 10, 181, 0, 85, 42, 16, 80]
abbrev dktX3_init_8 : List UInt8 := dkwX3_init_8 ++ dktX3_init_9
def dkwX3_init_7 : List UInt8 := [181, 0, 69, 42, 16, 12, 188, 4, 181, 0, 72, 42, 16, 80, 188, 4, 181, 0, 76, 42, 16, 80, 188, 10]
abbrev dktX3_init_7 : List UInt8 := dkwX3_init_7 ++ dktX3_init_8
def dkwX3_init_6 : List UInt8 := [181, 0, 60, 42, 16, 82, 188, 10, 181, 0, 63, 42, 16, 82, 188, 10, 181, 0, 66, 42, 16, 12, 188, 10]
abbrev dktX3_init_6 : List UInt8 := dkwX3_init_6 ++ dktX3_init_7
def dkwX3_init_5 : List UInt8 := [181, 0, 50, 42, 2, 181, 0, 53, 42, 17, 11, 184, 188, 11, 181, 0, 57, 42, 16, 82, 188, 10]
abbrev dktX3_init_5 : List UInt8 := dkwX3_init_5 ++ dktX3_init_6
def dkwX3_init_4 : List UInt8 := [181, 0, 41, 42, 16, 80, 188, 10, 181, 0, 44, 42, 16, 80, 188, 10, 181, 0, 47, 42, 16, 80, 188, 10]
abbrev dktX3_init_4 : List UInt8 := dkwX3_init_4 ++ dktX3_init_5
def dkwX3_init_3 : List UInt8 := [181, 0, 32, 42, 16, 80, 188, 10, 181, 0, 35, 42, 16, 80, 188, 10, 181, 0, 38, 42, 16, 80, 188, 10]
abbrev dktX3_init_3 : List UInt8 := dkwX3_init_3 ++ dktX3_init_4
def dkwX3_init_2 : List UInt8 := [181, 0, 22, 42, 16, 12, 188, 10, 181, 0, 26, 42, 16, 8, 188, 11, 181, 0, 29, 42, 16, 80, 188, 10]
abbrev dktX3_init_2 : List UInt8 := dkwX3_init_2 ++ dktX3_init_3
def dkwX3_init_1 : List UInt8 := [17, 0, 201, 188, 10, 181, 0, 16, 42, 17, 0, 201, 188, 10, 181, 0, 19, 42, 17, 11, 184, 188, 11]
abbrev dktX3_init_1 : List UInt8 := dkwX3_init_1 ++ dktX3_init_2
def dkwX3_init_0 : List UInt8 := [42, 183, 0, 1, 42, 17, 0, 201, 188, 10, 181, 0, 7, 42, 17, 0, 201, 188, 10, 181, 0, 13, 42]
abbrev dktX3_init_0 : List UInt8 := dkwX3_init_0 ++ dktX3_init_1
theorem dksX3_init_0 : cX3_init.data.toList.drop 0 = dktX3_init_0 := by decide +kernel
theorem dksX3_init_1 : cX3_init.data.toList.drop 23 = dktX3_init_1 := dk_seg dksX3_init_0 23 rfl rfl
theorem dksX3_init_2 : cX3_init.data.toList.drop 46 = dktX3_init_2 := dk_seg dksX3_init_1 23 rfl rfl
theorem dksX3_init_3 : cX3_init.data.toList.drop 70 = dktX3_init_3 := dk_seg dksX3_init_2 24 rfl rfl
theorem dksX3_init_4 : cX3_init.data.toList.drop 94 = dktX3_init_4 := dk_seg dksX3_init_3 24 rfl rfl
theorem dksX3_init_5 : cX3_init.data.toList.drop 118 = dktX3_init_5 := dk_seg dksX3_init_4 24 rfl rfl
theorem dksX3_init_6 : cX3_init.data.toList.drop 140 = dktX3_init_6 := dk_seg dksX3_init_5 22 rfl rfl
theorem dksX3_init_7 : cX3_init.data.toList.drop 164 = dktX3_init_7 := dk_seg dksX3_init_6 24 rfl rfl
theorem dksX3_init_8 : cX3_init.data.toList.drop 188 = dktX3_init_8 := dk_seg dksX3_init_7 24 rfl rfl
theorem dksX3_init_9 : cX3_init.data.toList.drop 211 = dktX3_init_9 := dk_seg dksX3_init_8 23 rfl rfl
theorem dksX3_init_10 : cX3_init.data.toList.drop 235 = dktX3_init_10 := dk_seg dksX3_init_9 24 rfl rfl
theorem dX3_init_0 : decode cX3_init 0 = .ok (.aload_n 0, 1) := dk_42 (dk_at dksX3_init_0 0 rfl rfl)
theorem dX3_init_1 : decode cX3_init 1 = .ok (.invokespecial 1, 3) := dk_183 0 1 (dk_at dksX3_init_0 1 rfl rfl)
theorem dX3_init_4 : decode cX3_init 4 = .ok (.aload_n 0, 1) := dk_42 (dk_at dksX3_init_0 4 rfl rfl)
theorem dX3_init_5 : decode cX3_init 5 = .ok (.sipush 201, 3) := dk_17 0 201 (dk_at dksX3_init_0 5 rfl rfl)
theorem dX3_init_8 : decode cX3_init 8 = .ok (.newarray .int, 2) := dk_188_10 (dk_at dksX3_init_0 8 rfl rfl)
theorem dX3_init_10 : decode cX3_init 10 = .ok (.putfield 7, 3) := dk_181 0 7 (dk_at dksX3_init_0 10 rfl rfl)
theorem dX3_init_13 : decode cX3_init 13 = .ok (.aload_n 0, 1) := dk_42 (dk_at dksX3_init_0 13 rfl rfl)
theorem dX3_init_14 : decode cX3_init 14 = .ok (.sipush 201, 3) := dk_17 0 201 (dk_at dksX3_init_0 14 rfl rfl)
theorem dX3_init_17 : decode cX3_init 17 = .ok (.newarray .int, 2) := dk_188_10 (dk_at dksX3_init_0 17 rfl rfl)
theorem dX3_init_19 : decode cX3_init 19 = .ok (.putfield 13, 3) := dk_181 0 13 (dk_at dksX3_init_0 19 rfl rfl)
theorem dX3_init_22 : decode cX3_init 22 = .ok (.aload_n 0, 1) := dk_42 (dk_at dksX3_init_0 22 rfl rfl)
theorem dX3_init_23 : decode cX3_init 23 = .ok (.sipush 201, 3) := dk_17 0 201 (dk_at dksX3_init_1 0 rfl rfl)
theorem dX3_init_26 : decode cX3_init 26 = .ok (.newarray .int, 2) := dk_188_10 (dk_at dksX3_init_1 3 rfl rfl)
theorem dX3_init_28 : decode cX3_init 28 = .ok (.putfield 16, 3) := dk_181 0 16 (dk_at dksX3_init_1 5 rfl rfl)
theorem dX3_init_31 : decode cX3_init 31 = .ok (.aload_n 0, 1) := dk_42 (dk_at dksX3_init_1 8 rfl rfl)
theorem dX3_init_32 : decode cX3_init 32 = .ok (.sipush 201, 3) := dk_17 0 201 (dk_at dksX3_init_1 9 rfl rfl)
theorem dX3_init_35 : decode cX3_init 35 = .ok (.newarray .int, 2) := dk_188_10 (dk_at dksX3_init_1 12 rfl rfl)
theorem dX3_init_37 : decode cX3_init 37 = .ok (.putfield 19, 3) := dk_181 0 19 (dk_at dksX3_init_1 14 rfl rfl)
theorem dX3_init_40 : decode cX3_init 40 = .ok (.aload_n 0, 1) := dk_42 (dk_at dksX3_init_1 17 rfl rfl)
theorem dX3_init_41 : decode cX3_init 41 = .ok (.sipush 3000, 3) := dk_17 11 184 (dk_at dksX3_init_1 18 rfl rfl)
theorem dX3_init_44 : decode cX3_init 44 = .ok (.newarray .long, 2) := dk_188_11 (dk_at dksX3_init_1 21 rfl rfl)
theorem dX3_init_46 : decode cX3_init 46 = .ok (.putfield 22, 3) := dk_181 0 22 (dk_at dksX3_init_2 0 rfl rfl)
theorem dX3_init_49 : decode cX3_init 49 = .ok (.aload_n 0, 1) := dk_42 (dk_at dksX3_init_2 3 rfl rfl)
theorem dX3_init_50 : decode cX3_init 50 = .ok (.bipush 12, 2) := dk_16 12 (dk_at dksX3_init_2 4 rfl rfl)
theorem dX3_init_52 : decode cX3_init 52 = .ok (.newarray .int, 2) := dk_188_10 (dk_at dksX3_init_2 6 rfl rfl)
theorem dX3_init_54 : decode cX3_init 54 = .ok (.putfield 26, 3) := dk_181 0 26 (dk_at dksX3_init_2 8 rfl rfl)
theorem dX3_init_57 : decode cX3_init 57 = .ok (.aload_n 0, 1) := dk_42 (dk_at dksX3_init_2 11 rfl rfl)
theorem dX3_init_58 : decode cX3_init 58 = .ok (.bipush 8, 2) := dk_16 8 (dk_at dksX3_init_2 12 rfl rfl)
theorem dX3_init_60 : decode cX3_init 60 = .ok (.newarray .long, 2) := dk_188_11 (dk_at dksX3_init_2 14 rfl rfl)
theorem dX3_init_62 : decode cX3_init 62 = .ok (.putfield 29, 3) := dk_181 0 29 (dk_at dksX3_init_2 16 rfl rfl)
theorem dX3_init_65 : decode cX3_init 65 = .ok (.aload_n 0, 1) := dk_42 (dk_at dksX3_init_2 19 rfl rfl)
theorem dX3_init_66 : decode cX3_init 66 = .ok (.bipush 80, 2) := dk_16 80 (dk_at dksX3_init_2 20 rfl rfl)
theorem dX3_init_68 : decode cX3_init 68 = .ok (.newarray .int, 2) := dk_188_10 (dk_at dksX3_init_2 22 rfl rfl)
theorem dX3_init_70 : decode cX3_init 70 = .ok (.putfield 32, 3) := dk_181 0 32 (dk_at dksX3_init_3 0 rfl rfl)
theorem dX3_init_73 : decode cX3_init 73 = .ok (.aload_n 0, 1) := dk_42 (dk_at dksX3_init_3 3 rfl rfl)
theorem dX3_init_74 : decode cX3_init 74 = .ok (.bipush 80, 2) := dk_16 80 (dk_at dksX3_init_3 4 rfl rfl)
theorem dX3_init_76 : decode cX3_init 76 = .ok (.newarray .int, 2) := dk_188_10 (dk_at dksX3_init_3 6 rfl rfl)
theorem dX3_init_78 : decode cX3_init 78 = .ok (.putfield 35, 3) := dk_181 0 35 (dk_at dksX3_init_3 8 rfl rfl)
theorem dX3_init_81 : decode cX3_init 81 = .ok (.aload_n 0, 1) := dk_42 (dk_at dksX3_init_3 11 rfl rfl)
theorem dX3_init_82 : decode cX3_init 82 = .ok (.bipush 80, 2) := dk_16 80 (dk_at dksX3_init_3 12 rfl rfl)
theorem dX3_init_84 : decode cX3_init 84 = .ok (.newarray .int, 2) := dk_188_10 (dk_at dksX3_init_3 14 rfl rfl)
theorem dX3_init_86 : decode cX3_init 86 = .ok (.putfield 38, 3) := dk_181 0 38 (dk_at dksX3_init_3 16 rfl rfl)
theorem dX3_init_89 : decode cX3_init 89 = .ok (.aload_n 0, 1) := dk_42 (dk_at dksX3_init_3 19 rfl rfl)
theorem dX3_init_90 : decode cX3_init 90 = .ok (.bipush 80, 2) := dk_16 80 (dk_at dksX3_init_3 20 rfl rfl)
theorem dX3_init_92 : decode cX3_init 92 = .ok (.newarray .int, 2) := dk_188_10 (dk_at dksX3_init_3 22 rfl rfl)
theorem dX3_init_94 : decode cX3_init 94 = .ok (.putfield 41, 3) := dk_181 0 41 (dk_at dksX3_init_4 0 rfl rfl)
theorem dX3_init_97 : decode cX3_init 97 = .ok (.aload_n 0, 1) := dk_42 (dk_at dksX3_init_4 3 rfl rfl)
theorem dX3_init_98 : decode cX3_init 98 = .ok (.bipush 80, 2) := dk_16 80 (dk_at dksX3_init_4 4 rfl rfl)
theorem dX3_init_100 : decode cX3_init 100 = .ok (.newarray .int, 2) := dk_188_10 (dk_at dksX3_init_4 6 rfl rfl)
theorem dX3_init_102 : decode cX3_init 102 = .ok (.putfield 44, 3) := dk_181 0 44 (dk_at dksX3_init_4 8 rfl rfl)
theorem dX3_init_105 : decode cX3_init 105 = .ok (.aload_n 0, 1) := dk_42 (dk_at dksX3_init_4 11 rfl rfl)
theorem dX3_init_106 : decode cX3_init 106 = .ok (.bipush 80, 2) := dk_16 80 (dk_at dksX3_init_4 12 rfl rfl)
theorem dX3_init_108 : decode cX3_init 108 = .ok (.newarray .int, 2) := dk_188_10 (dk_at dksX3_init_4 14 rfl rfl)
theorem dX3_init_110 : decode cX3_init 110 = .ok (.putfield 47, 3) := dk_181 0 47 (dk_at dksX3_init_4 16 rfl rfl)
theorem dX3_init_113 : decode cX3_init 113 = .ok (.aload_n 0, 1) := dk_42 (dk_at dksX3_init_4 19 rfl rfl)
theorem dX3_init_114 : decode cX3_init 114 = .ok (.bipush 80, 2) := dk_16 80 (dk_at dksX3_init_4 20 rfl rfl)
theorem dX3_init_116 : decode cX3_init 116 = .ok (.newarray .int, 2) := dk_188_10 (dk_at dksX3_init_4 22 rfl rfl)
theorem dX3_init_118 : decode cX3_init 118 = .ok (.putfield 50, 3) := dk_181 0 50 (dk_at dksX3_init_5 0 rfl rfl)
theorem dX3_init_121 : decode cX3_init 121 = .ok (.aload_n 0, 1) := dk_42 (dk_at dksX3_init_5 3 rfl rfl)
theorem dX3_init_122 : decode cX3_init 122 = .ok (.iconst (-1), 1) := dk_2 (dk_at dksX3_init_5 4 rfl rfl)
theorem dX3_init_123 : decode cX3_init 123 = .ok (.putfield 53, 3) := dk_181 0 53 (dk_at dksX3_init_5 5 rfl rfl)
theorem dX3_init_126 : decode cX3_init 126 = .ok (.aload_n 0, 1) := dk_42 (dk_at dksX3_init_5 8 rfl rfl)
theorem dX3_init_127 : decode cX3_init 127 = .ok (.sipush 3000, 3) := dk_17 11 184 (dk_at dksX3_init_5 9 rfl rfl)
theorem dX3_init_130 : decode cX3_init 130 = .ok (.newarray .long, 2) := dk_188_11 (dk_at dksX3_init_5 12 rfl rfl)
theorem dX3_init_132 : decode cX3_init 132 = .ok (.putfield 57, 3) := dk_181 0 57 (dk_at dksX3_init_5 14 rfl rfl)
theorem dX3_init_135 : decode cX3_init 135 = .ok (.aload_n 0, 1) := dk_42 (dk_at dksX3_init_5 17 rfl rfl)
theorem dX3_init_136 : decode cX3_init 136 = .ok (.bipush 82, 2) := dk_16 82 (dk_at dksX3_init_5 18 rfl rfl)
theorem dX3_init_138 : decode cX3_init 138 = .ok (.newarray .int, 2) := dk_188_10 (dk_at dksX3_init_5 20 rfl rfl)
theorem dX3_init_140 : decode cX3_init 140 = .ok (.putfield 60, 3) := dk_181 0 60 (dk_at dksX3_init_6 0 rfl rfl)
theorem dX3_init_143 : decode cX3_init 143 = .ok (.aload_n 0, 1) := dk_42 (dk_at dksX3_init_6 3 rfl rfl)
theorem dX3_init_144 : decode cX3_init 144 = .ok (.bipush 82, 2) := dk_16 82 (dk_at dksX3_init_6 4 rfl rfl)
theorem dX3_init_146 : decode cX3_init 146 = .ok (.newarray .int, 2) := dk_188_10 (dk_at dksX3_init_6 6 rfl rfl)
theorem dX3_init_148 : decode cX3_init 148 = .ok (.putfield 63, 3) := dk_181 0 63 (dk_at dksX3_init_6 8 rfl rfl)
theorem dX3_init_151 : decode cX3_init 151 = .ok (.aload_n 0, 1) := dk_42 (dk_at dksX3_init_6 11 rfl rfl)
theorem dX3_init_152 : decode cX3_init 152 = .ok (.bipush 82, 2) := dk_16 82 (dk_at dksX3_init_6 12 rfl rfl)
theorem dX3_init_154 : decode cX3_init 154 = .ok (.newarray .int, 2) := dk_188_10 (dk_at dksX3_init_6 14 rfl rfl)
theorem dX3_init_156 : decode cX3_init 156 = .ok (.putfield 66, 3) := dk_181 0 66 (dk_at dksX3_init_6 16 rfl rfl)
theorem dX3_init_159 : decode cX3_init 159 = .ok (.aload_n 0, 1) := dk_42 (dk_at dksX3_init_6 19 rfl rfl)
theorem dX3_init_160 : decode cX3_init 160 = .ok (.bipush 12, 2) := dk_16 12 (dk_at dksX3_init_6 20 rfl rfl)
theorem dX3_init_162 : decode cX3_init 162 = .ok (.newarray .int, 2) := dk_188_10 (dk_at dksX3_init_6 22 rfl rfl)
theorem dX3_init_164 : decode cX3_init 164 = .ok (.putfield 69, 3) := dk_181 0 69 (dk_at dksX3_init_7 0 rfl rfl)
theorem dX3_init_167 : decode cX3_init 167 = .ok (.aload_n 0, 1) := dk_42 (dk_at dksX3_init_7 3 rfl rfl)
theorem dX3_init_168 : decode cX3_init 168 = .ok (.bipush 12, 2) := dk_16 12 (dk_at dksX3_init_7 4 rfl rfl)
theorem dX3_init_170 : decode cX3_init 170 = .ok (.newarray .boolean, 2) := dk_188_4 (dk_at dksX3_init_7 6 rfl rfl)
theorem dX3_init_172 : decode cX3_init 172 = .ok (.putfield 72, 3) := dk_181 0 72 (dk_at dksX3_init_7 8 rfl rfl)
theorem dX3_init_175 : decode cX3_init 175 = .ok (.aload_n 0, 1) := dk_42 (dk_at dksX3_init_7 11 rfl rfl)
theorem dX3_init_176 : decode cX3_init 176 = .ok (.bipush 80, 2) := dk_16 80 (dk_at dksX3_init_7 12 rfl rfl)
theorem dX3_init_178 : decode cX3_init 178 = .ok (.newarray .boolean, 2) := dk_188_4 (dk_at dksX3_init_7 14 rfl rfl)
theorem dX3_init_180 : decode cX3_init 180 = .ok (.putfield 76, 3) := dk_181 0 76 (dk_at dksX3_init_7 16 rfl rfl)
theorem dX3_init_183 : decode cX3_init 183 = .ok (.aload_n 0, 1) := dk_42 (dk_at dksX3_init_7 19 rfl rfl)
theorem dX3_init_184 : decode cX3_init 184 = .ok (.bipush 80, 2) := dk_16 80 (dk_at dksX3_init_7 20 rfl rfl)
theorem dX3_init_186 : decode cX3_init 186 = .ok (.newarray .int, 2) := dk_188_10 (dk_at dksX3_init_7 22 rfl rfl)
theorem dX3_init_188 : decode cX3_init 188 = .ok (.putfield 79, 3) := dk_181 0 79 (dk_at dksX3_init_8 0 rfl rfl)
theorem dX3_init_191 : decode cX3_init 191 = .ok (.aload_n 0, 1) := dk_42 (dk_at dksX3_init_8 3 rfl rfl)
theorem dX3_init_192 : decode cX3_init 192 = .ok (.sipush 960, 3) := dk_17 3 192 (dk_at dksX3_init_8 4 rfl rfl)
theorem dX3_init_195 : decode cX3_init 195 = .ok (.newarray .int, 2) := dk_188_10 (dk_at dksX3_init_8 7 rfl rfl)
theorem dX3_init_197 : decode cX3_init 197 = .ok (.putfield 82, 3) := dk_181 0 82 (dk_at dksX3_init_8 9 rfl rfl)
theorem dX3_init_200 : decode cX3_init 200 = .ok (.aload_n 0, 1) := dk_42 (dk_at dksX3_init_8 12 rfl rfl)
theorem dX3_init_201 : decode cX3_init 201 = .ok (.bipush 80, 2) := dk_16 80 (dk_at dksX3_init_8 13 rfl rfl)
theorem dX3_init_203 : decode cX3_init 203 = .ok (.newarray .int, 2) := dk_188_10 (dk_at dksX3_init_8 15 rfl rfl)
theorem dX3_init_205 : decode cX3_init 205 = .ok (.putfield 85, 3) := dk_181 0 85 (dk_at dksX3_init_8 17 rfl rfl)
theorem dX3_init_208 : decode cX3_init 208 = .ok (.aload_n 0, 1) := dk_42 (dk_at dksX3_init_8 20 rfl rfl)
theorem dX3_init_209 : decode cX3_init 209 = .ok (.bipush 80, 2) := dk_16 80 (dk_at dksX3_init_8 21 rfl rfl)
theorem dX3_init_211 : decode cX3_init 211 = .ok (.newarray .int, 2) := dk_188_10 (dk_at dksX3_init_9 0 rfl rfl)
theorem dX3_init_213 : decode cX3_init 213 = .ok (.putfield 88, 3) := dk_181 0 88 (dk_at dksX3_init_9 2 rfl rfl)
theorem dX3_init_216 : decode cX3_init 216 = .ok (.aload_n 0, 1) := dk_42 (dk_at dksX3_init_9 5 rfl rfl)
theorem dX3_init_217 : decode cX3_init 217 = .ok (.sipush 8856, 3) := dk_17 34 152 (dk_at dksX3_init_9 6 rfl rfl)
theorem dX3_init_220 : decode cX3_init 220 = .ok (.newarray .int, 2) := dk_188_10 (dk_at dksX3_init_9 9 rfl rfl)
theorem dX3_init_222 : decode cX3_init 222 = .ok (.putfield 91, 3) := dk_181 0 91 (dk_at dksX3_init_9 11 rfl rfl)
theorem dX3_init_225 : decode cX3_init 225 = .ok (.aload_n 0, 1) := dk_42 (dk_at dksX3_init_9 14 rfl rfl)
theorem dX3_init_226 : decode cX3_init 226 = .ok (.sipush 8856, 3) := dk_17 34 152 (dk_at dksX3_init_9 15 rfl rfl)
theorem dX3_init_229 : decode cX3_init 229 = .ok (.newarray .int, 2) := dk_188_10 (dk_at dksX3_init_9 18 rfl rfl)
theorem dX3_init_231 : decode cX3_init 231 = .ok (.putfield 94, 3) := dk_181 0 94 (dk_at dksX3_init_9 20 rfl rfl)
theorem dX3_init_234 : decode cX3_init 234 = .ok (.aload_n 0, 1) := dk_42 (dk_at dksX3_init_9 23 rfl rfl)
theorem dX3_init_235 : decode cX3_init 235 = .ok (.sipush 984, 3) := dk_17 3 216 (dk_at dksX3_init_10 0 rfl rfl)
theorem dX3_init_238 : decode cX3_init 238 = .ok (.newarray .int, 2) := dk_188_10 (dk_at dksX3_init_10 3 rfl rfl)
theorem dX3_init_240 : decode cX3_init 240 = .ok (.putfield 97, 3) := dk_181 0 97 (dk_at dksX3_init_10 5 rfl rfl)
theorem dX3_init_243 : decode cX3_init 243 = .ok (.aload_n 0, 1) := dk_42 (dk_at dksX3_init_10 8 rfl rfl)
theorem dX3_init_244 : decode cX3_init 244 = .ok (.bipush 12, 2) := dk_16 12 (dk_at dksX3_init_10 9 rfl rfl)
theorem dX3_init_246 : decode cX3_init 246 = .ok (.newarray .int, 2) := dk_188_10 (dk_at dksX3_init_10 11 rfl rfl)
theorem dX3_init_248 : decode cX3_init 248 = .ok (.putfield 100, 3) := dk_181 0 100 (dk_at dksX3_init_10 13 rfl rfl)
theorem dX3_init_251 : decode cX3_init 251 = .ok (.return_, 1) := dk_177 (dk_at dksX3_init_10 16 rfl rfl)
abbrev cX3_act : ByteArray := prog_15_method_12_code
def yX3_act : MethodName := ⟨RX3, "act", "(IIIII)I"⟩
def dkwX3_act_1 : List UInt8 := [182, 0, 135, 167, 0, 4, 2, 172]
abbrev dktX3_act_1 : List UInt8 := dkwX3_act_1 ++ []
def dkwX3_act_0 : List UInt8 := [27, 28, 29, 21, 4, 21, 5, 184, 0, 131, 153, 0, 19, 42, 3, 27, 28, 29, 21, 4, 21, 5, 4]
abbrev dktX3_act_0 : List UInt8 := dkwX3_act_0 ++ dktX3_act_1
theorem dksX3_act_0 : cX3_act.data.toList.drop 0 = dktX3_act_0 := by decide +kernel
theorem dksX3_act_1 : cX3_act.data.toList.drop 23 = dktX3_act_1 := dk_seg dksX3_act_0 23 rfl rfl
theorem dX3_act_0 : decode cX3_act 0 = .ok (.iload_n 1, 1) := dk_27 (dk_at dksX3_act_0 0 rfl rfl)
theorem dX3_act_1 : decode cX3_act 1 = .ok (.iload_n 2, 1) := dk_28 (dk_at dksX3_act_0 1 rfl rfl)
theorem dX3_act_2 : decode cX3_act 2 = .ok (.iload_n 3, 1) := dk_29 (dk_at dksX3_act_0 2 rfl rfl)
theorem dX3_act_3 : decode cX3_act 3 = .ok (.iload 4, 2) := dk_21 4 (dk_at dksX3_act_0 3 rfl rfl)
theorem dX3_act_5 : decode cX3_act 5 = .ok (.iload 5, 2) := dk_21 5 (dk_at dksX3_act_0 5 rfl rfl)
theorem dX3_act_7 : decode cX3_act 7 = .ok (.invokestatic 131, 3) := dk_184 0 131 (dk_at dksX3_act_0 7 rfl rfl)
theorem dX3_act_10 : decode cX3_act 10 = .ok (.ifCond .eq 19, 3) := dk_153 0 19 (dk_at dksX3_act_0 10 rfl rfl)
theorem dX3_act_13 : decode cX3_act 13 = .ok (.aload_n 0, 1) := dk_42 (dk_at dksX3_act_0 13 rfl rfl)
theorem dX3_act_14 : decode cX3_act 14 = .ok (.iconst 0, 1) := dk_3 (dk_at dksX3_act_0 14 rfl rfl)
theorem dX3_act_15 : decode cX3_act 15 = .ok (.iload_n 1, 1) := dk_27 (dk_at dksX3_act_0 15 rfl rfl)
theorem dX3_act_16 : decode cX3_act 16 = .ok (.iload_n 2, 1) := dk_28 (dk_at dksX3_act_0 16 rfl rfl)
theorem dX3_act_17 : decode cX3_act 17 = .ok (.iload_n 3, 1) := dk_29 (dk_at dksX3_act_0 17 rfl rfl)
theorem dX3_act_18 : decode cX3_act 18 = .ok (.iload 4, 2) := dk_21 4 (dk_at dksX3_act_0 18 rfl rfl)
theorem dX3_act_20 : decode cX3_act 20 = .ok (.iload 5, 2) := dk_21 5 (dk_at dksX3_act_0 20 rfl rfl)
theorem dX3_act_22 : decode cX3_act 22 = .ok (.iconst 1, 1) := dk_4 (dk_at dksX3_act_0 22 rfl rfl)
theorem dX3_act_23 : decode cX3_act 23 = .ok (.invokevirtual 135, 3) := dk_182 0 135 (dk_at dksX3_act_1 0 rfl rfl)
theorem dX3_act_26 : decode cX3_act 26 = .ok (.goto 4, 3) := dk_167 0 4 (dk_at dksX3_act_1 3 rfl rfl)
theorem dX3_act_29 : decode cX3_act 29 = .ok (.iconst (-1), 1) := dk_2 (dk_at dksX3_act_1 6 rfl rfl)
theorem dX3_act_30 : decode cX3_act 30 = .ok (.ireturn, 1) := dk_172 (dk_at dksX3_act_1 7 rfl rfl)
abbrev cX3_isAct : ByteArray := prog_15_method_11_code
def yX3_isAct : MethodName := ⟨RX3, "isAct", "(IIIII)Z"⟩
def dkwX3_isAct_15 : List UInt8 := [3, 172, 26, 16, 17, 160, 0, 7, 4, 167, 0, 4, 3, 172]
abbrev dktX3_isAct_15 : List UInt8 := dkwX3_isAct_15 ++ []
def dkwX3_isAct_14 : List UInt8 := [184, 0, 128, 153, 0, 21, 28, 184, 0, 128, 153, 0, 14, 29, 184, 0, 128, 153, 0, 7, 4, 167, 0, 4]
abbrev dktX3_isAct_14 : List UInt8 := dkwX3_isAct_14 ++ dktX3_isAct_15
def dkwX3_isAct_13 : List UInt8 := [153, 0, 14, 29, 184, 0, 124, 153, 0, 7, 4, 167, 0, 4, 3, 172, 27, 184, 0, 128, 172, 27]
abbrev dktX3_isAct_13 : List UInt8 := dkwX3_isAct_13 ++ dktX3_isAct_14
def dkwX3_isAct_12 : List UInt8 := [184, 0, 128, 153, 0, 14, 28, 184, 0, 124, 153, 0, 7, 4, 167, 0, 4, 3, 172, 27, 184, 0, 124]
abbrev dktX3_isAct_12 : List UInt8 := dkwX3_isAct_12 ++ dktX3_isAct_13
def dkwX3_isAct_11 : List UInt8 := [3, 172, 27, 184, 0, 124, 153, 0, 14, 28, 184, 0, 124, 153, 0, 7, 4, 167, 0, 4, 3, 172, 27]
abbrev dktX3_isAct_11 : List UInt8 := dkwX3_isAct_11 ++ dktX3_isAct_12
def dkwX3_isAct_10 : List UInt8 := [153, 0, 24, 28, 184, 0, 124, 153, 0, 17, 29, 4, 16, 7, 184, 0, 103, 153, 0, 7, 4, 167, 0, 4]
abbrev dktX3_isAct_10 : List UInt8 := dkwX3_isAct_10 ++ dktX3_isAct_11
def dkwX3_isAct_9 : List UInt8 := [184, 0, 103, 153, 0, 15, 21, 4, 184, 0, 124, 153, 0, 7, 4, 167, 0, 4, 3, 172, 27, 184, 0, 128]
abbrev dktX3_isAct_9 : List UInt8 := dkwX3_isAct_9 ++ dktX3_isAct_10
def dkwX3_isAct_8 : List UInt8 := [184, 0, 103, 153, 0, 7, 4, 167, 0, 4, 3, 172, 27, 184, 0, 124, 153, 0, 25, 28, 8, 16, 7]
abbrev dktX3_isAct_8 : List UInt8 := dkwX3_isAct_8 ++ dktX3_isAct_9
def dkwX3_isAct_7 : List UInt8 := [167, 0, 4, 3, 172, 27, 184, 0, 124, 153, 0, 24, 28, 184, 0, 124, 153, 0, 17, 29, 8, 16, 7]
abbrev dktX3_isAct_7 : List UInt8 := dkwX3_isAct_7 ++ dktX3_isAct_8
def dkwX3_isAct_6 : List UInt8 := [184, 0, 124, 153, 0, 24, 28, 4, 7, 184, 0, 103, 153, 0, 15, 21, 4, 184, 0, 128, 153, 0, 7, 4]
abbrev dktX3_isAct_6 : List UInt8 := dkwX3_isAct_6 ++ dktX3_isAct_7
def dkwX3_isAct_5 : List UInt8 := [184, 0, 124, 153, 0, 16, 29, 4, 7, 184, 0, 103, 153, 0, 7, 4, 167, 0, 4, 3, 172, 27]
abbrev dktX3_isAct_5 : List UInt8 := dkwX3_isAct_5 ++ dktX3_isAct_6
def dkwX3_isAct_4 : List UInt8 := [29, 3, 16, 9, 184, 0, 103, 153, 0, 7, 4, 167, 0, 4, 3, 172, 27, 184, 0, 128, 153, 0, 23, 28]
abbrev dktX3_isAct_4 : List UInt8 := dkwX3_isAct_4 ++ dktX3_isAct_5
def dkwX3_isAct_3 : List UInt8 := [167, 0, 4, 3, 172, 27, 184, 0, 124, 172, 27, 184, 0, 124, 153, 0, 24, 28, 184, 0, 124, 153, 0, 17]
abbrev dktX3_isAct_3 : List UInt8 := dkwX3_isAct_3 ++ dktX3_isAct_4
def dkwX3_isAct_2 : List UInt8 := [27, 184, 0, 124, 153, 0, 22, 28, 4, 16, 7, 184, 0, 103, 153, 0, 12, 28, 8, 159, 0, 7, 4]
abbrev dktX3_isAct_2 : List UInt8 := dkwX3_isAct_2 ++ dktX3_isAct_3
def dkwX3_isAct_1 : List UInt8 := [170, 0, 0, 0, 0, 1, 132, 0, 0, 0, 0, 0, 0, 0, 16, 0, 0, 0, 83, 0, 0, 0, 111, 0, 0, 0, 111, 0, 0, 0, 111, 0, 0, 0, 116, 0, 0, 0, 146, 0, 0, 0, 175, 0, 0, 0, 205, 0, 0, 0, 235, 0, 0, 1, 10, 0, 0, 1, 40, 0, 0, 1, 60, 0, 0, 1, 80, 0, 0, 1, 100, 0, 0, 1, 105, 0, 0, 1, 105, 0, 0, 1, 105]
abbrev dktX3_isAct_1 : List UInt8 := dkwX3_isAct_1 ++ dktX3_isAct_2
def dkwX3_isAct_0 : List UInt8 := [26]
abbrev dktX3_isAct_0 : List UInt8 := dkwX3_isAct_0 ++ dktX3_isAct_1
theorem dksX3_isAct_0 : cX3_isAct.data.toList.drop 0 = dktX3_isAct_0 := by decide +kernel
theorem dksX3_isAct_1 : cX3_isAct.data.toList.drop 1 = dktX3_isAct_1 := dk_seg dksX3_isAct_0 1 rfl rfl
theorem dksX3_isAct_2 : cX3_isAct.data.toList.drop 84 = dktX3_isAct_2 := dk_seg dksX3_isAct_1 83 rfl rfl
theorem dksX3_isAct_3 : cX3_isAct.data.toList.drop 107 = dktX3_isAct_3 := dk_seg dksX3_isAct_2 23 rfl rfl
theorem dksX3_isAct_4 : cX3_isAct.data.toList.drop 131 = dktX3_isAct_4 := dk_seg dksX3_isAct_3 24 rfl rfl
theorem dksX3_isAct_5 : cX3_isAct.data.toList.drop 155 = dktX3_isAct_5 := dk_seg dksX3_isAct_4 24 rfl rfl
theorem dksX3_isAct_6 : cX3_isAct.data.toList.drop 177 = dktX3_isAct_6 := dk_seg dksX3_isAct_5 22 rfl rfl
theorem dksX3_isAct_7 : cX3_isAct.data.toList.drop 201 = dktX3_isAct_7 := dk_seg dksX3_isAct_6 24 rfl rfl
theorem dksX3_isAct_8 : cX3_isAct.data.toList.drop 224 = dktX3_isAct_8 := dk_seg dksX3_isAct_7 23 rfl rfl
theorem dksX3_isAct_9 : cX3_isAct.data.toList.drop 247 = dktX3_isAct_9 := dk_seg dksX3_isAct_8 23 rfl rfl
theorem dksX3_isAct_10 : cX3_isAct.data.toList.drop 271 = dktX3_isAct_10 := dk_seg dksX3_isAct_9 24 rfl rfl
theorem dksX3_isAct_11 : cX3_isAct.data.toList.drop 295 = dktX3_isAct_11 := dk_seg dksX3_isAct_10 24 rfl rfl
theorem dksX3_isAct_12 : cX3_isAct.data.toList.drop 318 = dktX3_isAct_12 := dk_seg dksX3_isAct_11 23 rfl rfl
theorem dksX3_isAct_13 : cX3_isAct.data.toList.drop 341 = dktX3_isAct_13 := dk_seg dksX3_isAct_12 23 rfl rfl
theorem dksX3_isAct_14 : cX3_isAct.data.toList.drop 363 = dktX3_isAct_14 := dk_seg dksX3_isAct_13 22 rfl rfl
theorem dksX3_isAct_15 : cX3_isAct.data.toList.drop 387 = dktX3_isAct_15 := dk_seg dksX3_isAct_14 24 rfl rfl
theorem dX3_isAct_0 : decode cX3_isAct 0 = .ok (.iload_n 0, 1) := dk_26 (dk_at dksX3_isAct_0 0 rfl rfl)
theorem dX3_isAct_1 : decode cX3_isAct 1 = .ok (.tableswitch 388 0 16 #[83, 111, 111, 111, 116, 146, 175, 205, 235, 266, 296, 316, 336, 356, 361, 361, 361], 83) := by decide +kernel
theorem dX3_isAct_84 : decode cX3_isAct 84 = .ok (.iload_n 1, 1) := dk_27 (dk_at dksX3_isAct_2 0 rfl rfl)
theorem dX3_isAct_85 : decode cX3_isAct 85 = .ok (.invokestatic 124, 3) := dk_184 0 124 (dk_at dksX3_isAct_2 1 rfl rfl)
theorem dX3_isAct_88 : decode cX3_isAct 88 = .ok (.ifCond .eq 22, 3) := dk_153 0 22 (dk_at dksX3_isAct_2 4 rfl rfl)
theorem dX3_isAct_91 : decode cX3_isAct 91 = .ok (.iload_n 2, 1) := dk_28 (dk_at dksX3_isAct_2 7 rfl rfl)
theorem dX3_isAct_92 : decode cX3_isAct 92 = .ok (.iconst 1, 1) := dk_4 (dk_at dksX3_isAct_2 8 rfl rfl)
theorem dX3_isAct_93 : decode cX3_isAct 93 = .ok (.bipush 7, 2) := dk_16 7 (dk_at dksX3_isAct_2 9 rfl rfl)
theorem dX3_isAct_95 : decode cX3_isAct 95 = .ok (.invokestatic 103, 3) := dk_184 0 103 (dk_at dksX3_isAct_2 11 rfl rfl)
theorem dX3_isAct_98 : decode cX3_isAct 98 = .ok (.ifCond .eq 12, 3) := dk_153 0 12 (dk_at dksX3_isAct_2 14 rfl rfl)
theorem dX3_isAct_101 : decode cX3_isAct 101 = .ok (.iload_n 2, 1) := dk_28 (dk_at dksX3_isAct_2 17 rfl rfl)
theorem dX3_isAct_102 : decode cX3_isAct 102 = .ok (.iconst 5, 1) := dk_8 (dk_at dksX3_isAct_2 18 rfl rfl)
theorem dX3_isAct_103 : decode cX3_isAct 103 = .ok (.if_icmp .eq 7, 3) := dk_159 0 7 (dk_at dksX3_isAct_2 19 rfl rfl)
theorem dX3_isAct_106 : decode cX3_isAct 106 = .ok (.iconst 1, 1) := dk_4 (dk_at dksX3_isAct_2 22 rfl rfl)
theorem dX3_isAct_107 : decode cX3_isAct 107 = .ok (.goto 4, 3) := dk_167 0 4 (dk_at dksX3_isAct_3 0 rfl rfl)
theorem dX3_isAct_110 : decode cX3_isAct 110 = .ok (.iconst 0, 1) := dk_3 (dk_at dksX3_isAct_3 3 rfl rfl)
theorem dX3_isAct_111 : decode cX3_isAct 111 = .ok (.ireturn, 1) := dk_172 (dk_at dksX3_isAct_3 4 rfl rfl)
theorem dX3_isAct_112 : decode cX3_isAct 112 = .ok (.iload_n 1, 1) := dk_27 (dk_at dksX3_isAct_3 5 rfl rfl)
theorem dX3_isAct_113 : decode cX3_isAct 113 = .ok (.invokestatic 124, 3) := dk_184 0 124 (dk_at dksX3_isAct_3 6 rfl rfl)
theorem dX3_isAct_116 : decode cX3_isAct 116 = .ok (.ireturn, 1) := dk_172 (dk_at dksX3_isAct_3 9 rfl rfl)
theorem dX3_isAct_117 : decode cX3_isAct 117 = .ok (.iload_n 1, 1) := dk_27 (dk_at dksX3_isAct_3 10 rfl rfl)
theorem dX3_isAct_118 : decode cX3_isAct 118 = .ok (.invokestatic 124, 3) := dk_184 0 124 (dk_at dksX3_isAct_3 11 rfl rfl)
theorem dX3_isAct_121 : decode cX3_isAct 121 = .ok (.ifCond .eq 24, 3) := dk_153 0 24 (dk_at dksX3_isAct_3 14 rfl rfl)
theorem dX3_isAct_124 : decode cX3_isAct 124 = .ok (.iload_n 2, 1) := dk_28 (dk_at dksX3_isAct_3 17 rfl rfl)
theorem dX3_isAct_125 : decode cX3_isAct 125 = .ok (.invokestatic 124, 3) := dk_184 0 124 (dk_at dksX3_isAct_3 18 rfl rfl)
theorem dX3_isAct_128 : decode cX3_isAct 128 = .ok (.ifCond .eq 17, 3) := dk_153 0 17 (dk_at dksX3_isAct_3 21 rfl rfl)
theorem dX3_isAct_131 : decode cX3_isAct 131 = .ok (.iload_n 3, 1) := dk_29 (dk_at dksX3_isAct_4 0 rfl rfl)
theorem dX3_isAct_132 : decode cX3_isAct 132 = .ok (.iconst 0, 1) := dk_3 (dk_at dksX3_isAct_4 1 rfl rfl)
theorem dX3_isAct_133 : decode cX3_isAct 133 = .ok (.bipush 9, 2) := dk_16 9 (dk_at dksX3_isAct_4 2 rfl rfl)
theorem dX3_isAct_135 : decode cX3_isAct 135 = .ok (.invokestatic 103, 3) := dk_184 0 103 (dk_at dksX3_isAct_4 4 rfl rfl)
theorem dX3_isAct_138 : decode cX3_isAct 138 = .ok (.ifCond .eq 7, 3) := dk_153 0 7 (dk_at dksX3_isAct_4 7 rfl rfl)
theorem dX3_isAct_141 : decode cX3_isAct 141 = .ok (.iconst 1, 1) := dk_4 (dk_at dksX3_isAct_4 10 rfl rfl)
theorem dX3_isAct_142 : decode cX3_isAct 142 = .ok (.goto 4, 3) := dk_167 0 4 (dk_at dksX3_isAct_4 11 rfl rfl)
theorem dX3_isAct_145 : decode cX3_isAct 145 = .ok (.iconst 0, 1) := dk_3 (dk_at dksX3_isAct_4 14 rfl rfl)
theorem dX3_isAct_146 : decode cX3_isAct 146 = .ok (.ireturn, 1) := dk_172 (dk_at dksX3_isAct_4 15 rfl rfl)
theorem dX3_isAct_147 : decode cX3_isAct 147 = .ok (.iload_n 1, 1) := dk_27 (dk_at dksX3_isAct_4 16 rfl rfl)
theorem dX3_isAct_148 : decode cX3_isAct 148 = .ok (.invokestatic 128, 3) := dk_184 0 128 (dk_at dksX3_isAct_4 17 rfl rfl)
theorem dX3_isAct_151 : decode cX3_isAct 151 = .ok (.ifCond .eq 23, 3) := dk_153 0 23 (dk_at dksX3_isAct_4 20 rfl rfl)
theorem dX3_isAct_154 : decode cX3_isAct 154 = .ok (.iload_n 2, 1) := dk_28 (dk_at dksX3_isAct_4 23 rfl rfl)
theorem dX3_isAct_155 : decode cX3_isAct 155 = .ok (.invokestatic 124, 3) := dk_184 0 124 (dk_at dksX3_isAct_5 0 rfl rfl)
theorem dX3_isAct_158 : decode cX3_isAct 158 = .ok (.ifCond .eq 16, 3) := dk_153 0 16 (dk_at dksX3_isAct_5 3 rfl rfl)
theorem dX3_isAct_161 : decode cX3_isAct 161 = .ok (.iload_n 3, 1) := dk_29 (dk_at dksX3_isAct_5 6 rfl rfl)
theorem dX3_isAct_162 : decode cX3_isAct 162 = .ok (.iconst 1, 1) := dk_4 (dk_at dksX3_isAct_5 7 rfl rfl)
theorem dX3_isAct_163 : decode cX3_isAct 163 = .ok (.iconst 4, 1) := dk_7 (dk_at dksX3_isAct_5 8 rfl rfl)
theorem dX3_isAct_164 : decode cX3_isAct 164 = .ok (.invokestatic 103, 3) := dk_184 0 103 (dk_at dksX3_isAct_5 9 rfl rfl)
theorem dX3_isAct_167 : decode cX3_isAct 167 = .ok (.ifCond .eq 7, 3) := dk_153 0 7 (dk_at dksX3_isAct_5 12 rfl rfl)
theorem dX3_isAct_170 : decode cX3_isAct 170 = .ok (.iconst 1, 1) := dk_4 (dk_at dksX3_isAct_5 15 rfl rfl)
theorem dX3_isAct_171 : decode cX3_isAct 171 = .ok (.goto 4, 3) := dk_167 0 4 (dk_at dksX3_isAct_5 16 rfl rfl)
theorem dX3_isAct_174 : decode cX3_isAct 174 = .ok (.iconst 0, 1) := dk_3 (dk_at dksX3_isAct_5 19 rfl rfl)
theorem dX3_isAct_175 : decode cX3_isAct 175 = .ok (.ireturn, 1) := dk_172 (dk_at dksX3_isAct_5 20 rfl rfl)
theorem dX3_isAct_176 : decode cX3_isAct 176 = .ok (.iload_n 1, 1) := dk_27 (dk_at dksX3_isAct_5 21 rfl rfl)
theorem dX3_isAct_177 : decode cX3_isAct 177 = .ok (.invokestatic 124, 3) := dk_184 0 124 (dk_at dksX3_isAct_6 0 rfl rfl)
theorem dX3_isAct_180 : decode cX3_isAct 180 = .ok (.ifCond .eq 24, 3) := dk_153 0 24 (dk_at dksX3_isAct_6 3 rfl rfl)
theorem dX3_isAct_183 : decode cX3_isAct 183 = .ok (.iload_n 2, 1) := dk_28 (dk_at dksX3_isAct_6 6 rfl rfl)
theorem dX3_isAct_184 : decode cX3_isAct 184 = .ok (.iconst 1, 1) := dk_4 (dk_at dksX3_isAct_6 7 rfl rfl)
theorem dX3_isAct_185 : decode cX3_isAct 185 = .ok (.iconst 4, 1) := dk_7 (dk_at dksX3_isAct_6 8 rfl rfl)
theorem dX3_isAct_186 : decode cX3_isAct 186 = .ok (.invokestatic 103, 3) := dk_184 0 103 (dk_at dksX3_isAct_6 9 rfl rfl)
theorem dX3_isAct_189 : decode cX3_isAct 189 = .ok (.ifCond .eq 15, 3) := dk_153 0 15 (dk_at dksX3_isAct_6 12 rfl rfl)
theorem dX3_isAct_192 : decode cX3_isAct 192 = .ok (.iload 4, 2) := dk_21 4 (dk_at dksX3_isAct_6 15 rfl rfl)
theorem dX3_isAct_194 : decode cX3_isAct 194 = .ok (.invokestatic 128, 3) := dk_184 0 128 (dk_at dksX3_isAct_6 17 rfl rfl)
theorem dX3_isAct_197 : decode cX3_isAct 197 = .ok (.ifCond .eq 7, 3) := dk_153 0 7 (dk_at dksX3_isAct_6 20 rfl rfl)
theorem dX3_isAct_200 : decode cX3_isAct 200 = .ok (.iconst 1, 1) := dk_4 (dk_at dksX3_isAct_6 23 rfl rfl)
theorem dX3_isAct_201 : decode cX3_isAct 201 = .ok (.goto 4, 3) := dk_167 0 4 (dk_at dksX3_isAct_7 0 rfl rfl)
theorem dX3_isAct_204 : decode cX3_isAct 204 = .ok (.iconst 0, 1) := dk_3 (dk_at dksX3_isAct_7 3 rfl rfl)
theorem dX3_isAct_205 : decode cX3_isAct 205 = .ok (.ireturn, 1) := dk_172 (dk_at dksX3_isAct_7 4 rfl rfl)
theorem dX3_isAct_206 : decode cX3_isAct 206 = .ok (.iload_n 1, 1) := dk_27 (dk_at dksX3_isAct_7 5 rfl rfl)
theorem dX3_isAct_207 : decode cX3_isAct 207 = .ok (.invokestatic 124, 3) := dk_184 0 124 (dk_at dksX3_isAct_7 6 rfl rfl)
theorem dX3_isAct_210 : decode cX3_isAct 210 = .ok (.ifCond .eq 24, 3) := dk_153 0 24 (dk_at dksX3_isAct_7 9 rfl rfl)
theorem dX3_isAct_213 : decode cX3_isAct 213 = .ok (.iload_n 2, 1) := dk_28 (dk_at dksX3_isAct_7 12 rfl rfl)
theorem dX3_isAct_214 : decode cX3_isAct 214 = .ok (.invokestatic 124, 3) := dk_184 0 124 (dk_at dksX3_isAct_7 13 rfl rfl)
theorem dX3_isAct_217 : decode cX3_isAct 217 = .ok (.ifCond .eq 17, 3) := dk_153 0 17 (dk_at dksX3_isAct_7 16 rfl rfl)
theorem dX3_isAct_220 : decode cX3_isAct 220 = .ok (.iload_n 3, 1) := dk_29 (dk_at dksX3_isAct_7 19 rfl rfl)
theorem dX3_isAct_221 : decode cX3_isAct 221 = .ok (.iconst 5, 1) := dk_8 (dk_at dksX3_isAct_7 20 rfl rfl)
theorem dX3_isAct_222 : decode cX3_isAct 222 = .ok (.bipush 7, 2) := dk_16 7 (dk_at dksX3_isAct_7 21 rfl rfl)
theorem dX3_isAct_224 : decode cX3_isAct 224 = .ok (.invokestatic 103, 3) := dk_184 0 103 (dk_at dksX3_isAct_8 0 rfl rfl)
theorem dX3_isAct_227 : decode cX3_isAct 227 = .ok (.ifCond .eq 7, 3) := dk_153 0 7 (dk_at dksX3_isAct_8 3 rfl rfl)
theorem dX3_isAct_230 : decode cX3_isAct 230 = .ok (.iconst 1, 1) := dk_4 (dk_at dksX3_isAct_8 6 rfl rfl)
theorem dX3_isAct_231 : decode cX3_isAct 231 = .ok (.goto 4, 3) := dk_167 0 4 (dk_at dksX3_isAct_8 7 rfl rfl)
theorem dX3_isAct_234 : decode cX3_isAct 234 = .ok (.iconst 0, 1) := dk_3 (dk_at dksX3_isAct_8 10 rfl rfl)
theorem dX3_isAct_235 : decode cX3_isAct 235 = .ok (.ireturn, 1) := dk_172 (dk_at dksX3_isAct_8 11 rfl rfl)
theorem dX3_isAct_236 : decode cX3_isAct 236 = .ok (.iload_n 1, 1) := dk_27 (dk_at dksX3_isAct_8 12 rfl rfl)
theorem dX3_isAct_237 : decode cX3_isAct 237 = .ok (.invokestatic 124, 3) := dk_184 0 124 (dk_at dksX3_isAct_8 13 rfl rfl)
theorem dX3_isAct_240 : decode cX3_isAct 240 = .ok (.ifCond .eq 25, 3) := dk_153 0 25 (dk_at dksX3_isAct_8 16 rfl rfl)
theorem dX3_isAct_243 : decode cX3_isAct 243 = .ok (.iload_n 2, 1) := dk_28 (dk_at dksX3_isAct_8 19 rfl rfl)
theorem dX3_isAct_244 : decode cX3_isAct 244 = .ok (.iconst 5, 1) := dk_8 (dk_at dksX3_isAct_8 20 rfl rfl)
theorem dX3_isAct_245 : decode cX3_isAct 245 = .ok (.bipush 7, 2) := dk_16 7 (dk_at dksX3_isAct_8 21 rfl rfl)
theorem dX3_isAct_247 : decode cX3_isAct 247 = .ok (.invokestatic 103, 3) := dk_184 0 103 (dk_at dksX3_isAct_9 0 rfl rfl)
theorem dX3_isAct_250 : decode cX3_isAct 250 = .ok (.ifCond .eq 15, 3) := dk_153 0 15 (dk_at dksX3_isAct_9 3 rfl rfl)
theorem dX3_isAct_253 : decode cX3_isAct 253 = .ok (.iload 4, 2) := dk_21 4 (dk_at dksX3_isAct_9 6 rfl rfl)
theorem dX3_isAct_255 : decode cX3_isAct 255 = .ok (.invokestatic 124, 3) := dk_184 0 124 (dk_at dksX3_isAct_9 8 rfl rfl)
theorem dX3_isAct_258 : decode cX3_isAct 258 = .ok (.ifCond .eq 7, 3) := dk_153 0 7 (dk_at dksX3_isAct_9 11 rfl rfl)
theorem dX3_isAct_261 : decode cX3_isAct 261 = .ok (.iconst 1, 1) := dk_4 (dk_at dksX3_isAct_9 14 rfl rfl)
theorem dX3_isAct_262 : decode cX3_isAct 262 = .ok (.goto 4, 3) := dk_167 0 4 (dk_at dksX3_isAct_9 15 rfl rfl)
theorem dX3_isAct_265 : decode cX3_isAct 265 = .ok (.iconst 0, 1) := dk_3 (dk_at dksX3_isAct_9 18 rfl rfl)
theorem dX3_isAct_266 : decode cX3_isAct 266 = .ok (.ireturn, 1) := dk_172 (dk_at dksX3_isAct_9 19 rfl rfl)
theorem dX3_isAct_267 : decode cX3_isAct 267 = .ok (.iload_n 1, 1) := dk_27 (dk_at dksX3_isAct_9 20 rfl rfl)
theorem dX3_isAct_268 : decode cX3_isAct 268 = .ok (.invokestatic 128, 3) := dk_184 0 128 (dk_at dksX3_isAct_9 21 rfl rfl)
theorem dX3_isAct_271 : decode cX3_isAct 271 = .ok (.ifCond .eq 24, 3) := dk_153 0 24 (dk_at dksX3_isAct_10 0 rfl rfl)
theorem dX3_isAct_274 : decode cX3_isAct 274 = .ok (.iload_n 2, 1) := dk_28 (dk_at dksX3_isAct_10 3 rfl rfl)
theorem dX3_isAct_275 : decode cX3_isAct 275 = .ok (.invokestatic 124, 3) := dk_184 0 124 (dk_at dksX3_isAct_10 4 rfl rfl)
theorem dX3_isAct_278 : decode cX3_isAct 278 = .ok (.ifCond .eq 17, 3) := dk_153 0 17 (dk_at dksX3_isAct_10 7 rfl rfl)
theorem dX3_isAct_281 : decode cX3_isAct 281 = .ok (.iload_n 3, 1) := dk_29 (dk_at dksX3_isAct_10 10 rfl rfl)
theorem dX3_isAct_282 : decode cX3_isAct 282 = .ok (.iconst 1, 1) := dk_4 (dk_at dksX3_isAct_10 11 rfl rfl)
theorem dX3_isAct_283 : decode cX3_isAct 283 = .ok (.bipush 7, 2) := dk_16 7 (dk_at dksX3_isAct_10 12 rfl rfl)
theorem dX3_isAct_285 : decode cX3_isAct 285 = .ok (.invokestatic 103, 3) := dk_184 0 103 (dk_at dksX3_isAct_10 14 rfl rfl)
theorem dX3_isAct_288 : decode cX3_isAct 288 = .ok (.ifCond .eq 7, 3) := dk_153 0 7 (dk_at dksX3_isAct_10 17 rfl rfl)
theorem dX3_isAct_291 : decode cX3_isAct 291 = .ok (.iconst 1, 1) := dk_4 (dk_at dksX3_isAct_10 20 rfl rfl)
theorem dX3_isAct_292 : decode cX3_isAct 292 = .ok (.goto 4, 3) := dk_167 0 4 (dk_at dksX3_isAct_10 21 rfl rfl)
theorem dX3_isAct_295 : decode cX3_isAct 295 = .ok (.iconst 0, 1) := dk_3 (dk_at dksX3_isAct_11 0 rfl rfl)
theorem dX3_isAct_296 : decode cX3_isAct 296 = .ok (.ireturn, 1) := dk_172 (dk_at dksX3_isAct_11 1 rfl rfl)
theorem dX3_isAct_297 : decode cX3_isAct 297 = .ok (.iload_n 1, 1) := dk_27 (dk_at dksX3_isAct_11 2 rfl rfl)
theorem dX3_isAct_298 : decode cX3_isAct 298 = .ok (.invokestatic 124, 3) := dk_184 0 124 (dk_at dksX3_isAct_11 3 rfl rfl)
theorem dX3_isAct_301 : decode cX3_isAct 301 = .ok (.ifCond .eq 14, 3) := dk_153 0 14 (dk_at dksX3_isAct_11 6 rfl rfl)
theorem dX3_isAct_304 : decode cX3_isAct 304 = .ok (.iload_n 2, 1) := dk_28 (dk_at dksX3_isAct_11 9 rfl rfl)
theorem dX3_isAct_305 : decode cX3_isAct 305 = .ok (.invokestatic 124, 3) := dk_184 0 124 (dk_at dksX3_isAct_11 10 rfl rfl)
theorem dX3_isAct_308 : decode cX3_isAct 308 = .ok (.ifCond .eq 7, 3) := dk_153 0 7 (dk_at dksX3_isAct_11 13 rfl rfl)
theorem dX3_isAct_311 : decode cX3_isAct 311 = .ok (.iconst 1, 1) := dk_4 (dk_at dksX3_isAct_11 16 rfl rfl)
theorem dX3_isAct_312 : decode cX3_isAct 312 = .ok (.goto 4, 3) := dk_167 0 4 (dk_at dksX3_isAct_11 17 rfl rfl)
theorem dX3_isAct_315 : decode cX3_isAct 315 = .ok (.iconst 0, 1) := dk_3 (dk_at dksX3_isAct_11 20 rfl rfl)
theorem dX3_isAct_316 : decode cX3_isAct 316 = .ok (.ireturn, 1) := dk_172 (dk_at dksX3_isAct_11 21 rfl rfl)
theorem dX3_isAct_317 : decode cX3_isAct 317 = .ok (.iload_n 1, 1) := dk_27 (dk_at dksX3_isAct_11 22 rfl rfl)
theorem dX3_isAct_318 : decode cX3_isAct 318 = .ok (.invokestatic 128, 3) := dk_184 0 128 (dk_at dksX3_isAct_12 0 rfl rfl)
theorem dX3_isAct_321 : decode cX3_isAct 321 = .ok (.ifCond .eq 14, 3) := dk_153 0 14 (dk_at dksX3_isAct_12 3 rfl rfl)
theorem dX3_isAct_324 : decode cX3_isAct 324 = .ok (.iload_n 2, 1) := dk_28 (dk_at dksX3_isAct_12 6 rfl rfl)
theorem dX3_isAct_325 : decode cX3_isAct 325 = .ok (.invokestatic 124, 3) := dk_184 0 124 (dk_at dksX3_isAct_12 7 rfl rfl)
theorem dX3_isAct_328 : decode cX3_isAct 328 = .ok (.ifCond .eq 7, 3) := dk_153 0 7 (dk_at dksX3_isAct_12 10 rfl rfl)
theorem dX3_isAct_331 : decode cX3_isAct 331 = .ok (.iconst 1, 1) := dk_4 (dk_at dksX3_isAct_12 13 rfl rfl)
theorem dX3_isAct_332 : decode cX3_isAct 332 = .ok (.goto 4, 3) := dk_167 0 4 (dk_at dksX3_isAct_12 14 rfl rfl)
theorem dX3_isAct_335 : decode cX3_isAct 335 = .ok (.iconst 0, 1) := dk_3 (dk_at dksX3_isAct_12 17 rfl rfl)
theorem dX3_isAct_336 : decode cX3_isAct 336 = .ok (.ireturn, 1) := dk_172 (dk_at dksX3_isAct_12 18 rfl rfl)
theorem dX3_isAct_337 : decode cX3_isAct 337 = .ok (.iload_n 1, 1) := dk_27 (dk_at dksX3_isAct_12 19 rfl rfl)
theorem dX3_isAct_338 : decode cX3_isAct 338 = .ok (.invokestatic 124, 3) := dk_184 0 124 (dk_at dksX3_isAct_12 20 rfl rfl)
theorem dX3_isAct_341 : decode cX3_isAct 341 = .ok (.ifCond .eq 14, 3) := dk_153 0 14 (dk_at dksX3_isAct_13 0 rfl rfl)
theorem dX3_isAct_344 : decode cX3_isAct 344 = .ok (.iload_n 3, 1) := dk_29 (dk_at dksX3_isAct_13 3 rfl rfl)
theorem dX3_isAct_345 : decode cX3_isAct 345 = .ok (.invokestatic 124, 3) := dk_184 0 124 (dk_at dksX3_isAct_13 4 rfl rfl)
theorem dX3_isAct_348 : decode cX3_isAct 348 = .ok (.ifCond .eq 7, 3) := dk_153 0 7 (dk_at dksX3_isAct_13 7 rfl rfl)
theorem dX3_isAct_351 : decode cX3_isAct 351 = .ok (.iconst 1, 1) := dk_4 (dk_at dksX3_isAct_13 10 rfl rfl)
theorem dX3_isAct_352 : decode cX3_isAct 352 = .ok (.goto 4, 3) := dk_167 0 4 (dk_at dksX3_isAct_13 11 rfl rfl)
theorem dX3_isAct_355 : decode cX3_isAct 355 = .ok (.iconst 0, 1) := dk_3 (dk_at dksX3_isAct_13 14 rfl rfl)
theorem dX3_isAct_356 : decode cX3_isAct 356 = .ok (.ireturn, 1) := dk_172 (dk_at dksX3_isAct_13 15 rfl rfl)
theorem dX3_isAct_357 : decode cX3_isAct 357 = .ok (.iload_n 1, 1) := dk_27 (dk_at dksX3_isAct_13 16 rfl rfl)
theorem dX3_isAct_358 : decode cX3_isAct 358 = .ok (.invokestatic 128, 3) := dk_184 0 128 (dk_at dksX3_isAct_13 17 rfl rfl)
theorem dX3_isAct_361 : decode cX3_isAct 361 = .ok (.ireturn, 1) := dk_172 (dk_at dksX3_isAct_13 20 rfl rfl)
theorem dX3_isAct_362 : decode cX3_isAct 362 = .ok (.iload_n 1, 1) := dk_27 (dk_at dksX3_isAct_13 21 rfl rfl)
theorem dX3_isAct_363 : decode cX3_isAct 363 = .ok (.invokestatic 128, 3) := dk_184 0 128 (dk_at dksX3_isAct_14 0 rfl rfl)
theorem dX3_isAct_366 : decode cX3_isAct 366 = .ok (.ifCond .eq 21, 3) := dk_153 0 21 (dk_at dksX3_isAct_14 3 rfl rfl)
theorem dX3_isAct_369 : decode cX3_isAct 369 = .ok (.iload_n 2, 1) := dk_28 (dk_at dksX3_isAct_14 6 rfl rfl)
theorem dX3_isAct_370 : decode cX3_isAct 370 = .ok (.invokestatic 128, 3) := dk_184 0 128 (dk_at dksX3_isAct_14 7 rfl rfl)
theorem dX3_isAct_373 : decode cX3_isAct 373 = .ok (.ifCond .eq 14, 3) := dk_153 0 14 (dk_at dksX3_isAct_14 10 rfl rfl)
theorem dX3_isAct_376 : decode cX3_isAct 376 = .ok (.iload_n 3, 1) := dk_29 (dk_at dksX3_isAct_14 13 rfl rfl)
theorem dX3_isAct_377 : decode cX3_isAct 377 = .ok (.invokestatic 128, 3) := dk_184 0 128 (dk_at dksX3_isAct_14 14 rfl rfl)
theorem dX3_isAct_380 : decode cX3_isAct 380 = .ok (.ifCond .eq 7, 3) := dk_153 0 7 (dk_at dksX3_isAct_14 17 rfl rfl)
theorem dX3_isAct_383 : decode cX3_isAct 383 = .ok (.iconst 1, 1) := dk_4 (dk_at dksX3_isAct_14 20 rfl rfl)
theorem dX3_isAct_384 : decode cX3_isAct 384 = .ok (.goto 4, 3) := dk_167 0 4 (dk_at dksX3_isAct_14 21 rfl rfl)
theorem dX3_isAct_387 : decode cX3_isAct 387 = .ok (.iconst 0, 1) := dk_3 (dk_at dksX3_isAct_15 0 rfl rfl)
theorem dX3_isAct_388 : decode cX3_isAct 388 = .ok (.ireturn, 1) := dk_172 (dk_at dksX3_isAct_15 1 rfl rfl)
theorem dX3_isAct_389 : decode cX3_isAct 389 = .ok (.iload_n 0, 1) := dk_26 (dk_at dksX3_isAct_15 2 rfl rfl)
theorem dX3_isAct_390 : decode cX3_isAct 390 = .ok (.bipush 17, 2) := dk_16 17 (dk_at dksX3_isAct_15 3 rfl rfl)
theorem dX3_isAct_392 : decode cX3_isAct 392 = .ok (.if_icmp .ne 7, 3) := dk_160 0 7 (dk_at dksX3_isAct_15 5 rfl rfl)
theorem dX3_isAct_395 : decode cX3_isAct 395 = .ok (.iconst 1, 1) := dk_4 (dk_at dksX3_isAct_15 8 rfl rfl)
theorem dX3_isAct_396 : decode cX3_isAct 396 = .ok (.goto 4, 3) := dk_167 0 4 (dk_at dksX3_isAct_15 9 rfl rfl)
theorem dX3_isAct_399 : decode cX3_isAct 399 = .ok (.iconst 0, 1) := dk_3 (dk_at dksX3_isAct_15 12 rfl rfl)
theorem dX3_isAct_400 : decode cX3_isAct 400 = .ok (.ireturn, 1) := dk_172 (dk_at dksX3_isAct_15 13 rfl rfl)
abbrev cX3_isSlot : ByteArray := prog_15_method_3_code
def yX3_isSlot : MethodName := ⟨RX3, "isSlot", "(I)Z"⟩
def dkwX3_isSlot_0 : List UInt8 := [26, 3, 16, 11, 184, 0, 103, 172]
abbrev dktX3_isSlot_0 : List UInt8 := dkwX3_isSlot_0 ++ []
theorem dksX3_isSlot_0 : cX3_isSlot.data.toList.drop 0 = dktX3_isSlot_0 := by decide +kernel
theorem dX3_isSlot_0 : decode cX3_isSlot 0 = .ok (.iload_n 0, 1) := dk_26 (dk_at dksX3_isSlot_0 0 rfl rfl)
theorem dX3_isSlot_1 : decode cX3_isSlot 1 = .ok (.iconst 0, 1) := dk_3 (dk_at dksX3_isSlot_0 1 rfl rfl)
theorem dX3_isSlot_2 : decode cX3_isSlot 2 = .ok (.bipush 11, 2) := dk_16 11 (dk_at dksX3_isSlot_0 2 rfl rfl)
theorem dX3_isSlot_4 : decode cX3_isSlot 4 = .ok (.invokestatic 103, 3) := dk_184 0 103 (dk_at dksX3_isSlot_0 4 rfl rfl)
theorem dX3_isSlot_7 : decode cX3_isSlot 7 = .ok (.ireturn, 1) := dk_172 (dk_at dksX3_isSlot_0 7 rfl rfl)
abbrev cX3_in : ByteArray := prog_15_method_2_code
def yX3_in : MethodName := ⟨RX3, "in", "(III)Z"⟩
def dkwX3_in_0 : List UInt8 := [26, 27, 161, 0, 12, 26, 28, 163, 0, 7, 4, 167, 0, 4, 3, 172]
abbrev dktX3_in_0 : List UInt8 := dkwX3_in_0 ++ []
theorem dksX3_in_0 : cX3_in.data.toList.drop 0 = dktX3_in_0 := by decide +kernel
theorem dX3_in_0 : decode cX3_in 0 = .ok (.iload_n 0, 1) := dk_26 (dk_at dksX3_in_0 0 rfl rfl)
theorem dX3_in_1 : decode cX3_in 1 = .ok (.iload_n 1, 1) := dk_27 (dk_at dksX3_in_0 1 rfl rfl)
theorem dX3_in_2 : decode cX3_in 2 = .ok (.if_icmp .lt 12, 3) := dk_161 0 12 (dk_at dksX3_in_0 2 rfl rfl)
theorem dX3_in_5 : decode cX3_in 5 = .ok (.iload_n 0, 1) := dk_26 (dk_at dksX3_in_0 5 rfl rfl)
theorem dX3_in_6 : decode cX3_in 6 = .ok (.iload_n 2, 1) := dk_28 (dk_at dksX3_in_0 6 rfl rfl)
theorem dX3_in_7 : decode cX3_in 7 = .ok (.if_icmp .gt 7, 3) := dk_163 0 7 (dk_at dksX3_in_0 7 rfl rfl)
theorem dX3_in_10 : decode cX3_in 10 = .ok (.iconst 1, 1) := dk_4 (dk_at dksX3_in_0 10 rfl rfl)
theorem dX3_in_11 : decode cX3_in 11 = .ok (.goto 4, 3) := dk_167 0 4 (dk_at dksX3_in_0 11 rfl rfl)
theorem dX3_in_14 : decode cX3_in 14 = .ok (.iconst 0, 1) := dk_3 (dk_at dksX3_in_0 14 rfl rfl)
theorem dX3_in_15 : decode cX3_in 15 = .ok (.ireturn, 1) := dk_172 (dk_at dksX3_in_0 15 rfl rfl)
abbrev cX3_isRegister : ByteArray := prog_15_method_4_code
def yX3_isRegister : MethodName := ⟨RX3, "isRegister", "(I)Z"⟩
def dkwX3_isRegister_0 : List UInt8 := [26, 3, 16, 7, 184, 0, 103, 172]
abbrev dktX3_isRegister_0 : List UInt8 := dkwX3_isRegister_0 ++ []
theorem dksX3_isRegister_0 : cX3_isRegister.data.toList.drop 0 = dktX3_isRegister_0 := by decide +kernel
theorem dX3_isRegister_0 : decode cX3_isRegister 0 = .ok (.iload_n 0, 1) := dk_26 (dk_at dksX3_isRegister_0 0 rfl rfl)
theorem dX3_isRegister_1 : decode cX3_isRegister 1 = .ok (.iconst 0, 1) := dk_3 (dk_at dksX3_isRegister_0 1 rfl rfl)
theorem dX3_isRegister_2 : decode cX3_isRegister 2 = .ok (.bipush 7, 2) := dk_16 7 (dk_at dksX3_isRegister_0 2 rfl rfl)
theorem dX3_isRegister_4 : decode cX3_isRegister 4 = .ok (.invokestatic 103, 3) := dk_184 0 103 (dk_at dksX3_isRegister_0 4 rfl rfl)
theorem dX3_isRegister_7 : decode cX3_isRegister 7 = .ok (.ireturn, 1) := dk_172 (dk_at dksX3_isRegister_0 7 rfl rfl)
abbrev cX3_node : ByteArray := prog_15_method_10_code
def yX3_node : MethodName := ⟨RX3, "node", "(IIIIIII)I"⟩
def dkwX3_node_5 : List UInt8 := [100, 172]
abbrev dktX3_node_5 : List UInt8 := dkwX3_node_5 ++ []
def dkwX3_node_4 : List UInt8 := [180, 0, 76, 42, 180, 0, 121, 3, 84, 42, 89, 180, 0, 121, 4, 96, 181, 0, 121, 42, 180, 0, 121, 4]
abbrev dktX3_node_4 : List UInt8 := dkwX3_node_4 ++ dktX3_node_5
def dkwX3_node_3 : List UInt8 := [180, 0, 47, 42, 180, 0, 121, 21, 6, 79, 42, 180, 0, 50, 42, 180, 0, 121, 21, 7, 79, 42]
abbrev dktX3_node_3 : List UInt8 := dkwX3_node_3 ++ dktX3_node_4
def dkwX3_node_2 : List UInt8 := [79, 42, 180, 0, 41, 42, 180, 0, 121, 21, 4, 79, 42, 180, 0, 44, 42, 180, 0, 121, 21, 5, 79, 42]
abbrev dktX3_node_2 : List UInt8 := dkwX3_node_2 ++ dktX3_node_3
def dkwX3_node_1 : List UInt8 := [180, 0, 121, 27, 79, 42, 180, 0, 35, 42, 180, 0, 121, 28, 79, 42, 180, 0, 38, 42, 180, 0, 121, 29]
abbrev dktX3_node_1 : List UInt8 := dkwX3_node_1 ++ dktX3_node_2
def dkwX3_node_0 : List UInt8 := [42, 180, 0, 121, 16, 80, 159, 0, 10, 21, 7, 16, 100, 164, 0, 6, 16, 254, 172, 42, 180, 0, 32, 42]
abbrev dktX3_node_0 : List UInt8 := dkwX3_node_0 ++ dktX3_node_1
theorem dksX3_node_0 : cX3_node.data.toList.drop 0 = dktX3_node_0 := by decide +kernel
theorem dksX3_node_1 : cX3_node.data.toList.drop 24 = dktX3_node_1 := dk_seg dksX3_node_0 24 rfl rfl
theorem dksX3_node_2 : cX3_node.data.toList.drop 48 = dktX3_node_2 := dk_seg dksX3_node_1 24 rfl rfl
theorem dksX3_node_3 : cX3_node.data.toList.drop 72 = dktX3_node_3 := dk_seg dksX3_node_2 24 rfl rfl
theorem dksX3_node_4 : cX3_node.data.toList.drop 94 = dktX3_node_4 := dk_seg dksX3_node_3 22 rfl rfl
theorem dksX3_node_5 : cX3_node.data.toList.drop 118 = dktX3_node_5 := dk_seg dksX3_node_4 24 rfl rfl
theorem dX3_node_0 : decode cX3_node 0 = .ok (.aload_n 0, 1) := dk_42 (dk_at dksX3_node_0 0 rfl rfl)
theorem dX3_node_1 : decode cX3_node 1 = .ok (.getfield 121, 3) := dk_180 0 121 (dk_at dksX3_node_0 1 rfl rfl)
theorem dX3_node_4 : decode cX3_node 4 = .ok (.bipush 80, 2) := dk_16 80 (dk_at dksX3_node_0 4 rfl rfl)
theorem dX3_node_6 : decode cX3_node 6 = .ok (.if_icmp .eq 10, 3) := dk_159 0 10 (dk_at dksX3_node_0 6 rfl rfl)
theorem dX3_node_9 : decode cX3_node 9 = .ok (.iload 7, 2) := dk_21 7 (dk_at dksX3_node_0 9 rfl rfl)
theorem dX3_node_11 : decode cX3_node 11 = .ok (.bipush 100, 2) := dk_16 100 (dk_at dksX3_node_0 11 rfl rfl)
theorem dX3_node_13 : decode cX3_node 13 = .ok (.if_icmp .le 6, 3) := dk_164 0 6 (dk_at dksX3_node_0 13 rfl rfl)
theorem dX3_node_16 : decode cX3_node 16 = .ok (.bipush (-2), 2) := dk_16 254 (dk_at dksX3_node_0 16 rfl rfl)
theorem dX3_node_18 : decode cX3_node 18 = .ok (.ireturn, 1) := dk_172 (dk_at dksX3_node_0 18 rfl rfl)
theorem dX3_node_19 : decode cX3_node 19 = .ok (.aload_n 0, 1) := dk_42 (dk_at dksX3_node_0 19 rfl rfl)
theorem dX3_node_20 : decode cX3_node 20 = .ok (.getfield 32, 3) := dk_180 0 32 (dk_at dksX3_node_0 20 rfl rfl)
theorem dX3_node_23 : decode cX3_node 23 = .ok (.aload_n 0, 1) := dk_42 (dk_at dksX3_node_0 23 rfl rfl)
theorem dX3_node_24 : decode cX3_node 24 = .ok (.getfield 121, 3) := dk_180 0 121 (dk_at dksX3_node_1 0 rfl rfl)
theorem dX3_node_27 : decode cX3_node 27 = .ok (.iload_n 1, 1) := dk_27 (dk_at dksX3_node_1 3 rfl rfl)
theorem dX3_node_28 : decode cX3_node 28 = .ok (.iastore, 1) := dk_79 (dk_at dksX3_node_1 4 rfl rfl)
theorem dX3_node_29 : decode cX3_node 29 = .ok (.aload_n 0, 1) := dk_42 (dk_at dksX3_node_1 5 rfl rfl)
theorem dX3_node_30 : decode cX3_node 30 = .ok (.getfield 35, 3) := dk_180 0 35 (dk_at dksX3_node_1 6 rfl rfl)
theorem dX3_node_33 : decode cX3_node 33 = .ok (.aload_n 0, 1) := dk_42 (dk_at dksX3_node_1 9 rfl rfl)
theorem dX3_node_34 : decode cX3_node 34 = .ok (.getfield 121, 3) := dk_180 0 121 (dk_at dksX3_node_1 10 rfl rfl)
theorem dX3_node_37 : decode cX3_node 37 = .ok (.iload_n 2, 1) := dk_28 (dk_at dksX3_node_1 13 rfl rfl)
theorem dX3_node_38 : decode cX3_node 38 = .ok (.iastore, 1) := dk_79 (dk_at dksX3_node_1 14 rfl rfl)
theorem dX3_node_39 : decode cX3_node 39 = .ok (.aload_n 0, 1) := dk_42 (dk_at dksX3_node_1 15 rfl rfl)
theorem dX3_node_40 : decode cX3_node 40 = .ok (.getfield 38, 3) := dk_180 0 38 (dk_at dksX3_node_1 16 rfl rfl)
theorem dX3_node_43 : decode cX3_node 43 = .ok (.aload_n 0, 1) := dk_42 (dk_at dksX3_node_1 19 rfl rfl)
theorem dX3_node_44 : decode cX3_node 44 = .ok (.getfield 121, 3) := dk_180 0 121 (dk_at dksX3_node_1 20 rfl rfl)
theorem dX3_node_47 : decode cX3_node 47 = .ok (.iload_n 3, 1) := dk_29 (dk_at dksX3_node_1 23 rfl rfl)
theorem dX3_node_48 : decode cX3_node 48 = .ok (.iastore, 1) := dk_79 (dk_at dksX3_node_2 0 rfl rfl)
theorem dX3_node_49 : decode cX3_node 49 = .ok (.aload_n 0, 1) := dk_42 (dk_at dksX3_node_2 1 rfl rfl)
theorem dX3_node_50 : decode cX3_node 50 = .ok (.getfield 41, 3) := dk_180 0 41 (dk_at dksX3_node_2 2 rfl rfl)
theorem dX3_node_53 : decode cX3_node 53 = .ok (.aload_n 0, 1) := dk_42 (dk_at dksX3_node_2 5 rfl rfl)
theorem dX3_node_54 : decode cX3_node 54 = .ok (.getfield 121, 3) := dk_180 0 121 (dk_at dksX3_node_2 6 rfl rfl)
theorem dX3_node_57 : decode cX3_node 57 = .ok (.iload 4, 2) := dk_21 4 (dk_at dksX3_node_2 9 rfl rfl)
theorem dX3_node_59 : decode cX3_node 59 = .ok (.iastore, 1) := dk_79 (dk_at dksX3_node_2 11 rfl rfl)
theorem dX3_node_60 : decode cX3_node 60 = .ok (.aload_n 0, 1) := dk_42 (dk_at dksX3_node_2 12 rfl rfl)
theorem dX3_node_61 : decode cX3_node 61 = .ok (.getfield 44, 3) := dk_180 0 44 (dk_at dksX3_node_2 13 rfl rfl)
theorem dX3_node_64 : decode cX3_node 64 = .ok (.aload_n 0, 1) := dk_42 (dk_at dksX3_node_2 16 rfl rfl)
theorem dX3_node_65 : decode cX3_node 65 = .ok (.getfield 121, 3) := dk_180 0 121 (dk_at dksX3_node_2 17 rfl rfl)
theorem dX3_node_68 : decode cX3_node 68 = .ok (.iload 5, 2) := dk_21 5 (dk_at dksX3_node_2 20 rfl rfl)
theorem dX3_node_70 : decode cX3_node 70 = .ok (.iastore, 1) := dk_79 (dk_at dksX3_node_2 22 rfl rfl)
theorem dX3_node_71 : decode cX3_node 71 = .ok (.aload_n 0, 1) := dk_42 (dk_at dksX3_node_2 23 rfl rfl)
theorem dX3_node_72 : decode cX3_node 72 = .ok (.getfield 47, 3) := dk_180 0 47 (dk_at dksX3_node_3 0 rfl rfl)
theorem dX3_node_75 : decode cX3_node 75 = .ok (.aload_n 0, 1) := dk_42 (dk_at dksX3_node_3 3 rfl rfl)
theorem dX3_node_76 : decode cX3_node 76 = .ok (.getfield 121, 3) := dk_180 0 121 (dk_at dksX3_node_3 4 rfl rfl)
theorem dX3_node_79 : decode cX3_node 79 = .ok (.iload 6, 2) := dk_21 6 (dk_at dksX3_node_3 7 rfl rfl)
theorem dX3_node_81 : decode cX3_node 81 = .ok (.iastore, 1) := dk_79 (dk_at dksX3_node_3 9 rfl rfl)
theorem dX3_node_82 : decode cX3_node 82 = .ok (.aload_n 0, 1) := dk_42 (dk_at dksX3_node_3 10 rfl rfl)
theorem dX3_node_83 : decode cX3_node 83 = .ok (.getfield 50, 3) := dk_180 0 50 (dk_at dksX3_node_3 11 rfl rfl)
theorem dX3_node_86 : decode cX3_node 86 = .ok (.aload_n 0, 1) := dk_42 (dk_at dksX3_node_3 14 rfl rfl)
theorem dX3_node_87 : decode cX3_node 87 = .ok (.getfield 121, 3) := dk_180 0 121 (dk_at dksX3_node_3 15 rfl rfl)
theorem dX3_node_90 : decode cX3_node 90 = .ok (.iload 7, 2) := dk_21 7 (dk_at dksX3_node_3 18 rfl rfl)
theorem dX3_node_92 : decode cX3_node 92 = .ok (.iastore, 1) := dk_79 (dk_at dksX3_node_3 20 rfl rfl)
theorem dX3_node_93 : decode cX3_node 93 = .ok (.aload_n 0, 1) := dk_42 (dk_at dksX3_node_3 21 rfl rfl)
theorem dX3_node_94 : decode cX3_node 94 = .ok (.getfield 76, 3) := dk_180 0 76 (dk_at dksX3_node_4 0 rfl rfl)
theorem dX3_node_97 : decode cX3_node 97 = .ok (.aload_n 0, 1) := dk_42 (dk_at dksX3_node_4 3 rfl rfl)
theorem dX3_node_98 : decode cX3_node 98 = .ok (.getfield 121, 3) := dk_180 0 121 (dk_at dksX3_node_4 4 rfl rfl)
theorem dX3_node_101 : decode cX3_node 101 = .ok (.iconst 0, 1) := dk_3 (dk_at dksX3_node_4 7 rfl rfl)
theorem dX3_node_102 : decode cX3_node 102 = .ok (.bastore, 1) := dk_84 (dk_at dksX3_node_4 8 rfl rfl)
theorem dX3_node_103 : decode cX3_node 103 = .ok (.aload_n 0, 1) := dk_42 (dk_at dksX3_node_4 9 rfl rfl)
theorem dX3_node_104 : decode cX3_node 104 = .ok (.dup, 1) := dk_89 (dk_at dksX3_node_4 10 rfl rfl)
theorem dX3_node_105 : decode cX3_node 105 = .ok (.getfield 121, 3) := dk_180 0 121 (dk_at dksX3_node_4 11 rfl rfl)
theorem dX3_node_108 : decode cX3_node 108 = .ok (.iconst 1, 1) := dk_4 (dk_at dksX3_node_4 14 rfl rfl)
theorem dX3_node_109 : decode cX3_node 109 = .ok (.iadd, 1) := dk_96 (dk_at dksX3_node_4 15 rfl rfl)
theorem dX3_node_110 : decode cX3_node 110 = .ok (.putfield 121, 3) := dk_181 0 121 (dk_at dksX3_node_4 16 rfl rfl)
theorem dX3_node_113 : decode cX3_node 113 = .ok (.aload_n 0, 1) := dk_42 (dk_at dksX3_node_4 19 rfl rfl)
theorem dX3_node_114 : decode cX3_node 114 = .ok (.getfield 121, 3) := dk_180 0 121 (dk_at dksX3_node_4 20 rfl rfl)
theorem dX3_node_117 : decode cX3_node 117 = .ok (.iconst 1, 1) := dk_4 (dk_at dksX3_node_4 23 rfl rfl)
theorem dX3_node_118 : decode cX3_node 118 = .ok (.isub, 1) := dk_100 (dk_at dksX3_node_5 0 rfl rfl)
theorem dX3_node_119 : decode cX3_node 119 = .ok (.ireturn, 1) := dk_172 (dk_at dksX3_node_5 1 rfl rfl)
abbrev cX3_both : ByteArray := prog_15_method_13_code
def yX3_both : MethodName := ⟨RX3, "both", "(II)I"⟩
def dkwX3_both_1 : List UInt8 := [42, 180, 0, 50, 27, 46, 96, 42, 180, 0, 50, 28, 46, 96, 182, 0, 135, 167, 0, 4, 2, 172]
abbrev dktX3_both_1 : List UInt8 := dkwX3_both_1 ++ []
def dkwX3_both_0 : List UInt8 := [42, 27, 182, 0, 139, 153, 0, 39, 42, 28, 182, 0, 139, 153, 0, 31, 42, 4, 3, 27, 28, 3, 3, 4]
abbrev dktX3_both_0 : List UInt8 := dkwX3_both_0 ++ dktX3_both_1
theorem dksX3_both_0 : cX3_both.data.toList.drop 0 = dktX3_both_0 := by decide +kernel
theorem dksX3_both_1 : cX3_both.data.toList.drop 24 = dktX3_both_1 := dk_seg dksX3_both_0 24 rfl rfl
theorem dX3_both_0 : decode cX3_both 0 = .ok (.aload_n 0, 1) := dk_42 (dk_at dksX3_both_0 0 rfl rfl)
theorem dX3_both_1 : decode cX3_both 1 = .ok (.iload_n 1, 1) := dk_27 (dk_at dksX3_both_0 1 rfl rfl)
theorem dX3_both_2 : decode cX3_both 2 = .ok (.invokevirtual 139, 3) := dk_182 0 139 (dk_at dksX3_both_0 2 rfl rfl)
theorem dX3_both_5 : decode cX3_both 5 = .ok (.ifCond .eq 39, 3) := dk_153 0 39 (dk_at dksX3_both_0 5 rfl rfl)
theorem dX3_both_8 : decode cX3_both 8 = .ok (.aload_n 0, 1) := dk_42 (dk_at dksX3_both_0 8 rfl rfl)
theorem dX3_both_9 : decode cX3_both 9 = .ok (.iload_n 2, 1) := dk_28 (dk_at dksX3_both_0 9 rfl rfl)
theorem dX3_both_10 : decode cX3_both 10 = .ok (.invokevirtual 139, 3) := dk_182 0 139 (dk_at dksX3_both_0 10 rfl rfl)
theorem dX3_both_13 : decode cX3_both 13 = .ok (.ifCond .eq 31, 3) := dk_153 0 31 (dk_at dksX3_both_0 13 rfl rfl)
theorem dX3_both_16 : decode cX3_both 16 = .ok (.aload_n 0, 1) := dk_42 (dk_at dksX3_both_0 16 rfl rfl)
theorem dX3_both_17 : decode cX3_both 17 = .ok (.iconst 1, 1) := dk_4 (dk_at dksX3_both_0 17 rfl rfl)
theorem dX3_both_18 : decode cX3_both 18 = .ok (.iconst 0, 1) := dk_3 (dk_at dksX3_both_0 18 rfl rfl)
theorem dX3_both_19 : decode cX3_both 19 = .ok (.iload_n 1, 1) := dk_27 (dk_at dksX3_both_0 19 rfl rfl)
theorem dX3_both_20 : decode cX3_both 20 = .ok (.iload_n 2, 1) := dk_28 (dk_at dksX3_both_0 20 rfl rfl)
theorem dX3_both_21 : decode cX3_both 21 = .ok (.iconst 0, 1) := dk_3 (dk_at dksX3_both_0 21 rfl rfl)
theorem dX3_both_22 : decode cX3_both 22 = .ok (.iconst 0, 1) := dk_3 (dk_at dksX3_both_0 22 rfl rfl)
theorem dX3_both_23 : decode cX3_both 23 = .ok (.iconst 1, 1) := dk_4 (dk_at dksX3_both_0 23 rfl rfl)
theorem dX3_both_24 : decode cX3_both 24 = .ok (.aload_n 0, 1) := dk_42 (dk_at dksX3_both_1 0 rfl rfl)
theorem dX3_both_25 : decode cX3_both 25 = .ok (.getfield 50, 3) := dk_180 0 50 (dk_at dksX3_both_1 1 rfl rfl)
theorem dX3_both_28 : decode cX3_both 28 = .ok (.iload_n 1, 1) := dk_27 (dk_at dksX3_both_1 4 rfl rfl)
theorem dX3_both_29 : decode cX3_both 29 = .ok (.iaload, 1) := dk_46 (dk_at dksX3_both_1 5 rfl rfl)
theorem dX3_both_30 : decode cX3_both 30 = .ok (.iadd, 1) := dk_96 (dk_at dksX3_both_1 6 rfl rfl)
theorem dX3_both_31 : decode cX3_both 31 = .ok (.aload_n 0, 1) := dk_42 (dk_at dksX3_both_1 7 rfl rfl)
theorem dX3_both_32 : decode cX3_both 32 = .ok (.getfield 50, 3) := dk_180 0 50 (dk_at dksX3_both_1 8 rfl rfl)
theorem dX3_both_35 : decode cX3_both 35 = .ok (.iload_n 2, 1) := dk_28 (dk_at dksX3_both_1 11 rfl rfl)
theorem dX3_both_36 : decode cX3_both 36 = .ok (.iaload, 1) := dk_46 (dk_at dksX3_both_1 12 rfl rfl)
theorem dX3_both_37 : decode cX3_both 37 = .ok (.iadd, 1) := dk_96 (dk_at dksX3_both_1 13 rfl rfl)
theorem dX3_both_38 : decode cX3_both 38 = .ok (.invokevirtual 135, 3) := dk_182 0 135 (dk_at dksX3_both_1 14 rfl rfl)
theorem dX3_both_41 : decode cX3_both 41 = .ok (.goto 4, 3) := dk_167 0 4 (dk_at dksX3_both_1 17 rfl rfl)
theorem dX3_both_44 : decode cX3_both 44 = .ok (.iconst (-1), 1) := dk_2 (dk_at dksX3_both_1 20 rfl rfl)
theorem dX3_both_45 : decode cX3_both 45 = .ok (.ireturn, 1) := dk_172 (dk_at dksX3_both_1 21 rfl rfl)
abbrev cX3_isNode : ByteArray := prog_15_method_9_code
def yX3_isNode : MethodName := ⟨RX3, "isNode", "(I)Z"⟩
def dkwX3_isNode_0 : List UInt8 := [27, 3, 42, 180, 0, 121, 4, 100, 184, 0, 103, 172]
abbrev dktX3_isNode_0 : List UInt8 := dkwX3_isNode_0 ++ []
theorem dksX3_isNode_0 : cX3_isNode.data.toList.drop 0 = dktX3_isNode_0 := by decide +kernel
theorem dX3_isNode_0 : decode cX3_isNode 0 = .ok (.iload_n 1, 1) := dk_27 (dk_at dksX3_isNode_0 0 rfl rfl)
theorem dX3_isNode_1 : decode cX3_isNode 1 = .ok (.iconst 0, 1) := dk_3 (dk_at dksX3_isNode_0 1 rfl rfl)
theorem dX3_isNode_2 : decode cX3_isNode 2 = .ok (.aload_n 0, 1) := dk_42 (dk_at dksX3_isNode_0 2 rfl rfl)
theorem dX3_isNode_3 : decode cX3_isNode 3 = .ok (.getfield 121, 3) := dk_180 0 121 (dk_at dksX3_isNode_0 3 rfl rfl)
theorem dX3_isNode_6 : decode cX3_isNode 6 = .ok (.iconst 1, 1) := dk_4 (dk_at dksX3_isNode_0 6 rfl rfl)
theorem dX3_isNode_7 : decode cX3_isNode 7 = .ok (.isub, 1) := dk_100 (dk_at dksX3_isNode_0 7 rfl rfl)
theorem dX3_isNode_8 : decode cX3_isNode 8 = .ok (.invokestatic 103, 3) := dk_184 0 103 (dk_at dksX3_isNode_0 8 rfl rfl)
theorem dX3_isNode_11 : decode cX3_isNode 11 = .ok (.ireturn, 1) := dk_172 (dk_at dksX3_isNode_0 11 rfl rfl)
abbrev cX3_choice : ByteArray := prog_15_method_14_code
def yX3_choice : MethodName := ⟨RX3, "choice", "(IIII)I"⟩
def dkwX3_choice_3 : List UInt8 := [182, 0, 135, 167, 0, 4, 2, 172]
abbrev dktX3_choice_3 : List UInt8 := dkwX3_choice_3 ++ []
def dkwX3_choice_2 : List UInt8 := [42, 5, 3, 27, 28, 29, 21, 4, 4, 42, 180, 0, 50, 29, 46, 96, 42, 180, 0, 50, 21, 4, 46, 96]
abbrev dktX3_choice_2 : List UInt8 := dkwX3_choice_2 ++ dktX3_choice_3
def dkwX3_choice_1 : List UInt8 := [153, 0, 16, 42, 21, 4, 182, 0, 139, 153, 0, 7, 4, 167, 0, 4, 3, 54, 5, 21, 5, 153, 0, 33]
abbrev dktX3_choice_1 : List UInt8 := dkwX3_choice_1 ++ dktX3_choice_2
def dkwX3_choice_0 : List UInt8 := [27, 184, 0, 124, 153, 0, 34, 28, 3, 16, 9, 184, 0, 103, 153, 0, 24, 42, 29, 182, 0, 139]
abbrev dktX3_choice_0 : List UInt8 := dkwX3_choice_0 ++ dktX3_choice_1
theorem dksX3_choice_0 : cX3_choice.data.toList.drop 0 = dktX3_choice_0 := by decide +kernel
theorem dksX3_choice_1 : cX3_choice.data.toList.drop 22 = dktX3_choice_1 := dk_seg dksX3_choice_0 22 rfl rfl
theorem dksX3_choice_2 : cX3_choice.data.toList.drop 46 = dktX3_choice_2 := dk_seg dksX3_choice_1 24 rfl rfl
theorem dksX3_choice_3 : cX3_choice.data.toList.drop 70 = dktX3_choice_3 := dk_seg dksX3_choice_2 24 rfl rfl
theorem dX3_choice_0 : decode cX3_choice 0 = .ok (.iload_n 1, 1) := dk_27 (dk_at dksX3_choice_0 0 rfl rfl)
theorem dX3_choice_1 : decode cX3_choice 1 = .ok (.invokestatic 124, 3) := dk_184 0 124 (dk_at dksX3_choice_0 1 rfl rfl)
theorem dX3_choice_4 : decode cX3_choice 4 = .ok (.ifCond .eq 34, 3) := dk_153 0 34 (dk_at dksX3_choice_0 4 rfl rfl)
theorem dX3_choice_7 : decode cX3_choice 7 = .ok (.iload_n 2, 1) := dk_28 (dk_at dksX3_choice_0 7 rfl rfl)
theorem dX3_choice_8 : decode cX3_choice 8 = .ok (.iconst 0, 1) := dk_3 (dk_at dksX3_choice_0 8 rfl rfl)
theorem dX3_choice_9 : decode cX3_choice 9 = .ok (.bipush 9, 2) := dk_16 9 (dk_at dksX3_choice_0 9 rfl rfl)
theorem dX3_choice_11 : decode cX3_choice 11 = .ok (.invokestatic 103, 3) := dk_184 0 103 (dk_at dksX3_choice_0 11 rfl rfl)
theorem dX3_choice_14 : decode cX3_choice 14 = .ok (.ifCond .eq 24, 3) := dk_153 0 24 (dk_at dksX3_choice_0 14 rfl rfl)
theorem dX3_choice_17 : decode cX3_choice 17 = .ok (.aload_n 0, 1) := dk_42 (dk_at dksX3_choice_0 17 rfl rfl)
theorem dX3_choice_18 : decode cX3_choice 18 = .ok (.iload_n 3, 1) := dk_29 (dk_at dksX3_choice_0 18 rfl rfl)
theorem dX3_choice_19 : decode cX3_choice 19 = .ok (.invokevirtual 139, 3) := dk_182 0 139 (dk_at dksX3_choice_0 19 rfl rfl)
theorem dX3_choice_22 : decode cX3_choice 22 = .ok (.ifCond .eq 16, 3) := dk_153 0 16 (dk_at dksX3_choice_1 0 rfl rfl)
theorem dX3_choice_25 : decode cX3_choice 25 = .ok (.aload_n 0, 1) := dk_42 (dk_at dksX3_choice_1 3 rfl rfl)
theorem dX3_choice_26 : decode cX3_choice 26 = .ok (.iload 4, 2) := dk_21 4 (dk_at dksX3_choice_1 4 rfl rfl)
theorem dX3_choice_28 : decode cX3_choice 28 = .ok (.invokevirtual 139, 3) := dk_182 0 139 (dk_at dksX3_choice_1 6 rfl rfl)
theorem dX3_choice_31 : decode cX3_choice 31 = .ok (.ifCond .eq 7, 3) := dk_153 0 7 (dk_at dksX3_choice_1 9 rfl rfl)
theorem dX3_choice_34 : decode cX3_choice 34 = .ok (.iconst 1, 1) := dk_4 (dk_at dksX3_choice_1 12 rfl rfl)
theorem dX3_choice_35 : decode cX3_choice 35 = .ok (.goto 4, 3) := dk_167 0 4 (dk_at dksX3_choice_1 13 rfl rfl)
theorem dX3_choice_38 : decode cX3_choice 38 = .ok (.iconst 0, 1) := dk_3 (dk_at dksX3_choice_1 16 rfl rfl)
theorem dX3_choice_39 : decode cX3_choice 39 = .ok (.istore 5, 2) := dk_54 5 (dk_at dksX3_choice_1 17 rfl rfl)
theorem dX3_choice_41 : decode cX3_choice 41 = .ok (.iload 5, 2) := dk_21 5 (dk_at dksX3_choice_1 19 rfl rfl)
theorem dX3_choice_43 : decode cX3_choice 43 = .ok (.ifCond .eq 33, 3) := dk_153 0 33 (dk_at dksX3_choice_1 21 rfl rfl)
theorem dX3_choice_46 : decode cX3_choice 46 = .ok (.aload_n 0, 1) := dk_42 (dk_at dksX3_choice_2 0 rfl rfl)
theorem dX3_choice_47 : decode cX3_choice 47 = .ok (.iconst 2, 1) := dk_5 (dk_at dksX3_choice_2 1 rfl rfl)
theorem dX3_choice_48 : decode cX3_choice 48 = .ok (.iconst 0, 1) := dk_3 (dk_at dksX3_choice_2 2 rfl rfl)
theorem dX3_choice_49 : decode cX3_choice 49 = .ok (.iload_n 1, 1) := dk_27 (dk_at dksX3_choice_2 3 rfl rfl)
theorem dX3_choice_50 : decode cX3_choice 50 = .ok (.iload_n 2, 1) := dk_28 (dk_at dksX3_choice_2 4 rfl rfl)
theorem dX3_choice_51 : decode cX3_choice 51 = .ok (.iload_n 3, 1) := dk_29 (dk_at dksX3_choice_2 5 rfl rfl)
theorem dX3_choice_52 : decode cX3_choice 52 = .ok (.iload 4, 2) := dk_21 4 (dk_at dksX3_choice_2 6 rfl rfl)
theorem dX3_choice_54 : decode cX3_choice 54 = .ok (.iconst 1, 1) := dk_4 (dk_at dksX3_choice_2 8 rfl rfl)
theorem dX3_choice_55 : decode cX3_choice 55 = .ok (.aload_n 0, 1) := dk_42 (dk_at dksX3_choice_2 9 rfl rfl)
theorem dX3_choice_56 : decode cX3_choice 56 = .ok (.getfield 50, 3) := dk_180 0 50 (dk_at dksX3_choice_2 10 rfl rfl)
theorem dX3_choice_59 : decode cX3_choice 59 = .ok (.iload_n 3, 1) := dk_29 (dk_at dksX3_choice_2 13 rfl rfl)
theorem dX3_choice_60 : decode cX3_choice 60 = .ok (.iaload, 1) := dk_46 (dk_at dksX3_choice_2 14 rfl rfl)
theorem dX3_choice_61 : decode cX3_choice 61 = .ok (.iadd, 1) := dk_96 (dk_at dksX3_choice_2 15 rfl rfl)
theorem dX3_choice_62 : decode cX3_choice 62 = .ok (.aload_n 0, 1) := dk_42 (dk_at dksX3_choice_2 16 rfl rfl)
theorem dX3_choice_63 : decode cX3_choice 63 = .ok (.getfield 50, 3) := dk_180 0 50 (dk_at dksX3_choice_2 17 rfl rfl)
theorem dX3_choice_66 : decode cX3_choice 66 = .ok (.iload 4, 2) := dk_21 4 (dk_at dksX3_choice_2 20 rfl rfl)
theorem dX3_choice_68 : decode cX3_choice 68 = .ok (.iaload, 1) := dk_46 (dk_at dksX3_choice_2 22 rfl rfl)
theorem dX3_choice_69 : decode cX3_choice 69 = .ok (.iadd, 1) := dk_96 (dk_at dksX3_choice_2 23 rfl rfl)
theorem dX3_choice_70 : decode cX3_choice 70 = .ok (.invokevirtual 135, 3) := dk_182 0 135 (dk_at dksX3_choice_3 0 rfl rfl)
theorem dX3_choice_73 : decode cX3_choice 73 = .ok (.goto 4, 3) := dk_167 0 4 (dk_at dksX3_choice_3 3 rfl rfl)
theorem dX3_choice_76 : decode cX3_choice 76 = .ok (.iconst (-1), 1) := dk_2 (dk_at dksX3_choice_3 6 rfl rfl)
theorem dX3_choice_77 : decode cX3_choice 77 = .ok (.ireturn, 1) := dk_172 (dk_at dksX3_choice_3 7 rfl rfl)
abbrev cX3_guard : ByteArray := prog_15_method_15_code
def yX3_guard : MethodName := ⟨RX3, "guard", "(IIII)I"⟩
def dkwX3_guard_4 : List UInt8 := [6, 3, 27, 28, 17, 1, 254, 126, 29, 21, 4, 21, 6, 182, 0, 135, 172]
abbrev dktX3_guard_4 : List UInt8 := dkwX3_guard_4 ++ []
def dkwX3_guard_3 : List UInt8 := [96, 21, 4, 156, 0, 7, 3, 167, 0, 13, 16, 9, 42, 180, 0, 50, 21, 4, 46, 104, 96, 54, 6, 42]
abbrev dktX3_guard_3 : List UInt8 := dkwX3_guard_3 ++ dktX3_guard_4
def dkwX3_guard_2 : List UInt8 := [2, 172, 4, 42, 180, 0, 50, 27, 46, 96, 29, 156, 0, 7, 3, 167, 0, 9, 42, 180, 0, 50, 29, 46]
abbrev dktX3_guard_2 : List UInt8 := dkwX3_guard_2 ++ dktX3_guard_3
def dkwX3_guard_1 : List UInt8 := [159, 0, 12, 42, 21, 4, 182, 0, 139, 153, 0, 7, 4, 167, 0, 4, 3, 54, 5, 21, 5, 154, 0, 5]
abbrev dktX3_guard_1 : List UInt8 := dkwX3_guard_1 ++ dktX3_guard_2
def dkwX3_guard_0 : List UInt8 := [42, 27, 182, 0, 139, 153, 0, 35, 29, 2, 159, 0, 11, 42, 29, 182, 0, 139, 153, 0, 22, 21, 4, 2]
abbrev dktX3_guard_0 : List UInt8 := dkwX3_guard_0 ++ dktX3_guard_1
theorem dksX3_guard_0 : cX3_guard.data.toList.drop 0 = dktX3_guard_0 := by decide +kernel
theorem dksX3_guard_1 : cX3_guard.data.toList.drop 24 = dktX3_guard_1 := dk_seg dksX3_guard_0 24 rfl rfl
theorem dksX3_guard_2 : cX3_guard.data.toList.drop 48 = dktX3_guard_2 := dk_seg dksX3_guard_1 24 rfl rfl
theorem dksX3_guard_3 : cX3_guard.data.toList.drop 72 = dktX3_guard_3 := dk_seg dksX3_guard_2 24 rfl rfl
theorem dksX3_guard_4 : cX3_guard.data.toList.drop 96 = dktX3_guard_4 := dk_seg dksX3_guard_3 24 rfl rfl
theorem dX3_guard_0 : decode cX3_guard 0 = .ok (.aload_n 0, 1) := dk_42 (dk_at dksX3_guard_0 0 rfl rfl)
theorem dX3_guard_1 : decode cX3_guard 1 = .ok (.iload_n 1, 1) := dk_27 (dk_at dksX3_guard_0 1 rfl rfl)
theorem dX3_guard_2 : decode cX3_guard 2 = .ok (.invokevirtual 139, 3) := dk_182 0 139 (dk_at dksX3_guard_0 2 rfl rfl)
theorem dX3_guard_5 : decode cX3_guard 5 = .ok (.ifCond .eq 35, 3) := dk_153 0 35 (dk_at dksX3_guard_0 5 rfl rfl)
theorem dX3_guard_8 : decode cX3_guard 8 = .ok (.iload_n 3, 1) := dk_29 (dk_at dksX3_guard_0 8 rfl rfl)
theorem dX3_guard_9 : decode cX3_guard 9 = .ok (.iconst (-1), 1) := dk_2 (dk_at dksX3_guard_0 9 rfl rfl)
theorem dX3_guard_10 : decode cX3_guard 10 = .ok (.if_icmp .eq 11, 3) := dk_159 0 11 (dk_at dksX3_guard_0 10 rfl rfl)
theorem dX3_guard_13 : decode cX3_guard 13 = .ok (.aload_n 0, 1) := dk_42 (dk_at dksX3_guard_0 13 rfl rfl)
theorem dX3_guard_14 : decode cX3_guard 14 = .ok (.iload_n 3, 1) := dk_29 (dk_at dksX3_guard_0 14 rfl rfl)
theorem dX3_guard_15 : decode cX3_guard 15 = .ok (.invokevirtual 139, 3) := dk_182 0 139 (dk_at dksX3_guard_0 15 rfl rfl)
theorem dX3_guard_18 : decode cX3_guard 18 = .ok (.ifCond .eq 22, 3) := dk_153 0 22 (dk_at dksX3_guard_0 18 rfl rfl)
theorem dX3_guard_21 : decode cX3_guard 21 = .ok (.iload 4, 2) := dk_21 4 (dk_at dksX3_guard_0 21 rfl rfl)
theorem dX3_guard_23 : decode cX3_guard 23 = .ok (.iconst (-1), 1) := dk_2 (dk_at dksX3_guard_0 23 rfl rfl)
theorem dX3_guard_24 : decode cX3_guard 24 = .ok (.if_icmp .eq 12, 3) := dk_159 0 12 (dk_at dksX3_guard_1 0 rfl rfl)
theorem dX3_guard_27 : decode cX3_guard 27 = .ok (.aload_n 0, 1) := dk_42 (dk_at dksX3_guard_1 3 rfl rfl)
theorem dX3_guard_28 : decode cX3_guard 28 = .ok (.iload 4, 2) := dk_21 4 (dk_at dksX3_guard_1 4 rfl rfl)
theorem dX3_guard_30 : decode cX3_guard 30 = .ok (.invokevirtual 139, 3) := dk_182 0 139 (dk_at dksX3_guard_1 6 rfl rfl)
theorem dX3_guard_33 : decode cX3_guard 33 = .ok (.ifCond .eq 7, 3) := dk_153 0 7 (dk_at dksX3_guard_1 9 rfl rfl)
theorem dX3_guard_36 : decode cX3_guard 36 = .ok (.iconst 1, 1) := dk_4 (dk_at dksX3_guard_1 12 rfl rfl)
theorem dX3_guard_37 : decode cX3_guard 37 = .ok (.goto 4, 3) := dk_167 0 4 (dk_at dksX3_guard_1 13 rfl rfl)
theorem dX3_guard_40 : decode cX3_guard 40 = .ok (.iconst 0, 1) := dk_3 (dk_at dksX3_guard_1 16 rfl rfl)
theorem dX3_guard_41 : decode cX3_guard 41 = .ok (.istore 5, 2) := dk_54 5 (dk_at dksX3_guard_1 17 rfl rfl)
theorem dX3_guard_43 : decode cX3_guard 43 = .ok (.iload 5, 2) := dk_21 5 (dk_at dksX3_guard_1 19 rfl rfl)
theorem dX3_guard_45 : decode cX3_guard 45 = .ok (.ifCond .ne 5, 3) := dk_154 0 5 (dk_at dksX3_guard_1 21 rfl rfl)
theorem dX3_guard_48 : decode cX3_guard 48 = .ok (.iconst (-1), 1) := dk_2 (dk_at dksX3_guard_2 0 rfl rfl)
theorem dX3_guard_49 : decode cX3_guard 49 = .ok (.ireturn, 1) := dk_172 (dk_at dksX3_guard_2 1 rfl rfl)
theorem dX3_guard_50 : decode cX3_guard 50 = .ok (.iconst 1, 1) := dk_4 (dk_at dksX3_guard_2 2 rfl rfl)
theorem dX3_guard_51 : decode cX3_guard 51 = .ok (.aload_n 0, 1) := dk_42 (dk_at dksX3_guard_2 3 rfl rfl)
theorem dX3_guard_52 : decode cX3_guard 52 = .ok (.getfield 50, 3) := dk_180 0 50 (dk_at dksX3_guard_2 4 rfl rfl)
theorem dX3_guard_55 : decode cX3_guard 55 = .ok (.iload_n 1, 1) := dk_27 (dk_at dksX3_guard_2 7 rfl rfl)
theorem dX3_guard_56 : decode cX3_guard 56 = .ok (.iaload, 1) := dk_46 (dk_at dksX3_guard_2 8 rfl rfl)
theorem dX3_guard_57 : decode cX3_guard 57 = .ok (.iadd, 1) := dk_96 (dk_at dksX3_guard_2 9 rfl rfl)
theorem dX3_guard_58 : decode cX3_guard 58 = .ok (.iload_n 3, 1) := dk_29 (dk_at dksX3_guard_2 10 rfl rfl)
theorem dX3_guard_59 : decode cX3_guard 59 = .ok (.ifCond .ge 7, 3) := dk_156 0 7 (dk_at dksX3_guard_2 11 rfl rfl)
theorem dX3_guard_62 : decode cX3_guard 62 = .ok (.iconst 0, 1) := dk_3 (dk_at dksX3_guard_2 14 rfl rfl)
theorem dX3_guard_63 : decode cX3_guard 63 = .ok (.goto 9, 3) := dk_167 0 9 (dk_at dksX3_guard_2 15 rfl rfl)
theorem dX3_guard_66 : decode cX3_guard 66 = .ok (.aload_n 0, 1) := dk_42 (dk_at dksX3_guard_2 18 rfl rfl)
theorem dX3_guard_67 : decode cX3_guard 67 = .ok (.getfield 50, 3) := dk_180 0 50 (dk_at dksX3_guard_2 19 rfl rfl)
theorem dX3_guard_70 : decode cX3_guard 70 = .ok (.iload_n 3, 1) := dk_29 (dk_at dksX3_guard_2 22 rfl rfl)
theorem dX3_guard_71 : decode cX3_guard 71 = .ok (.iaload, 1) := dk_46 (dk_at dksX3_guard_2 23 rfl rfl)
theorem dX3_guard_72 : decode cX3_guard 72 = .ok (.iadd, 1) := dk_96 (dk_at dksX3_guard_3 0 rfl rfl)
theorem dX3_guard_73 : decode cX3_guard 73 = .ok (.iload 4, 2) := dk_21 4 (dk_at dksX3_guard_3 1 rfl rfl)
theorem dX3_guard_75 : decode cX3_guard 75 = .ok (.ifCond .ge 7, 3) := dk_156 0 7 (dk_at dksX3_guard_3 3 rfl rfl)
theorem dX3_guard_78 : decode cX3_guard 78 = .ok (.iconst 0, 1) := dk_3 (dk_at dksX3_guard_3 6 rfl rfl)
theorem dX3_guard_79 : decode cX3_guard 79 = .ok (.goto 13, 3) := dk_167 0 13 (dk_at dksX3_guard_3 7 rfl rfl)
theorem dX3_guard_82 : decode cX3_guard 82 = .ok (.bipush 9, 2) := dk_16 9 (dk_at dksX3_guard_3 10 rfl rfl)
theorem dX3_guard_84 : decode cX3_guard 84 = .ok (.aload_n 0, 1) := dk_42 (dk_at dksX3_guard_3 12 rfl rfl)
theorem dX3_guard_85 : decode cX3_guard 85 = .ok (.getfield 50, 3) := dk_180 0 50 (dk_at dksX3_guard_3 13 rfl rfl)
theorem dX3_guard_88 : decode cX3_guard 88 = .ok (.iload 4, 2) := dk_21 4 (dk_at dksX3_guard_3 16 rfl rfl)
theorem dX3_guard_90 : decode cX3_guard 90 = .ok (.iaload, 1) := dk_46 (dk_at dksX3_guard_3 18 rfl rfl)
theorem dX3_guard_91 : decode cX3_guard 91 = .ok (.imul, 1) := dk_104 (dk_at dksX3_guard_3 19 rfl rfl)
theorem dX3_guard_92 : decode cX3_guard 92 = .ok (.iadd, 1) := dk_96 (dk_at dksX3_guard_3 20 rfl rfl)
theorem dX3_guard_93 : decode cX3_guard 93 = .ok (.istore 6, 2) := dk_54 6 (dk_at dksX3_guard_3 21 rfl rfl)
theorem dX3_guard_95 : decode cX3_guard 95 = .ok (.aload_n 0, 1) := dk_42 (dk_at dksX3_guard_3 23 rfl rfl)
theorem dX3_guard_96 : decode cX3_guard 96 = .ok (.iconst 3, 1) := dk_6 (dk_at dksX3_guard_4 0 rfl rfl)
theorem dX3_guard_97 : decode cX3_guard 97 = .ok (.iconst 0, 1) := dk_3 (dk_at dksX3_guard_4 1 rfl rfl)
theorem dX3_guard_98 : decode cX3_guard 98 = .ok (.iload_n 1, 1) := dk_27 (dk_at dksX3_guard_4 2 rfl rfl)
theorem dX3_guard_99 : decode cX3_guard 99 = .ok (.iload_n 2, 1) := dk_28 (dk_at dksX3_guard_4 3 rfl rfl)
theorem dX3_guard_100 : decode cX3_guard 100 = .ok (.sipush 510, 3) := dk_17 1 254 (dk_at dksX3_guard_4 4 rfl rfl)
theorem dX3_guard_103 : decode cX3_guard 103 = .ok (.iand, 1) := dk_126 (dk_at dksX3_guard_4 7 rfl rfl)
theorem dX3_guard_104 : decode cX3_guard 104 = .ok (.iload_n 3, 1) := dk_29 (dk_at dksX3_guard_4 8 rfl rfl)
theorem dX3_guard_105 : decode cX3_guard 105 = .ok (.iload 4, 2) := dk_21 4 (dk_at dksX3_guard_4 9 rfl rfl)
theorem dX3_guard_107 : decode cX3_guard 107 = .ok (.iload 6, 2) := dk_21 6 (dk_at dksX3_guard_4 11 rfl rfl)
theorem dX3_guard_109 : decode cX3_guard 109 = .ok (.invokevirtual 135, 3) := dk_182 0 135 (dk_at dksX3_guard_4 13 rfl rfl)
theorem dX3_guard_112 : decode cX3_guard 112 = .ok (.ireturn, 1) := dk_172 (dk_at dksX3_guard_4 16 rfl rfl)
abbrev cX3_forget : ByteArray := prog_15_method_16_code
def yX3_forget : MethodName := ⟨RX3, "forget", "()I"⟩
def dkwX3_forget_0 : List UInt8 := [42, 180, 0, 121, 60, 42, 3, 181, 0, 121, 42, 3, 181, 0, 142, 27, 172]
abbrev dktX3_forget_0 : List UInt8 := dkwX3_forget_0 ++ []
theorem dksX3_forget_0 : cX3_forget.data.toList.drop 0 = dktX3_forget_0 := by decide +kernel
theorem dX3_forget_0 : decode cX3_forget 0 = .ok (.aload_n 0, 1) := dk_42 (dk_at dksX3_forget_0 0 rfl rfl)
theorem dX3_forget_1 : decode cX3_forget 1 = .ok (.getfield 121, 3) := dk_180 0 121 (dk_at dksX3_forget_0 1 rfl rfl)
theorem dX3_forget_4 : decode cX3_forget 4 = .ok (.istore_n 1, 1) := dk_60 (dk_at dksX3_forget_0 4 rfl rfl)
theorem dX3_forget_5 : decode cX3_forget 5 = .ok (.aload_n 0, 1) := dk_42 (dk_at dksX3_forget_0 5 rfl rfl)
theorem dX3_forget_6 : decode cX3_forget 6 = .ok (.iconst 0, 1) := dk_3 (dk_at dksX3_forget_0 6 rfl rfl)
theorem dX3_forget_7 : decode cX3_forget 7 = .ok (.putfield 121, 3) := dk_181 0 121 (dk_at dksX3_forget_0 7 rfl rfl)
theorem dX3_forget_10 : decode cX3_forget 10 = .ok (.aload_n 0, 1) := dk_42 (dk_at dksX3_forget_0 10 rfl rfl)
theorem dX3_forget_11 : decode cX3_forget 11 = .ok (.iconst 0, 1) := dk_3 (dk_at dksX3_forget_0 11 rfl rfl)
theorem dX3_forget_12 : decode cX3_forget 12 = .ok (.putfield 142, 3) := dk_181 0 142 (dk_at dksX3_forget_0 12 rfl rfl)
theorem dX3_forget_15 : decode cX3_forget 15 = .ok (.iload_n 1, 1) := dk_27 (dk_at dksX3_forget_0 15 rfl rfl)
theorem dX3_forget_16 : decode cX3_forget 16 = .ok (.ireturn, 1) := dk_172 (dk_at dksX3_forget_0 16 rfl rfl)
abbrev cX3_run : ByteArray := prog_15_method_42_code
def yX3_run : MethodName := ⟨RX3, "run", "(I)I"⟩
def dkwX3_run_1 : List UInt8 := [181, 0, 177, 42, 3, 181, 0, 251, 42, 3, 181, 0, 248, 42, 2, 181, 0, 53, 42, 27, 182, 1, 7, 172]
abbrev dktX3_run_1 : List UInt8 := dkwX3_run_1 ++ []
def dkwX3_run_0 : List UInt8 := [42, 27, 182, 0, 139, 154, 0, 5, 2, 172, 42, 3, 181, 0, 235, 42, 3, 181, 0, 241, 42, 3]
abbrev dktX3_run_0 : List UInt8 := dkwX3_run_0 ++ dktX3_run_1
theorem dksX3_run_0 : cX3_run.data.toList.drop 0 = dktX3_run_0 := by decide +kernel
theorem dksX3_run_1 : cX3_run.data.toList.drop 22 = dktX3_run_1 := dk_seg dksX3_run_0 22 rfl rfl
theorem dX3_run_0 : decode cX3_run 0 = .ok (.aload_n 0, 1) := dk_42 (dk_at dksX3_run_0 0 rfl rfl)
theorem dX3_run_1 : decode cX3_run 1 = .ok (.iload_n 1, 1) := dk_27 (dk_at dksX3_run_0 1 rfl rfl)
theorem dX3_run_2 : decode cX3_run 2 = .ok (.invokevirtual 139, 3) := dk_182 0 139 (dk_at dksX3_run_0 2 rfl rfl)
theorem dX3_run_5 : decode cX3_run 5 = .ok (.ifCond .ne 5, 3) := dk_154 0 5 (dk_at dksX3_run_0 5 rfl rfl)
theorem dX3_run_8 : decode cX3_run 8 = .ok (.iconst (-1), 1) := dk_2 (dk_at dksX3_run_0 8 rfl rfl)
theorem dX3_run_9 : decode cX3_run 9 = .ok (.ireturn, 1) := dk_172 (dk_at dksX3_run_0 9 rfl rfl)
theorem dX3_run_10 : decode cX3_run 10 = .ok (.aload_n 0, 1) := dk_42 (dk_at dksX3_run_0 10 rfl rfl)
theorem dX3_run_11 : decode cX3_run 11 = .ok (.iconst 0, 1) := dk_3 (dk_at dksX3_run_0 11 rfl rfl)
theorem dX3_run_12 : decode cX3_run 12 = .ok (.putfield 235, 3) := dk_181 0 235 (dk_at dksX3_run_0 12 rfl rfl)
theorem dX3_run_15 : decode cX3_run 15 = .ok (.aload_n 0, 1) := dk_42 (dk_at dksX3_run_0 15 rfl rfl)
theorem dX3_run_16 : decode cX3_run 16 = .ok (.iconst 0, 1) := dk_3 (dk_at dksX3_run_0 16 rfl rfl)
theorem dX3_run_17 : decode cX3_run 17 = .ok (.putfield 241, 3) := dk_181 0 241 (dk_at dksX3_run_0 17 rfl rfl)
theorem dX3_run_20 : decode cX3_run 20 = .ok (.aload_n 0, 1) := dk_42 (dk_at dksX3_run_0 20 rfl rfl)
theorem dX3_run_21 : decode cX3_run 21 = .ok (.iconst 0, 1) := dk_3 (dk_at dksX3_run_0 21 rfl rfl)
theorem dX3_run_22 : decode cX3_run 22 = .ok (.putfield 177, 3) := dk_181 0 177 (dk_at dksX3_run_1 0 rfl rfl)
theorem dX3_run_25 : decode cX3_run 25 = .ok (.aload_n 0, 1) := dk_42 (dk_at dksX3_run_1 3 rfl rfl)
theorem dX3_run_26 : decode cX3_run 26 = .ok (.iconst 0, 1) := dk_3 (dk_at dksX3_run_1 4 rfl rfl)
theorem dX3_run_27 : decode cX3_run 27 = .ok (.putfield 251, 3) := dk_181 0 251 (dk_at dksX3_run_1 5 rfl rfl)
theorem dX3_run_30 : decode cX3_run 30 = .ok (.aload_n 0, 1) := dk_42 (dk_at dksX3_run_1 8 rfl rfl)
theorem dX3_run_31 : decode cX3_run 31 = .ok (.iconst 0, 1) := dk_3 (dk_at dksX3_run_1 9 rfl rfl)
theorem dX3_run_32 : decode cX3_run 32 = .ok (.putfield 248, 3) := dk_181 0 248 (dk_at dksX3_run_1 10 rfl rfl)
theorem dX3_run_35 : decode cX3_run 35 = .ok (.aload_n 0, 1) := dk_42 (dk_at dksX3_run_1 13 rfl rfl)
theorem dX3_run_36 : decode cX3_run 36 = .ok (.iconst (-1), 1) := dk_2 (dk_at dksX3_run_1 14 rfl rfl)
theorem dX3_run_37 : decode cX3_run 37 = .ok (.putfield 53, 3) := dk_181 0 53 (dk_at dksX3_run_1 15 rfl rfl)
theorem dX3_run_40 : decode cX3_run 40 = .ok (.aload_n 0, 1) := dk_42 (dk_at dksX3_run_1 18 rfl rfl)
theorem dX3_run_41 : decode cX3_run 41 = .ok (.iload_n 1, 1) := dk_27 (dk_at dksX3_run_1 19 rfl rfl)
theorem dX3_run_42 : decode cX3_run 42 = .ok (.invokevirtual 263, 3) := dk_182 1 7 (dk_at dksX3_run_1 20 rfl rfl)
theorem dX3_run_45 : decode cX3_run 45 = .ok (.ireturn, 1) := dk_172 (dk_at dksX3_run_1 23 rfl rfl)
abbrev cX3_goes : ByteArray := prog_15_method_41_code
def yX3_goes : MethodName := ⟨RX3, "goes", "(I)I"⟩
def dkwX3_goes_3 : List UInt8 := [61, 167, 255, 196, 28, 172]
abbrev dktX3_goes_3 : List UInt8 := dkwX3_goes_3 ++ []
def dkwX3_goes_2 : List UInt8 := [180, 0, 32, 29, 46, 6, 160, 0, 12, 42, 29, 28, 182, 1, 1, 167, 0, 9, 42, 29, 28, 182, 1, 4]
abbrev dktX3_goes_2 : List UInt8 := dkwX3_goes_2 ++ dktX3_goes_3
def dkwX3_goes_1 : List UInt8 := [180, 0, 228, 46, 62, 42, 180, 0, 32, 29, 46, 154, 0, 11, 42, 29, 182, 0, 254, 167, 0, 28, 42]
abbrev dktX3_goes_1 : List UInt8 := dkwX3_goes_1 ++ dktX3_goes_2
def dkwX3_goes_0 : List UInt8 := [42, 2, 181, 0, 228, 42, 27, 182, 0, 231, 3, 61, 42, 180, 0, 228, 155, 0, 59, 42, 180, 0, 60, 42]
abbrev dktX3_goes_0 : List UInt8 := dkwX3_goes_0 ++ dktX3_goes_1
theorem dksX3_goes_0 : cX3_goes.data.toList.drop 0 = dktX3_goes_0 := by decide +kernel
theorem dksX3_goes_1 : cX3_goes.data.toList.drop 24 = dktX3_goes_1 := dk_seg dksX3_goes_0 24 rfl rfl
theorem dksX3_goes_2 : cX3_goes.data.toList.drop 47 = dktX3_goes_2 := dk_seg dksX3_goes_1 23 rfl rfl
theorem dksX3_goes_3 : cX3_goes.data.toList.drop 71 = dktX3_goes_3 := dk_seg dksX3_goes_2 24 rfl rfl
theorem dX3_goes_0 : decode cX3_goes 0 = .ok (.aload_n 0, 1) := dk_42 (dk_at dksX3_goes_0 0 rfl rfl)
theorem dX3_goes_1 : decode cX3_goes 1 = .ok (.iconst (-1), 1) := dk_2 (dk_at dksX3_goes_0 1 rfl rfl)
theorem dX3_goes_2 : decode cX3_goes 2 = .ok (.putfield 228, 3) := dk_181 0 228 (dk_at dksX3_goes_0 2 rfl rfl)
theorem dX3_goes_5 : decode cX3_goes 5 = .ok (.aload_n 0, 1) := dk_42 (dk_at dksX3_goes_0 5 rfl rfl)
theorem dX3_goes_6 : decode cX3_goes 6 = .ok (.iload_n 1, 1) := dk_27 (dk_at dksX3_goes_0 6 rfl rfl)
theorem dX3_goes_7 : decode cX3_goes 7 = .ok (.invokevirtual 231, 3) := dk_182 0 231 (dk_at dksX3_goes_0 7 rfl rfl)
theorem dX3_goes_10 : decode cX3_goes 10 = .ok (.iconst 0, 1) := dk_3 (dk_at dksX3_goes_0 10 rfl rfl)
theorem dX3_goes_11 : decode cX3_goes 11 = .ok (.istore_n 2, 1) := dk_61 (dk_at dksX3_goes_0 11 rfl rfl)
theorem dX3_goes_12 : decode cX3_goes 12 = .ok (.aload_n 0, 1) := dk_42 (dk_at dksX3_goes_0 12 rfl rfl)
theorem dX3_goes_13 : decode cX3_goes 13 = .ok (.getfield 228, 3) := dk_180 0 228 (dk_at dksX3_goes_0 13 rfl rfl)
theorem dX3_goes_16 : decode cX3_goes 16 = .ok (.ifCond .lt 59, 3) := dk_155 0 59 (dk_at dksX3_goes_0 16 rfl rfl)
theorem dX3_goes_19 : decode cX3_goes 19 = .ok (.aload_n 0, 1) := dk_42 (dk_at dksX3_goes_0 19 rfl rfl)
theorem dX3_goes_20 : decode cX3_goes 20 = .ok (.getfield 60, 3) := dk_180 0 60 (dk_at dksX3_goes_0 20 rfl rfl)
theorem dX3_goes_23 : decode cX3_goes 23 = .ok (.aload_n 0, 1) := dk_42 (dk_at dksX3_goes_0 23 rfl rfl)
theorem dX3_goes_24 : decode cX3_goes 24 = .ok (.getfield 228, 3) := dk_180 0 228 (dk_at dksX3_goes_1 0 rfl rfl)
theorem dX3_goes_27 : decode cX3_goes 27 = .ok (.iaload, 1) := dk_46 (dk_at dksX3_goes_1 3 rfl rfl)
theorem dX3_goes_28 : decode cX3_goes 28 = .ok (.istore_n 3, 1) := dk_62 (dk_at dksX3_goes_1 4 rfl rfl)
theorem dX3_goes_29 : decode cX3_goes 29 = .ok (.aload_n 0, 1) := dk_42 (dk_at dksX3_goes_1 5 rfl rfl)
theorem dX3_goes_30 : decode cX3_goes 30 = .ok (.getfield 32, 3) := dk_180 0 32 (dk_at dksX3_goes_1 6 rfl rfl)
theorem dX3_goes_33 : decode cX3_goes 33 = .ok (.iload_n 3, 1) := dk_29 (dk_at dksX3_goes_1 9 rfl rfl)
theorem dX3_goes_34 : decode cX3_goes 34 = .ok (.iaload, 1) := dk_46 (dk_at dksX3_goes_1 10 rfl rfl)
theorem dX3_goes_35 : decode cX3_goes 35 = .ok (.ifCond .ne 11, 3) := dk_154 0 11 (dk_at dksX3_goes_1 11 rfl rfl)
theorem dX3_goes_38 : decode cX3_goes 38 = .ok (.aload_n 0, 1) := dk_42 (dk_at dksX3_goes_1 14 rfl rfl)
theorem dX3_goes_39 : decode cX3_goes 39 = .ok (.iload_n 3, 1) := dk_29 (dk_at dksX3_goes_1 15 rfl rfl)
theorem dX3_goes_40 : decode cX3_goes 40 = .ok (.invokevirtual 254, 3) := dk_182 0 254 (dk_at dksX3_goes_1 16 rfl rfl)
theorem dX3_goes_43 : decode cX3_goes 43 = .ok (.goto 28, 3) := dk_167 0 28 (dk_at dksX3_goes_1 19 rfl rfl)
theorem dX3_goes_46 : decode cX3_goes 46 = .ok (.aload_n 0, 1) := dk_42 (dk_at dksX3_goes_1 22 rfl rfl)
theorem dX3_goes_47 : decode cX3_goes 47 = .ok (.getfield 32, 3) := dk_180 0 32 (dk_at dksX3_goes_2 0 rfl rfl)
theorem dX3_goes_50 : decode cX3_goes 50 = .ok (.iload_n 3, 1) := dk_29 (dk_at dksX3_goes_2 3 rfl rfl)
theorem dX3_goes_51 : decode cX3_goes 51 = .ok (.iaload, 1) := dk_46 (dk_at dksX3_goes_2 4 rfl rfl)
theorem dX3_goes_52 : decode cX3_goes 52 = .ok (.iconst 3, 1) := dk_6 (dk_at dksX3_goes_2 5 rfl rfl)
theorem dX3_goes_53 : decode cX3_goes 53 = .ok (.if_icmp .ne 12, 3) := dk_160 0 12 (dk_at dksX3_goes_2 6 rfl rfl)
theorem dX3_goes_56 : decode cX3_goes 56 = .ok (.aload_n 0, 1) := dk_42 (dk_at dksX3_goes_2 9 rfl rfl)
theorem dX3_goes_57 : decode cX3_goes 57 = .ok (.iload_n 3, 1) := dk_29 (dk_at dksX3_goes_2 10 rfl rfl)
theorem dX3_goes_58 : decode cX3_goes 58 = .ok (.iload_n 2, 1) := dk_28 (dk_at dksX3_goes_2 11 rfl rfl)
theorem dX3_goes_59 : decode cX3_goes 59 = .ok (.invokevirtual 257, 3) := dk_182 1 1 (dk_at dksX3_goes_2 12 rfl rfl)
theorem dX3_goes_62 : decode cX3_goes 62 = .ok (.goto 9, 3) := dk_167 0 9 (dk_at dksX3_goes_2 15 rfl rfl)
theorem dX3_goes_65 : decode cX3_goes 65 = .ok (.aload_n 0, 1) := dk_42 (dk_at dksX3_goes_2 18 rfl rfl)
theorem dX3_goes_66 : decode cX3_goes 66 = .ok (.iload_n 3, 1) := dk_29 (dk_at dksX3_goes_2 19 rfl rfl)
theorem dX3_goes_67 : decode cX3_goes 67 = .ok (.iload_n 2, 1) := dk_28 (dk_at dksX3_goes_2 20 rfl rfl)
theorem dX3_goes_68 : decode cX3_goes 68 = .ok (.invokevirtual 260, 3) := dk_182 1 4 (dk_at dksX3_goes_2 21 rfl rfl)
theorem dX3_goes_71 : decode cX3_goes 71 = .ok (.istore_n 2, 1) := dk_61 (dk_at dksX3_goes_3 0 rfl rfl)
theorem dX3_goes_72 : decode cX3_goes 72 = .ok (.goto (-60), 3) := dk_167 255 196 (dk_at dksX3_goes_3 1 rfl rfl)
theorem dX3_goes_75 : decode cX3_goes 75 = .ok (.iload_n 2, 1) := dk_28 (dk_at dksX3_goes_3 4 rfl rfl)
theorem dX3_goes_76 : decode cX3_goes 76 = .ok (.ireturn, 1) := dk_172 (dk_at dksX3_goes_3 5 rfl rfl)
abbrev cX3_push : ByteArray := prog_15_method_36_code
def yX3_push : MethodName := ⟨RX3, "push", "(I)V"⟩
def dkwX3_push_1 : List UInt8 := [42, 180, 0, 228, 3, 79, 42, 180, 0, 66, 42, 180, 0, 228, 3, 79, 177]
abbrev dktX3_push_1 : List UInt8 := dkwX3_push_1 ++ []
def dkwX3_push_0 : List UInt8 := [42, 89, 180, 0, 228, 4, 96, 181, 0, 228, 42, 180, 0, 60, 42, 180, 0, 228, 27, 79, 42, 180, 0, 63]
abbrev dktX3_push_0 : List UInt8 := dkwX3_push_0 ++ dktX3_push_1
theorem dksX3_push_0 : cX3_push.data.toList.drop 0 = dktX3_push_0 := by decide +kernel
theorem dksX3_push_1 : cX3_push.data.toList.drop 24 = dktX3_push_1 := dk_seg dksX3_push_0 24 rfl rfl
theorem dX3_push_0 : decode cX3_push 0 = .ok (.aload_n 0, 1) := dk_42 (dk_at dksX3_push_0 0 rfl rfl)
theorem dX3_push_1 : decode cX3_push 1 = .ok (.dup, 1) := dk_89 (dk_at dksX3_push_0 1 rfl rfl)
theorem dX3_push_2 : decode cX3_push 2 = .ok (.getfield 228, 3) := dk_180 0 228 (dk_at dksX3_push_0 2 rfl rfl)
theorem dX3_push_5 : decode cX3_push 5 = .ok (.iconst 1, 1) := dk_4 (dk_at dksX3_push_0 5 rfl rfl)
theorem dX3_push_6 : decode cX3_push 6 = .ok (.iadd, 1) := dk_96 (dk_at dksX3_push_0 6 rfl rfl)
theorem dX3_push_7 : decode cX3_push 7 = .ok (.putfield 228, 3) := dk_181 0 228 (dk_at dksX3_push_0 7 rfl rfl)
theorem dX3_push_10 : decode cX3_push 10 = .ok (.aload_n 0, 1) := dk_42 (dk_at dksX3_push_0 10 rfl rfl)
theorem dX3_push_11 : decode cX3_push 11 = .ok (.getfield 60, 3) := dk_180 0 60 (dk_at dksX3_push_0 11 rfl rfl)
theorem dX3_push_14 : decode cX3_push 14 = .ok (.aload_n 0, 1) := dk_42 (dk_at dksX3_push_0 14 rfl rfl)
theorem dX3_push_15 : decode cX3_push 15 = .ok (.getfield 228, 3) := dk_180 0 228 (dk_at dksX3_push_0 15 rfl rfl)
theorem dX3_push_18 : decode cX3_push 18 = .ok (.iload_n 1, 1) := dk_27 (dk_at dksX3_push_0 18 rfl rfl)
theorem dX3_push_19 : decode cX3_push 19 = .ok (.iastore, 1) := dk_79 (dk_at dksX3_push_0 19 rfl rfl)
theorem dX3_push_20 : decode cX3_push 20 = .ok (.aload_n 0, 1) := dk_42 (dk_at dksX3_push_0 20 rfl rfl)
theorem dX3_push_21 : decode cX3_push 21 = .ok (.getfield 63, 3) := dk_180 0 63 (dk_at dksX3_push_0 21 rfl rfl)
theorem dX3_push_24 : decode cX3_push 24 = .ok (.aload_n 0, 1) := dk_42 (dk_at dksX3_push_1 0 rfl rfl)
theorem dX3_push_25 : decode cX3_push 25 = .ok (.getfield 228, 3) := dk_180 0 228 (dk_at dksX3_push_1 1 rfl rfl)
theorem dX3_push_28 : decode cX3_push 28 = .ok (.iconst 0, 1) := dk_3 (dk_at dksX3_push_1 4 rfl rfl)
theorem dX3_push_29 : decode cX3_push 29 = .ok (.iastore, 1) := dk_79 (dk_at dksX3_push_1 5 rfl rfl)
theorem dX3_push_30 : decode cX3_push 30 = .ok (.aload_n 0, 1) := dk_42 (dk_at dksX3_push_1 6 rfl rfl)
theorem dX3_push_31 : decode cX3_push 31 = .ok (.getfield 66, 3) := dk_180 0 66 (dk_at dksX3_push_1 7 rfl rfl)
theorem dX3_push_34 : decode cX3_push 34 = .ok (.aload_n 0, 1) := dk_42 (dk_at dksX3_push_1 10 rfl rfl)
theorem dX3_push_35 : decode cX3_push 35 = .ok (.getfield 228, 3) := dk_180 0 228 (dk_at dksX3_push_1 11 rfl rfl)
theorem dX3_push_38 : decode cX3_push 38 = .ok (.iconst 0, 1) := dk_3 (dk_at dksX3_push_1 14 rfl rfl)
theorem dX3_push_39 : decode cX3_push 39 = .ok (.iastore, 1) := dk_79 (dk_at dksX3_push_1 15 rfl rfl)
theorem dX3_push_40 : decode cX3_push 40 = .ok (.return_, 1) := dk_177 (dk_at dksX3_push_1 16 rfl rfl)
abbrev cX3_ofAct : ByteArray := prog_15_method_38_code
def yX3_ofAct : MethodName := ⟨RX3, "ofAct", "(I)I"⟩
def dkwX3_ofAct_2 : List UInt8 := [27, 181, 0, 53, 42, 89, 180, 0, 228, 4, 100, 181, 0, 228, 28, 172]
abbrev dktX3_ofAct_2 : List UInt8 := dkwX3_ofAct_2 ++ []
def dkwX3_ofAct_1 : List UInt8 := [154, 0, 7, 3, 167, 0, 4, 4, 96, 181, 0, 241, 42, 28, 154, 0, 10, 42, 180, 0, 53, 167, 0, 4]
abbrev dktX3_ofAct_1 : List UInt8 := dkwX3_ofAct_1 ++ dktX3_ofAct_2
def dkwX3_ofAct_0 : List UInt8 := [42, 89, 180, 0, 235, 4, 96, 181, 0, 235, 42, 27, 182, 0, 238, 61, 42, 89, 180, 0, 241, 28]
abbrev dktX3_ofAct_0 : List UInt8 := dkwX3_ofAct_0 ++ dktX3_ofAct_1
theorem dksX3_ofAct_0 : cX3_ofAct.data.toList.drop 0 = dktX3_ofAct_0 := by decide +kernel
theorem dksX3_ofAct_1 : cX3_ofAct.data.toList.drop 22 = dktX3_ofAct_1 := dk_seg dksX3_ofAct_0 22 rfl rfl
theorem dksX3_ofAct_2 : cX3_ofAct.data.toList.drop 46 = dktX3_ofAct_2 := dk_seg dksX3_ofAct_1 24 rfl rfl
theorem dX3_ofAct_0 : decode cX3_ofAct 0 = .ok (.aload_n 0, 1) := dk_42 (dk_at dksX3_ofAct_0 0 rfl rfl)
theorem dX3_ofAct_1 : decode cX3_ofAct 1 = .ok (.dup, 1) := dk_89 (dk_at dksX3_ofAct_0 1 rfl rfl)
theorem dX3_ofAct_2 : decode cX3_ofAct 2 = .ok (.getfield 235, 3) := dk_180 0 235 (dk_at dksX3_ofAct_0 2 rfl rfl)
theorem dX3_ofAct_5 : decode cX3_ofAct 5 = .ok (.iconst 1, 1) := dk_4 (dk_at dksX3_ofAct_0 5 rfl rfl)
theorem dX3_ofAct_6 : decode cX3_ofAct 6 = .ok (.iadd, 1) := dk_96 (dk_at dksX3_ofAct_0 6 rfl rfl)
theorem dX3_ofAct_7 : decode cX3_ofAct 7 = .ok (.putfield 235, 3) := dk_181 0 235 (dk_at dksX3_ofAct_0 7 rfl rfl)
theorem dX3_ofAct_10 : decode cX3_ofAct 10 = .ok (.aload_n 0, 1) := dk_42 (dk_at dksX3_ofAct_0 10 rfl rfl)
theorem dX3_ofAct_11 : decode cX3_ofAct 11 = .ok (.iload_n 1, 1) := dk_27 (dk_at dksX3_ofAct_0 11 rfl rfl)
theorem dX3_ofAct_12 : decode cX3_ofAct 12 = .ok (.invokevirtual 238, 3) := dk_182 0 238 (dk_at dksX3_ofAct_0 12 rfl rfl)
theorem dX3_ofAct_15 : decode cX3_ofAct 15 = .ok (.istore_n 2, 1) := dk_61 (dk_at dksX3_ofAct_0 15 rfl rfl)
theorem dX3_ofAct_16 : decode cX3_ofAct 16 = .ok (.aload_n 0, 1) := dk_42 (dk_at dksX3_ofAct_0 16 rfl rfl)
theorem dX3_ofAct_17 : decode cX3_ofAct 17 = .ok (.dup, 1) := dk_89 (dk_at dksX3_ofAct_0 17 rfl rfl)
theorem dX3_ofAct_18 : decode cX3_ofAct 18 = .ok (.getfield 241, 3) := dk_180 0 241 (dk_at dksX3_ofAct_0 18 rfl rfl)
theorem dX3_ofAct_21 : decode cX3_ofAct 21 = .ok (.iload_n 2, 1) := dk_28 (dk_at dksX3_ofAct_0 21 rfl rfl)
theorem dX3_ofAct_22 : decode cX3_ofAct 22 = .ok (.ifCond .ne 7, 3) := dk_154 0 7 (dk_at dksX3_ofAct_1 0 rfl rfl)
theorem dX3_ofAct_25 : decode cX3_ofAct 25 = .ok (.iconst 0, 1) := dk_3 (dk_at dksX3_ofAct_1 3 rfl rfl)
theorem dX3_ofAct_26 : decode cX3_ofAct 26 = .ok (.goto 4, 3) := dk_167 0 4 (dk_at dksX3_ofAct_1 4 rfl rfl)
theorem dX3_ofAct_29 : decode cX3_ofAct 29 = .ok (.iconst 1, 1) := dk_4 (dk_at dksX3_ofAct_1 7 rfl rfl)
theorem dX3_ofAct_30 : decode cX3_ofAct 30 = .ok (.iadd, 1) := dk_96 (dk_at dksX3_ofAct_1 8 rfl rfl)
theorem dX3_ofAct_31 : decode cX3_ofAct 31 = .ok (.putfield 241, 3) := dk_181 0 241 (dk_at dksX3_ofAct_1 9 rfl rfl)
theorem dX3_ofAct_34 : decode cX3_ofAct 34 = .ok (.aload_n 0, 1) := dk_42 (dk_at dksX3_ofAct_1 12 rfl rfl)
theorem dX3_ofAct_35 : decode cX3_ofAct 35 = .ok (.iload_n 2, 1) := dk_28 (dk_at dksX3_ofAct_1 13 rfl rfl)
theorem dX3_ofAct_36 : decode cX3_ofAct 36 = .ok (.ifCond .ne 10, 3) := dk_154 0 10 (dk_at dksX3_ofAct_1 14 rfl rfl)
theorem dX3_ofAct_39 : decode cX3_ofAct 39 = .ok (.aload_n 0, 1) := dk_42 (dk_at dksX3_ofAct_1 17 rfl rfl)
theorem dX3_ofAct_40 : decode cX3_ofAct 40 = .ok (.getfield 53, 3) := dk_180 0 53 (dk_at dksX3_ofAct_1 18 rfl rfl)
theorem dX3_ofAct_43 : decode cX3_ofAct 43 = .ok (.goto 4, 3) := dk_167 0 4 (dk_at dksX3_ofAct_1 21 rfl rfl)
theorem dX3_ofAct_46 : decode cX3_ofAct 46 = .ok (.iload_n 1, 1) := dk_27 (dk_at dksX3_ofAct_2 0 rfl rfl)
theorem dX3_ofAct_47 : decode cX3_ofAct 47 = .ok (.putfield 53, 3) := dk_181 0 53 (dk_at dksX3_ofAct_2 1 rfl rfl)
theorem dX3_ofAct_50 : decode cX3_ofAct 50 = .ok (.aload_n 0, 1) := dk_42 (dk_at dksX3_ofAct_2 4 rfl rfl)
theorem dX3_ofAct_51 : decode cX3_ofAct 51 = .ok (.dup, 1) := dk_89 (dk_at dksX3_ofAct_2 5 rfl rfl)
theorem dX3_ofAct_52 : decode cX3_ofAct 52 = .ok (.getfield 228, 3) := dk_180 0 228 (dk_at dksX3_ofAct_2 6 rfl rfl)
theorem dX3_ofAct_55 : decode cX3_ofAct 55 = .ok (.iconst 1, 1) := dk_4 (dk_at dksX3_ofAct_2 9 rfl rfl)
theorem dX3_ofAct_56 : decode cX3_ofAct 56 = .ok (.isub, 1) := dk_100 (dk_at dksX3_ofAct_2 10 rfl rfl)
theorem dX3_ofAct_57 : decode cX3_ofAct 57 = .ok (.putfield 228, 3) := dk_181 0 228 (dk_at dksX3_ofAct_2 11 rfl rfl)
theorem dX3_ofAct_60 : decode cX3_ofAct 60 = .ok (.iload_n 2, 1) := dk_28 (dk_at dksX3_ofAct_2 14 rfl rfl)
theorem dX3_ofAct_61 : decode cX3_ofAct 61 = .ok (.ireturn, 1) := dk_172 (dk_at dksX3_ofAct_2 15 rfl rfl)
abbrev cX3_done : ByteArray := prog_15_method_35_code
def yX3_done : MethodName := ⟨RX3, "done", "(I)I"⟩
def dkwX3_done_11 : List UInt8 := [167, 0, 4, 3, 182, 0, 224, 172, 16, 7, 172]
abbrev dktX3_done_11 : List UInt8 := dkwX3_done_11 ++ []
def dkwX3_done_10 : List UInt8 := [21, 4, 47, 97, 80, 3, 172, 42, 28, 29, 21, 4, 42, 180, 0, 35, 27, 46, 16, 16, 160, 0, 7, 4]
abbrev dktX3_done_10 : List UInt8 := dkwX3_done_10 ++ dktX3_done_11
def dkwX3_done_9 : List UInt8 := [180, 0, 29, 28, 29, 133, 80, 3, 172, 42, 180, 0, 29, 28, 42, 180, 0, 29, 29, 47, 42, 180, 0, 29]
abbrev dktX3_done_9 : List UInt8 := dkwX3_done_9 ++ dktX3_done_10
def dkwX3_done_8 : List UInt8 := [182, 0, 217, 172, 42, 28, 29, 21, 4, 21, 5, 42, 180, 0, 29, 16, 7, 47, 136, 182, 0, 220, 172, 42]
abbrev dktX3_done_8 : List UInt8 := dkwX3_done_8 ++ dktX3_done_9
def dkwX3_done_7 : List UInt8 := [182, 0, 208, 172, 42, 28, 29, 21, 4, 182, 0, 211, 172, 42, 28, 29, 182, 0, 214, 172, 42, 28, 29]
abbrev dktX3_done_7 : List UInt8 := dkwX3_done_7 ++ dktX3_done_8
def dkwX3_done_6 : List UInt8 := [21, 5, 182, 0, 202, 172, 42, 28, 29, 21, 4, 21, 5, 182, 0, 205, 172, 42, 28, 29, 21, 4, 21, 5]
abbrev dktX3_done_6 : List UInt8 := dkwX3_done_6 ++ dktX3_done_7
def dkwX3_done_5 : List UInt8 := [28, 29, 21, 4, 182, 0, 195, 172, 42, 28, 29, 21, 4, 21, 5, 182, 0, 198, 172, 42, 28, 29, 21, 4]
abbrev dktX3_done_5 : List UInt8 := dkwX3_done_5 ++ dktX3_done_6
def dkwX3_done_4 : List UInt8 := [182, 0, 186, 172, 42, 28, 29, 154, 0, 8, 16, 8, 167, 0, 5, 16, 9, 21, 4, 182, 0, 192, 172, 42]
abbrev dktX3_done_4 : List UInt8 := dkwX3_done_4 ++ dktX3_done_5
def dkwX3_done_3 : List UInt8 := [42, 28, 29, 21, 4, 182, 0, 186, 172, 42, 28, 29, 21, 4, 182, 0, 189, 172, 42, 28, 8, 29]
abbrev dktX3_done_3 : List UInt8 := dkwX3_done_3 ++ dktX3_done_4
def dkwX3_done_2 : List UInt8 := [170, 0, 0, 0, 0, 0, 1, 25, 0, 0, 0, 0, 0, 0, 0, 16, 0, 0, 0, 84, 0, 0, 0, 93, 0, 0, 0, 102, 0, 0, 0, 110, 0, 0, 0, 129, 0, 0, 0, 138, 0, 0, 0, 149, 0, 0, 0, 160, 0, 0, 0, 171, 0, 0, 0, 182, 0, 0, 0, 191, 0, 0, 0, 198, 0, 0, 0, 205, 0, 0, 0, 224, 0, 0, 0, 234, 0, 0, 1, 0, 0, 0, 1, 0]
abbrev dktX3_done_2 : List UInt8 := dkwX3_done_2 ++ dktX3_done_3
def dkwX3_done_1 : List UInt8 := [180, 0, 47, 27, 46, 54, 5, 42, 180, 0, 35, 27, 46]
abbrev dktX3_done_1 : List UInt8 := dkwX3_done_1 ++ dktX3_done_2
def dkwX3_done_0 : List UInt8 := [42, 180, 0, 38, 27, 46, 61, 42, 180, 0, 41, 27, 46, 62, 42, 180, 0, 44, 27, 46, 54, 4, 42]
abbrev dktX3_done_0 : List UInt8 := dkwX3_done_0 ++ dktX3_done_1
theorem dksX3_done_0 : cX3_done.data.toList.drop 0 = dktX3_done_0 := by decide +kernel
theorem dksX3_done_1 : cX3_done.data.toList.drop 23 = dktX3_done_1 := dk_seg dksX3_done_0 23 rfl rfl
theorem dksX3_done_2 : cX3_done.data.toList.drop 36 = dktX3_done_2 := dk_seg dksX3_done_1 13 rfl rfl
theorem dksX3_done_3 : cX3_done.data.toList.drop 120 = dktX3_done_3 := dk_seg dksX3_done_2 84 rfl rfl
theorem dksX3_done_4 : cX3_done.data.toList.drop 142 = dktX3_done_4 := dk_seg dksX3_done_3 22 rfl rfl
theorem dksX3_done_5 : cX3_done.data.toList.drop 166 = dktX3_done_5 := dk_seg dksX3_done_4 24 rfl rfl
theorem dksX3_done_6 : cX3_done.data.toList.drop 190 = dktX3_done_6 := dk_seg dksX3_done_5 24 rfl rfl
theorem dksX3_done_7 : cX3_done.data.toList.drop 214 = dktX3_done_7 := dk_seg dksX3_done_6 24 rfl rfl
theorem dksX3_done_8 : cX3_done.data.toList.drop 237 = dktX3_done_8 := dk_seg dksX3_done_7 23 rfl rfl
theorem dksX3_done_9 : cX3_done.data.toList.drop 261 = dktX3_done_9 := dk_seg dksX3_done_8 24 rfl rfl
theorem dksX3_done_10 : cX3_done.data.toList.drop 285 = dktX3_done_10 := dk_seg dksX3_done_9 24 rfl rfl
theorem dksX3_done_11 : cX3_done.data.toList.drop 309 = dktX3_done_11 := dk_seg dksX3_done_10 24 rfl rfl
theorem dX3_done_0 : decode cX3_done 0 = .ok (.aload_n 0, 1) := dk_42 (dk_at dksX3_done_0 0 rfl rfl)
theorem dX3_done_1 : decode cX3_done 1 = .ok (.getfield 38, 3) := dk_180 0 38 (dk_at dksX3_done_0 1 rfl rfl)
theorem dX3_done_4 : decode cX3_done 4 = .ok (.iload_n 1, 1) := dk_27 (dk_at dksX3_done_0 4 rfl rfl)
theorem dX3_done_5 : decode cX3_done 5 = .ok (.iaload, 1) := dk_46 (dk_at dksX3_done_0 5 rfl rfl)
theorem dX3_done_6 : decode cX3_done 6 = .ok (.istore_n 2, 1) := dk_61 (dk_at dksX3_done_0 6 rfl rfl)
theorem dX3_done_7 : decode cX3_done 7 = .ok (.aload_n 0, 1) := dk_42 (dk_at dksX3_done_0 7 rfl rfl)
theorem dX3_done_8 : decode cX3_done 8 = .ok (.getfield 41, 3) := dk_180 0 41 (dk_at dksX3_done_0 8 rfl rfl)
theorem dX3_done_11 : decode cX3_done 11 = .ok (.iload_n 1, 1) := dk_27 (dk_at dksX3_done_0 11 rfl rfl)
theorem dX3_done_12 : decode cX3_done 12 = .ok (.iaload, 1) := dk_46 (dk_at dksX3_done_0 12 rfl rfl)
theorem dX3_done_13 : decode cX3_done 13 = .ok (.istore_n 3, 1) := dk_62 (dk_at dksX3_done_0 13 rfl rfl)
theorem dX3_done_14 : decode cX3_done 14 = .ok (.aload_n 0, 1) := dk_42 (dk_at dksX3_done_0 14 rfl rfl)
theorem dX3_done_15 : decode cX3_done 15 = .ok (.getfield 44, 3) := dk_180 0 44 (dk_at dksX3_done_0 15 rfl rfl)
theorem dX3_done_18 : decode cX3_done 18 = .ok (.iload_n 1, 1) := dk_27 (dk_at dksX3_done_0 18 rfl rfl)
theorem dX3_done_19 : decode cX3_done 19 = .ok (.iaload, 1) := dk_46 (dk_at dksX3_done_0 19 rfl rfl)
theorem dX3_done_20 : decode cX3_done 20 = .ok (.istore 4, 2) := dk_54 4 (dk_at dksX3_done_0 20 rfl rfl)
theorem dX3_done_22 : decode cX3_done 22 = .ok (.aload_n 0, 1) := dk_42 (dk_at dksX3_done_0 22 rfl rfl)
theorem dX3_done_23 : decode cX3_done 23 = .ok (.getfield 47, 3) := dk_180 0 47 (dk_at dksX3_done_1 0 rfl rfl)
theorem dX3_done_26 : decode cX3_done 26 = .ok (.iload_n 1, 1) := dk_27 (dk_at dksX3_done_1 3 rfl rfl)
theorem dX3_done_27 : decode cX3_done 27 = .ok (.iaload, 1) := dk_46 (dk_at dksX3_done_1 4 rfl rfl)
theorem dX3_done_28 : decode cX3_done 28 = .ok (.istore 5, 2) := dk_54 5 (dk_at dksX3_done_1 5 rfl rfl)
theorem dX3_done_30 : decode cX3_done 30 = .ok (.aload_n 0, 1) := dk_42 (dk_at dksX3_done_1 7 rfl rfl)
theorem dX3_done_31 : decode cX3_done 31 = .ok (.getfield 35, 3) := dk_180 0 35 (dk_at dksX3_done_1 8 rfl rfl)
theorem dX3_done_34 : decode cX3_done 34 = .ok (.iload_n 1, 1) := dk_27 (dk_at dksX3_done_1 11 rfl rfl)
theorem dX3_done_35 : decode cX3_done 35 = .ok (.iaload, 1) := dk_46 (dk_at dksX3_done_1 12 rfl rfl)
theorem dX3_done_36 : decode cX3_done 36 = .ok (.tableswitch 281 0 16 #[84, 93, 102, 110, 129, 138, 149, 160, 171, 182, 191, 198, 205, 224, 234, 256, 256], 84) := by decide +kernel
theorem dX3_done_120 : decode cX3_done 120 = .ok (.aload_n 0, 1) := dk_42 (dk_at dksX3_done_3 0 rfl rfl)
theorem dX3_done_121 : decode cX3_done 121 = .ok (.iload_n 2, 1) := dk_28 (dk_at dksX3_done_3 1 rfl rfl)
theorem dX3_done_122 : decode cX3_done 122 = .ok (.iload_n 3, 1) := dk_29 (dk_at dksX3_done_3 2 rfl rfl)
theorem dX3_done_123 : decode cX3_done 123 = .ok (.iload 4, 2) := dk_21 4 (dk_at dksX3_done_3 3 rfl rfl)
theorem dX3_done_125 : decode cX3_done 125 = .ok (.invokevirtual 186, 3) := dk_182 0 186 (dk_at dksX3_done_3 5 rfl rfl)
theorem dX3_done_128 : decode cX3_done 128 = .ok (.ireturn, 1) := dk_172 (dk_at dksX3_done_3 8 rfl rfl)
theorem dX3_done_129 : decode cX3_done 129 = .ok (.aload_n 0, 1) := dk_42 (dk_at dksX3_done_3 9 rfl rfl)
theorem dX3_done_130 : decode cX3_done 130 = .ok (.iload_n 2, 1) := dk_28 (dk_at dksX3_done_3 10 rfl rfl)
theorem dX3_done_131 : decode cX3_done 131 = .ok (.iload_n 3, 1) := dk_29 (dk_at dksX3_done_3 11 rfl rfl)
theorem dX3_done_132 : decode cX3_done 132 = .ok (.iload 4, 2) := dk_21 4 (dk_at dksX3_done_3 12 rfl rfl)
theorem dX3_done_134 : decode cX3_done 134 = .ok (.invokevirtual 189, 3) := dk_182 0 189 (dk_at dksX3_done_3 14 rfl rfl)
theorem dX3_done_137 : decode cX3_done 137 = .ok (.ireturn, 1) := dk_172 (dk_at dksX3_done_3 17 rfl rfl)
theorem dX3_done_138 : decode cX3_done 138 = .ok (.aload_n 0, 1) := dk_42 (dk_at dksX3_done_3 18 rfl rfl)
theorem dX3_done_139 : decode cX3_done 139 = .ok (.iload_n 2, 1) := dk_28 (dk_at dksX3_done_3 19 rfl rfl)
theorem dX3_done_140 : decode cX3_done 140 = .ok (.iconst 5, 1) := dk_8 (dk_at dksX3_done_3 20 rfl rfl)
theorem dX3_done_141 : decode cX3_done 141 = .ok (.iload_n 3, 1) := dk_29 (dk_at dksX3_done_3 21 rfl rfl)
theorem dX3_done_142 : decode cX3_done 142 = .ok (.invokevirtual 186, 3) := dk_182 0 186 (dk_at dksX3_done_4 0 rfl rfl)
theorem dX3_done_145 : decode cX3_done 145 = .ok (.ireturn, 1) := dk_172 (dk_at dksX3_done_4 3 rfl rfl)
theorem dX3_done_146 : decode cX3_done 146 = .ok (.aload_n 0, 1) := dk_42 (dk_at dksX3_done_4 4 rfl rfl)
theorem dX3_done_147 : decode cX3_done 147 = .ok (.iload_n 2, 1) := dk_28 (dk_at dksX3_done_4 5 rfl rfl)
theorem dX3_done_148 : decode cX3_done 148 = .ok (.iload_n 3, 1) := dk_29 (dk_at dksX3_done_4 6 rfl rfl)
theorem dX3_done_149 : decode cX3_done 149 = .ok (.ifCond .ne 8, 3) := dk_154 0 8 (dk_at dksX3_done_4 7 rfl rfl)
theorem dX3_done_152 : decode cX3_done 152 = .ok (.bipush 8, 2) := dk_16 8 (dk_at dksX3_done_4 10 rfl rfl)
theorem dX3_done_154 : decode cX3_done 154 = .ok (.goto 5, 3) := dk_167 0 5 (dk_at dksX3_done_4 12 rfl rfl)
theorem dX3_done_157 : decode cX3_done 157 = .ok (.bipush 9, 2) := dk_16 9 (dk_at dksX3_done_4 15 rfl rfl)
theorem dX3_done_159 : decode cX3_done 159 = .ok (.iload 4, 2) := dk_21 4 (dk_at dksX3_done_4 17 rfl rfl)
theorem dX3_done_161 : decode cX3_done 161 = .ok (.invokevirtual 192, 3) := dk_182 0 192 (dk_at dksX3_done_4 19 rfl rfl)
theorem dX3_done_164 : decode cX3_done 164 = .ok (.ireturn, 1) := dk_172 (dk_at dksX3_done_4 22 rfl rfl)
theorem dX3_done_165 : decode cX3_done 165 = .ok (.aload_n 0, 1) := dk_42 (dk_at dksX3_done_4 23 rfl rfl)
theorem dX3_done_166 : decode cX3_done 166 = .ok (.iload_n 2, 1) := dk_28 (dk_at dksX3_done_5 0 rfl rfl)
theorem dX3_done_167 : decode cX3_done 167 = .ok (.iload_n 3, 1) := dk_29 (dk_at dksX3_done_5 1 rfl rfl)
theorem dX3_done_168 : decode cX3_done 168 = .ok (.iload 4, 2) := dk_21 4 (dk_at dksX3_done_5 2 rfl rfl)
theorem dX3_done_170 : decode cX3_done 170 = .ok (.invokevirtual 195, 3) := dk_182 0 195 (dk_at dksX3_done_5 4 rfl rfl)
theorem dX3_done_173 : decode cX3_done 173 = .ok (.ireturn, 1) := dk_172 (dk_at dksX3_done_5 7 rfl rfl)
theorem dX3_done_174 : decode cX3_done 174 = .ok (.aload_n 0, 1) := dk_42 (dk_at dksX3_done_5 8 rfl rfl)
theorem dX3_done_175 : decode cX3_done 175 = .ok (.iload_n 2, 1) := dk_28 (dk_at dksX3_done_5 9 rfl rfl)
theorem dX3_done_176 : decode cX3_done 176 = .ok (.iload_n 3, 1) := dk_29 (dk_at dksX3_done_5 10 rfl rfl)
theorem dX3_done_177 : decode cX3_done 177 = .ok (.iload 4, 2) := dk_21 4 (dk_at dksX3_done_5 11 rfl rfl)
theorem dX3_done_179 : decode cX3_done 179 = .ok (.iload 5, 2) := dk_21 5 (dk_at dksX3_done_5 13 rfl rfl)
theorem dX3_done_181 : decode cX3_done 181 = .ok (.invokevirtual 198, 3) := dk_182 0 198 (dk_at dksX3_done_5 15 rfl rfl)
theorem dX3_done_184 : decode cX3_done 184 = .ok (.ireturn, 1) := dk_172 (dk_at dksX3_done_5 18 rfl rfl)
theorem dX3_done_185 : decode cX3_done 185 = .ok (.aload_n 0, 1) := dk_42 (dk_at dksX3_done_5 19 rfl rfl)
theorem dX3_done_186 : decode cX3_done 186 = .ok (.iload_n 2, 1) := dk_28 (dk_at dksX3_done_5 20 rfl rfl)
theorem dX3_done_187 : decode cX3_done 187 = .ok (.iload_n 3, 1) := dk_29 (dk_at dksX3_done_5 21 rfl rfl)
theorem dX3_done_188 : decode cX3_done 188 = .ok (.iload 4, 2) := dk_21 4 (dk_at dksX3_done_5 22 rfl rfl)
theorem dX3_done_190 : decode cX3_done 190 = .ok (.iload 5, 2) := dk_21 5 (dk_at dksX3_done_6 0 rfl rfl)
theorem dX3_done_192 : decode cX3_done 192 = .ok (.invokevirtual 202, 3) := dk_182 0 202 (dk_at dksX3_done_6 2 rfl rfl)
theorem dX3_done_195 : decode cX3_done 195 = .ok (.ireturn, 1) := dk_172 (dk_at dksX3_done_6 5 rfl rfl)
theorem dX3_done_196 : decode cX3_done 196 = .ok (.aload_n 0, 1) := dk_42 (dk_at dksX3_done_6 6 rfl rfl)
theorem dX3_done_197 : decode cX3_done 197 = .ok (.iload_n 2, 1) := dk_28 (dk_at dksX3_done_6 7 rfl rfl)
theorem dX3_done_198 : decode cX3_done 198 = .ok (.iload_n 3, 1) := dk_29 (dk_at dksX3_done_6 8 rfl rfl)
theorem dX3_done_199 : decode cX3_done 199 = .ok (.iload 4, 2) := dk_21 4 (dk_at dksX3_done_6 9 rfl rfl)
theorem dX3_done_201 : decode cX3_done 201 = .ok (.iload 5, 2) := dk_21 5 (dk_at dksX3_done_6 11 rfl rfl)
theorem dX3_done_203 : decode cX3_done 203 = .ok (.invokevirtual 205, 3) := dk_182 0 205 (dk_at dksX3_done_6 13 rfl rfl)
theorem dX3_done_206 : decode cX3_done 206 = .ok (.ireturn, 1) := dk_172 (dk_at dksX3_done_6 16 rfl rfl)
theorem dX3_done_207 : decode cX3_done 207 = .ok (.aload_n 0, 1) := dk_42 (dk_at dksX3_done_6 17 rfl rfl)
theorem dX3_done_208 : decode cX3_done 208 = .ok (.iload_n 2, 1) := dk_28 (dk_at dksX3_done_6 18 rfl rfl)
theorem dX3_done_209 : decode cX3_done 209 = .ok (.iload_n 3, 1) := dk_29 (dk_at dksX3_done_6 19 rfl rfl)
theorem dX3_done_210 : decode cX3_done 210 = .ok (.iload 4, 2) := dk_21 4 (dk_at dksX3_done_6 20 rfl rfl)
theorem dX3_done_212 : decode cX3_done 212 = .ok (.iload 5, 2) := dk_21 5 (dk_at dksX3_done_6 22 rfl rfl)
theorem dX3_done_214 : decode cX3_done 214 = .ok (.invokevirtual 208, 3) := dk_182 0 208 (dk_at dksX3_done_7 0 rfl rfl)
theorem dX3_done_217 : decode cX3_done 217 = .ok (.ireturn, 1) := dk_172 (dk_at dksX3_done_7 3 rfl rfl)
theorem dX3_done_218 : decode cX3_done 218 = .ok (.aload_n 0, 1) := dk_42 (dk_at dksX3_done_7 4 rfl rfl)
theorem dX3_done_219 : decode cX3_done 219 = .ok (.iload_n 2, 1) := dk_28 (dk_at dksX3_done_7 5 rfl rfl)
theorem dX3_done_220 : decode cX3_done 220 = .ok (.iload_n 3, 1) := dk_29 (dk_at dksX3_done_7 6 rfl rfl)
theorem dX3_done_221 : decode cX3_done 221 = .ok (.iload 4, 2) := dk_21 4 (dk_at dksX3_done_7 7 rfl rfl)
theorem dX3_done_223 : decode cX3_done 223 = .ok (.invokevirtual 211, 3) := dk_182 0 211 (dk_at dksX3_done_7 9 rfl rfl)
theorem dX3_done_226 : decode cX3_done 226 = .ok (.ireturn, 1) := dk_172 (dk_at dksX3_done_7 12 rfl rfl)
theorem dX3_done_227 : decode cX3_done 227 = .ok (.aload_n 0, 1) := dk_42 (dk_at dksX3_done_7 13 rfl rfl)
theorem dX3_done_228 : decode cX3_done 228 = .ok (.iload_n 2, 1) := dk_28 (dk_at dksX3_done_7 14 rfl rfl)
theorem dX3_done_229 : decode cX3_done 229 = .ok (.iload_n 3, 1) := dk_29 (dk_at dksX3_done_7 15 rfl rfl)
theorem dX3_done_230 : decode cX3_done 230 = .ok (.invokevirtual 214, 3) := dk_182 0 214 (dk_at dksX3_done_7 16 rfl rfl)
theorem dX3_done_233 : decode cX3_done 233 = .ok (.ireturn, 1) := dk_172 (dk_at dksX3_done_7 19 rfl rfl)
theorem dX3_done_234 : decode cX3_done 234 = .ok (.aload_n 0, 1) := dk_42 (dk_at dksX3_done_7 20 rfl rfl)
theorem dX3_done_235 : decode cX3_done 235 = .ok (.iload_n 2, 1) := dk_28 (dk_at dksX3_done_7 21 rfl rfl)
theorem dX3_done_236 : decode cX3_done 236 = .ok (.iload_n 3, 1) := dk_29 (dk_at dksX3_done_7 22 rfl rfl)
theorem dX3_done_237 : decode cX3_done 237 = .ok (.invokevirtual 217, 3) := dk_182 0 217 (dk_at dksX3_done_8 0 rfl rfl)
theorem dX3_done_240 : decode cX3_done 240 = .ok (.ireturn, 1) := dk_172 (dk_at dksX3_done_8 3 rfl rfl)
theorem dX3_done_241 : decode cX3_done 241 = .ok (.aload_n 0, 1) := dk_42 (dk_at dksX3_done_8 4 rfl rfl)
theorem dX3_done_242 : decode cX3_done 242 = .ok (.iload_n 2, 1) := dk_28 (dk_at dksX3_done_8 5 rfl rfl)
theorem dX3_done_243 : decode cX3_done 243 = .ok (.iload_n 3, 1) := dk_29 (dk_at dksX3_done_8 6 rfl rfl)
theorem dX3_done_244 : decode cX3_done 244 = .ok (.iload 4, 2) := dk_21 4 (dk_at dksX3_done_8 7 rfl rfl)
theorem dX3_done_246 : decode cX3_done 246 = .ok (.iload 5, 2) := dk_21 5 (dk_at dksX3_done_8 9 rfl rfl)
theorem dX3_done_248 : decode cX3_done 248 = .ok (.aload_n 0, 1) := dk_42 (dk_at dksX3_done_8 11 rfl rfl)
theorem dX3_done_249 : decode cX3_done 249 = .ok (.getfield 29, 3) := dk_180 0 29 (dk_at dksX3_done_8 12 rfl rfl)
theorem dX3_done_252 : decode cX3_done 252 = .ok (.bipush 7, 2) := dk_16 7 (dk_at dksX3_done_8 15 rfl rfl)
theorem dX3_done_254 : decode cX3_done 254 = .ok (.laload, 1) := dk_47 (dk_at dksX3_done_8 17 rfl rfl)
theorem dX3_done_255 : decode cX3_done 255 = .ok (.l2i, 1) := dk_136 (dk_at dksX3_done_8 18 rfl rfl)
theorem dX3_done_256 : decode cX3_done 256 = .ok (.invokevirtual 220, 3) := dk_182 0 220 (dk_at dksX3_done_8 19 rfl rfl)
theorem dX3_done_259 : decode cX3_done 259 = .ok (.ireturn, 1) := dk_172 (dk_at dksX3_done_8 22 rfl rfl)
theorem dX3_done_260 : decode cX3_done 260 = .ok (.aload_n 0, 1) := dk_42 (dk_at dksX3_done_8 23 rfl rfl)
theorem dX3_done_261 : decode cX3_done 261 = .ok (.getfield 29, 3) := dk_180 0 29 (dk_at dksX3_done_9 0 rfl rfl)
theorem dX3_done_264 : decode cX3_done 264 = .ok (.iload_n 2, 1) := dk_28 (dk_at dksX3_done_9 3 rfl rfl)
theorem dX3_done_265 : decode cX3_done 265 = .ok (.iload_n 3, 1) := dk_29 (dk_at dksX3_done_9 4 rfl rfl)
theorem dX3_done_266 : decode cX3_done 266 = .ok (.i2l, 1) := dk_133 (dk_at dksX3_done_9 5 rfl rfl)
theorem dX3_done_267 : decode cX3_done 267 = .ok (.lastore, 1) := dk_80 (dk_at dksX3_done_9 6 rfl rfl)
theorem dX3_done_268 : decode cX3_done 268 = .ok (.iconst 0, 1) := dk_3 (dk_at dksX3_done_9 7 rfl rfl)
theorem dX3_done_269 : decode cX3_done 269 = .ok (.ireturn, 1) := dk_172 (dk_at dksX3_done_9 8 rfl rfl)
theorem dX3_done_270 : decode cX3_done 270 = .ok (.aload_n 0, 1) := dk_42 (dk_at dksX3_done_9 9 rfl rfl)
theorem dX3_done_271 : decode cX3_done 271 = .ok (.getfield 29, 3) := dk_180 0 29 (dk_at dksX3_done_9 10 rfl rfl)
theorem dX3_done_274 : decode cX3_done 274 = .ok (.iload_n 2, 1) := dk_28 (dk_at dksX3_done_9 13 rfl rfl)
theorem dX3_done_275 : decode cX3_done 275 = .ok (.aload_n 0, 1) := dk_42 (dk_at dksX3_done_9 14 rfl rfl)
theorem dX3_done_276 : decode cX3_done 276 = .ok (.getfield 29, 3) := dk_180 0 29 (dk_at dksX3_done_9 15 rfl rfl)
theorem dX3_done_279 : decode cX3_done 279 = .ok (.iload_n 3, 1) := dk_29 (dk_at dksX3_done_9 18 rfl rfl)
theorem dX3_done_280 : decode cX3_done 280 = .ok (.laload, 1) := dk_47 (dk_at dksX3_done_9 19 rfl rfl)
theorem dX3_done_281 : decode cX3_done 281 = .ok (.aload_n 0, 1) := dk_42 (dk_at dksX3_done_9 20 rfl rfl)
theorem dX3_done_282 : decode cX3_done 282 = .ok (.getfield 29, 3) := dk_180 0 29 (dk_at dksX3_done_9 21 rfl rfl)
theorem dX3_done_285 : decode cX3_done 285 = .ok (.iload 4, 2) := dk_21 4 (dk_at dksX3_done_10 0 rfl rfl)
theorem dX3_done_287 : decode cX3_done 287 = .ok (.laload, 1) := dk_47 (dk_at dksX3_done_10 2 rfl rfl)
theorem dX3_done_288 : decode cX3_done 288 = .ok (.ladd, 1) := dk_97 (dk_at dksX3_done_10 3 rfl rfl)
theorem dX3_done_289 : decode cX3_done 289 = .ok (.lastore, 1) := dk_80 (dk_at dksX3_done_10 4 rfl rfl)
theorem dX3_done_290 : decode cX3_done 290 = .ok (.iconst 0, 1) := dk_3 (dk_at dksX3_done_10 5 rfl rfl)
theorem dX3_done_291 : decode cX3_done 291 = .ok (.ireturn, 1) := dk_172 (dk_at dksX3_done_10 6 rfl rfl)
theorem dX3_done_292 : decode cX3_done 292 = .ok (.aload_n 0, 1) := dk_42 (dk_at dksX3_done_10 7 rfl rfl)
theorem dX3_done_293 : decode cX3_done 293 = .ok (.iload_n 2, 1) := dk_28 (dk_at dksX3_done_10 8 rfl rfl)
theorem dX3_done_294 : decode cX3_done 294 = .ok (.iload_n 3, 1) := dk_29 (dk_at dksX3_done_10 9 rfl rfl)
theorem dX3_done_295 : decode cX3_done 295 = .ok (.iload 4, 2) := dk_21 4 (dk_at dksX3_done_10 10 rfl rfl)
theorem dX3_done_297 : decode cX3_done 297 = .ok (.aload_n 0, 1) := dk_42 (dk_at dksX3_done_10 12 rfl rfl)
theorem dX3_done_298 : decode cX3_done 298 = .ok (.getfield 35, 3) := dk_180 0 35 (dk_at dksX3_done_10 13 rfl rfl)
theorem dX3_done_301 : decode cX3_done 301 = .ok (.iload_n 1, 1) := dk_27 (dk_at dksX3_done_10 16 rfl rfl)
theorem dX3_done_302 : decode cX3_done 302 = .ok (.iaload, 1) := dk_46 (dk_at dksX3_done_10 17 rfl rfl)
theorem dX3_done_303 : decode cX3_done 303 = .ok (.bipush 16, 2) := dk_16 16 (dk_at dksX3_done_10 18 rfl rfl)
theorem dX3_done_305 : decode cX3_done 305 = .ok (.if_icmp .ne 7, 3) := dk_160 0 7 (dk_at dksX3_done_10 20 rfl rfl)
theorem dX3_done_308 : decode cX3_done 308 = .ok (.iconst 1, 1) := dk_4 (dk_at dksX3_done_10 23 rfl rfl)
theorem dX3_done_309 : decode cX3_done 309 = .ok (.goto 4, 3) := dk_167 0 4 (dk_at dksX3_done_11 0 rfl rfl)
theorem dX3_done_312 : decode cX3_done 312 = .ok (.iconst 0, 1) := dk_3 (dk_at dksX3_done_11 3 rfl rfl)
theorem dX3_done_313 : decode cX3_done 313 = .ok (.invokevirtual 224, 3) := dk_182 0 224 (dk_at dksX3_done_11 4 rfl rfl)
theorem dX3_done_316 : decode cX3_done 316 = .ok (.ireturn, 1) := dk_172 (dk_at dksX3_done_11 7 rfl rfl)
theorem dX3_done_317 : decode cX3_done 317 = .ok (.bipush 7, 2) := dk_16 7 (dk_at dksX3_done_11 8 rfl rfl)
theorem dX3_done_319 : decode cX3_done 319 = .ok (.ireturn, 1) := dk_172 (dk_at dksX3_done_11 10 rfl rfl)
abbrev cX3_make : ByteArray := prog_15_method_20_code
def yX3_make : MethodName := ⟨RX3, "make", "(III)I"⟩
def dkwX3_make_1 : List UInt8 := [42, 28, 29, 182, 0, 161, 79, 3, 172]
abbrev dktX3_make_1 : List UInt8 := dkwX3_make_1 ++ []
def dkwX3_make_0 : List UInt8 := [29, 156, 0, 5, 7, 172, 42, 10, 29, 133, 182, 0, 157, 154, 0, 6, 16, 8, 172, 42, 180, 0, 26, 27]
abbrev dktX3_make_0 : List UInt8 := dkwX3_make_0 ++ dktX3_make_1
theorem dksX3_make_0 : cX3_make.data.toList.drop 0 = dktX3_make_0 := by decide +kernel
theorem dksX3_make_1 : cX3_make.data.toList.drop 24 = dktX3_make_1 := dk_seg dksX3_make_0 24 rfl rfl
theorem dX3_make_0 : decode cX3_make 0 = .ok (.iload_n 3, 1) := dk_29 (dk_at dksX3_make_0 0 rfl rfl)
theorem dX3_make_1 : decode cX3_make 1 = .ok (.ifCond .ge 5, 3) := dk_156 0 5 (dk_at dksX3_make_0 1 rfl rfl)
theorem dX3_make_4 : decode cX3_make 4 = .ok (.iconst 4, 1) := dk_7 (dk_at dksX3_make_0 4 rfl rfl)
theorem dX3_make_5 : decode cX3_make 5 = .ok (.ireturn, 1) := dk_172 (dk_at dksX3_make_0 5 rfl rfl)
theorem dX3_make_6 : decode cX3_make 6 = .ok (.aload_n 0, 1) := dk_42 (dk_at dksX3_make_0 6 rfl rfl)
theorem dX3_make_7 : decode cX3_make 7 = .ok (.lconst 1, 1) := dk_10 (dk_at dksX3_make_0 7 rfl rfl)
theorem dX3_make_8 : decode cX3_make 8 = .ok (.iload_n 3, 1) := dk_29 (dk_at dksX3_make_0 8 rfl rfl)
theorem dX3_make_9 : decode cX3_make 9 = .ok (.i2l, 1) := dk_133 (dk_at dksX3_make_0 9 rfl rfl)
theorem dX3_make_10 : decode cX3_make 10 = .ok (.invokevirtual 157, 3) := dk_182 0 157 (dk_at dksX3_make_0 10 rfl rfl)
theorem dX3_make_13 : decode cX3_make 13 = .ok (.ifCond .ne 6, 3) := dk_154 0 6 (dk_at dksX3_make_0 13 rfl rfl)
theorem dX3_make_16 : decode cX3_make 16 = .ok (.bipush 8, 2) := dk_16 8 (dk_at dksX3_make_0 16 rfl rfl)
theorem dX3_make_18 : decode cX3_make 18 = .ok (.ireturn, 1) := dk_172 (dk_at dksX3_make_0 18 rfl rfl)
theorem dX3_make_19 : decode cX3_make 19 = .ok (.aload_n 0, 1) := dk_42 (dk_at dksX3_make_0 19 rfl rfl)
theorem dX3_make_20 : decode cX3_make 20 = .ok (.getfield 26, 3) := dk_180 0 26 (dk_at dksX3_make_0 20 rfl rfl)
theorem dX3_make_23 : decode cX3_make 23 = .ok (.iload_n 1, 1) := dk_27 (dk_at dksX3_make_0 23 rfl rfl)
theorem dX3_make_24 : decode cX3_make 24 = .ok (.aload_n 0, 1) := dk_42 (dk_at dksX3_make_1 0 rfl rfl)
theorem dX3_make_25 : decode cX3_make 25 = .ok (.iload_n 2, 1) := dk_28 (dk_at dksX3_make_1 1 rfl rfl)
theorem dX3_make_26 : decode cX3_make 26 = .ok (.iload_n 3, 1) := dk_29 (dk_at dksX3_make_1 2 rfl rfl)
theorem dX3_make_27 : decode cX3_make 27 = .ok (.invokevirtual 161, 3) := dk_182 0 161 (dk_at dksX3_make_1 3 rfl rfl)
theorem dX3_make_30 : decode cX3_make 30 = .ok (.iastore, 1) := dk_79 (dk_at dksX3_make_1 6 rfl rfl)
theorem dX3_make_31 : decode cX3_make 31 = .ok (.iconst 0, 1) := dk_3 (dk_at dksX3_make_1 7 rfl rfl)
theorem dX3_make_32 : decode cX3_make 32 = .ok (.ireturn, 1) := dk_172 (dk_at dksX3_make_1 8 rfl rfl)
abbrev cX3_fits : ByteArray := prog_15_method_8_code
def yX3_fits : MethodName := ⟨RX3, "fits", "(JJ)Z"⟩
def dkwX3_fits_1 : List UInt8 := [148, 157, 0, 7, 4, 167, 0, 4, 3, 172]
abbrev dktX3_fits_1 : List UInt8 := dkwX3_fits_1 ++ []
def dkwX3_fits_0 : List UInt8 := [42, 180, 0, 111, 133, 31, 97, 20, 0, 117, 148, 157, 0, 21, 42, 180, 0, 114, 133, 33, 97, 20, 0, 119]
abbrev dktX3_fits_0 : List UInt8 := dkwX3_fits_0 ++ dktX3_fits_1
theorem dksX3_fits_0 : cX3_fits.data.toList.drop 0 = dktX3_fits_0 := by decide +kernel
theorem dksX3_fits_1 : cX3_fits.data.toList.drop 24 = dktX3_fits_1 := dk_seg dksX3_fits_0 24 rfl rfl
theorem dX3_fits_0 : decode cX3_fits 0 = .ok (.aload_n 0, 1) := dk_42 (dk_at dksX3_fits_0 0 rfl rfl)
theorem dX3_fits_1 : decode cX3_fits 1 = .ok (.getfield 111, 3) := dk_180 0 111 (dk_at dksX3_fits_0 1 rfl rfl)
theorem dX3_fits_4 : decode cX3_fits 4 = .ok (.i2l, 1) := dk_133 (dk_at dksX3_fits_0 4 rfl rfl)
theorem dX3_fits_5 : decode cX3_fits 5 = .ok (.lload_n 1, 1) := dk_31 (dk_at dksX3_fits_0 5 rfl rfl)
theorem dX3_fits_6 : decode cX3_fits 6 = .ok (.ladd, 1) := dk_97 (dk_at dksX3_fits_0 6 rfl rfl)
theorem dX3_fits_7 : decode cX3_fits 7 = .ok (.ldc2_w 117, 3) := dk_20 0 117 (dk_at dksX3_fits_0 7 rfl rfl)
theorem dX3_fits_10 : decode cX3_fits 10 = .ok (.lcmp, 1) := dk_148 (dk_at dksX3_fits_0 10 rfl rfl)
theorem dX3_fits_11 : decode cX3_fits 11 = .ok (.ifCond .gt 21, 3) := dk_157 0 21 (dk_at dksX3_fits_0 11 rfl rfl)
theorem dX3_fits_14 : decode cX3_fits 14 = .ok (.aload_n 0, 1) := dk_42 (dk_at dksX3_fits_0 14 rfl rfl)
theorem dX3_fits_15 : decode cX3_fits 15 = .ok (.getfield 114, 3) := dk_180 0 114 (dk_at dksX3_fits_0 15 rfl rfl)
theorem dX3_fits_18 : decode cX3_fits 18 = .ok (.i2l, 1) := dk_133 (dk_at dksX3_fits_0 18 rfl rfl)
theorem dX3_fits_19 : decode cX3_fits 19 = .ok (.lload_n 3, 1) := dk_33 (dk_at dksX3_fits_0 19 rfl rfl)
theorem dX3_fits_20 : decode cX3_fits 20 = .ok (.ladd, 1) := dk_97 (dk_at dksX3_fits_0 20 rfl rfl)
theorem dX3_fits_21 : decode cX3_fits 21 = .ok (.ldc2_w 119, 3) := dk_20 0 119 (dk_at dksX3_fits_0 21 rfl rfl)
theorem dX3_fits_24 : decode cX3_fits 24 = .ok (.lcmp, 1) := dk_148 (dk_at dksX3_fits_1 0 rfl rfl)
theorem dX3_fits_25 : decode cX3_fits 25 = .ok (.ifCond .gt 7, 3) := dk_157 0 7 (dk_at dksX3_fits_1 1 rfl rfl)
theorem dX3_fits_28 : decode cX3_fits 28 = .ok (.iconst 1, 1) := dk_4 (dk_at dksX3_fits_1 4 rfl rfl)
theorem dX3_fits_29 : decode cX3_fits 29 = .ok (.goto 4, 3) := dk_167 0 4 (dk_at dksX3_fits_1 5 rfl rfl)
theorem dX3_fits_32 : decode cX3_fits 32 = .ok (.iconst 0, 1) := dk_3 (dk_at dksX3_fits_1 8 rfl rfl)
theorem dX3_fits_33 : decode cX3_fits 33 = .ok (.ireturn, 1) := dk_172 (dk_at dksX3_fits_1 9 rfl rfl)
abbrev cX3_fresh : ByteArray := prog_15_method_7_code
def yX3_fresh : MethodName := ⟨RX3, "fresh", "(II)I"⟩
def dkwX3_fresh_3 : List UInt8 := [132, 3, 1, 167, 255, 236, 42, 89, 180, 0, 114, 28, 96, 181, 0, 114, 42, 180, 0, 111, 172]
abbrev dktX3_fresh_3 : List UInt8 := dkwX3_fresh_3 ++ []
def dkwX3_fresh_2 : List UInt8 := [180, 0, 111, 3, 79, 3, 62, 29, 28, 162, 0, 21, 42, 180, 0, 22, 42, 180, 0, 114, 29, 96, 9, 80]
abbrev dktX3_fresh_2 : List UInt8 := dkwX3_fresh_2 ++ dktX3_fresh_3
def dkwX3_fresh_1 : List UInt8 := [42, 180, 0, 111, 42, 180, 0, 114, 79, 42, 180, 0, 16, 42, 180, 0, 111, 28, 79, 42, 180, 0, 19, 42]
abbrev dktX3_fresh_1 : List UInt8 := dkwX3_fresh_1 ++ dktX3_fresh_2
def dkwX3_fresh_0 : List UInt8 := [42, 89, 180, 0, 111, 4, 96, 181, 0, 111, 42, 180, 0, 7, 42, 180, 0, 111, 27, 79, 42, 180, 0, 13]
abbrev dktX3_fresh_0 : List UInt8 := dkwX3_fresh_0 ++ dktX3_fresh_1
theorem dksX3_fresh_0 : cX3_fresh.data.toList.drop 0 = dktX3_fresh_0 := by decide +kernel
theorem dksX3_fresh_1 : cX3_fresh.data.toList.drop 24 = dktX3_fresh_1 := dk_seg dksX3_fresh_0 24 rfl rfl
theorem dksX3_fresh_2 : cX3_fresh.data.toList.drop 48 = dktX3_fresh_2 := dk_seg dksX3_fresh_1 24 rfl rfl
theorem dksX3_fresh_3 : cX3_fresh.data.toList.drop 72 = dktX3_fresh_3 := dk_seg dksX3_fresh_2 24 rfl rfl
theorem dX3_fresh_0 : decode cX3_fresh 0 = .ok (.aload_n 0, 1) := dk_42 (dk_at dksX3_fresh_0 0 rfl rfl)
theorem dX3_fresh_1 : decode cX3_fresh 1 = .ok (.dup, 1) := dk_89 (dk_at dksX3_fresh_0 1 rfl rfl)
theorem dX3_fresh_2 : decode cX3_fresh 2 = .ok (.getfield 111, 3) := dk_180 0 111 (dk_at dksX3_fresh_0 2 rfl rfl)
theorem dX3_fresh_5 : decode cX3_fresh 5 = .ok (.iconst 1, 1) := dk_4 (dk_at dksX3_fresh_0 5 rfl rfl)
theorem dX3_fresh_6 : decode cX3_fresh 6 = .ok (.iadd, 1) := dk_96 (dk_at dksX3_fresh_0 6 rfl rfl)
theorem dX3_fresh_7 : decode cX3_fresh 7 = .ok (.putfield 111, 3) := dk_181 0 111 (dk_at dksX3_fresh_0 7 rfl rfl)
theorem dX3_fresh_10 : decode cX3_fresh 10 = .ok (.aload_n 0, 1) := dk_42 (dk_at dksX3_fresh_0 10 rfl rfl)
theorem dX3_fresh_11 : decode cX3_fresh 11 = .ok (.getfield 7, 3) := dk_180 0 7 (dk_at dksX3_fresh_0 11 rfl rfl)
theorem dX3_fresh_14 : decode cX3_fresh 14 = .ok (.aload_n 0, 1) := dk_42 (dk_at dksX3_fresh_0 14 rfl rfl)
theorem dX3_fresh_15 : decode cX3_fresh 15 = .ok (.getfield 111, 3) := dk_180 0 111 (dk_at dksX3_fresh_0 15 rfl rfl)
theorem dX3_fresh_18 : decode cX3_fresh 18 = .ok (.iload_n 1, 1) := dk_27 (dk_at dksX3_fresh_0 18 rfl rfl)
theorem dX3_fresh_19 : decode cX3_fresh 19 = .ok (.iastore, 1) := dk_79 (dk_at dksX3_fresh_0 19 rfl rfl)
theorem dX3_fresh_20 : decode cX3_fresh 20 = .ok (.aload_n 0, 1) := dk_42 (dk_at dksX3_fresh_0 20 rfl rfl)
theorem dX3_fresh_21 : decode cX3_fresh 21 = .ok (.getfield 13, 3) := dk_180 0 13 (dk_at dksX3_fresh_0 21 rfl rfl)
theorem dX3_fresh_24 : decode cX3_fresh 24 = .ok (.aload_n 0, 1) := dk_42 (dk_at dksX3_fresh_1 0 rfl rfl)
theorem dX3_fresh_25 : decode cX3_fresh 25 = .ok (.getfield 111, 3) := dk_180 0 111 (dk_at dksX3_fresh_1 1 rfl rfl)
theorem dX3_fresh_28 : decode cX3_fresh 28 = .ok (.aload_n 0, 1) := dk_42 (dk_at dksX3_fresh_1 4 rfl rfl)
theorem dX3_fresh_29 : decode cX3_fresh 29 = .ok (.getfield 114, 3) := dk_180 0 114 (dk_at dksX3_fresh_1 5 rfl rfl)
theorem dX3_fresh_32 : decode cX3_fresh 32 = .ok (.iastore, 1) := dk_79 (dk_at dksX3_fresh_1 8 rfl rfl)
theorem dX3_fresh_33 : decode cX3_fresh 33 = .ok (.aload_n 0, 1) := dk_42 (dk_at dksX3_fresh_1 9 rfl rfl)
theorem dX3_fresh_34 : decode cX3_fresh 34 = .ok (.getfield 16, 3) := dk_180 0 16 (dk_at dksX3_fresh_1 10 rfl rfl)
theorem dX3_fresh_37 : decode cX3_fresh 37 = .ok (.aload_n 0, 1) := dk_42 (dk_at dksX3_fresh_1 13 rfl rfl)
theorem dX3_fresh_38 : decode cX3_fresh 38 = .ok (.getfield 111, 3) := dk_180 0 111 (dk_at dksX3_fresh_1 14 rfl rfl)
theorem dX3_fresh_41 : decode cX3_fresh 41 = .ok (.iload_n 2, 1) := dk_28 (dk_at dksX3_fresh_1 17 rfl rfl)
theorem dX3_fresh_42 : decode cX3_fresh 42 = .ok (.iastore, 1) := dk_79 (dk_at dksX3_fresh_1 18 rfl rfl)
theorem dX3_fresh_43 : decode cX3_fresh 43 = .ok (.aload_n 0, 1) := dk_42 (dk_at dksX3_fresh_1 19 rfl rfl)
theorem dX3_fresh_44 : decode cX3_fresh 44 = .ok (.getfield 19, 3) := dk_180 0 19 (dk_at dksX3_fresh_1 20 rfl rfl)
theorem dX3_fresh_47 : decode cX3_fresh 47 = .ok (.aload_n 0, 1) := dk_42 (dk_at dksX3_fresh_1 23 rfl rfl)
theorem dX3_fresh_48 : decode cX3_fresh 48 = .ok (.getfield 111, 3) := dk_180 0 111 (dk_at dksX3_fresh_2 0 rfl rfl)
theorem dX3_fresh_51 : decode cX3_fresh 51 = .ok (.iconst 0, 1) := dk_3 (dk_at dksX3_fresh_2 3 rfl rfl)
theorem dX3_fresh_52 : decode cX3_fresh 52 = .ok (.iastore, 1) := dk_79 (dk_at dksX3_fresh_2 4 rfl rfl)
theorem dX3_fresh_53 : decode cX3_fresh 53 = .ok (.iconst 0, 1) := dk_3 (dk_at dksX3_fresh_2 5 rfl rfl)
theorem dX3_fresh_54 : decode cX3_fresh 54 = .ok (.istore_n 3, 1) := dk_62 (dk_at dksX3_fresh_2 6 rfl rfl)
theorem dX3_fresh_55 : decode cX3_fresh 55 = .ok (.iload_n 3, 1) := dk_29 (dk_at dksX3_fresh_2 7 rfl rfl)
theorem dX3_fresh_56 : decode cX3_fresh 56 = .ok (.iload_n 2, 1) := dk_28 (dk_at dksX3_fresh_2 8 rfl rfl)
theorem dX3_fresh_57 : decode cX3_fresh 57 = .ok (.if_icmp .ge 21, 3) := dk_162 0 21 (dk_at dksX3_fresh_2 9 rfl rfl)
theorem dX3_fresh_60 : decode cX3_fresh 60 = .ok (.aload_n 0, 1) := dk_42 (dk_at dksX3_fresh_2 12 rfl rfl)
theorem dX3_fresh_61 : decode cX3_fresh 61 = .ok (.getfield 22, 3) := dk_180 0 22 (dk_at dksX3_fresh_2 13 rfl rfl)
theorem dX3_fresh_64 : decode cX3_fresh 64 = .ok (.aload_n 0, 1) := dk_42 (dk_at dksX3_fresh_2 16 rfl rfl)
theorem dX3_fresh_65 : decode cX3_fresh 65 = .ok (.getfield 114, 3) := dk_180 0 114 (dk_at dksX3_fresh_2 17 rfl rfl)
theorem dX3_fresh_68 : decode cX3_fresh 68 = .ok (.iload_n 3, 1) := dk_29 (dk_at dksX3_fresh_2 20 rfl rfl)
theorem dX3_fresh_69 : decode cX3_fresh 69 = .ok (.iadd, 1) := dk_96 (dk_at dksX3_fresh_2 21 rfl rfl)
theorem dX3_fresh_70 : decode cX3_fresh 70 = .ok (.lconst 0, 1) := dk_9 (dk_at dksX3_fresh_2 22 rfl rfl)
theorem dX3_fresh_71 : decode cX3_fresh 71 = .ok (.lastore, 1) := dk_80 (dk_at dksX3_fresh_2 23 rfl rfl)
theorem dX3_fresh_72 : decode cX3_fresh 72 = .ok (.iinc 3 1, 3) := dk_132 3 1 (dk_at dksX3_fresh_3 0 rfl rfl)
theorem dX3_fresh_75 : decode cX3_fresh 75 = .ok (.goto (-20), 3) := dk_167 255 236 (dk_at dksX3_fresh_3 3 rfl rfl)
theorem dX3_fresh_78 : decode cX3_fresh 78 = .ok (.aload_n 0, 1) := dk_42 (dk_at dksX3_fresh_3 6 rfl rfl)
theorem dX3_fresh_79 : decode cX3_fresh 79 = .ok (.dup, 1) := dk_89 (dk_at dksX3_fresh_3 7 rfl rfl)
theorem dX3_fresh_80 : decode cX3_fresh 80 = .ok (.getfield 114, 3) := dk_180 0 114 (dk_at dksX3_fresh_3 8 rfl rfl)
theorem dX3_fresh_83 : decode cX3_fresh 83 = .ok (.iload_n 2, 1) := dk_28 (dk_at dksX3_fresh_3 11 rfl rfl)
theorem dX3_fresh_84 : decode cX3_fresh 84 = .ok (.iadd, 1) := dk_96 (dk_at dksX3_fresh_3 12 rfl rfl)
theorem dX3_fresh_85 : decode cX3_fresh 85 = .ok (.putfield 114, 3) := dk_181 0 114 (dk_at dksX3_fresh_3 13 rfl rfl)
theorem dX3_fresh_88 : decode cX3_fresh 88 = .ok (.aload_n 0, 1) := dk_42 (dk_at dksX3_fresh_3 16 rfl rfl)
theorem dX3_fresh_89 : decode cX3_fresh 89 = .ok (.getfield 111, 3) := dk_180 0 111 (dk_at dksX3_fresh_3 17 rfl rfl)
theorem dX3_fresh_92 : decode cX3_fresh 92 = .ok (.ireturn, 1) := dk_172 (dk_at dksX3_fresh_3 20 rfl rfl)
abbrev cX3_deep : ByteArray := prog_15_method_21_code
def yX3_deep : MethodName := ⟨RX3, "deep", "(III)I"⟩
def dkwX3_deep_3 : List UInt8 := [80, 132, 5, 1, 167, 255, 225, 42, 180, 0, 26, 27, 21, 4, 79, 3, 172]
abbrev dktX3_deep_3 : List UInt8 := dkwX3_deep_3 ++ []
def dkwX3_deep_2 : List UInt8 := [162, 0, 31, 42, 180, 0, 22, 42, 180, 0, 13, 21, 4, 46, 21, 5, 96, 42, 4, 29, 182, 0, 161, 133]
abbrev dktX3_deep_2 : List UInt8 := dkwX3_deep_2 ++ dktX3_deep_3
def dkwX3_deep_1 : List UInt8 := [182, 0, 157, 154, 0, 6, 16, 8, 172, 42, 8, 28, 182, 0, 161, 54, 4, 3, 54, 5, 21, 5, 28]
abbrev dktX3_deep_1 : List UInt8 := dkwX3_deep_1 ++ dktX3_deep_2
def dkwX3_deep_0 : List UInt8 := [28, 155, 0, 7, 29, 156, 0, 5, 7, 172, 42, 10, 28, 133, 97, 28, 133, 28, 133, 29, 133, 105, 97]
abbrev dktX3_deep_0 : List UInt8 := dkwX3_deep_0 ++ dktX3_deep_1
theorem dksX3_deep_0 : cX3_deep.data.toList.drop 0 = dktX3_deep_0 := by decide +kernel
theorem dksX3_deep_1 : cX3_deep.data.toList.drop 23 = dktX3_deep_1 := dk_seg dksX3_deep_0 23 rfl rfl
theorem dksX3_deep_2 : cX3_deep.data.toList.drop 46 = dktX3_deep_2 := dk_seg dksX3_deep_1 23 rfl rfl
theorem dksX3_deep_3 : cX3_deep.data.toList.drop 70 = dktX3_deep_3 := dk_seg dksX3_deep_2 24 rfl rfl
theorem dX3_deep_0 : decode cX3_deep 0 = .ok (.iload_n 2, 1) := dk_28 (dk_at dksX3_deep_0 0 rfl rfl)
theorem dX3_deep_1 : decode cX3_deep 1 = .ok (.ifCond .lt 7, 3) := dk_155 0 7 (dk_at dksX3_deep_0 1 rfl rfl)
theorem dX3_deep_4 : decode cX3_deep 4 = .ok (.iload_n 3, 1) := dk_29 (dk_at dksX3_deep_0 4 rfl rfl)
theorem dX3_deep_5 : decode cX3_deep 5 = .ok (.ifCond .ge 5, 3) := dk_156 0 5 (dk_at dksX3_deep_0 5 rfl rfl)
theorem dX3_deep_8 : decode cX3_deep 8 = .ok (.iconst 4, 1) := dk_7 (dk_at dksX3_deep_0 8 rfl rfl)
theorem dX3_deep_9 : decode cX3_deep 9 = .ok (.ireturn, 1) := dk_172 (dk_at dksX3_deep_0 9 rfl rfl)
theorem dX3_deep_10 : decode cX3_deep 10 = .ok (.aload_n 0, 1) := dk_42 (dk_at dksX3_deep_0 10 rfl rfl)
theorem dX3_deep_11 : decode cX3_deep 11 = .ok (.lconst 1, 1) := dk_10 (dk_at dksX3_deep_0 11 rfl rfl)
theorem dX3_deep_12 : decode cX3_deep 12 = .ok (.iload_n 2, 1) := dk_28 (dk_at dksX3_deep_0 12 rfl rfl)
theorem dX3_deep_13 : decode cX3_deep 13 = .ok (.i2l, 1) := dk_133 (dk_at dksX3_deep_0 13 rfl rfl)
theorem dX3_deep_14 : decode cX3_deep 14 = .ok (.ladd, 1) := dk_97 (dk_at dksX3_deep_0 14 rfl rfl)
theorem dX3_deep_15 : decode cX3_deep 15 = .ok (.iload_n 2, 1) := dk_28 (dk_at dksX3_deep_0 15 rfl rfl)
theorem dX3_deep_16 : decode cX3_deep 16 = .ok (.i2l, 1) := dk_133 (dk_at dksX3_deep_0 16 rfl rfl)
theorem dX3_deep_17 : decode cX3_deep 17 = .ok (.iload_n 2, 1) := dk_28 (dk_at dksX3_deep_0 17 rfl rfl)
theorem dX3_deep_18 : decode cX3_deep 18 = .ok (.i2l, 1) := dk_133 (dk_at dksX3_deep_0 18 rfl rfl)
theorem dX3_deep_19 : decode cX3_deep 19 = .ok (.iload_n 3, 1) := dk_29 (dk_at dksX3_deep_0 19 rfl rfl)
theorem dX3_deep_20 : decode cX3_deep 20 = .ok (.i2l, 1) := dk_133 (dk_at dksX3_deep_0 20 rfl rfl)
theorem dX3_deep_21 : decode cX3_deep 21 = .ok (.lmul, 1) := dk_105 (dk_at dksX3_deep_0 21 rfl rfl)
theorem dX3_deep_22 : decode cX3_deep 22 = .ok (.ladd, 1) := dk_97 (dk_at dksX3_deep_0 22 rfl rfl)
theorem dX3_deep_23 : decode cX3_deep 23 = .ok (.invokevirtual 157, 3) := dk_182 0 157 (dk_at dksX3_deep_1 0 rfl rfl)
theorem dX3_deep_26 : decode cX3_deep 26 = .ok (.ifCond .ne 6, 3) := dk_154 0 6 (dk_at dksX3_deep_1 3 rfl rfl)
theorem dX3_deep_29 : decode cX3_deep 29 = .ok (.bipush 8, 2) := dk_16 8 (dk_at dksX3_deep_1 6 rfl rfl)
theorem dX3_deep_31 : decode cX3_deep 31 = .ok (.ireturn, 1) := dk_172 (dk_at dksX3_deep_1 8 rfl rfl)
theorem dX3_deep_32 : decode cX3_deep 32 = .ok (.aload_n 0, 1) := dk_42 (dk_at dksX3_deep_1 9 rfl rfl)
theorem dX3_deep_33 : decode cX3_deep 33 = .ok (.iconst 5, 1) := dk_8 (dk_at dksX3_deep_1 10 rfl rfl)
theorem dX3_deep_34 : decode cX3_deep 34 = .ok (.iload_n 2, 1) := dk_28 (dk_at dksX3_deep_1 11 rfl rfl)
theorem dX3_deep_35 : decode cX3_deep 35 = .ok (.invokevirtual 161, 3) := dk_182 0 161 (dk_at dksX3_deep_1 12 rfl rfl)
theorem dX3_deep_38 : decode cX3_deep 38 = .ok (.istore 4, 2) := dk_54 4 (dk_at dksX3_deep_1 15 rfl rfl)
theorem dX3_deep_40 : decode cX3_deep 40 = .ok (.iconst 0, 1) := dk_3 (dk_at dksX3_deep_1 17 rfl rfl)
theorem dX3_deep_41 : decode cX3_deep 41 = .ok (.istore 5, 2) := dk_54 5 (dk_at dksX3_deep_1 18 rfl rfl)
theorem dX3_deep_43 : decode cX3_deep 43 = .ok (.iload 5, 2) := dk_21 5 (dk_at dksX3_deep_1 20 rfl rfl)
theorem dX3_deep_45 : decode cX3_deep 45 = .ok (.iload_n 2, 1) := dk_28 (dk_at dksX3_deep_1 22 rfl rfl)
theorem dX3_deep_46 : decode cX3_deep 46 = .ok (.if_icmp .ge 31, 3) := dk_162 0 31 (dk_at dksX3_deep_2 0 rfl rfl)
theorem dX3_deep_49 : decode cX3_deep 49 = .ok (.aload_n 0, 1) := dk_42 (dk_at dksX3_deep_2 3 rfl rfl)
theorem dX3_deep_50 : decode cX3_deep 50 = .ok (.getfield 22, 3) := dk_180 0 22 (dk_at dksX3_deep_2 4 rfl rfl)
theorem dX3_deep_53 : decode cX3_deep 53 = .ok (.aload_n 0, 1) := dk_42 (dk_at dksX3_deep_2 7 rfl rfl)
theorem dX3_deep_54 : decode cX3_deep 54 = .ok (.getfield 13, 3) := dk_180 0 13 (dk_at dksX3_deep_2 8 rfl rfl)
theorem dX3_deep_57 : decode cX3_deep 57 = .ok (.iload 4, 2) := dk_21 4 (dk_at dksX3_deep_2 11 rfl rfl)
theorem dX3_deep_59 : decode cX3_deep 59 = .ok (.iaload, 1) := dk_46 (dk_at dksX3_deep_2 13 rfl rfl)
theorem dX3_deep_60 : decode cX3_deep 60 = .ok (.iload 5, 2) := dk_21 5 (dk_at dksX3_deep_2 14 rfl rfl)
theorem dX3_deep_62 : decode cX3_deep 62 = .ok (.iadd, 1) := dk_96 (dk_at dksX3_deep_2 16 rfl rfl)
theorem dX3_deep_63 : decode cX3_deep 63 = .ok (.aload_n 0, 1) := dk_42 (dk_at dksX3_deep_2 17 rfl rfl)
theorem dX3_deep_64 : decode cX3_deep 64 = .ok (.iconst 1, 1) := dk_4 (dk_at dksX3_deep_2 18 rfl rfl)
theorem dX3_deep_65 : decode cX3_deep 65 = .ok (.iload_n 3, 1) := dk_29 (dk_at dksX3_deep_2 19 rfl rfl)
theorem dX3_deep_66 : decode cX3_deep 66 = .ok (.invokevirtual 161, 3) := dk_182 0 161 (dk_at dksX3_deep_2 20 rfl rfl)
theorem dX3_deep_69 : decode cX3_deep 69 = .ok (.i2l, 1) := dk_133 (dk_at dksX3_deep_2 23 rfl rfl)
theorem dX3_deep_70 : decode cX3_deep 70 = .ok (.lastore, 1) := dk_80 (dk_at dksX3_deep_3 0 rfl rfl)
theorem dX3_deep_71 : decode cX3_deep 71 = .ok (.iinc 5 1, 3) := dk_132 5 1 (dk_at dksX3_deep_3 1 rfl rfl)
theorem dX3_deep_74 : decode cX3_deep 74 = .ok (.goto (-31), 3) := dk_167 255 225 (dk_at dksX3_deep_3 4 rfl rfl)
theorem dX3_deep_77 : decode cX3_deep 77 = .ok (.aload_n 0, 1) := dk_42 (dk_at dksX3_deep_3 7 rfl rfl)
theorem dX3_deep_78 : decode cX3_deep 78 = .ok (.getfield 26, 3) := dk_180 0 26 (dk_at dksX3_deep_3 8 rfl rfl)
theorem dX3_deep_81 : decode cX3_deep 81 = .ok (.iload_n 1, 1) := dk_27 (dk_at dksX3_deep_3 11 rfl rfl)
theorem dX3_deep_82 : decode cX3_deep 82 = .ok (.iload 4, 2) := dk_21 4 (dk_at dksX3_deep_3 12 rfl rfl)
theorem dX3_deep_84 : decode cX3_deep 84 = .ok (.iastore, 1) := dk_79 (dk_at dksX3_deep_3 14 rfl rfl)
theorem dX3_deep_85 : decode cX3_deep 85 = .ok (.iconst 0, 1) := dk_3 (dk_at dksX3_deep_3 15 rfl rfl)
theorem dX3_deep_86 : decode cX3_deep 86 = .ok (.ireturn, 1) := dk_172 (dk_at dksX3_deep_3 16 rfl rfl)
abbrev cX3_figure : ByteArray := prog_15_method_22_code
def yX3_figure : MethodName := ⟨RX3, "figure", "(III)I"⟩
def dkwX3_figure_1 : List UInt8 := [42, 180, 0, 19, 42, 180, 0, 26, 27, 46, 29, 79, 3, 172]
abbrev dktX3_figure_1 : List UInt8 := dkwX3_figure_1 ++ []
def dkwX3_figure_0 : List UInt8 := [42, 10, 9, 182, 0, 157, 154, 0, 6, 16, 8, 172, 42, 180, 0, 26, 27, 42, 28, 3, 182, 0, 161, 79]
abbrev dktX3_figure_0 : List UInt8 := dkwX3_figure_0 ++ dktX3_figure_1
theorem dksX3_figure_0 : cX3_figure.data.toList.drop 0 = dktX3_figure_0 := by decide +kernel
theorem dksX3_figure_1 : cX3_figure.data.toList.drop 24 = dktX3_figure_1 := dk_seg dksX3_figure_0 24 rfl rfl
theorem dX3_figure_0 : decode cX3_figure 0 = .ok (.aload_n 0, 1) := dk_42 (dk_at dksX3_figure_0 0 rfl rfl)
theorem dX3_figure_1 : decode cX3_figure 1 = .ok (.lconst 1, 1) := dk_10 (dk_at dksX3_figure_0 1 rfl rfl)
theorem dX3_figure_2 : decode cX3_figure 2 = .ok (.lconst 0, 1) := dk_9 (dk_at dksX3_figure_0 2 rfl rfl)
theorem dX3_figure_3 : decode cX3_figure 3 = .ok (.invokevirtual 157, 3) := dk_182 0 157 (dk_at dksX3_figure_0 3 rfl rfl)
theorem dX3_figure_6 : decode cX3_figure 6 = .ok (.ifCond .ne 6, 3) := dk_154 0 6 (dk_at dksX3_figure_0 6 rfl rfl)
theorem dX3_figure_9 : decode cX3_figure 9 = .ok (.bipush 8, 2) := dk_16 8 (dk_at dksX3_figure_0 9 rfl rfl)
theorem dX3_figure_11 : decode cX3_figure 11 = .ok (.ireturn, 1) := dk_172 (dk_at dksX3_figure_0 11 rfl rfl)
theorem dX3_figure_12 : decode cX3_figure 12 = .ok (.aload_n 0, 1) := dk_42 (dk_at dksX3_figure_0 12 rfl rfl)
theorem dX3_figure_13 : decode cX3_figure 13 = .ok (.getfield 26, 3) := dk_180 0 26 (dk_at dksX3_figure_0 13 rfl rfl)
theorem dX3_figure_16 : decode cX3_figure 16 = .ok (.iload_n 1, 1) := dk_27 (dk_at dksX3_figure_0 16 rfl rfl)
theorem dX3_figure_17 : decode cX3_figure 17 = .ok (.aload_n 0, 1) := dk_42 (dk_at dksX3_figure_0 17 rfl rfl)
theorem dX3_figure_18 : decode cX3_figure 18 = .ok (.iload_n 2, 1) := dk_28 (dk_at dksX3_figure_0 18 rfl rfl)
theorem dX3_figure_19 : decode cX3_figure 19 = .ok (.iconst 0, 1) := dk_3 (dk_at dksX3_figure_0 19 rfl rfl)
theorem dX3_figure_20 : decode cX3_figure 20 = .ok (.invokevirtual 161, 3) := dk_182 0 161 (dk_at dksX3_figure_0 20 rfl rfl)
theorem dX3_figure_23 : decode cX3_figure 23 = .ok (.iastore, 1) := dk_79 (dk_at dksX3_figure_0 23 rfl rfl)
theorem dX3_figure_24 : decode cX3_figure 24 = .ok (.aload_n 0, 1) := dk_42 (dk_at dksX3_figure_1 0 rfl rfl)
theorem dX3_figure_25 : decode cX3_figure 25 = .ok (.getfield 19, 3) := dk_180 0 19 (dk_at dksX3_figure_1 1 rfl rfl)
theorem dX3_figure_28 : decode cX3_figure 28 = .ok (.aload_n 0, 1) := dk_42 (dk_at dksX3_figure_1 4 rfl rfl)
theorem dX3_figure_29 : decode cX3_figure 29 = .ok (.getfield 26, 3) := dk_180 0 26 (dk_at dksX3_figure_1 5 rfl rfl)
theorem dX3_figure_32 : decode cX3_figure 32 = .ok (.iload_n 1, 1) := dk_27 (dk_at dksX3_figure_1 8 rfl rfl)
theorem dX3_figure_33 : decode cX3_figure 33 = .ok (.iaload, 1) := dk_46 (dk_at dksX3_figure_1 9 rfl rfl)
theorem dX3_figure_34 : decode cX3_figure 34 = .ok (.iload_n 3, 1) := dk_29 (dk_at dksX3_figure_1 10 rfl rfl)
theorem dX3_figure_35 : decode cX3_figure 35 = .ok (.iastore, 1) := dk_79 (dk_at dksX3_figure_1 11 rfl rfl)
theorem dX3_figure_36 : decode cX3_figure 36 = .ok (.iconst 0, 1) := dk_3 (dk_at dksX3_figure_1 12 rfl rfl)
theorem dX3_figure_37 : decode cX3_figure 37 = .ok (.ireturn, 1) := dk_172 (dk_at dksX3_figure_1 13 rfl rfl)
abbrev cX3_move : ByteArray := prog_15_method_34_code
def yX3_move : MethodName := ⟨RX3, "move", "(III)I"⟩
def dkwX3_move_1 : List UInt8 := [180, 0, 26, 27, 42, 180, 0, 26, 28, 46, 79, 21, 4, 172]
abbrev dktX3_move_1 : List UInt8 := dkwX3_move_1 ++ []
def dkwX3_move_0 : List UInt8 := [29, 154, 0, 7, 3, 167, 0, 9, 42, 28, 29, 182, 0, 150, 54, 4, 21, 4, 154, 0, 15, 42]
abbrev dktX3_move_0 : List UInt8 := dkwX3_move_0 ++ dktX3_move_1
theorem dksX3_move_0 : cX3_move.data.toList.drop 0 = dktX3_move_0 := by decide +kernel
theorem dksX3_move_1 : cX3_move.data.toList.drop 22 = dktX3_move_1 := dk_seg dksX3_move_0 22 rfl rfl
theorem dX3_move_0 : decode cX3_move 0 = .ok (.iload_n 3, 1) := dk_29 (dk_at dksX3_move_0 0 rfl rfl)
theorem dX3_move_1 : decode cX3_move 1 = .ok (.ifCond .ne 7, 3) := dk_154 0 7 (dk_at dksX3_move_0 1 rfl rfl)
theorem dX3_move_4 : decode cX3_move 4 = .ok (.iconst 0, 1) := dk_3 (dk_at dksX3_move_0 4 rfl rfl)
theorem dX3_move_5 : decode cX3_move 5 = .ok (.goto 9, 3) := dk_167 0 9 (dk_at dksX3_move_0 5 rfl rfl)
theorem dX3_move_8 : decode cX3_move 8 = .ok (.aload_n 0, 1) := dk_42 (dk_at dksX3_move_0 8 rfl rfl)
theorem dX3_move_9 : decode cX3_move 9 = .ok (.iload_n 2, 1) := dk_28 (dk_at dksX3_move_0 9 rfl rfl)
theorem dX3_move_10 : decode cX3_move 10 = .ok (.iload_n 3, 1) := dk_29 (dk_at dksX3_move_0 10 rfl rfl)
theorem dX3_move_11 : decode cX3_move 11 = .ok (.invokevirtual 150, 3) := dk_182 0 150 (dk_at dksX3_move_0 11 rfl rfl)
theorem dX3_move_14 : decode cX3_move 14 = .ok (.istore 4, 2) := dk_54 4 (dk_at dksX3_move_0 14 rfl rfl)
theorem dX3_move_16 : decode cX3_move 16 = .ok (.iload 4, 2) := dk_21 4 (dk_at dksX3_move_0 16 rfl rfl)
theorem dX3_move_18 : decode cX3_move 18 = .ok (.ifCond .ne 15, 3) := dk_154 0 15 (dk_at dksX3_move_0 18 rfl rfl)
theorem dX3_move_21 : decode cX3_move 21 = .ok (.aload_n 0, 1) := dk_42 (dk_at dksX3_move_0 21 rfl rfl)
theorem dX3_move_22 : decode cX3_move 22 = .ok (.getfield 26, 3) := dk_180 0 26 (dk_at dksX3_move_1 0 rfl rfl)
theorem dX3_move_25 : decode cX3_move 25 = .ok (.iload_n 1, 1) := dk_27 (dk_at dksX3_move_1 3 rfl rfl)
theorem dX3_move_26 : decode cX3_move 26 = .ok (.aload_n 0, 1) := dk_42 (dk_at dksX3_move_1 4 rfl rfl)
theorem dX3_move_27 : decode cX3_move 27 = .ok (.getfield 26, 3) := dk_180 0 26 (dk_at dksX3_move_1 5 rfl rfl)
theorem dX3_move_30 : decode cX3_move 30 = .ok (.iload_n 2, 1) := dk_28 (dk_at dksX3_move_1 8 rfl rfl)
theorem dX3_move_31 : decode cX3_move 31 = .ok (.iaload, 1) := dk_46 (dk_at dksX3_move_1 9 rfl rfl)
theorem dX3_move_32 : decode cX3_move 32 = .ok (.iastore, 1) := dk_79 (dk_at dksX3_move_1 10 rfl rfl)
theorem dX3_move_33 : decode cX3_move 33 = .ok (.iload 4, 2) := dk_21 4 (dk_at dksX3_move_1 11 rfl rfl)
theorem dX3_move_35 : decode cX3_move 35 = .ok (.ireturn, 1) := dk_172 (dk_at dksX3_move_1 13 rfl rfl)
abbrev cX3_as : ByteArray := prog_15_method_17_code
def yX3_as : MethodName := ⟨RX3, "as", "(II)I"⟩
def dkwX3_as_1 : List UInt8 := [167, 0, 4, 3, 172]
abbrev dktX3_as_1 : List UInt8 := dkwX3_as_1 ++ []
def dkwX3_as_0 : List UInt8 := [42, 180, 0, 26, 27, 46, 153, 0, 21, 42, 42, 180, 0, 26, 27, 46, 28, 182, 0, 146, 154, 0, 7, 5]
abbrev dktX3_as_0 : List UInt8 := dkwX3_as_0 ++ dktX3_as_1
theorem dksX3_as_0 : cX3_as.data.toList.drop 0 = dktX3_as_0 := by decide +kernel
theorem dksX3_as_1 : cX3_as.data.toList.drop 24 = dktX3_as_1 := dk_seg dksX3_as_0 24 rfl rfl
theorem dX3_as_0 : decode cX3_as 0 = .ok (.aload_n 0, 1) := dk_42 (dk_at dksX3_as_0 0 rfl rfl)
theorem dX3_as_1 : decode cX3_as 1 = .ok (.getfield 26, 3) := dk_180 0 26 (dk_at dksX3_as_0 1 rfl rfl)
theorem dX3_as_4 : decode cX3_as 4 = .ok (.iload_n 1, 1) := dk_27 (dk_at dksX3_as_0 4 rfl rfl)
theorem dX3_as_5 : decode cX3_as 5 = .ok (.iaload, 1) := dk_46 (dk_at dksX3_as_0 5 rfl rfl)
theorem dX3_as_6 : decode cX3_as 6 = .ok (.ifCond .eq 21, 3) := dk_153 0 21 (dk_at dksX3_as_0 6 rfl rfl)
theorem dX3_as_9 : decode cX3_as 9 = .ok (.aload_n 0, 1) := dk_42 (dk_at dksX3_as_0 9 rfl rfl)
theorem dX3_as_10 : decode cX3_as 10 = .ok (.aload_n 0, 1) := dk_42 (dk_at dksX3_as_0 10 rfl rfl)
theorem dX3_as_11 : decode cX3_as 11 = .ok (.getfield 26, 3) := dk_180 0 26 (dk_at dksX3_as_0 11 rfl rfl)
theorem dX3_as_14 : decode cX3_as 14 = .ok (.iload_n 1, 1) := dk_27 (dk_at dksX3_as_0 14 rfl rfl)
theorem dX3_as_15 : decode cX3_as 15 = .ok (.iaload, 1) := dk_46 (dk_at dksX3_as_0 15 rfl rfl)
theorem dX3_as_16 : decode cX3_as 16 = .ok (.iload_n 2, 1) := dk_28 (dk_at dksX3_as_0 16 rfl rfl)
theorem dX3_as_17 : decode cX3_as 17 = .ok (.invokevirtual 146, 3) := dk_182 0 146 (dk_at dksX3_as_0 17 rfl rfl)
theorem dX3_as_20 : decode cX3_as 20 = .ok (.ifCond .ne 7, 3) := dk_154 0 7 (dk_at dksX3_as_0 20 rfl rfl)
theorem dX3_as_23 : decode cX3_as 23 = .ok (.iconst 2, 1) := dk_5 (dk_at dksX3_as_0 23 rfl rfl)
theorem dX3_as_24 : decode cX3_as 24 = .ok (.goto 4, 3) := dk_167 0 4 (dk_at dksX3_as_1 0 rfl rfl)
theorem dX3_as_27 : decode cX3_as 27 = .ok (.iconst 0, 1) := dk_3 (dk_at dksX3_as_1 3 rfl rfl)
theorem dX3_as_28 : decode cX3_as 28 = .ok (.ireturn, 1) := dk_172 (dk_at dksX3_as_1 4 rfl rfl)
abbrev cX3_is : ByteArray := prog_15_method_6_code
def yX3_is : MethodName := ⟨RX3, "is", "(II)Z"⟩
def dkwX3_is_0 : List UInt8 := [28, 184, 0, 107, 42, 180, 0, 7, 27, 46, 122, 4, 126, 4, 160, 0, 7, 4, 167, 0, 4, 3, 172]
abbrev dktX3_is_0 : List UInt8 := dkwX3_is_0 ++ []
theorem dksX3_is_0 : cX3_is.data.toList.drop 0 = dktX3_is_0 := by decide +kernel
theorem dX3_is_0 : decode cX3_is 0 = .ok (.iload_n 2, 1) := dk_28 (dk_at dksX3_is_0 0 rfl rfl)
theorem dX3_is_1 : decode cX3_is 1 = .ok (.invokestatic 107, 3) := dk_184 0 107 (dk_at dksX3_is_0 1 rfl rfl)
theorem dX3_is_4 : decode cX3_is 4 = .ok (.aload_n 0, 1) := dk_42 (dk_at dksX3_is_0 4 rfl rfl)
theorem dX3_is_5 : decode cX3_is 5 = .ok (.getfield 7, 3) := dk_180 0 7 (dk_at dksX3_is_0 5 rfl rfl)
theorem dX3_is_8 : decode cX3_is 8 = .ok (.iload_n 1, 1) := dk_27 (dk_at dksX3_is_0 8 rfl rfl)
theorem dX3_is_9 : decode cX3_is 9 = .ok (.iaload, 1) := dk_46 (dk_at dksX3_is_0 9 rfl rfl)
theorem dX3_is_10 : decode cX3_is 10 = .ok (.ishr, 1) := dk_122 (dk_at dksX3_is_0 10 rfl rfl)
theorem dX3_is_11 : decode cX3_is 11 = .ok (.iconst 1, 1) := dk_4 (dk_at dksX3_is_0 11 rfl rfl)
theorem dX3_is_12 : decode cX3_is 12 = .ok (.iand, 1) := dk_126 (dk_at dksX3_is_0 12 rfl rfl)
theorem dX3_is_13 : decode cX3_is 13 = .ok (.iconst 1, 1) := dk_4 (dk_at dksX3_is_0 13 rfl rfl)
theorem dX3_is_14 : decode cX3_is 14 = .ok (.if_icmp .ne 7, 3) := dk_160 0 7 (dk_at dksX3_is_0 14 rfl rfl)
theorem dX3_is_17 : decode cX3_is 17 = .ok (.iconst 1, 1) := dk_4 (dk_at dksX3_is_0 17 rfl rfl)
theorem dX3_is_18 : decode cX3_is 18 = .ok (.goto 4, 3) := dk_167 0 4 (dk_at dksX3_is_0 18 rfl rfl)
theorem dX3_is_21 : decode cX3_is 21 = .ok (.iconst 0, 1) := dk_3 (dk_at dksX3_is_0 21 rfl rfl)
theorem dX3_is_22 : decode cX3_is 22 = .ok (.ireturn, 1) := dk_172 (dk_at dksX3_is_0 22 rfl rfl)
abbrev cX3_mask : ByteArray := prog_15_method_5_code
def yX3_mask : MethodName := ⟨RX3, "mask", "(I)I"⟩
def dkwX3_mask_1 : List UInt8 := [17, 0, 128, 167, 0, 4, 3, 128, 172]
abbrev dktX3_mask_1 : List UInt8 := dkwX3_mask_1 ++ []
def dkwX3_mask_0 : List UInt8 := [4, 26, 120, 26, 16, 8, 160, 0, 9, 17, 2, 0, 167, 0, 4, 3, 128, 26, 16, 6, 160, 0, 9]
abbrev dktX3_mask_0 : List UInt8 := dkwX3_mask_0 ++ dktX3_mask_1
theorem dksX3_mask_0 : cX3_mask.data.toList.drop 0 = dktX3_mask_0 := by decide +kernel
theorem dksX3_mask_1 : cX3_mask.data.toList.drop 23 = dktX3_mask_1 := dk_seg dksX3_mask_0 23 rfl rfl
theorem dX3_mask_0 : decode cX3_mask 0 = .ok (.iconst 1, 1) := dk_4 (dk_at dksX3_mask_0 0 rfl rfl)
theorem dX3_mask_1 : decode cX3_mask 1 = .ok (.iload_n 0, 1) := dk_26 (dk_at dksX3_mask_0 1 rfl rfl)
theorem dX3_mask_2 : decode cX3_mask 2 = .ok (.ishl, 1) := dk_120 (dk_at dksX3_mask_0 2 rfl rfl)
theorem dX3_mask_3 : decode cX3_mask 3 = .ok (.iload_n 0, 1) := dk_26 (dk_at dksX3_mask_0 3 rfl rfl)
theorem dX3_mask_4 : decode cX3_mask 4 = .ok (.bipush 8, 2) := dk_16 8 (dk_at dksX3_mask_0 4 rfl rfl)
theorem dX3_mask_6 : decode cX3_mask 6 = .ok (.if_icmp .ne 9, 3) := dk_160 0 9 (dk_at dksX3_mask_0 6 rfl rfl)
theorem dX3_mask_9 : decode cX3_mask 9 = .ok (.sipush 512, 3) := dk_17 2 0 (dk_at dksX3_mask_0 9 rfl rfl)
theorem dX3_mask_12 : decode cX3_mask 12 = .ok (.goto 4, 3) := dk_167 0 4 (dk_at dksX3_mask_0 12 rfl rfl)
theorem dX3_mask_15 : decode cX3_mask 15 = .ok (.iconst 0, 1) := dk_3 (dk_at dksX3_mask_0 15 rfl rfl)
theorem dX3_mask_16 : decode cX3_mask 16 = .ok (.ior, 1) := dk_128 (dk_at dksX3_mask_0 16 rfl rfl)
theorem dX3_mask_17 : decode cX3_mask 17 = .ok (.iload_n 0, 1) := dk_26 (dk_at dksX3_mask_0 17 rfl rfl)
theorem dX3_mask_18 : decode cX3_mask 18 = .ok (.bipush 6, 2) := dk_16 6 (dk_at dksX3_mask_0 18 rfl rfl)
theorem dX3_mask_20 : decode cX3_mask 20 = .ok (.if_icmp .ne 9, 3) := dk_160 0 9 (dk_at dksX3_mask_0 20 rfl rfl)
theorem dX3_mask_23 : decode cX3_mask 23 = .ok (.sipush 128, 3) := dk_17 0 128 (dk_at dksX3_mask_1 0 rfl rfl)
theorem dX3_mask_26 : decode cX3_mask 26 = .ok (.goto 4, 3) := dk_167 0 4 (dk_at dksX3_mask_1 3 rfl rfl)
theorem dX3_mask_29 : decode cX3_mask 29 = .ok (.iconst 0, 1) := dk_3 (dk_at dksX3_mask_1 6 rfl rfl)
theorem dX3_mask_30 : decode cX3_mask 30 = .ok (.ior, 1) := dk_128 (dk_at dksX3_mask_1 7 rfl rfl)
theorem dX3_mask_31 : decode cX3_mask 31 = .ok (.ireturn, 1) := dk_172 (dk_at dksX3_mask_1 8 rfl rfl)
abbrev cX3_get : ByteArray := prog_15_method_29_code
def yX3_get : MethodName := ⟨RX3, "get", "(IIII)I"⟩
def dkwX3_get_1 : List UInt8 := [42, 180, 0, 13, 42, 180, 0, 26, 28, 46, 46, 21, 4, 96, 47, 80, 21, 5, 172]
abbrev dktX3_get_1 : List UInt8 := dkwX3_get_1 ++ []
def dkwX3_get_0 : List UInt8 := [42, 28, 29, 21, 4, 182, 0, 170, 54, 5, 21, 5, 154, 0, 28, 42, 180, 0, 29, 27, 42, 180, 0, 22]
abbrev dktX3_get_0 : List UInt8 := dkwX3_get_0 ++ dktX3_get_1
theorem dksX3_get_0 : cX3_get.data.toList.drop 0 = dktX3_get_0 := by decide +kernel
theorem dksX3_get_1 : cX3_get.data.toList.drop 24 = dktX3_get_1 := dk_seg dksX3_get_0 24 rfl rfl
theorem dX3_get_0 : decode cX3_get 0 = .ok (.aload_n 0, 1) := dk_42 (dk_at dksX3_get_0 0 rfl rfl)
theorem dX3_get_1 : decode cX3_get 1 = .ok (.iload_n 2, 1) := dk_28 (dk_at dksX3_get_0 1 rfl rfl)
theorem dX3_get_2 : decode cX3_get 2 = .ok (.iload_n 3, 1) := dk_29 (dk_at dksX3_get_0 2 rfl rfl)
theorem dX3_get_3 : decode cX3_get 3 = .ok (.iload 4, 2) := dk_21 4 (dk_at dksX3_get_0 3 rfl rfl)
theorem dX3_get_5 : decode cX3_get 5 = .ok (.invokevirtual 170, 3) := dk_182 0 170 (dk_at dksX3_get_0 5 rfl rfl)
theorem dX3_get_8 : decode cX3_get 8 = .ok (.istore 5, 2) := dk_54 5 (dk_at dksX3_get_0 8 rfl rfl)
theorem dX3_get_10 : decode cX3_get 10 = .ok (.iload 5, 2) := dk_21 5 (dk_at dksX3_get_0 10 rfl rfl)
theorem dX3_get_12 : decode cX3_get 12 = .ok (.ifCond .ne 28, 3) := dk_154 0 28 (dk_at dksX3_get_0 12 rfl rfl)
theorem dX3_get_15 : decode cX3_get 15 = .ok (.aload_n 0, 1) := dk_42 (dk_at dksX3_get_0 15 rfl rfl)
theorem dX3_get_16 : decode cX3_get 16 = .ok (.getfield 29, 3) := dk_180 0 29 (dk_at dksX3_get_0 16 rfl rfl)
theorem dX3_get_19 : decode cX3_get 19 = .ok (.iload_n 1, 1) := dk_27 (dk_at dksX3_get_0 19 rfl rfl)
theorem dX3_get_20 : decode cX3_get 20 = .ok (.aload_n 0, 1) := dk_42 (dk_at dksX3_get_0 20 rfl rfl)
theorem dX3_get_21 : decode cX3_get 21 = .ok (.getfield 22, 3) := dk_180 0 22 (dk_at dksX3_get_0 21 rfl rfl)
theorem dX3_get_24 : decode cX3_get 24 = .ok (.aload_n 0, 1) := dk_42 (dk_at dksX3_get_1 0 rfl rfl)
theorem dX3_get_25 : decode cX3_get 25 = .ok (.getfield 13, 3) := dk_180 0 13 (dk_at dksX3_get_1 1 rfl rfl)
theorem dX3_get_28 : decode cX3_get 28 = .ok (.aload_n 0, 1) := dk_42 (dk_at dksX3_get_1 4 rfl rfl)
theorem dX3_get_29 : decode cX3_get 29 = .ok (.getfield 26, 3) := dk_180 0 26 (dk_at dksX3_get_1 5 rfl rfl)
theorem dX3_get_32 : decode cX3_get 32 = .ok (.iload_n 2, 1) := dk_28 (dk_at dksX3_get_1 8 rfl rfl)
theorem dX3_get_33 : decode cX3_get 33 = .ok (.iaload, 1) := dk_46 (dk_at dksX3_get_1 9 rfl rfl)
theorem dX3_get_34 : decode cX3_get 34 = .ok (.iaload, 1) := dk_46 (dk_at dksX3_get_1 10 rfl rfl)
theorem dX3_get_35 : decode cX3_get 35 = .ok (.iload 4, 2) := dk_21 4 (dk_at dksX3_get_1 11 rfl rfl)
theorem dX3_get_37 : decode cX3_get 37 = .ok (.iadd, 1) := dk_96 (dk_at dksX3_get_1 13 rfl rfl)
theorem dX3_get_38 : decode cX3_get 38 = .ok (.laload, 1) := dk_47 (dk_at dksX3_get_1 14 rfl rfl)
theorem dX3_get_39 : decode cX3_get 39 = .ok (.lastore, 1) := dk_80 (dk_at dksX3_get_1 15 rfl rfl)
theorem dX3_get_40 : decode cX3_get 40 = .ok (.iload 5, 2) := dk_21 5 (dk_at dksX3_get_1 16 rfl rfl)
theorem dX3_get_42 : decode cX3_get 42 = .ok (.ireturn, 1) := dk_172 (dk_at dksX3_get_1 18 rfl rfl)
abbrev cX3_itemOf : ByteArray := prog_15_method_19_code
def yX3_itemOf : MethodName := ⟨RX3, "itemOf", "(III)I"⟩
def dkwX3_itemOf_1 : List UInt8 := [42, 180, 0, 26, 27, 46, 46, 4, 100, 184, 0, 103, 153, 0, 7, 3, 167, 0, 4, 6, 172]
abbrev dktX3_itemOf_1 : List UInt8 := dkwX3_itemOf_1 ++ []
def dkwX3_itemOf_0 : List UInt8 := [42, 27, 28, 182, 0, 154, 54, 4, 21, 4, 153, 0, 8, 21, 4, 167, 0, 29, 29, 3, 42, 180, 0, 16]
abbrev dktX3_itemOf_0 : List UInt8 := dkwX3_itemOf_0 ++ dktX3_itemOf_1
theorem dksX3_itemOf_0 : cX3_itemOf.data.toList.drop 0 = dktX3_itemOf_0 := by decide +kernel
theorem dksX3_itemOf_1 : cX3_itemOf.data.toList.drop 24 = dktX3_itemOf_1 := dk_seg dksX3_itemOf_0 24 rfl rfl
theorem dX3_itemOf_0 : decode cX3_itemOf 0 = .ok (.aload_n 0, 1) := dk_42 (dk_at dksX3_itemOf_0 0 rfl rfl)
theorem dX3_itemOf_1 : decode cX3_itemOf 1 = .ok (.iload_n 1, 1) := dk_27 (dk_at dksX3_itemOf_0 1 rfl rfl)
theorem dX3_itemOf_2 : decode cX3_itemOf 2 = .ok (.iload_n 2, 1) := dk_28 (dk_at dksX3_itemOf_0 2 rfl rfl)
theorem dX3_itemOf_3 : decode cX3_itemOf 3 = .ok (.invokevirtual 154, 3) := dk_182 0 154 (dk_at dksX3_itemOf_0 3 rfl rfl)
theorem dX3_itemOf_6 : decode cX3_itemOf 6 = .ok (.istore 4, 2) := dk_54 4 (dk_at dksX3_itemOf_0 6 rfl rfl)
theorem dX3_itemOf_8 : decode cX3_itemOf 8 = .ok (.iload 4, 2) := dk_21 4 (dk_at dksX3_itemOf_0 8 rfl rfl)
theorem dX3_itemOf_10 : decode cX3_itemOf 10 = .ok (.ifCond .eq 8, 3) := dk_153 0 8 (dk_at dksX3_itemOf_0 10 rfl rfl)
theorem dX3_itemOf_13 : decode cX3_itemOf 13 = .ok (.iload 4, 2) := dk_21 4 (dk_at dksX3_itemOf_0 13 rfl rfl)
theorem dX3_itemOf_15 : decode cX3_itemOf 15 = .ok (.goto 29, 3) := dk_167 0 29 (dk_at dksX3_itemOf_0 15 rfl rfl)
theorem dX3_itemOf_18 : decode cX3_itemOf 18 = .ok (.iload_n 3, 1) := dk_29 (dk_at dksX3_itemOf_0 18 rfl rfl)
theorem dX3_itemOf_19 : decode cX3_itemOf 19 = .ok (.iconst 0, 1) := dk_3 (dk_at dksX3_itemOf_0 19 rfl rfl)
theorem dX3_itemOf_20 : decode cX3_itemOf 20 = .ok (.aload_n 0, 1) := dk_42 (dk_at dksX3_itemOf_0 20 rfl rfl)
theorem dX3_itemOf_21 : decode cX3_itemOf 21 = .ok (.getfield 16, 3) := dk_180 0 16 (dk_at dksX3_itemOf_0 21 rfl rfl)
theorem dX3_itemOf_24 : decode cX3_itemOf 24 = .ok (.aload_n 0, 1) := dk_42 (dk_at dksX3_itemOf_1 0 rfl rfl)
theorem dX3_itemOf_25 : decode cX3_itemOf 25 = .ok (.getfield 26, 3) := dk_180 0 26 (dk_at dksX3_itemOf_1 1 rfl rfl)
theorem dX3_itemOf_28 : decode cX3_itemOf 28 = .ok (.iload_n 1, 1) := dk_27 (dk_at dksX3_itemOf_1 4 rfl rfl)
theorem dX3_itemOf_29 : decode cX3_itemOf 29 = .ok (.iaload, 1) := dk_46 (dk_at dksX3_itemOf_1 5 rfl rfl)
theorem dX3_itemOf_30 : decode cX3_itemOf 30 = .ok (.iaload, 1) := dk_46 (dk_at dksX3_itemOf_1 6 rfl rfl)
theorem dX3_itemOf_31 : decode cX3_itemOf 31 = .ok (.iconst 1, 1) := dk_4 (dk_at dksX3_itemOf_1 7 rfl rfl)
theorem dX3_itemOf_32 : decode cX3_itemOf 32 = .ok (.isub, 1) := dk_100 (dk_at dksX3_itemOf_1 8 rfl rfl)
theorem dX3_itemOf_33 : decode cX3_itemOf 33 = .ok (.invokestatic 103, 3) := dk_184 0 103 (dk_at dksX3_itemOf_1 9 rfl rfl)
theorem dX3_itemOf_36 : decode cX3_itemOf 36 = .ok (.ifCond .eq 7, 3) := dk_153 0 7 (dk_at dksX3_itemOf_1 12 rfl rfl)
theorem dX3_itemOf_39 : decode cX3_itemOf 39 = .ok (.iconst 0, 1) := dk_3 (dk_at dksX3_itemOf_1 15 rfl rfl)
theorem dX3_itemOf_40 : decode cX3_itemOf 40 = .ok (.goto 4, 3) := dk_167 0 4 (dk_at dksX3_itemOf_1 16 rfl rfl)
theorem dX3_itemOf_43 : decode cX3_itemOf 43 = .ok (.iconst 3, 1) := dk_6 (dk_at dksX3_itemOf_1 19 rfl rfl)
theorem dX3_itemOf_44 : decode cX3_itemOf 44 = .ok (.ireturn, 1) := dk_172 (dk_at dksX3_itemOf_1 20 rfl rfl)
abbrev cX3_row : ByteArray := prog_15_method_18_code
def yX3_row : MethodName := ⟨RX3, "row", "(II)I"⟩
def dkwX3_row_1 : List UInt8 := [167, 0, 4, 3, 172]
abbrev dktX3_row_1 : List UInt8 := dkwX3_row_1 ++ []
def dkwX3_row_0 : List UInt8 := [42, 27, 28, 182, 0, 150, 153, 0, 7, 5, 167, 0, 17, 42, 180, 0, 26, 27, 46, 154, 0, 7, 4]
abbrev dktX3_row_0 : List UInt8 := dkwX3_row_0 ++ dktX3_row_1
theorem dksX3_row_0 : cX3_row.data.toList.drop 0 = dktX3_row_0 := by decide +kernel
theorem dksX3_row_1 : cX3_row.data.toList.drop 23 = dktX3_row_1 := dk_seg dksX3_row_0 23 rfl rfl
theorem dX3_row_0 : decode cX3_row 0 = .ok (.aload_n 0, 1) := dk_42 (dk_at dksX3_row_0 0 rfl rfl)
theorem dX3_row_1 : decode cX3_row 1 = .ok (.iload_n 1, 1) := dk_27 (dk_at dksX3_row_0 1 rfl rfl)
theorem dX3_row_2 : decode cX3_row 2 = .ok (.iload_n 2, 1) := dk_28 (dk_at dksX3_row_0 2 rfl rfl)
theorem dX3_row_3 : decode cX3_row 3 = .ok (.invokevirtual 150, 3) := dk_182 0 150 (dk_at dksX3_row_0 3 rfl rfl)
theorem dX3_row_6 : decode cX3_row 6 = .ok (.ifCond .eq 7, 3) := dk_153 0 7 (dk_at dksX3_row_0 6 rfl rfl)
theorem dX3_row_9 : decode cX3_row 9 = .ok (.iconst 2, 1) := dk_5 (dk_at dksX3_row_0 9 rfl rfl)
theorem dX3_row_10 : decode cX3_row 10 = .ok (.goto 17, 3) := dk_167 0 17 (dk_at dksX3_row_0 10 rfl rfl)
theorem dX3_row_13 : decode cX3_row 13 = .ok (.aload_n 0, 1) := dk_42 (dk_at dksX3_row_0 13 rfl rfl)
theorem dX3_row_14 : decode cX3_row 14 = .ok (.getfield 26, 3) := dk_180 0 26 (dk_at dksX3_row_0 14 rfl rfl)
theorem dX3_row_17 : decode cX3_row 17 = .ok (.iload_n 1, 1) := dk_27 (dk_at dksX3_row_0 17 rfl rfl)
theorem dX3_row_18 : decode cX3_row 18 = .ok (.iaload, 1) := dk_46 (dk_at dksX3_row_0 18 rfl rfl)
theorem dX3_row_19 : decode cX3_row 19 = .ok (.ifCond .ne 7, 3) := dk_154 0 7 (dk_at dksX3_row_0 19 rfl rfl)
theorem dX3_row_22 : decode cX3_row 22 = .ok (.iconst 1, 1) := dk_4 (dk_at dksX3_row_0 22 rfl rfl)
theorem dX3_row_23 : decode cX3_row 23 = .ok (.goto 4, 3) := dk_167 0 4 (dk_at dksX3_row_1 0 rfl rfl)
theorem dX3_row_26 : decode cX3_row 26 = .ok (.iconst 0, 1) := dk_3 (dk_at dksX3_row_1 3 rfl rfl)
theorem dX3_row_27 : decode cX3_row 27 = .ok (.ireturn, 1) := dk_172 (dk_at dksX3_row_1 4 rfl rfl)
abbrev cX3_set : ByteArray := prog_15_method_30_code
def yX3_set : MethodName := ⟨RX3, "set", "(IIII)I"⟩
def dkwX3_set_1 : List UInt8 := [180, 0, 26, 27, 46, 46, 29, 96, 28, 42, 180, 0, 29, 21, 4, 47, 184, 0, 182, 80, 21, 5, 172]
abbrev dktX3_set_1 : List UInt8 := dkwX3_set_1 ++ []
def dkwX3_set_0 : List UInt8 := [42, 27, 28, 29, 182, 0, 170, 54, 5, 21, 5, 154, 0, 32, 42, 180, 0, 22, 42, 180, 0, 13, 42]
abbrev dktX3_set_0 : List UInt8 := dkwX3_set_0 ++ dktX3_set_1
theorem dksX3_set_0 : cX3_set.data.toList.drop 0 = dktX3_set_0 := by decide +kernel
theorem dksX3_set_1 : cX3_set.data.toList.drop 23 = dktX3_set_1 := dk_seg dksX3_set_0 23 rfl rfl
theorem dX3_set_0 : decode cX3_set 0 = .ok (.aload_n 0, 1) := dk_42 (dk_at dksX3_set_0 0 rfl rfl)
theorem dX3_set_1 : decode cX3_set 1 = .ok (.iload_n 1, 1) := dk_27 (dk_at dksX3_set_0 1 rfl rfl)
theorem dX3_set_2 : decode cX3_set 2 = .ok (.iload_n 2, 1) := dk_28 (dk_at dksX3_set_0 2 rfl rfl)
theorem dX3_set_3 : decode cX3_set 3 = .ok (.iload_n 3, 1) := dk_29 (dk_at dksX3_set_0 3 rfl rfl)
theorem dX3_set_4 : decode cX3_set 4 = .ok (.invokevirtual 170, 3) := dk_182 0 170 (dk_at dksX3_set_0 4 rfl rfl)
theorem dX3_set_7 : decode cX3_set 7 = .ok (.istore 5, 2) := dk_54 5 (dk_at dksX3_set_0 7 rfl rfl)
theorem dX3_set_9 : decode cX3_set 9 = .ok (.iload 5, 2) := dk_21 5 (dk_at dksX3_set_0 9 rfl rfl)
theorem dX3_set_11 : decode cX3_set 11 = .ok (.ifCond .ne 32, 3) := dk_154 0 32 (dk_at dksX3_set_0 11 rfl rfl)
theorem dX3_set_14 : decode cX3_set 14 = .ok (.aload_n 0, 1) := dk_42 (dk_at dksX3_set_0 14 rfl rfl)
theorem dX3_set_15 : decode cX3_set 15 = .ok (.getfield 22, 3) := dk_180 0 22 (dk_at dksX3_set_0 15 rfl rfl)
theorem dX3_set_18 : decode cX3_set 18 = .ok (.aload_n 0, 1) := dk_42 (dk_at dksX3_set_0 18 rfl rfl)
theorem dX3_set_19 : decode cX3_set 19 = .ok (.getfield 13, 3) := dk_180 0 13 (dk_at dksX3_set_0 19 rfl rfl)
theorem dX3_set_22 : decode cX3_set 22 = .ok (.aload_n 0, 1) := dk_42 (dk_at dksX3_set_0 22 rfl rfl)
theorem dX3_set_23 : decode cX3_set 23 = .ok (.getfield 26, 3) := dk_180 0 26 (dk_at dksX3_set_1 0 rfl rfl)
theorem dX3_set_26 : decode cX3_set 26 = .ok (.iload_n 1, 1) := dk_27 (dk_at dksX3_set_1 3 rfl rfl)
theorem dX3_set_27 : decode cX3_set 27 = .ok (.iaload, 1) := dk_46 (dk_at dksX3_set_1 4 rfl rfl)
theorem dX3_set_28 : decode cX3_set 28 = .ok (.iaload, 1) := dk_46 (dk_at dksX3_set_1 5 rfl rfl)
theorem dX3_set_29 : decode cX3_set 29 = .ok (.iload_n 3, 1) := dk_29 (dk_at dksX3_set_1 6 rfl rfl)
theorem dX3_set_30 : decode cX3_set 30 = .ok (.iadd, 1) := dk_96 (dk_at dksX3_set_1 7 rfl rfl)
theorem dX3_set_31 : decode cX3_set 31 = .ok (.iload_n 2, 1) := dk_28 (dk_at dksX3_set_1 8 rfl rfl)
theorem dX3_set_32 : decode cX3_set 32 = .ok (.aload_n 0, 1) := dk_42 (dk_at dksX3_set_1 9 rfl rfl)
theorem dX3_set_33 : decode cX3_set 33 = .ok (.getfield 29, 3) := dk_180 0 29 (dk_at dksX3_set_1 10 rfl rfl)
theorem dX3_set_36 : decode cX3_set 36 = .ok (.iload 4, 2) := dk_21 4 (dk_at dksX3_set_1 13 rfl rfl)
theorem dX3_set_38 : decode cX3_set 38 = .ok (.laload, 1) := dk_47 (dk_at dksX3_set_1 15 rfl rfl)
theorem dX3_set_39 : decode cX3_set 39 = .ok (.invokestatic 182, 3) := dk_184 0 182 (dk_at dksX3_set_1 16 rfl rfl)
theorem dX3_set_42 : decode cX3_set 42 = .ok (.lastore, 1) := dk_80 (dk_at dksX3_set_1 19 rfl rfl)
theorem dX3_set_43 : decode cX3_set 43 = .ok (.iload 5, 2) := dk_21 5 (dk_at dksX3_set_1 20 rfl rfl)
theorem dX3_set_45 : decode cX3_set 45 = .ok (.ireturn, 1) := dk_172 (dk_at dksX3_set_1 22 rfl rfl)
abbrev cX3_told : ByteArray := prog_15_method_23_code
def yX3_told : MethodName := ⟨RX3, "told", "(IJ)J"⟩
def dkwX3_told_3 : List UInt8 := [167, 0, 4, 31, 173]
abbrev dktX3_told_3 : List UInt8 := dkwX3_told_3 ++ []
def dkwX3_told_2 : List UInt8 := [160, 0, 10, 31, 136, 145, 133, 167, 0, 19, 26, 7, 160, 0, 13, 29, 153, 0, 9, 20, 0, 168]
abbrev dktX3_told_2 : List UInt8 := dkwX3_told_2 ++ dktX3_told_3
def dkwX3_told_1 : List UInt8 := [153, 0, 7, 4, 167, 0, 4, 3, 62, 26, 4, 160, 0, 9, 31, 136, 133, 167, 0, 31, 26, 5]
abbrev dktX3_told_1 : List UInt8 := dkwX3_told_1 ++ dktX3_told_2
def dkwX3_told_0 : List UInt8 := [31, 16, 52, 123, 20, 0, 164, 127, 20, 0, 164, 148, 154, 0, 17, 31, 20, 0, 166, 127, 9, 148]
abbrev dktX3_told_0 : List UInt8 := dkwX3_told_0 ++ dktX3_told_1
theorem dksX3_told_0 : cX3_told.data.toList.drop 0 = dktX3_told_0 := by decide +kernel
theorem dksX3_told_1 : cX3_told.data.toList.drop 22 = dktX3_told_1 := dk_seg dksX3_told_0 22 rfl rfl
theorem dksX3_told_2 : cX3_told.data.toList.drop 44 = dktX3_told_2 := dk_seg dksX3_told_1 22 rfl rfl
theorem dksX3_told_3 : cX3_told.data.toList.drop 66 = dktX3_told_3 := dk_seg dksX3_told_2 22 rfl rfl
theorem dX3_told_0 : decode cX3_told 0 = .ok (.lload_n 1, 1) := dk_31 (dk_at dksX3_told_0 0 rfl rfl)
theorem dX3_told_1 : decode cX3_told 1 = .ok (.bipush 52, 2) := dk_16 52 (dk_at dksX3_told_0 1 rfl rfl)
theorem dX3_told_3 : decode cX3_told 3 = .ok (.lshr, 1) := dk_123 (dk_at dksX3_told_0 3 rfl rfl)
theorem dX3_told_4 : decode cX3_told 4 = .ok (.ldc2_w 164, 3) := dk_20 0 164 (dk_at dksX3_told_0 4 rfl rfl)
theorem dX3_told_7 : decode cX3_told 7 = .ok (.land, 1) := dk_127 (dk_at dksX3_told_0 7 rfl rfl)
theorem dX3_told_8 : decode cX3_told 8 = .ok (.ldc2_w 164, 3) := dk_20 0 164 (dk_at dksX3_told_0 8 rfl rfl)
theorem dX3_told_11 : decode cX3_told 11 = .ok (.lcmp, 1) := dk_148 (dk_at dksX3_told_0 11 rfl rfl)
theorem dX3_told_12 : decode cX3_told 12 = .ok (.ifCond .ne 17, 3) := dk_154 0 17 (dk_at dksX3_told_0 12 rfl rfl)
theorem dX3_told_15 : decode cX3_told 15 = .ok (.lload_n 1, 1) := dk_31 (dk_at dksX3_told_0 15 rfl rfl)
theorem dX3_told_16 : decode cX3_told 16 = .ok (.ldc2_w 166, 3) := dk_20 0 166 (dk_at dksX3_told_0 16 rfl rfl)
theorem dX3_told_19 : decode cX3_told 19 = .ok (.land, 1) := dk_127 (dk_at dksX3_told_0 19 rfl rfl)
theorem dX3_told_20 : decode cX3_told 20 = .ok (.lconst 0, 1) := dk_9 (dk_at dksX3_told_0 20 rfl rfl)
theorem dX3_told_21 : decode cX3_told 21 = .ok (.lcmp, 1) := dk_148 (dk_at dksX3_told_0 21 rfl rfl)
theorem dX3_told_22 : decode cX3_told 22 = .ok (.ifCond .eq 7, 3) := dk_153 0 7 (dk_at dksX3_told_1 0 rfl rfl)
theorem dX3_told_25 : decode cX3_told 25 = .ok (.iconst 1, 1) := dk_4 (dk_at dksX3_told_1 3 rfl rfl)
theorem dX3_told_26 : decode cX3_told 26 = .ok (.goto 4, 3) := dk_167 0 4 (dk_at dksX3_told_1 4 rfl rfl)
theorem dX3_told_29 : decode cX3_told 29 = .ok (.iconst 0, 1) := dk_3 (dk_at dksX3_told_1 7 rfl rfl)
theorem dX3_told_30 : decode cX3_told 30 = .ok (.istore_n 3, 1) := dk_62 (dk_at dksX3_told_1 8 rfl rfl)
theorem dX3_told_31 : decode cX3_told 31 = .ok (.iload_n 0, 1) := dk_26 (dk_at dksX3_told_1 9 rfl rfl)
theorem dX3_told_32 : decode cX3_told 32 = .ok (.iconst 1, 1) := dk_4 (dk_at dksX3_told_1 10 rfl rfl)
theorem dX3_told_33 : decode cX3_told 33 = .ok (.if_icmp .ne 9, 3) := dk_160 0 9 (dk_at dksX3_told_1 11 rfl rfl)
theorem dX3_told_36 : decode cX3_told 36 = .ok (.lload_n 1, 1) := dk_31 (dk_at dksX3_told_1 14 rfl rfl)
theorem dX3_told_37 : decode cX3_told 37 = .ok (.l2i, 1) := dk_136 (dk_at dksX3_told_1 15 rfl rfl)
theorem dX3_told_38 : decode cX3_told 38 = .ok (.i2l, 1) := dk_133 (dk_at dksX3_told_1 16 rfl rfl)
theorem dX3_told_39 : decode cX3_told 39 = .ok (.goto 31, 3) := dk_167 0 31 (dk_at dksX3_told_1 17 rfl rfl)
theorem dX3_told_42 : decode cX3_told 42 = .ok (.iload_n 0, 1) := dk_26 (dk_at dksX3_told_1 20 rfl rfl)
theorem dX3_told_43 : decode cX3_told 43 = .ok (.iconst 2, 1) := dk_5 (dk_at dksX3_told_1 21 rfl rfl)
theorem dX3_told_44 : decode cX3_told 44 = .ok (.if_icmp .ne 10, 3) := dk_160 0 10 (dk_at dksX3_told_2 0 rfl rfl)
theorem dX3_told_47 : decode cX3_told 47 = .ok (.lload_n 1, 1) := dk_31 (dk_at dksX3_told_2 3 rfl rfl)
theorem dX3_told_48 : decode cX3_told 48 = .ok (.l2i, 1) := dk_136 (dk_at dksX3_told_2 4 rfl rfl)
theorem dX3_told_49 : decode cX3_told 49 = .ok (.i2b, 1) := dk_145 (dk_at dksX3_told_2 5 rfl rfl)
theorem dX3_told_50 : decode cX3_told 50 = .ok (.i2l, 1) := dk_133 (dk_at dksX3_told_2 6 rfl rfl)
theorem dX3_told_51 : decode cX3_told 51 = .ok (.goto 19, 3) := dk_167 0 19 (dk_at dksX3_told_2 7 rfl rfl)
theorem dX3_told_54 : decode cX3_told 54 = .ok (.iload_n 0, 1) := dk_26 (dk_at dksX3_told_2 10 rfl rfl)
theorem dX3_told_55 : decode cX3_told 55 = .ok (.iconst 4, 1) := dk_7 (dk_at dksX3_told_2 11 rfl rfl)
theorem dX3_told_56 : decode cX3_told 56 = .ok (.if_icmp .ne 13, 3) := dk_160 0 13 (dk_at dksX3_told_2 12 rfl rfl)
theorem dX3_told_59 : decode cX3_told 59 = .ok (.iload_n 3, 1) := dk_29 (dk_at dksX3_told_2 15 rfl rfl)
theorem dX3_told_60 : decode cX3_told 60 = .ok (.ifCond .eq 9, 3) := dk_153 0 9 (dk_at dksX3_told_2 16 rfl rfl)
theorem dX3_told_63 : decode cX3_told 63 = .ok (.ldc2_w 168, 3) := dk_20 0 168 (dk_at dksX3_told_2 19 rfl rfl)
theorem dX3_told_66 : decode cX3_told 66 = .ok (.goto 4, 3) := dk_167 0 4 (dk_at dksX3_told_3 0 rfl rfl)
theorem dX3_told_69 : decode cX3_told 69 = .ok (.lload_n 1, 1) := dk_31 (dk_at dksX3_told_3 3 rfl rfl)
theorem dX3_told_70 : decode cX3_told 70 = .ok (.lreturn, 1) := dk_173 (dk_at dksX3_told_3 4 rfl rfl)
abbrev cX3_take : ByteArray := prog_15_method_31_code
def yX3_take : MethodName := ⟨RX3, "take", "(IIII)I"⟩
def dkwX3_take_1 : List UInt8 := [42, 180, 0, 13, 42, 180, 0, 26, 28, 46, 46, 21, 4, 96, 47, 136, 79, 21, 5, 172]
abbrev dktX3_take_1 : List UInt8 := dkwX3_take_1 ++ []
def dkwX3_take_0 : List UInt8 := [42, 28, 29, 21, 4, 182, 0, 170, 54, 5, 21, 5, 154, 0, 29, 42, 180, 0, 26, 27, 42, 180, 0, 22]
abbrev dktX3_take_0 : List UInt8 := dkwX3_take_0 ++ dktX3_take_1
theorem dksX3_take_0 : cX3_take.data.toList.drop 0 = dktX3_take_0 := by decide +kernel
theorem dksX3_take_1 : cX3_take.data.toList.drop 24 = dktX3_take_1 := dk_seg dksX3_take_0 24 rfl rfl
theorem dX3_take_0 : decode cX3_take 0 = .ok (.aload_n 0, 1) := dk_42 (dk_at dksX3_take_0 0 rfl rfl)
theorem dX3_take_1 : decode cX3_take 1 = .ok (.iload_n 2, 1) := dk_28 (dk_at dksX3_take_0 1 rfl rfl)
theorem dX3_take_2 : decode cX3_take 2 = .ok (.iload_n 3, 1) := dk_29 (dk_at dksX3_take_0 2 rfl rfl)
theorem dX3_take_3 : decode cX3_take 3 = .ok (.iload 4, 2) := dk_21 4 (dk_at dksX3_take_0 3 rfl rfl)
theorem dX3_take_5 : decode cX3_take 5 = .ok (.invokevirtual 170, 3) := dk_182 0 170 (dk_at dksX3_take_0 5 rfl rfl)
theorem dX3_take_8 : decode cX3_take 8 = .ok (.istore 5, 2) := dk_54 5 (dk_at dksX3_take_0 8 rfl rfl)
theorem dX3_take_10 : decode cX3_take 10 = .ok (.iload 5, 2) := dk_21 5 (dk_at dksX3_take_0 10 rfl rfl)
theorem dX3_take_12 : decode cX3_take 12 = .ok (.ifCond .ne 29, 3) := dk_154 0 29 (dk_at dksX3_take_0 12 rfl rfl)
theorem dX3_take_15 : decode cX3_take 15 = .ok (.aload_n 0, 1) := dk_42 (dk_at dksX3_take_0 15 rfl rfl)
theorem dX3_take_16 : decode cX3_take 16 = .ok (.getfield 26, 3) := dk_180 0 26 (dk_at dksX3_take_0 16 rfl rfl)
theorem dX3_take_19 : decode cX3_take 19 = .ok (.iload_n 1, 1) := dk_27 (dk_at dksX3_take_0 19 rfl rfl)
theorem dX3_take_20 : decode cX3_take 20 = .ok (.aload_n 0, 1) := dk_42 (dk_at dksX3_take_0 20 rfl rfl)
theorem dX3_take_21 : decode cX3_take 21 = .ok (.getfield 22, 3) := dk_180 0 22 (dk_at dksX3_take_0 21 rfl rfl)
theorem dX3_take_24 : decode cX3_take 24 = .ok (.aload_n 0, 1) := dk_42 (dk_at dksX3_take_1 0 rfl rfl)
theorem dX3_take_25 : decode cX3_take 25 = .ok (.getfield 13, 3) := dk_180 0 13 (dk_at dksX3_take_1 1 rfl rfl)
theorem dX3_take_28 : decode cX3_take 28 = .ok (.aload_n 0, 1) := dk_42 (dk_at dksX3_take_1 4 rfl rfl)
theorem dX3_take_29 : decode cX3_take 29 = .ok (.getfield 26, 3) := dk_180 0 26 (dk_at dksX3_take_1 5 rfl rfl)
theorem dX3_take_32 : decode cX3_take 32 = .ok (.iload_n 2, 1) := dk_28 (dk_at dksX3_take_1 8 rfl rfl)
theorem dX3_take_33 : decode cX3_take 33 = .ok (.iaload, 1) := dk_46 (dk_at dksX3_take_1 9 rfl rfl)
theorem dX3_take_34 : decode cX3_take 34 = .ok (.iaload, 1) := dk_46 (dk_at dksX3_take_1 10 rfl rfl)
theorem dX3_take_35 : decode cX3_take 35 = .ok (.iload 4, 2) := dk_21 4 (dk_at dksX3_take_1 11 rfl rfl)
theorem dX3_take_37 : decode cX3_take 37 = .ok (.iadd, 1) := dk_96 (dk_at dksX3_take_1 13 rfl rfl)
theorem dX3_take_38 : decode cX3_take 38 = .ok (.laload, 1) := dk_47 (dk_at dksX3_take_1 14 rfl rfl)
theorem dX3_take_39 : decode cX3_take 39 = .ok (.l2i, 1) := dk_136 (dk_at dksX3_take_1 15 rfl rfl)
theorem dX3_take_40 : decode cX3_take 40 = .ok (.iastore, 1) := dk_79 (dk_at dksX3_take_1 16 rfl rfl)
theorem dX3_take_41 : decode cX3_take 41 = .ok (.iload 5, 2) := dk_21 5 (dk_at dksX3_take_1 17 rfl rfl)
theorem dX3_take_43 : decode cX3_take 43 = .ok (.ireturn, 1) := dk_172 (dk_at dksX3_take_1 19 rfl rfl)
abbrev cX3_lay : ByteArray := prog_15_method_24_code
def yX3_lay : MethodName := ⟨RX3, "lay", "(IIII)I"⟩
def dkwX3_lay_6 : List UInt8 := [180, 0, 26, 21, 4, 46, 133, 80, 3, 172]
abbrev dktX3_lay_6 : List UInt8 := dkwX3_lay_6 ++ []
def dkwX3_lay_5 : List UInt8 := [160, 0, 5, 8, 172, 42, 180, 0, 22, 42, 180, 0, 13, 42, 180, 0, 26, 27, 46, 46, 29, 96, 42]
abbrev dktX3_lay_5 : List UInt8 := dkwX3_lay_5 ++ dktX3_lay_6
def dkwX3_lay_4 : List UInt8 := [180, 0, 26, 21, 4, 46, 153, 0, 22, 42, 180, 0, 7, 42, 180, 0, 26, 21, 4, 46, 46, 16, 8]
abbrev dktX3_lay_4 : List UInt8 := dkwX3_lay_4 ++ dktX3_lay_5
def dkwX3_lay_3 : List UInt8 := [153, 0, 6, 21, 5, 172, 42, 180, 0, 7, 42, 180, 0, 26, 27, 46, 46, 16, 7, 160, 0, 32, 42]
abbrev dktX3_lay_3 : List UInt8 := dkwX3_lay_3 ++ dktX3_lay_4
def dkwX3_lay_2 : List UInt8 := [54, 5, 21, 5, 153, 0, 8, 21, 5, 167, 0, 10, 42, 27, 28, 29, 182, 0, 170, 54, 5, 21, 5]
abbrev dktX3_lay_2 : List UInt8 := dkwX3_lay_2 ++ dktX3_lay_3
def dkwX3_lay_1 : List UInt8 := [160, 0, 7, 4, 167, 0, 16, 28, 16, 6, 160, 0, 8, 16, 8, 167, 0, 5, 16, 9, 182, 0, 150]
abbrev dktX3_lay_1 : List UInt8 := dkwX3_lay_1 ++ dktX3_lay_2
def dkwX3_lay_0 : List UInt8 := [42, 27, 28, 182, 0, 150, 54, 5, 21, 5, 153, 0, 8, 21, 5, 167, 0, 31, 42, 21, 4, 28, 8]
abbrev dktX3_lay_0 : List UInt8 := dkwX3_lay_0 ++ dktX3_lay_1
theorem dksX3_lay_0 : cX3_lay.data.toList.drop 0 = dktX3_lay_0 := by decide +kernel
theorem dksX3_lay_1 : cX3_lay.data.toList.drop 23 = dktX3_lay_1 := dk_seg dksX3_lay_0 23 rfl rfl
theorem dksX3_lay_2 : cX3_lay.data.toList.drop 46 = dktX3_lay_2 := dk_seg dksX3_lay_1 23 rfl rfl
theorem dksX3_lay_3 : cX3_lay.data.toList.drop 69 = dktX3_lay_3 := dk_seg dksX3_lay_2 23 rfl rfl
theorem dksX3_lay_4 : cX3_lay.data.toList.drop 92 = dktX3_lay_4 := dk_seg dksX3_lay_3 23 rfl rfl
theorem dksX3_lay_5 : cX3_lay.data.toList.drop 115 = dktX3_lay_5 := dk_seg dksX3_lay_4 23 rfl rfl
theorem dksX3_lay_6 : cX3_lay.data.toList.drop 138 = dktX3_lay_6 := dk_seg dksX3_lay_5 23 rfl rfl
theorem dX3_lay_0 : decode cX3_lay 0 = .ok (.aload_n 0, 1) := dk_42 (dk_at dksX3_lay_0 0 rfl rfl)
theorem dX3_lay_1 : decode cX3_lay 1 = .ok (.iload_n 1, 1) := dk_27 (dk_at dksX3_lay_0 1 rfl rfl)
theorem dX3_lay_2 : decode cX3_lay 2 = .ok (.iload_n 2, 1) := dk_28 (dk_at dksX3_lay_0 2 rfl rfl)
theorem dX3_lay_3 : decode cX3_lay 3 = .ok (.invokevirtual 150, 3) := dk_182 0 150 (dk_at dksX3_lay_0 3 rfl rfl)
theorem dX3_lay_6 : decode cX3_lay 6 = .ok (.istore 5, 2) := dk_54 5 (dk_at dksX3_lay_0 6 rfl rfl)
theorem dX3_lay_8 : decode cX3_lay 8 = .ok (.iload 5, 2) := dk_21 5 (dk_at dksX3_lay_0 8 rfl rfl)
theorem dX3_lay_10 : decode cX3_lay 10 = .ok (.ifCond .eq 8, 3) := dk_153 0 8 (dk_at dksX3_lay_0 10 rfl rfl)
theorem dX3_lay_13 : decode cX3_lay 13 = .ok (.iload 5, 2) := dk_21 5 (dk_at dksX3_lay_0 13 rfl rfl)
theorem dX3_lay_15 : decode cX3_lay 15 = .ok (.goto 31, 3) := dk_167 0 31 (dk_at dksX3_lay_0 15 rfl rfl)
theorem dX3_lay_18 : decode cX3_lay 18 = .ok (.aload_n 0, 1) := dk_42 (dk_at dksX3_lay_0 18 rfl rfl)
theorem dX3_lay_19 : decode cX3_lay 19 = .ok (.iload 4, 2) := dk_21 4 (dk_at dksX3_lay_0 19 rfl rfl)
theorem dX3_lay_21 : decode cX3_lay 21 = .ok (.iload_n 2, 1) := dk_28 (dk_at dksX3_lay_0 21 rfl rfl)
theorem dX3_lay_22 : decode cX3_lay 22 = .ok (.iconst 5, 1) := dk_8 (dk_at dksX3_lay_0 22 rfl rfl)
theorem dX3_lay_23 : decode cX3_lay 23 = .ok (.if_icmp .ne 7, 3) := dk_160 0 7 (dk_at dksX3_lay_1 0 rfl rfl)
theorem dX3_lay_26 : decode cX3_lay 26 = .ok (.iconst 1, 1) := dk_4 (dk_at dksX3_lay_1 3 rfl rfl)
theorem dX3_lay_27 : decode cX3_lay 27 = .ok (.goto 16, 3) := dk_167 0 16 (dk_at dksX3_lay_1 4 rfl rfl)
theorem dX3_lay_30 : decode cX3_lay 30 = .ok (.iload_n 2, 1) := dk_28 (dk_at dksX3_lay_1 7 rfl rfl)
theorem dX3_lay_31 : decode cX3_lay 31 = .ok (.bipush 6, 2) := dk_16 6 (dk_at dksX3_lay_1 8 rfl rfl)
theorem dX3_lay_33 : decode cX3_lay 33 = .ok (.if_icmp .ne 8, 3) := dk_160 0 8 (dk_at dksX3_lay_1 10 rfl rfl)
theorem dX3_lay_36 : decode cX3_lay 36 = .ok (.bipush 8, 2) := dk_16 8 (dk_at dksX3_lay_1 13 rfl rfl)
theorem dX3_lay_38 : decode cX3_lay 38 = .ok (.goto 5, 3) := dk_167 0 5 (dk_at dksX3_lay_1 15 rfl rfl)
theorem dX3_lay_41 : decode cX3_lay 41 = .ok (.bipush 9, 2) := dk_16 9 (dk_at dksX3_lay_1 18 rfl rfl)
theorem dX3_lay_43 : decode cX3_lay 43 = .ok (.invokevirtual 150, 3) := dk_182 0 150 (dk_at dksX3_lay_1 20 rfl rfl)
theorem dX3_lay_46 : decode cX3_lay 46 = .ok (.istore 5, 2) := dk_54 5 (dk_at dksX3_lay_2 0 rfl rfl)
theorem dX3_lay_48 : decode cX3_lay 48 = .ok (.iload 5, 2) := dk_21 5 (dk_at dksX3_lay_2 2 rfl rfl)
theorem dX3_lay_50 : decode cX3_lay 50 = .ok (.ifCond .eq 8, 3) := dk_153 0 8 (dk_at dksX3_lay_2 4 rfl rfl)
theorem dX3_lay_53 : decode cX3_lay 53 = .ok (.iload 5, 2) := dk_21 5 (dk_at dksX3_lay_2 7 rfl rfl)
theorem dX3_lay_55 : decode cX3_lay 55 = .ok (.goto 10, 3) := dk_167 0 10 (dk_at dksX3_lay_2 9 rfl rfl)
theorem dX3_lay_58 : decode cX3_lay 58 = .ok (.aload_n 0, 1) := dk_42 (dk_at dksX3_lay_2 12 rfl rfl)
theorem dX3_lay_59 : decode cX3_lay 59 = .ok (.iload_n 1, 1) := dk_27 (dk_at dksX3_lay_2 13 rfl rfl)
theorem dX3_lay_60 : decode cX3_lay 60 = .ok (.iload_n 2, 1) := dk_28 (dk_at dksX3_lay_2 14 rfl rfl)
theorem dX3_lay_61 : decode cX3_lay 61 = .ok (.iload_n 3, 1) := dk_29 (dk_at dksX3_lay_2 15 rfl rfl)
theorem dX3_lay_62 : decode cX3_lay 62 = .ok (.invokevirtual 170, 3) := dk_182 0 170 (dk_at dksX3_lay_2 16 rfl rfl)
theorem dX3_lay_65 : decode cX3_lay 65 = .ok (.istore 5, 2) := dk_54 5 (dk_at dksX3_lay_2 19 rfl rfl)
theorem dX3_lay_67 : decode cX3_lay 67 = .ok (.iload 5, 2) := dk_21 5 (dk_at dksX3_lay_2 21 rfl rfl)
theorem dX3_lay_69 : decode cX3_lay 69 = .ok (.ifCond .eq 6, 3) := dk_153 0 6 (dk_at dksX3_lay_3 0 rfl rfl)
theorem dX3_lay_72 : decode cX3_lay 72 = .ok (.iload 5, 2) := dk_21 5 (dk_at dksX3_lay_3 3 rfl rfl)
theorem dX3_lay_74 : decode cX3_lay 74 = .ok (.ireturn, 1) := dk_172 (dk_at dksX3_lay_3 5 rfl rfl)
theorem dX3_lay_75 : decode cX3_lay 75 = .ok (.aload_n 0, 1) := dk_42 (dk_at dksX3_lay_3 6 rfl rfl)
theorem dX3_lay_76 : decode cX3_lay 76 = .ok (.getfield 7, 3) := dk_180 0 7 (dk_at dksX3_lay_3 7 rfl rfl)
theorem dX3_lay_79 : decode cX3_lay 79 = .ok (.aload_n 0, 1) := dk_42 (dk_at dksX3_lay_3 10 rfl rfl)
theorem dX3_lay_80 : decode cX3_lay 80 = .ok (.getfield 26, 3) := dk_180 0 26 (dk_at dksX3_lay_3 11 rfl rfl)
theorem dX3_lay_83 : decode cX3_lay 83 = .ok (.iload_n 1, 1) := dk_27 (dk_at dksX3_lay_3 14 rfl rfl)
theorem dX3_lay_84 : decode cX3_lay 84 = .ok (.iaload, 1) := dk_46 (dk_at dksX3_lay_3 15 rfl rfl)
theorem dX3_lay_85 : decode cX3_lay 85 = .ok (.iaload, 1) := dk_46 (dk_at dksX3_lay_3 16 rfl rfl)
theorem dX3_lay_86 : decode cX3_lay 86 = .ok (.bipush 7, 2) := dk_16 7 (dk_at dksX3_lay_3 17 rfl rfl)
theorem dX3_lay_88 : decode cX3_lay 88 = .ok (.if_icmp .ne 32, 3) := dk_160 0 32 (dk_at dksX3_lay_3 19 rfl rfl)
theorem dX3_lay_91 : decode cX3_lay 91 = .ok (.aload_n 0, 1) := dk_42 (dk_at dksX3_lay_3 22 rfl rfl)
theorem dX3_lay_92 : decode cX3_lay 92 = .ok (.getfield 26, 3) := dk_180 0 26 (dk_at dksX3_lay_4 0 rfl rfl)
theorem dX3_lay_95 : decode cX3_lay 95 = .ok (.iload 4, 2) := dk_21 4 (dk_at dksX3_lay_4 3 rfl rfl)
theorem dX3_lay_97 : decode cX3_lay 97 = .ok (.iaload, 1) := dk_46 (dk_at dksX3_lay_4 5 rfl rfl)
theorem dX3_lay_98 : decode cX3_lay 98 = .ok (.ifCond .eq 22, 3) := dk_153 0 22 (dk_at dksX3_lay_4 6 rfl rfl)
theorem dX3_lay_101 : decode cX3_lay 101 = .ok (.aload_n 0, 1) := dk_42 (dk_at dksX3_lay_4 9 rfl rfl)
theorem dX3_lay_102 : decode cX3_lay 102 = .ok (.getfield 7, 3) := dk_180 0 7 (dk_at dksX3_lay_4 10 rfl rfl)
theorem dX3_lay_105 : decode cX3_lay 105 = .ok (.aload_n 0, 1) := dk_42 (dk_at dksX3_lay_4 13 rfl rfl)
theorem dX3_lay_106 : decode cX3_lay 106 = .ok (.getfield 26, 3) := dk_180 0 26 (dk_at dksX3_lay_4 14 rfl rfl)
theorem dX3_lay_109 : decode cX3_lay 109 = .ok (.iload 4, 2) := dk_21 4 (dk_at dksX3_lay_4 17 rfl rfl)
theorem dX3_lay_111 : decode cX3_lay 111 = .ok (.iaload, 1) := dk_46 (dk_at dksX3_lay_4 19 rfl rfl)
theorem dX3_lay_112 : decode cX3_lay 112 = .ok (.iaload, 1) := dk_46 (dk_at dksX3_lay_4 20 rfl rfl)
theorem dX3_lay_113 : decode cX3_lay 113 = .ok (.bipush 8, 2) := dk_16 8 (dk_at dksX3_lay_4 21 rfl rfl)
theorem dX3_lay_115 : decode cX3_lay 115 = .ok (.if_icmp .ne 5, 3) := dk_160 0 5 (dk_at dksX3_lay_5 0 rfl rfl)
theorem dX3_lay_118 : decode cX3_lay 118 = .ok (.iconst 5, 1) := dk_8 (dk_at dksX3_lay_5 3 rfl rfl)
theorem dX3_lay_119 : decode cX3_lay 119 = .ok (.ireturn, 1) := dk_172 (dk_at dksX3_lay_5 4 rfl rfl)
theorem dX3_lay_120 : decode cX3_lay 120 = .ok (.aload_n 0, 1) := dk_42 (dk_at dksX3_lay_5 5 rfl rfl)
theorem dX3_lay_121 : decode cX3_lay 121 = .ok (.getfield 22, 3) := dk_180 0 22 (dk_at dksX3_lay_5 6 rfl rfl)
theorem dX3_lay_124 : decode cX3_lay 124 = .ok (.aload_n 0, 1) := dk_42 (dk_at dksX3_lay_5 9 rfl rfl)
theorem dX3_lay_125 : decode cX3_lay 125 = .ok (.getfield 13, 3) := dk_180 0 13 (dk_at dksX3_lay_5 10 rfl rfl)
theorem dX3_lay_128 : decode cX3_lay 128 = .ok (.aload_n 0, 1) := dk_42 (dk_at dksX3_lay_5 13 rfl rfl)
theorem dX3_lay_129 : decode cX3_lay 129 = .ok (.getfield 26, 3) := dk_180 0 26 (dk_at dksX3_lay_5 14 rfl rfl)
theorem dX3_lay_132 : decode cX3_lay 132 = .ok (.iload_n 1, 1) := dk_27 (dk_at dksX3_lay_5 17 rfl rfl)
theorem dX3_lay_133 : decode cX3_lay 133 = .ok (.iaload, 1) := dk_46 (dk_at dksX3_lay_5 18 rfl rfl)
theorem dX3_lay_134 : decode cX3_lay 134 = .ok (.iaload, 1) := dk_46 (dk_at dksX3_lay_5 19 rfl rfl)
theorem dX3_lay_135 : decode cX3_lay 135 = .ok (.iload_n 3, 1) := dk_29 (dk_at dksX3_lay_5 20 rfl rfl)
theorem dX3_lay_136 : decode cX3_lay 136 = .ok (.iadd, 1) := dk_96 (dk_at dksX3_lay_5 21 rfl rfl)
theorem dX3_lay_137 : decode cX3_lay 137 = .ok (.aload_n 0, 1) := dk_42 (dk_at dksX3_lay_5 22 rfl rfl)
theorem dX3_lay_138 : decode cX3_lay 138 = .ok (.getfield 26, 3) := dk_180 0 26 (dk_at dksX3_lay_6 0 rfl rfl)
theorem dX3_lay_141 : decode cX3_lay 141 = .ok (.iload 4, 2) := dk_21 4 (dk_at dksX3_lay_6 3 rfl rfl)
theorem dX3_lay_143 : decode cX3_lay 143 = .ok (.iaload, 1) := dk_46 (dk_at dksX3_lay_6 5 rfl rfl)
theorem dX3_lay_144 : decode cX3_lay 144 = .ok (.i2l, 1) := dk_133 (dk_at dksX3_lay_6 6 rfl rfl)
theorem dX3_lay_145 : decode cX3_lay 145 = .ok (.lastore, 1) := dk_80 (dk_at dksX3_lay_6 7 rfl rfl)
theorem dX3_lay_146 : decode cX3_lay 146 = .ok (.iconst 0, 1) := dk_3 (dk_at dksX3_lay_6 8 rfl rfl)
theorem dX3_lay_147 : decode cX3_lay 147 = .ok (.ireturn, 1) := dk_172 (dk_at dksX3_lay_6 9 rfl rfl)
abbrev cX3_measure : ByteArray := prog_15_method_33_code
def yX3_measure : MethodName := ⟨RX3, "measure", "(III)I"⟩
def dkwX3_measure_1 : List UInt8 := [180, 0, 26, 28, 46, 46, 133, 80, 21, 4, 172]
abbrev dktX3_measure_1 : List UInt8 := dkwX3_measure_1 ++ []
def dkwX3_measure_0 : List UInt8 := [42, 28, 29, 182, 0, 154, 54, 4, 21, 4, 154, 0, 21, 42, 180, 0, 29, 27, 42, 180, 0, 16, 42]
abbrev dktX3_measure_0 : List UInt8 := dkwX3_measure_0 ++ dktX3_measure_1
theorem dksX3_measure_0 : cX3_measure.data.toList.drop 0 = dktX3_measure_0 := by decide +kernel
theorem dksX3_measure_1 : cX3_measure.data.toList.drop 23 = dktX3_measure_1 := dk_seg dksX3_measure_0 23 rfl rfl
theorem dX3_measure_0 : decode cX3_measure 0 = .ok (.aload_n 0, 1) := dk_42 (dk_at dksX3_measure_0 0 rfl rfl)
theorem dX3_measure_1 : decode cX3_measure 1 = .ok (.iload_n 2, 1) := dk_28 (dk_at dksX3_measure_0 1 rfl rfl)
theorem dX3_measure_2 : decode cX3_measure 2 = .ok (.iload_n 3, 1) := dk_29 (dk_at dksX3_measure_0 2 rfl rfl)
theorem dX3_measure_3 : decode cX3_measure 3 = .ok (.invokevirtual 154, 3) := dk_182 0 154 (dk_at dksX3_measure_0 3 rfl rfl)
theorem dX3_measure_6 : decode cX3_measure 6 = .ok (.istore 4, 2) := dk_54 4 (dk_at dksX3_measure_0 6 rfl rfl)
theorem dX3_measure_8 : decode cX3_measure 8 = .ok (.iload 4, 2) := dk_21 4 (dk_at dksX3_measure_0 8 rfl rfl)
theorem dX3_measure_10 : decode cX3_measure 10 = .ok (.ifCond .ne 21, 3) := dk_154 0 21 (dk_at dksX3_measure_0 10 rfl rfl)
theorem dX3_measure_13 : decode cX3_measure 13 = .ok (.aload_n 0, 1) := dk_42 (dk_at dksX3_measure_0 13 rfl rfl)
theorem dX3_measure_14 : decode cX3_measure 14 = .ok (.getfield 29, 3) := dk_180 0 29 (dk_at dksX3_measure_0 14 rfl rfl)
theorem dX3_measure_17 : decode cX3_measure 17 = .ok (.iload_n 1, 1) := dk_27 (dk_at dksX3_measure_0 17 rfl rfl)
theorem dX3_measure_18 : decode cX3_measure 18 = .ok (.aload_n 0, 1) := dk_42 (dk_at dksX3_measure_0 18 rfl rfl)
theorem dX3_measure_19 : decode cX3_measure 19 = .ok (.getfield 16, 3) := dk_180 0 16 (dk_at dksX3_measure_0 19 rfl rfl)
theorem dX3_measure_22 : decode cX3_measure 22 = .ok (.aload_n 0, 1) := dk_42 (dk_at dksX3_measure_0 22 rfl rfl)
theorem dX3_measure_23 : decode cX3_measure 23 = .ok (.getfield 26, 3) := dk_180 0 26 (dk_at dksX3_measure_1 0 rfl rfl)
theorem dX3_measure_26 : decode cX3_measure 26 = .ok (.iload_n 2, 1) := dk_28 (dk_at dksX3_measure_1 3 rfl rfl)
theorem dX3_measure_27 : decode cX3_measure 27 = .ok (.iaload, 1) := dk_46 (dk_at dksX3_measure_1 4 rfl rfl)
theorem dX3_measure_28 : decode cX3_measure 28 = .ok (.iaload, 1) := dk_46 (dk_at dksX3_measure_1 5 rfl rfl)
theorem dX3_measure_29 : decode cX3_measure 29 = .ok (.i2l, 1) := dk_133 (dk_at dksX3_measure_1 6 rfl rfl)
theorem dX3_measure_30 : decode cX3_measure 30 = .ok (.lastore, 1) := dk_80 (dk_at dksX3_measure_1 7 rfl rfl)
theorem dX3_measure_31 : decode cX3_measure 31 = .ok (.iload 4, 2) := dk_21 4 (dk_at dksX3_measure_1 8 rfl rfl)
theorem dX3_measure_33 : decode cX3_measure 33 = .ok (.ireturn, 1) := dk_172 (dk_at dksX3_measure_1 10 rfl rfl)
abbrev cX3_cloned : ByteArray := prog_15_method_32_code
def yX3_cloned : MethodName := ⟨RX3, "cloned", "(II)I"⟩
def dkwX3_cloned_4 : List UInt8 := [180, 0, 22, 21, 5, 21, 6, 96, 47, 80, 132, 6, 1, 167, 255, 217, 3, 172]
abbrev dktX3_cloned_4 : List UInt8 := dkwX3_cloned_4 ++ []
def dkwX3_cloned_3 : List UInt8 := [21, 4, 162, 0, 38, 42, 180, 0, 22, 42, 180, 0, 13, 42, 180, 0, 26, 27, 46, 46, 21, 6, 96, 42]
abbrev dktX3_cloned_3 : List UInt8 := dkwX3_cloned_3 ++ dktX3_cloned_4
def dkwX3_cloned_2 : List UInt8 := [28, 46, 46, 54, 5, 42, 180, 0, 26, 27, 42, 4, 21, 4, 182, 0, 161, 79, 3, 54, 6, 21, 6]
abbrev dktX3_cloned_2 : List UInt8 := dkwX3_cloned_2 ++ dktX3_cloned_3
def dkwX3_cloned_1 : List UInt8 := [54, 4, 42, 10, 21, 4, 133, 182, 0, 157, 154, 0, 6, 16, 8, 172, 42, 180, 0, 13, 42, 180, 0, 26]
abbrev dktX3_cloned_1 : List UInt8 := dkwX3_cloned_1 ++ dktX3_cloned_2
def dkwX3_cloned_0 : List UInt8 := [42, 28, 4, 182, 0, 154, 62, 29, 153, 0, 5, 29, 172, 42, 180, 0, 16, 42, 180, 0, 26, 28, 46, 46]
abbrev dktX3_cloned_0 : List UInt8 := dkwX3_cloned_0 ++ dktX3_cloned_1
theorem dksX3_cloned_0 : cX3_cloned.data.toList.drop 0 = dktX3_cloned_0 := by decide +kernel
theorem dksX3_cloned_1 : cX3_cloned.data.toList.drop 24 = dktX3_cloned_1 := dk_seg dksX3_cloned_0 24 rfl rfl
theorem dksX3_cloned_2 : cX3_cloned.data.toList.drop 48 = dktX3_cloned_2 := dk_seg dksX3_cloned_1 24 rfl rfl
theorem dksX3_cloned_3 : cX3_cloned.data.toList.drop 71 = dktX3_cloned_3 := dk_seg dksX3_cloned_2 23 rfl rfl
theorem dksX3_cloned_4 : cX3_cloned.data.toList.drop 95 = dktX3_cloned_4 := dk_seg dksX3_cloned_3 24 rfl rfl
theorem dX3_cloned_0 : decode cX3_cloned 0 = .ok (.aload_n 0, 1) := dk_42 (dk_at dksX3_cloned_0 0 rfl rfl)
theorem dX3_cloned_1 : decode cX3_cloned 1 = .ok (.iload_n 2, 1) := dk_28 (dk_at dksX3_cloned_0 1 rfl rfl)
theorem dX3_cloned_2 : decode cX3_cloned 2 = .ok (.iconst 1, 1) := dk_4 (dk_at dksX3_cloned_0 2 rfl rfl)
theorem dX3_cloned_3 : decode cX3_cloned 3 = .ok (.invokevirtual 154, 3) := dk_182 0 154 (dk_at dksX3_cloned_0 3 rfl rfl)
theorem dX3_cloned_6 : decode cX3_cloned 6 = .ok (.istore_n 3, 1) := dk_62 (dk_at dksX3_cloned_0 6 rfl rfl)
theorem dX3_cloned_7 : decode cX3_cloned 7 = .ok (.iload_n 3, 1) := dk_29 (dk_at dksX3_cloned_0 7 rfl rfl)
theorem dX3_cloned_8 : decode cX3_cloned 8 = .ok (.ifCond .eq 5, 3) := dk_153 0 5 (dk_at dksX3_cloned_0 8 rfl rfl)
theorem dX3_cloned_11 : decode cX3_cloned 11 = .ok (.iload_n 3, 1) := dk_29 (dk_at dksX3_cloned_0 11 rfl rfl)
theorem dX3_cloned_12 : decode cX3_cloned 12 = .ok (.ireturn, 1) := dk_172 (dk_at dksX3_cloned_0 12 rfl rfl)
theorem dX3_cloned_13 : decode cX3_cloned 13 = .ok (.aload_n 0, 1) := dk_42 (dk_at dksX3_cloned_0 13 rfl rfl)
theorem dX3_cloned_14 : decode cX3_cloned 14 = .ok (.getfield 16, 3) := dk_180 0 16 (dk_at dksX3_cloned_0 14 rfl rfl)
theorem dX3_cloned_17 : decode cX3_cloned 17 = .ok (.aload_n 0, 1) := dk_42 (dk_at dksX3_cloned_0 17 rfl rfl)
theorem dX3_cloned_18 : decode cX3_cloned 18 = .ok (.getfield 26, 3) := dk_180 0 26 (dk_at dksX3_cloned_0 18 rfl rfl)
theorem dX3_cloned_21 : decode cX3_cloned 21 = .ok (.iload_n 2, 1) := dk_28 (dk_at dksX3_cloned_0 21 rfl rfl)
theorem dX3_cloned_22 : decode cX3_cloned 22 = .ok (.iaload, 1) := dk_46 (dk_at dksX3_cloned_0 22 rfl rfl)
theorem dX3_cloned_23 : decode cX3_cloned 23 = .ok (.iaload, 1) := dk_46 (dk_at dksX3_cloned_0 23 rfl rfl)
theorem dX3_cloned_24 : decode cX3_cloned 24 = .ok (.istore 4, 2) := dk_54 4 (dk_at dksX3_cloned_1 0 rfl rfl)
theorem dX3_cloned_26 : decode cX3_cloned 26 = .ok (.aload_n 0, 1) := dk_42 (dk_at dksX3_cloned_1 2 rfl rfl)
theorem dX3_cloned_27 : decode cX3_cloned 27 = .ok (.lconst 1, 1) := dk_10 (dk_at dksX3_cloned_1 3 rfl rfl)
theorem dX3_cloned_28 : decode cX3_cloned 28 = .ok (.iload 4, 2) := dk_21 4 (dk_at dksX3_cloned_1 4 rfl rfl)
theorem dX3_cloned_30 : decode cX3_cloned 30 = .ok (.i2l, 1) := dk_133 (dk_at dksX3_cloned_1 6 rfl rfl)
theorem dX3_cloned_31 : decode cX3_cloned 31 = .ok (.invokevirtual 157, 3) := dk_182 0 157 (dk_at dksX3_cloned_1 7 rfl rfl)
theorem dX3_cloned_34 : decode cX3_cloned 34 = .ok (.ifCond .ne 6, 3) := dk_154 0 6 (dk_at dksX3_cloned_1 10 rfl rfl)
theorem dX3_cloned_37 : decode cX3_cloned 37 = .ok (.bipush 8, 2) := dk_16 8 (dk_at dksX3_cloned_1 13 rfl rfl)
theorem dX3_cloned_39 : decode cX3_cloned 39 = .ok (.ireturn, 1) := dk_172 (dk_at dksX3_cloned_1 15 rfl rfl)
theorem dX3_cloned_40 : decode cX3_cloned 40 = .ok (.aload_n 0, 1) := dk_42 (dk_at dksX3_cloned_1 16 rfl rfl)
theorem dX3_cloned_41 : decode cX3_cloned 41 = .ok (.getfield 13, 3) := dk_180 0 13 (dk_at dksX3_cloned_1 17 rfl rfl)
theorem dX3_cloned_44 : decode cX3_cloned 44 = .ok (.aload_n 0, 1) := dk_42 (dk_at dksX3_cloned_1 20 rfl rfl)
theorem dX3_cloned_45 : decode cX3_cloned 45 = .ok (.getfield 26, 3) := dk_180 0 26 (dk_at dksX3_cloned_1 21 rfl rfl)
theorem dX3_cloned_48 : decode cX3_cloned 48 = .ok (.iload_n 2, 1) := dk_28 (dk_at dksX3_cloned_2 0 rfl rfl)
theorem dX3_cloned_49 : decode cX3_cloned 49 = .ok (.iaload, 1) := dk_46 (dk_at dksX3_cloned_2 1 rfl rfl)
theorem dX3_cloned_50 : decode cX3_cloned 50 = .ok (.iaload, 1) := dk_46 (dk_at dksX3_cloned_2 2 rfl rfl)
theorem dX3_cloned_51 : decode cX3_cloned 51 = .ok (.istore 5, 2) := dk_54 5 (dk_at dksX3_cloned_2 3 rfl rfl)
theorem dX3_cloned_53 : decode cX3_cloned 53 = .ok (.aload_n 0, 1) := dk_42 (dk_at dksX3_cloned_2 5 rfl rfl)
theorem dX3_cloned_54 : decode cX3_cloned 54 = .ok (.getfield 26, 3) := dk_180 0 26 (dk_at dksX3_cloned_2 6 rfl rfl)
theorem dX3_cloned_57 : decode cX3_cloned 57 = .ok (.iload_n 1, 1) := dk_27 (dk_at dksX3_cloned_2 9 rfl rfl)
theorem dX3_cloned_58 : decode cX3_cloned 58 = .ok (.aload_n 0, 1) := dk_42 (dk_at dksX3_cloned_2 10 rfl rfl)
theorem dX3_cloned_59 : decode cX3_cloned 59 = .ok (.iconst 1, 1) := dk_4 (dk_at dksX3_cloned_2 11 rfl rfl)
theorem dX3_cloned_60 : decode cX3_cloned 60 = .ok (.iload 4, 2) := dk_21 4 (dk_at dksX3_cloned_2 12 rfl rfl)
theorem dX3_cloned_62 : decode cX3_cloned 62 = .ok (.invokevirtual 161, 3) := dk_182 0 161 (dk_at dksX3_cloned_2 14 rfl rfl)
theorem dX3_cloned_65 : decode cX3_cloned 65 = .ok (.iastore, 1) := dk_79 (dk_at dksX3_cloned_2 17 rfl rfl)
theorem dX3_cloned_66 : decode cX3_cloned 66 = .ok (.iconst 0, 1) := dk_3 (dk_at dksX3_cloned_2 18 rfl rfl)
theorem dX3_cloned_67 : decode cX3_cloned 67 = .ok (.istore 6, 2) := dk_54 6 (dk_at dksX3_cloned_2 19 rfl rfl)
theorem dX3_cloned_69 : decode cX3_cloned 69 = .ok (.iload 6, 2) := dk_21 6 (dk_at dksX3_cloned_2 21 rfl rfl)
theorem dX3_cloned_71 : decode cX3_cloned 71 = .ok (.iload 4, 2) := dk_21 4 (dk_at dksX3_cloned_3 0 rfl rfl)
theorem dX3_cloned_73 : decode cX3_cloned 73 = .ok (.if_icmp .ge 38, 3) := dk_162 0 38 (dk_at dksX3_cloned_3 2 rfl rfl)
theorem dX3_cloned_76 : decode cX3_cloned 76 = .ok (.aload_n 0, 1) := dk_42 (dk_at dksX3_cloned_3 5 rfl rfl)
theorem dX3_cloned_77 : decode cX3_cloned 77 = .ok (.getfield 22, 3) := dk_180 0 22 (dk_at dksX3_cloned_3 6 rfl rfl)
theorem dX3_cloned_80 : decode cX3_cloned 80 = .ok (.aload_n 0, 1) := dk_42 (dk_at dksX3_cloned_3 9 rfl rfl)
theorem dX3_cloned_81 : decode cX3_cloned 81 = .ok (.getfield 13, 3) := dk_180 0 13 (dk_at dksX3_cloned_3 10 rfl rfl)
theorem dX3_cloned_84 : decode cX3_cloned 84 = .ok (.aload_n 0, 1) := dk_42 (dk_at dksX3_cloned_3 13 rfl rfl)
theorem dX3_cloned_85 : decode cX3_cloned 85 = .ok (.getfield 26, 3) := dk_180 0 26 (dk_at dksX3_cloned_3 14 rfl rfl)
theorem dX3_cloned_88 : decode cX3_cloned 88 = .ok (.iload_n 1, 1) := dk_27 (dk_at dksX3_cloned_3 17 rfl rfl)
theorem dX3_cloned_89 : decode cX3_cloned 89 = .ok (.iaload, 1) := dk_46 (dk_at dksX3_cloned_3 18 rfl rfl)
theorem dX3_cloned_90 : decode cX3_cloned 90 = .ok (.iaload, 1) := dk_46 (dk_at dksX3_cloned_3 19 rfl rfl)
theorem dX3_cloned_91 : decode cX3_cloned 91 = .ok (.iload 6, 2) := dk_21 6 (dk_at dksX3_cloned_3 20 rfl rfl)
theorem dX3_cloned_93 : decode cX3_cloned 93 = .ok (.iadd, 1) := dk_96 (dk_at dksX3_cloned_3 22 rfl rfl)
theorem dX3_cloned_94 : decode cX3_cloned 94 = .ok (.aload_n 0, 1) := dk_42 (dk_at dksX3_cloned_3 23 rfl rfl)
theorem dX3_cloned_95 : decode cX3_cloned 95 = .ok (.getfield 22, 3) := dk_180 0 22 (dk_at dksX3_cloned_4 0 rfl rfl)
theorem dX3_cloned_98 : decode cX3_cloned 98 = .ok (.iload 5, 2) := dk_21 5 (dk_at dksX3_cloned_4 3 rfl rfl)
theorem dX3_cloned_100 : decode cX3_cloned 100 = .ok (.iload 6, 2) := dk_21 6 (dk_at dksX3_cloned_4 5 rfl rfl)
theorem dX3_cloned_102 : decode cX3_cloned 102 = .ok (.iadd, 1) := dk_96 (dk_at dksX3_cloned_4 7 rfl rfl)
theorem dX3_cloned_103 : decode cX3_cloned 103 = .ok (.laload, 1) := dk_47 (dk_at dksX3_cloned_4 8 rfl rfl)
theorem dX3_cloned_104 : decode cX3_cloned 104 = .ok (.lastore, 1) := dk_80 (dk_at dksX3_cloned_4 9 rfl rfl)
theorem dX3_cloned_105 : decode cX3_cloned 105 = .ok (.iinc 6 1, 3) := dk_132 6 1 (dk_at dksX3_cloned_4 10 rfl rfl)
theorem dX3_cloned_108 : decode cX3_cloned 108 = .ok (.goto (-39), 3) := dk_167 255 217 (dk_at dksX3_cloned_4 13 rfl rfl)
theorem dX3_cloned_111 : decode cX3_cloned 111 = .ok (.iconst 0, 1) := dk_3 (dk_at dksX3_cloned_4 16 rfl rfl)
theorem dX3_cloned_112 : decode cX3_cloned 112 = .ok (.ireturn, 1) := dk_172 (dk_at dksX3_cloned_4 17 rfl rfl)
abbrev cX3_tell : ByteArray := prog_15_method_28_code
def yX3_tell : MethodName := ⟨RX3, "tell", "(II)I"⟩
def dkwX3_tell_2 : List UInt8 := [21, 4, 104, 4, 96, 133, 167, 0, 6, 21, 4, 133, 80, 29, 172]
abbrev dktX3_tell_2 : List UInt8 := dkwX3_tell_2 ++ []
def dkwX3_tell_1 : List UInt8 := [54, 4, 42, 180, 0, 29, 27, 42, 180, 0, 7, 42, 180, 0, 26, 28, 46, 46, 16, 9, 160, 0, 13, 5]
abbrev dktX3_tell_1 : List UInt8 := dkwX3_tell_1 ++ dktX3_tell_2
def dkwX3_tell_0 : List UInt8 := [42, 28, 16, 8, 182, 0, 154, 62, 29, 154, 0, 51, 42, 180, 0, 19, 42, 180, 0, 26, 28, 46, 46]
abbrev dktX3_tell_0 : List UInt8 := dkwX3_tell_0 ++ dktX3_tell_1
theorem dksX3_tell_0 : cX3_tell.data.toList.drop 0 = dktX3_tell_0 := by decide +kernel
theorem dksX3_tell_1 : cX3_tell.data.toList.drop 23 = dktX3_tell_1 := dk_seg dksX3_tell_0 23 rfl rfl
theorem dksX3_tell_2 : cX3_tell.data.toList.drop 47 = dktX3_tell_2 := dk_seg dksX3_tell_1 24 rfl rfl
theorem dX3_tell_0 : decode cX3_tell 0 = .ok (.aload_n 0, 1) := dk_42 (dk_at dksX3_tell_0 0 rfl rfl)
theorem dX3_tell_1 : decode cX3_tell 1 = .ok (.iload_n 2, 1) := dk_28 (dk_at dksX3_tell_0 1 rfl rfl)
theorem dX3_tell_2 : decode cX3_tell 2 = .ok (.bipush 8, 2) := dk_16 8 (dk_at dksX3_tell_0 2 rfl rfl)
theorem dX3_tell_4 : decode cX3_tell 4 = .ok (.invokevirtual 154, 3) := dk_182 0 154 (dk_at dksX3_tell_0 4 rfl rfl)
theorem dX3_tell_7 : decode cX3_tell 7 = .ok (.istore_n 3, 1) := dk_62 (dk_at dksX3_tell_0 7 rfl rfl)
theorem dX3_tell_8 : decode cX3_tell 8 = .ok (.iload_n 3, 1) := dk_29 (dk_at dksX3_tell_0 8 rfl rfl)
theorem dX3_tell_9 : decode cX3_tell 9 = .ok (.ifCond .ne 51, 3) := dk_154 0 51 (dk_at dksX3_tell_0 9 rfl rfl)
theorem dX3_tell_12 : decode cX3_tell 12 = .ok (.aload_n 0, 1) := dk_42 (dk_at dksX3_tell_0 12 rfl rfl)
theorem dX3_tell_13 : decode cX3_tell 13 = .ok (.getfield 19, 3) := dk_180 0 19 (dk_at dksX3_tell_0 13 rfl rfl)
theorem dX3_tell_16 : decode cX3_tell 16 = .ok (.aload_n 0, 1) := dk_42 (dk_at dksX3_tell_0 16 rfl rfl)
theorem dX3_tell_17 : decode cX3_tell 17 = .ok (.getfield 26, 3) := dk_180 0 26 (dk_at dksX3_tell_0 17 rfl rfl)
theorem dX3_tell_20 : decode cX3_tell 20 = .ok (.iload_n 2, 1) := dk_28 (dk_at dksX3_tell_0 20 rfl rfl)
theorem dX3_tell_21 : decode cX3_tell 21 = .ok (.iaload, 1) := dk_46 (dk_at dksX3_tell_0 21 rfl rfl)
theorem dX3_tell_22 : decode cX3_tell 22 = .ok (.iaload, 1) := dk_46 (dk_at dksX3_tell_0 22 rfl rfl)
theorem dX3_tell_23 : decode cX3_tell 23 = .ok (.istore 4, 2) := dk_54 4 (dk_at dksX3_tell_1 0 rfl rfl)
theorem dX3_tell_25 : decode cX3_tell 25 = .ok (.aload_n 0, 1) := dk_42 (dk_at dksX3_tell_1 2 rfl rfl)
theorem dX3_tell_26 : decode cX3_tell 26 = .ok (.getfield 29, 3) := dk_180 0 29 (dk_at dksX3_tell_1 3 rfl rfl)
theorem dX3_tell_29 : decode cX3_tell 29 = .ok (.iload_n 1, 1) := dk_27 (dk_at dksX3_tell_1 6 rfl rfl)
theorem dX3_tell_30 : decode cX3_tell 30 = .ok (.aload_n 0, 1) := dk_42 (dk_at dksX3_tell_1 7 rfl rfl)
theorem dX3_tell_31 : decode cX3_tell 31 = .ok (.getfield 7, 3) := dk_180 0 7 (dk_at dksX3_tell_1 8 rfl rfl)
theorem dX3_tell_34 : decode cX3_tell 34 = .ok (.aload_n 0, 1) := dk_42 (dk_at dksX3_tell_1 11 rfl rfl)
theorem dX3_tell_35 : decode cX3_tell 35 = .ok (.getfield 26, 3) := dk_180 0 26 (dk_at dksX3_tell_1 12 rfl rfl)
theorem dX3_tell_38 : decode cX3_tell 38 = .ok (.iload_n 2, 1) := dk_28 (dk_at dksX3_tell_1 15 rfl rfl)
theorem dX3_tell_39 : decode cX3_tell 39 = .ok (.iaload, 1) := dk_46 (dk_at dksX3_tell_1 16 rfl rfl)
theorem dX3_tell_40 : decode cX3_tell 40 = .ok (.iaload, 1) := dk_46 (dk_at dksX3_tell_1 17 rfl rfl)
theorem dX3_tell_41 : decode cX3_tell 41 = .ok (.bipush 9, 2) := dk_16 9 (dk_at dksX3_tell_1 18 rfl rfl)
theorem dX3_tell_43 : decode cX3_tell 43 = .ok (.if_icmp .ne 13, 3) := dk_160 0 13 (dk_at dksX3_tell_1 20 rfl rfl)
theorem dX3_tell_46 : decode cX3_tell 46 = .ok (.iconst 2, 1) := dk_5 (dk_at dksX3_tell_1 23 rfl rfl)
theorem dX3_tell_47 : decode cX3_tell 47 = .ok (.iload 4, 2) := dk_21 4 (dk_at dksX3_tell_2 0 rfl rfl)
theorem dX3_tell_49 : decode cX3_tell 49 = .ok (.imul, 1) := dk_104 (dk_at dksX3_tell_2 2 rfl rfl)
theorem dX3_tell_50 : decode cX3_tell 50 = .ok (.iconst 1, 1) := dk_4 (dk_at dksX3_tell_2 3 rfl rfl)
theorem dX3_tell_51 : decode cX3_tell 51 = .ok (.iadd, 1) := dk_96 (dk_at dksX3_tell_2 4 rfl rfl)
theorem dX3_tell_52 : decode cX3_tell 52 = .ok (.i2l, 1) := dk_133 (dk_at dksX3_tell_2 5 rfl rfl)
theorem dX3_tell_53 : decode cX3_tell 53 = .ok (.goto 6, 3) := dk_167 0 6 (dk_at dksX3_tell_2 6 rfl rfl)
theorem dX3_tell_56 : decode cX3_tell 56 = .ok (.iload 4, 2) := dk_21 4 (dk_at dksX3_tell_2 9 rfl rfl)
theorem dX3_tell_58 : decode cX3_tell 58 = .ok (.i2l, 1) := dk_133 (dk_at dksX3_tell_2 11 rfl rfl)
theorem dX3_tell_59 : decode cX3_tell 59 = .ok (.lastore, 1) := dk_80 (dk_at dksX3_tell_2 12 rfl rfl)
theorem dX3_tell_60 : decode cX3_tell 60 = .ok (.iload_n 3, 1) := dk_29 (dk_at dksX3_tell_2 13 rfl rfl)
theorem dX3_tell_61 : decode cX3_tell 61 = .ok (.ireturn, 1) := dk_172 (dk_at dksX3_tell_2 14 rfl rfl)
abbrev cX3_copy : ByteArray := prog_15_method_26_code
def yX3_copy : MethodName := ⟨RX3, "copy", "(IIIII)I"⟩
def dkwX3_copy_11 : List UInt8 := [42, 89, 180, 0, 177, 4, 96, 181, 0, 177, 132, 9, 1, 167, 255, 169, 3, 172]
abbrev dktX3_copy_11 : List UInt8 := dkwX3_copy_11 ++ []
def dkwX3_copy_10 : List UInt8 := [180, 0, 22, 42, 180, 0, 13, 21, 7, 46, 21, 4, 96, 21, 9, 96, 42, 180, 0, 57, 21, 9, 47, 80]
abbrev dktX3_copy_10 : List UInt8 := dkwX3_copy_10 ++ dktX3_copy_11
def dkwX3_copy_9 : List UInt8 := [153, 0, 22, 42, 42, 180, 0, 57, 21, 9, 47, 136, 21, 8, 182, 0, 146, 154, 0, 5, 8, 172, 42]
abbrev dktX3_copy_9 : List UInt8 := dkwX3_copy_9 ++ dktX3_copy_10
def dkwX3_copy_8 : List UInt8 := [162, 0, 86, 42, 180, 0, 7, 21, 7, 46, 8, 161, 0, 34, 42, 180, 0, 57, 21, 9, 47, 9, 148]
abbrev dktX3_copy_8 : List UInt8 := dkwX3_copy_8 ++ dktX3_copy_9
def dkwX3_copy_7 : List UInt8 := [21, 6, 46, 28, 96, 21, 9, 96, 47, 80, 132, 9, 1, 167, 255, 222, 3, 54, 9, 21, 9, 21, 5]
abbrev dktX3_copy_7 : List UInt8 := dkwX3_copy_7 ++ dktX3_copy_8
def dkwX3_copy_6 : List UInt8 := [3, 54, 9, 21, 9, 21, 5, 162, 0, 33, 42, 180, 0, 57, 21, 9, 42, 180, 0, 22, 42, 180, 0, 13]
abbrev dktX3_copy_6 : List UInt8 := dkwX3_copy_6 ++ dktX3_copy_7
def dkwX3_copy_5 : List UInt8 := [167, 0, 22, 42, 180, 0, 7, 21, 7, 46, 16, 6, 160, 0, 8, 16, 8, 167, 0, 5, 16, 9, 54, 8]
abbrev dktX3_copy_5 : List UInt8 := dkwX3_copy_5 ++ dktX3_copy_6
def dkwX3_copy_4 : List UInt8 := [21, 7, 46, 133, 148, 158, 0, 5, 6, 172, 42, 180, 0, 7, 21, 7, 46, 8, 160, 0, 7, 4]
abbrev dktX3_copy_4 : List UInt8 := dkwX3_copy_4 ++ dktX3_copy_5
def dkwX3_copy_3 : List UInt8 := [97, 42, 180, 0, 16, 21, 6, 46, 133, 148, 157, 0, 22, 21, 4, 133, 21, 5, 133, 97, 42, 180, 0, 16]
abbrev dktX3_copy_3 : List UInt8 := dkwX3_copy_3 ++ dktX3_copy_4
def dkwX3_copy_2 : List UInt8 := [154, 0, 5, 8, 172, 28, 155, 0, 50, 21, 4, 155, 0, 45, 21, 5, 155, 0, 40, 28, 133, 21, 5, 133]
abbrev dktX3_copy_2 : List UInt8 := dkwX3_copy_2 ++ dktX3_copy_3
def dkwX3_copy_1 : List UInt8 := [154, 0, 5, 4, 172, 42, 180, 0, 7, 21, 6, 46, 42, 180, 0, 7, 21, 7, 46, 184, 0, 174]
abbrev dktX3_copy_1 : List UInt8 := dkwX3_copy_1 ++ dktX3_copy_2
def dkwX3_copy_0 : List UInt8 := [42, 180, 0, 26, 27, 46, 54, 6, 42, 180, 0, 26, 29, 46, 54, 7, 21, 6, 153, 0, 8, 21, 7]
abbrev dktX3_copy_0 : List UInt8 := dkwX3_copy_0 ++ dktX3_copy_1
theorem dksX3_copy_0 : cX3_copy.data.toList.drop 0 = dktX3_copy_0 := by decide +kernel
theorem dksX3_copy_1 : cX3_copy.data.toList.drop 23 = dktX3_copy_1 := dk_seg dksX3_copy_0 23 rfl rfl
theorem dksX3_copy_2 : cX3_copy.data.toList.drop 45 = dktX3_copy_2 := dk_seg dksX3_copy_1 22 rfl rfl
theorem dksX3_copy_3 : cX3_copy.data.toList.drop 69 = dktX3_copy_3 := dk_seg dksX3_copy_2 24 rfl rfl
theorem dksX3_copy_4 : cX3_copy.data.toList.drop 93 = dktX3_copy_4 := dk_seg dksX3_copy_3 24 rfl rfl
theorem dksX3_copy_5 : cX3_copy.data.toList.drop 115 = dktX3_copy_5 := dk_seg dksX3_copy_4 22 rfl rfl
theorem dksX3_copy_6 : cX3_copy.data.toList.drop 139 = dktX3_copy_6 := dk_seg dksX3_copy_5 24 rfl rfl
theorem dksX3_copy_7 : cX3_copy.data.toList.drop 163 = dktX3_copy_7 := dk_seg dksX3_copy_6 24 rfl rfl
theorem dksX3_copy_8 : cX3_copy.data.toList.drop 186 = dktX3_copy_8 := dk_seg dksX3_copy_7 23 rfl rfl
theorem dksX3_copy_9 : cX3_copy.data.toList.drop 209 = dktX3_copy_9 := dk_seg dksX3_copy_8 23 rfl rfl
theorem dksX3_copy_10 : cX3_copy.data.toList.drop 232 = dktX3_copy_10 := dk_seg dksX3_copy_9 23 rfl rfl
theorem dksX3_copy_11 : cX3_copy.data.toList.drop 256 = dktX3_copy_11 := dk_seg dksX3_copy_10 24 rfl rfl
theorem dX3_copy_0 : decode cX3_copy 0 = .ok (.aload_n 0, 1) := dk_42 (dk_at dksX3_copy_0 0 rfl rfl)
theorem dX3_copy_1 : decode cX3_copy 1 = .ok (.getfield 26, 3) := dk_180 0 26 (dk_at dksX3_copy_0 1 rfl rfl)
theorem dX3_copy_4 : decode cX3_copy 4 = .ok (.iload_n 1, 1) := dk_27 (dk_at dksX3_copy_0 4 rfl rfl)
theorem dX3_copy_5 : decode cX3_copy 5 = .ok (.iaload, 1) := dk_46 (dk_at dksX3_copy_0 5 rfl rfl)
theorem dX3_copy_6 : decode cX3_copy 6 = .ok (.istore 6, 2) := dk_54 6 (dk_at dksX3_copy_0 6 rfl rfl)
theorem dX3_copy_8 : decode cX3_copy 8 = .ok (.aload_n 0, 1) := dk_42 (dk_at dksX3_copy_0 8 rfl rfl)
theorem dX3_copy_9 : decode cX3_copy 9 = .ok (.getfield 26, 3) := dk_180 0 26 (dk_at dksX3_copy_0 9 rfl rfl)
theorem dX3_copy_12 : decode cX3_copy 12 = .ok (.iload_n 3, 1) := dk_29 (dk_at dksX3_copy_0 12 rfl rfl)
theorem dX3_copy_13 : decode cX3_copy 13 = .ok (.iaload, 1) := dk_46 (dk_at dksX3_copy_0 13 rfl rfl)
theorem dX3_copy_14 : decode cX3_copy 14 = .ok (.istore 7, 2) := dk_54 7 (dk_at dksX3_copy_0 14 rfl rfl)
theorem dX3_copy_16 : decode cX3_copy 16 = .ok (.iload 6, 2) := dk_21 6 (dk_at dksX3_copy_0 16 rfl rfl)
theorem dX3_copy_18 : decode cX3_copy 18 = .ok (.ifCond .eq 8, 3) := dk_153 0 8 (dk_at dksX3_copy_0 18 rfl rfl)
theorem dX3_copy_21 : decode cX3_copy 21 = .ok (.iload 7, 2) := dk_21 7 (dk_at dksX3_copy_0 21 rfl rfl)
theorem dX3_copy_23 : decode cX3_copy 23 = .ok (.ifCond .ne 5, 3) := dk_154 0 5 (dk_at dksX3_copy_1 0 rfl rfl)
theorem dX3_copy_26 : decode cX3_copy 26 = .ok (.iconst 1, 1) := dk_4 (dk_at dksX3_copy_1 3 rfl rfl)
theorem dX3_copy_27 : decode cX3_copy 27 = .ok (.ireturn, 1) := dk_172 (dk_at dksX3_copy_1 4 rfl rfl)
theorem dX3_copy_28 : decode cX3_copy 28 = .ok (.aload_n 0, 1) := dk_42 (dk_at dksX3_copy_1 5 rfl rfl)
theorem dX3_copy_29 : decode cX3_copy 29 = .ok (.getfield 7, 3) := dk_180 0 7 (dk_at dksX3_copy_1 6 rfl rfl)
theorem dX3_copy_32 : decode cX3_copy 32 = .ok (.iload 6, 2) := dk_21 6 (dk_at dksX3_copy_1 9 rfl rfl)
theorem dX3_copy_34 : decode cX3_copy 34 = .ok (.iaload, 1) := dk_46 (dk_at dksX3_copy_1 11 rfl rfl)
theorem dX3_copy_35 : decode cX3_copy 35 = .ok (.aload_n 0, 1) := dk_42 (dk_at dksX3_copy_1 12 rfl rfl)
theorem dX3_copy_36 : decode cX3_copy 36 = .ok (.getfield 7, 3) := dk_180 0 7 (dk_at dksX3_copy_1 13 rfl rfl)
theorem dX3_copy_39 : decode cX3_copy 39 = .ok (.iload 7, 2) := dk_21 7 (dk_at dksX3_copy_1 16 rfl rfl)
theorem dX3_copy_41 : decode cX3_copy 41 = .ok (.iaload, 1) := dk_46 (dk_at dksX3_copy_1 18 rfl rfl)
theorem dX3_copy_42 : decode cX3_copy 42 = .ok (.invokestatic 174, 3) := dk_184 0 174 (dk_at dksX3_copy_1 19 rfl rfl)
theorem dX3_copy_45 : decode cX3_copy 45 = .ok (.ifCond .ne 5, 3) := dk_154 0 5 (dk_at dksX3_copy_2 0 rfl rfl)
theorem dX3_copy_48 : decode cX3_copy 48 = .ok (.iconst 5, 1) := dk_8 (dk_at dksX3_copy_2 3 rfl rfl)
theorem dX3_copy_49 : decode cX3_copy 49 = .ok (.ireturn, 1) := dk_172 (dk_at dksX3_copy_2 4 rfl rfl)
theorem dX3_copy_50 : decode cX3_copy 50 = .ok (.iload_n 2, 1) := dk_28 (dk_at dksX3_copy_2 5 rfl rfl)
theorem dX3_copy_51 : decode cX3_copy 51 = .ok (.ifCond .lt 50, 3) := dk_155 0 50 (dk_at dksX3_copy_2 6 rfl rfl)
theorem dX3_copy_54 : decode cX3_copy 54 = .ok (.iload 4, 2) := dk_21 4 (dk_at dksX3_copy_2 9 rfl rfl)
theorem dX3_copy_56 : decode cX3_copy 56 = .ok (.ifCond .lt 45, 3) := dk_155 0 45 (dk_at dksX3_copy_2 11 rfl rfl)
theorem dX3_copy_59 : decode cX3_copy 59 = .ok (.iload 5, 2) := dk_21 5 (dk_at dksX3_copy_2 14 rfl rfl)
theorem dX3_copy_61 : decode cX3_copy 61 = .ok (.ifCond .lt 40, 3) := dk_155 0 40 (dk_at dksX3_copy_2 16 rfl rfl)
theorem dX3_copy_64 : decode cX3_copy 64 = .ok (.iload_n 2, 1) := dk_28 (dk_at dksX3_copy_2 19 rfl rfl)
theorem dX3_copy_65 : decode cX3_copy 65 = .ok (.i2l, 1) := dk_133 (dk_at dksX3_copy_2 20 rfl rfl)
theorem dX3_copy_66 : decode cX3_copy 66 = .ok (.iload 5, 2) := dk_21 5 (dk_at dksX3_copy_2 21 rfl rfl)
theorem dX3_copy_68 : decode cX3_copy 68 = .ok (.i2l, 1) := dk_133 (dk_at dksX3_copy_2 23 rfl rfl)
theorem dX3_copy_69 : decode cX3_copy 69 = .ok (.ladd, 1) := dk_97 (dk_at dksX3_copy_3 0 rfl rfl)
theorem dX3_copy_70 : decode cX3_copy 70 = .ok (.aload_n 0, 1) := dk_42 (dk_at dksX3_copy_3 1 rfl rfl)
theorem dX3_copy_71 : decode cX3_copy 71 = .ok (.getfield 16, 3) := dk_180 0 16 (dk_at dksX3_copy_3 2 rfl rfl)
theorem dX3_copy_74 : decode cX3_copy 74 = .ok (.iload 6, 2) := dk_21 6 (dk_at dksX3_copy_3 5 rfl rfl)
theorem dX3_copy_76 : decode cX3_copy 76 = .ok (.iaload, 1) := dk_46 (dk_at dksX3_copy_3 7 rfl rfl)
theorem dX3_copy_77 : decode cX3_copy 77 = .ok (.i2l, 1) := dk_133 (dk_at dksX3_copy_3 8 rfl rfl)
theorem dX3_copy_78 : decode cX3_copy 78 = .ok (.lcmp, 1) := dk_148 (dk_at dksX3_copy_3 9 rfl rfl)
theorem dX3_copy_79 : decode cX3_copy 79 = .ok (.ifCond .gt 22, 3) := dk_157 0 22 (dk_at dksX3_copy_3 10 rfl rfl)
theorem dX3_copy_82 : decode cX3_copy 82 = .ok (.iload 4, 2) := dk_21 4 (dk_at dksX3_copy_3 13 rfl rfl)
theorem dX3_copy_84 : decode cX3_copy 84 = .ok (.i2l, 1) := dk_133 (dk_at dksX3_copy_3 15 rfl rfl)
theorem dX3_copy_85 : decode cX3_copy 85 = .ok (.iload 5, 2) := dk_21 5 (dk_at dksX3_copy_3 16 rfl rfl)
theorem dX3_copy_87 : decode cX3_copy 87 = .ok (.i2l, 1) := dk_133 (dk_at dksX3_copy_3 18 rfl rfl)
theorem dX3_copy_88 : decode cX3_copy 88 = .ok (.ladd, 1) := dk_97 (dk_at dksX3_copy_3 19 rfl rfl)
theorem dX3_copy_89 : decode cX3_copy 89 = .ok (.aload_n 0, 1) := dk_42 (dk_at dksX3_copy_3 20 rfl rfl)
theorem dX3_copy_90 : decode cX3_copy 90 = .ok (.getfield 16, 3) := dk_180 0 16 (dk_at dksX3_copy_3 21 rfl rfl)
theorem dX3_copy_93 : decode cX3_copy 93 = .ok (.iload 7, 2) := dk_21 7 (dk_at dksX3_copy_4 0 rfl rfl)
theorem dX3_copy_95 : decode cX3_copy 95 = .ok (.iaload, 1) := dk_46 (dk_at dksX3_copy_4 2 rfl rfl)
theorem dX3_copy_96 : decode cX3_copy 96 = .ok (.i2l, 1) := dk_133 (dk_at dksX3_copy_4 3 rfl rfl)
theorem dX3_copy_97 : decode cX3_copy 97 = .ok (.lcmp, 1) := dk_148 (dk_at dksX3_copy_4 4 rfl rfl)
theorem dX3_copy_98 : decode cX3_copy 98 = .ok (.ifCond .le 5, 3) := dk_158 0 5 (dk_at dksX3_copy_4 5 rfl rfl)
theorem dX3_copy_101 : decode cX3_copy 101 = .ok (.iconst 3, 1) := dk_6 (dk_at dksX3_copy_4 8 rfl rfl)
theorem dX3_copy_102 : decode cX3_copy 102 = .ok (.ireturn, 1) := dk_172 (dk_at dksX3_copy_4 9 rfl rfl)
theorem dX3_copy_103 : decode cX3_copy 103 = .ok (.aload_n 0, 1) := dk_42 (dk_at dksX3_copy_4 10 rfl rfl)
theorem dX3_copy_104 : decode cX3_copy 104 = .ok (.getfield 7, 3) := dk_180 0 7 (dk_at dksX3_copy_4 11 rfl rfl)
theorem dX3_copy_107 : decode cX3_copy 107 = .ok (.iload 7, 2) := dk_21 7 (dk_at dksX3_copy_4 14 rfl rfl)
theorem dX3_copy_109 : decode cX3_copy 109 = .ok (.iaload, 1) := dk_46 (dk_at dksX3_copy_4 16 rfl rfl)
theorem dX3_copy_110 : decode cX3_copy 110 = .ok (.iconst 5, 1) := dk_8 (dk_at dksX3_copy_4 17 rfl rfl)
theorem dX3_copy_111 : decode cX3_copy 111 = .ok (.if_icmp .ne 7, 3) := dk_160 0 7 (dk_at dksX3_copy_4 18 rfl rfl)
theorem dX3_copy_114 : decode cX3_copy 114 = .ok (.iconst 1, 1) := dk_4 (dk_at dksX3_copy_4 21 rfl rfl)
theorem dX3_copy_115 : decode cX3_copy 115 = .ok (.goto 22, 3) := dk_167 0 22 (dk_at dksX3_copy_5 0 rfl rfl)
theorem dX3_copy_118 : decode cX3_copy 118 = .ok (.aload_n 0, 1) := dk_42 (dk_at dksX3_copy_5 3 rfl rfl)
theorem dX3_copy_119 : decode cX3_copy 119 = .ok (.getfield 7, 3) := dk_180 0 7 (dk_at dksX3_copy_5 4 rfl rfl)
theorem dX3_copy_122 : decode cX3_copy 122 = .ok (.iload 7, 2) := dk_21 7 (dk_at dksX3_copy_5 7 rfl rfl)
theorem dX3_copy_124 : decode cX3_copy 124 = .ok (.iaload, 1) := dk_46 (dk_at dksX3_copy_5 9 rfl rfl)
theorem dX3_copy_125 : decode cX3_copy 125 = .ok (.bipush 6, 2) := dk_16 6 (dk_at dksX3_copy_5 10 rfl rfl)
theorem dX3_copy_127 : decode cX3_copy 127 = .ok (.if_icmp .ne 8, 3) := dk_160 0 8 (dk_at dksX3_copy_5 12 rfl rfl)
theorem dX3_copy_130 : decode cX3_copy 130 = .ok (.bipush 8, 2) := dk_16 8 (dk_at dksX3_copy_5 15 rfl rfl)
theorem dX3_copy_132 : decode cX3_copy 132 = .ok (.goto 5, 3) := dk_167 0 5 (dk_at dksX3_copy_5 17 rfl rfl)
theorem dX3_copy_135 : decode cX3_copy 135 = .ok (.bipush 9, 2) := dk_16 9 (dk_at dksX3_copy_5 20 rfl rfl)
theorem dX3_copy_137 : decode cX3_copy 137 = .ok (.istore 8, 2) := dk_54 8 (dk_at dksX3_copy_5 22 rfl rfl)
theorem dX3_copy_139 : decode cX3_copy 139 = .ok (.iconst 0, 1) := dk_3 (dk_at dksX3_copy_6 0 rfl rfl)
theorem dX3_copy_140 : decode cX3_copy 140 = .ok (.istore 9, 2) := dk_54 9 (dk_at dksX3_copy_6 1 rfl rfl)
theorem dX3_copy_142 : decode cX3_copy 142 = .ok (.iload 9, 2) := dk_21 9 (dk_at dksX3_copy_6 3 rfl rfl)
theorem dX3_copy_144 : decode cX3_copy 144 = .ok (.iload 5, 2) := dk_21 5 (dk_at dksX3_copy_6 5 rfl rfl)
theorem dX3_copy_146 : decode cX3_copy 146 = .ok (.if_icmp .ge 33, 3) := dk_162 0 33 (dk_at dksX3_copy_6 7 rfl rfl)
theorem dX3_copy_149 : decode cX3_copy 149 = .ok (.aload_n 0, 1) := dk_42 (dk_at dksX3_copy_6 10 rfl rfl)
theorem dX3_copy_150 : decode cX3_copy 150 = .ok (.getfield 57, 3) := dk_180 0 57 (dk_at dksX3_copy_6 11 rfl rfl)
theorem dX3_copy_153 : decode cX3_copy 153 = .ok (.iload 9, 2) := dk_21 9 (dk_at dksX3_copy_6 14 rfl rfl)
theorem dX3_copy_155 : decode cX3_copy 155 = .ok (.aload_n 0, 1) := dk_42 (dk_at dksX3_copy_6 16 rfl rfl)
theorem dX3_copy_156 : decode cX3_copy 156 = .ok (.getfield 22, 3) := dk_180 0 22 (dk_at dksX3_copy_6 17 rfl rfl)
theorem dX3_copy_159 : decode cX3_copy 159 = .ok (.aload_n 0, 1) := dk_42 (dk_at dksX3_copy_6 20 rfl rfl)
theorem dX3_copy_160 : decode cX3_copy 160 = .ok (.getfield 13, 3) := dk_180 0 13 (dk_at dksX3_copy_6 21 rfl rfl)
theorem dX3_copy_163 : decode cX3_copy 163 = .ok (.iload 6, 2) := dk_21 6 (dk_at dksX3_copy_7 0 rfl rfl)
theorem dX3_copy_165 : decode cX3_copy 165 = .ok (.iaload, 1) := dk_46 (dk_at dksX3_copy_7 2 rfl rfl)
theorem dX3_copy_166 : decode cX3_copy 166 = .ok (.iload_n 2, 1) := dk_28 (dk_at dksX3_copy_7 3 rfl rfl)
theorem dX3_copy_167 : decode cX3_copy 167 = .ok (.iadd, 1) := dk_96 (dk_at dksX3_copy_7 4 rfl rfl)
theorem dX3_copy_168 : decode cX3_copy 168 = .ok (.iload 9, 2) := dk_21 9 (dk_at dksX3_copy_7 5 rfl rfl)
theorem dX3_copy_170 : decode cX3_copy 170 = .ok (.iadd, 1) := dk_96 (dk_at dksX3_copy_7 7 rfl rfl)
theorem dX3_copy_171 : decode cX3_copy 171 = .ok (.laload, 1) := dk_47 (dk_at dksX3_copy_7 8 rfl rfl)
theorem dX3_copy_172 : decode cX3_copy 172 = .ok (.lastore, 1) := dk_80 (dk_at dksX3_copy_7 9 rfl rfl)
theorem dX3_copy_173 : decode cX3_copy 173 = .ok (.iinc 9 1, 3) := dk_132 9 1 (dk_at dksX3_copy_7 10 rfl rfl)
theorem dX3_copy_176 : decode cX3_copy 176 = .ok (.goto (-34), 3) := dk_167 255 222 (dk_at dksX3_copy_7 13 rfl rfl)
theorem dX3_copy_179 : decode cX3_copy 179 = .ok (.iconst 0, 1) := dk_3 (dk_at dksX3_copy_7 16 rfl rfl)
theorem dX3_copy_180 : decode cX3_copy 180 = .ok (.istore 9, 2) := dk_54 9 (dk_at dksX3_copy_7 17 rfl rfl)
theorem dX3_copy_182 : decode cX3_copy 182 = .ok (.iload 9, 2) := dk_21 9 (dk_at dksX3_copy_7 19 rfl rfl)
theorem dX3_copy_184 : decode cX3_copy 184 = .ok (.iload 5, 2) := dk_21 5 (dk_at dksX3_copy_7 21 rfl rfl)
theorem dX3_copy_186 : decode cX3_copy 186 = .ok (.if_icmp .ge 86, 3) := dk_162 0 86 (dk_at dksX3_copy_8 0 rfl rfl)
theorem dX3_copy_189 : decode cX3_copy 189 = .ok (.aload_n 0, 1) := dk_42 (dk_at dksX3_copy_8 3 rfl rfl)
theorem dX3_copy_190 : decode cX3_copy 190 = .ok (.getfield 7, 3) := dk_180 0 7 (dk_at dksX3_copy_8 4 rfl rfl)
theorem dX3_copy_193 : decode cX3_copy 193 = .ok (.iload 7, 2) := dk_21 7 (dk_at dksX3_copy_8 7 rfl rfl)
theorem dX3_copy_195 : decode cX3_copy 195 = .ok (.iaload, 1) := dk_46 (dk_at dksX3_copy_8 9 rfl rfl)
theorem dX3_copy_196 : decode cX3_copy 196 = .ok (.iconst 5, 1) := dk_8 (dk_at dksX3_copy_8 10 rfl rfl)
theorem dX3_copy_197 : decode cX3_copy 197 = .ok (.if_icmp .lt 34, 3) := dk_161 0 34 (dk_at dksX3_copy_8 11 rfl rfl)
theorem dX3_copy_200 : decode cX3_copy 200 = .ok (.aload_n 0, 1) := dk_42 (dk_at dksX3_copy_8 14 rfl rfl)
theorem dX3_copy_201 : decode cX3_copy 201 = .ok (.getfield 57, 3) := dk_180 0 57 (dk_at dksX3_copy_8 15 rfl rfl)
theorem dX3_copy_204 : decode cX3_copy 204 = .ok (.iload 9, 2) := dk_21 9 (dk_at dksX3_copy_8 18 rfl rfl)
theorem dX3_copy_206 : decode cX3_copy 206 = .ok (.laload, 1) := dk_47 (dk_at dksX3_copy_8 20 rfl rfl)
theorem dX3_copy_207 : decode cX3_copy 207 = .ok (.lconst 0, 1) := dk_9 (dk_at dksX3_copy_8 21 rfl rfl)
theorem dX3_copy_208 : decode cX3_copy 208 = .ok (.lcmp, 1) := dk_148 (dk_at dksX3_copy_8 22 rfl rfl)
theorem dX3_copy_209 : decode cX3_copy 209 = .ok (.ifCond .eq 22, 3) := dk_153 0 22 (dk_at dksX3_copy_9 0 rfl rfl)
theorem dX3_copy_212 : decode cX3_copy 212 = .ok (.aload_n 0, 1) := dk_42 (dk_at dksX3_copy_9 3 rfl rfl)
theorem dX3_copy_213 : decode cX3_copy 213 = .ok (.aload_n 0, 1) := dk_42 (dk_at dksX3_copy_9 4 rfl rfl)
theorem dX3_copy_214 : decode cX3_copy 214 = .ok (.getfield 57, 3) := dk_180 0 57 (dk_at dksX3_copy_9 5 rfl rfl)
theorem dX3_copy_217 : decode cX3_copy 217 = .ok (.iload 9, 2) := dk_21 9 (dk_at dksX3_copy_9 8 rfl rfl)
theorem dX3_copy_219 : decode cX3_copy 219 = .ok (.laload, 1) := dk_47 (dk_at dksX3_copy_9 10 rfl rfl)
theorem dX3_copy_220 : decode cX3_copy 220 = .ok (.l2i, 1) := dk_136 (dk_at dksX3_copy_9 11 rfl rfl)
theorem dX3_copy_221 : decode cX3_copy 221 = .ok (.iload 8, 2) := dk_21 8 (dk_at dksX3_copy_9 12 rfl rfl)
theorem dX3_copy_223 : decode cX3_copy 223 = .ok (.invokevirtual 146, 3) := dk_182 0 146 (dk_at dksX3_copy_9 14 rfl rfl)
theorem dX3_copy_226 : decode cX3_copy 226 = .ok (.ifCond .ne 5, 3) := dk_154 0 5 (dk_at dksX3_copy_9 17 rfl rfl)
theorem dX3_copy_229 : decode cX3_copy 229 = .ok (.iconst 5, 1) := dk_8 (dk_at dksX3_copy_9 20 rfl rfl)
theorem dX3_copy_230 : decode cX3_copy 230 = .ok (.ireturn, 1) := dk_172 (dk_at dksX3_copy_9 21 rfl rfl)
theorem dX3_copy_231 : decode cX3_copy 231 = .ok (.aload_n 0, 1) := dk_42 (dk_at dksX3_copy_9 22 rfl rfl)
theorem dX3_copy_232 : decode cX3_copy 232 = .ok (.getfield 22, 3) := dk_180 0 22 (dk_at dksX3_copy_10 0 rfl rfl)
theorem dX3_copy_235 : decode cX3_copy 235 = .ok (.aload_n 0, 1) := dk_42 (dk_at dksX3_copy_10 3 rfl rfl)
theorem dX3_copy_236 : decode cX3_copy 236 = .ok (.getfield 13, 3) := dk_180 0 13 (dk_at dksX3_copy_10 4 rfl rfl)
theorem dX3_copy_239 : decode cX3_copy 239 = .ok (.iload 7, 2) := dk_21 7 (dk_at dksX3_copy_10 7 rfl rfl)
theorem dX3_copy_241 : decode cX3_copy 241 = .ok (.iaload, 1) := dk_46 (dk_at dksX3_copy_10 9 rfl rfl)
theorem dX3_copy_242 : decode cX3_copy 242 = .ok (.iload 4, 2) := dk_21 4 (dk_at dksX3_copy_10 10 rfl rfl)
theorem dX3_copy_244 : decode cX3_copy 244 = .ok (.iadd, 1) := dk_96 (dk_at dksX3_copy_10 12 rfl rfl)
theorem dX3_copy_245 : decode cX3_copy 245 = .ok (.iload 9, 2) := dk_21 9 (dk_at dksX3_copy_10 13 rfl rfl)
theorem dX3_copy_247 : decode cX3_copy 247 = .ok (.iadd, 1) := dk_96 (dk_at dksX3_copy_10 15 rfl rfl)
theorem dX3_copy_248 : decode cX3_copy 248 = .ok (.aload_n 0, 1) := dk_42 (dk_at dksX3_copy_10 16 rfl rfl)
theorem dX3_copy_249 : decode cX3_copy 249 = .ok (.getfield 57, 3) := dk_180 0 57 (dk_at dksX3_copy_10 17 rfl rfl)
theorem dX3_copy_252 : decode cX3_copy 252 = .ok (.iload 9, 2) := dk_21 9 (dk_at dksX3_copy_10 20 rfl rfl)
theorem dX3_copy_254 : decode cX3_copy 254 = .ok (.laload, 1) := dk_47 (dk_at dksX3_copy_10 22 rfl rfl)
theorem dX3_copy_255 : decode cX3_copy 255 = .ok (.lastore, 1) := dk_80 (dk_at dksX3_copy_10 23 rfl rfl)
theorem dX3_copy_256 : decode cX3_copy 256 = .ok (.aload_n 0, 1) := dk_42 (dk_at dksX3_copy_11 0 rfl rfl)
theorem dX3_copy_257 : decode cX3_copy 257 = .ok (.dup, 1) := dk_89 (dk_at dksX3_copy_11 1 rfl rfl)
theorem dX3_copy_258 : decode cX3_copy 258 = .ok (.getfield 177, 3) := dk_180 0 177 (dk_at dksX3_copy_11 2 rfl rfl)
theorem dX3_copy_261 : decode cX3_copy 261 = .ok (.iconst 1, 1) := dk_4 (dk_at dksX3_copy_11 5 rfl rfl)
theorem dX3_copy_262 : decode cX3_copy 262 = .ok (.iadd, 1) := dk_96 (dk_at dksX3_copy_11 6 rfl rfl)
theorem dX3_copy_263 : decode cX3_copy 263 = .ok (.putfield 177, 3) := dk_181 0 177 (dk_at dksX3_copy_11 7 rfl rfl)
theorem dX3_copy_266 : decode cX3_copy 266 = .ok (.iinc 9 1, 3) := dk_132 9 1 (dk_at dksX3_copy_11 10 rfl rfl)
theorem dX3_copy_269 : decode cX3_copy 269 = .ok (.goto (-87), 3) := dk_167 255 169 (dk_at dksX3_copy_11 13 rfl rfl)
theorem dX3_copy_272 : decode cX3_copy 272 = .ok (.iconst 0, 1) := dk_3 (dk_at dksX3_copy_11 16 rfl rfl)
theorem dX3_copy_273 : decode cX3_copy 273 = .ok (.ireturn, 1) := dk_172 (dk_at dksX3_copy_11 17 rfl rfl)
abbrev cX3_meet : ByteArray := prog_15_method_25_code
def yX3_meet : MethodName := ⟨RX3, "meet", "(II)Z"⟩
def dkwX3_meet_1 : List UInt8 := [16, 7, 184, 0, 103, 153, 0, 7, 4, 167, 0, 4, 3, 172]
abbrev dktX3_meet_1 : List UInt8 := dkwX3_meet_1 ++ []
def dkwX3_meet_0 : List UInt8 := [26, 27, 160, 0, 9, 26, 16, 8, 161, 0, 23, 26, 8, 16, 7, 184, 0, 103, 153, 0, 17, 27, 8]
abbrev dktX3_meet_0 : List UInt8 := dkwX3_meet_0 ++ dktX3_meet_1
theorem dksX3_meet_0 : cX3_meet.data.toList.drop 0 = dktX3_meet_0 := by decide +kernel
theorem dksX3_meet_1 : cX3_meet.data.toList.drop 23 = dktX3_meet_1 := dk_seg dksX3_meet_0 23 rfl rfl
theorem dX3_meet_0 : decode cX3_meet 0 = .ok (.iload_n 0, 1) := dk_26 (dk_at dksX3_meet_0 0 rfl rfl)
theorem dX3_meet_1 : decode cX3_meet 1 = .ok (.iload_n 1, 1) := dk_27 (dk_at dksX3_meet_0 1 rfl rfl)
theorem dX3_meet_2 : decode cX3_meet 2 = .ok (.if_icmp .ne 9, 3) := dk_160 0 9 (dk_at dksX3_meet_0 2 rfl rfl)
theorem dX3_meet_5 : decode cX3_meet 5 = .ok (.iload_n 0, 1) := dk_26 (dk_at dksX3_meet_0 5 rfl rfl)
theorem dX3_meet_6 : decode cX3_meet 6 = .ok (.bipush 8, 2) := dk_16 8 (dk_at dksX3_meet_0 6 rfl rfl)
theorem dX3_meet_8 : decode cX3_meet 8 = .ok (.if_icmp .lt 23, 3) := dk_161 0 23 (dk_at dksX3_meet_0 8 rfl rfl)
theorem dX3_meet_11 : decode cX3_meet 11 = .ok (.iload_n 0, 1) := dk_26 (dk_at dksX3_meet_0 11 rfl rfl)
theorem dX3_meet_12 : decode cX3_meet 12 = .ok (.iconst 5, 1) := dk_8 (dk_at dksX3_meet_0 12 rfl rfl)
theorem dX3_meet_13 : decode cX3_meet 13 = .ok (.bipush 7, 2) := dk_16 7 (dk_at dksX3_meet_0 13 rfl rfl)
theorem dX3_meet_15 : decode cX3_meet 15 = .ok (.invokestatic 103, 3) := dk_184 0 103 (dk_at dksX3_meet_0 15 rfl rfl)
theorem dX3_meet_18 : decode cX3_meet 18 = .ok (.ifCond .eq 17, 3) := dk_153 0 17 (dk_at dksX3_meet_0 18 rfl rfl)
theorem dX3_meet_21 : decode cX3_meet 21 = .ok (.iload_n 1, 1) := dk_27 (dk_at dksX3_meet_0 21 rfl rfl)
theorem dX3_meet_22 : decode cX3_meet 22 = .ok (.iconst 5, 1) := dk_8 (dk_at dksX3_meet_0 22 rfl rfl)
theorem dX3_meet_23 : decode cX3_meet 23 = .ok (.bipush 7, 2) := dk_16 7 (dk_at dksX3_meet_1 0 rfl rfl)
theorem dX3_meet_25 : decode cX3_meet 25 = .ok (.invokestatic 103, 3) := dk_184 0 103 (dk_at dksX3_meet_1 2 rfl rfl)
theorem dX3_meet_28 : decode cX3_meet 28 = .ok (.ifCond .eq 7, 3) := dk_153 0 7 (dk_at dksX3_meet_1 5 rfl rfl)
theorem dX3_meet_31 : decode cX3_meet 31 = .ok (.iconst 1, 1) := dk_4 (dk_at dksX3_meet_1 8 rfl rfl)
theorem dX3_meet_32 : decode cX3_meet 32 = .ok (.goto 4, 3) := dk_167 0 4 (dk_at dksX3_meet_1 9 rfl rfl)
theorem dX3_meet_35 : decode cX3_meet 35 = .ok (.iconst 0, 1) := dk_3 (dk_at dksX3_meet_1 12 rfl rfl)
theorem dX3_meet_36 : decode cX3_meet 36 = .ok (.ireturn, 1) := dk_172 (dk_at dksX3_meet_1 13 rfl rfl)
abbrev cX3_divide : ByteArray := prog_15_method_27_code
def yX3_divide : MethodName := ⟨RX3, "divide", "(IIIZ)I"⟩
def dkwX3_divide_3 : List UInt8 := [180, 0, 29, 29, 47, 105, 101, 167, 0, 5, 22, 5, 80, 3, 172]
abbrev dktX3_divide_3 : List UInt8 := dkwX3_divide_3 ++ []
def dkwX3_divide_2 : List UInt8 := [47, 109, 55, 5, 42, 180, 0, 29, 27, 21, 4, 153, 0, 22, 42, 180, 0, 29, 28, 47, 22, 5, 42]
abbrev dktX3_divide_2 : List UInt8 := dkwX3_divide_2 ++ dktX3_divide_3
def dkwX3_divide_1 : List UInt8 := [154, 0, 13, 42, 180, 0, 29, 28, 47, 117, 167, 0, 16, 42, 180, 0, 29, 28, 47, 42, 180, 0, 29, 29]
abbrev dktX3_divide_1 : List UInt8 := dkwX3_divide_1 ++ dktX3_divide_2
def dkwX3_divide_0 : List UInt8 := [42, 180, 0, 29, 29, 47, 9, 148, 154, 0, 6, 16, 6, 172, 42, 180, 0, 29, 29, 47, 20, 0, 180, 148]
abbrev dktX3_divide_0 : List UInt8 := dkwX3_divide_0 ++ dktX3_divide_1
theorem dksX3_divide_0 : cX3_divide.data.toList.drop 0 = dktX3_divide_0 := by decide +kernel
theorem dksX3_divide_1 : cX3_divide.data.toList.drop 24 = dktX3_divide_1 := dk_seg dksX3_divide_0 24 rfl rfl
theorem dksX3_divide_2 : cX3_divide.data.toList.drop 48 = dktX3_divide_2 := dk_seg dksX3_divide_1 24 rfl rfl
theorem dksX3_divide_3 : cX3_divide.data.toList.drop 71 = dktX3_divide_3 := dk_seg dksX3_divide_2 23 rfl rfl
theorem dX3_divide_0 : decode cX3_divide 0 = .ok (.aload_n 0, 1) := dk_42 (dk_at dksX3_divide_0 0 rfl rfl)
theorem dX3_divide_1 : decode cX3_divide 1 = .ok (.getfield 29, 3) := dk_180 0 29 (dk_at dksX3_divide_0 1 rfl rfl)
theorem dX3_divide_4 : decode cX3_divide 4 = .ok (.iload_n 3, 1) := dk_29 (dk_at dksX3_divide_0 4 rfl rfl)
theorem dX3_divide_5 : decode cX3_divide 5 = .ok (.laload, 1) := dk_47 (dk_at dksX3_divide_0 5 rfl rfl)
theorem dX3_divide_6 : decode cX3_divide 6 = .ok (.lconst 0, 1) := dk_9 (dk_at dksX3_divide_0 6 rfl rfl)
theorem dX3_divide_7 : decode cX3_divide 7 = .ok (.lcmp, 1) := dk_148 (dk_at dksX3_divide_0 7 rfl rfl)
theorem dX3_divide_8 : decode cX3_divide 8 = .ok (.ifCond .ne 6, 3) := dk_154 0 6 (dk_at dksX3_divide_0 8 rfl rfl)
theorem dX3_divide_11 : decode cX3_divide 11 = .ok (.bipush 6, 2) := dk_16 6 (dk_at dksX3_divide_0 11 rfl rfl)
theorem dX3_divide_13 : decode cX3_divide 13 = .ok (.ireturn, 1) := dk_172 (dk_at dksX3_divide_0 13 rfl rfl)
theorem dX3_divide_14 : decode cX3_divide 14 = .ok (.aload_n 0, 1) := dk_42 (dk_at dksX3_divide_0 14 rfl rfl)
theorem dX3_divide_15 : decode cX3_divide 15 = .ok (.getfield 29, 3) := dk_180 0 29 (dk_at dksX3_divide_0 15 rfl rfl)
theorem dX3_divide_18 : decode cX3_divide 18 = .ok (.iload_n 3, 1) := dk_29 (dk_at dksX3_divide_0 18 rfl rfl)
theorem dX3_divide_19 : decode cX3_divide 19 = .ok (.laload, 1) := dk_47 (dk_at dksX3_divide_0 19 rfl rfl)
theorem dX3_divide_20 : decode cX3_divide 20 = .ok (.ldc2_w 180, 3) := dk_20 0 180 (dk_at dksX3_divide_0 20 rfl rfl)
theorem dX3_divide_23 : decode cX3_divide 23 = .ok (.lcmp, 1) := dk_148 (dk_at dksX3_divide_0 23 rfl rfl)
theorem dX3_divide_24 : decode cX3_divide 24 = .ok (.ifCond .ne 13, 3) := dk_154 0 13 (dk_at dksX3_divide_1 0 rfl rfl)
theorem dX3_divide_27 : decode cX3_divide 27 = .ok (.aload_n 0, 1) := dk_42 (dk_at dksX3_divide_1 3 rfl rfl)
theorem dX3_divide_28 : decode cX3_divide 28 = .ok (.getfield 29, 3) := dk_180 0 29 (dk_at dksX3_divide_1 4 rfl rfl)
theorem dX3_divide_31 : decode cX3_divide 31 = .ok (.iload_n 2, 1) := dk_28 (dk_at dksX3_divide_1 7 rfl rfl)
theorem dX3_divide_32 : decode cX3_divide 32 = .ok (.laload, 1) := dk_47 (dk_at dksX3_divide_1 8 rfl rfl)
theorem dX3_divide_33 : decode cX3_divide 33 = .ok (.lneg, 1) := dk_117 (dk_at dksX3_divide_1 9 rfl rfl)
theorem dX3_divide_34 : decode cX3_divide 34 = .ok (.goto 16, 3) := dk_167 0 16 (dk_at dksX3_divide_1 10 rfl rfl)
theorem dX3_divide_37 : decode cX3_divide 37 = .ok (.aload_n 0, 1) := dk_42 (dk_at dksX3_divide_1 13 rfl rfl)
theorem dX3_divide_38 : decode cX3_divide 38 = .ok (.getfield 29, 3) := dk_180 0 29 (dk_at dksX3_divide_1 14 rfl rfl)
theorem dX3_divide_41 : decode cX3_divide 41 = .ok (.iload_n 2, 1) := dk_28 (dk_at dksX3_divide_1 17 rfl rfl)
theorem dX3_divide_42 : decode cX3_divide 42 = .ok (.laload, 1) := dk_47 (dk_at dksX3_divide_1 18 rfl rfl)
theorem dX3_divide_43 : decode cX3_divide 43 = .ok (.aload_n 0, 1) := dk_42 (dk_at dksX3_divide_1 19 rfl rfl)
theorem dX3_divide_44 : decode cX3_divide 44 = .ok (.getfield 29, 3) := dk_180 0 29 (dk_at dksX3_divide_1 20 rfl rfl)
theorem dX3_divide_47 : decode cX3_divide 47 = .ok (.iload_n 3, 1) := dk_29 (dk_at dksX3_divide_1 23 rfl rfl)
theorem dX3_divide_48 : decode cX3_divide 48 = .ok (.laload, 1) := dk_47 (dk_at dksX3_divide_2 0 rfl rfl)
theorem dX3_divide_49 : decode cX3_divide 49 = .ok (.ldiv, 1) := dk_109 (dk_at dksX3_divide_2 1 rfl rfl)
theorem dX3_divide_50 : decode cX3_divide 50 = .ok (.lstore 5, 2) := dk_55 5 (dk_at dksX3_divide_2 2 rfl rfl)
theorem dX3_divide_52 : decode cX3_divide 52 = .ok (.aload_n 0, 1) := dk_42 (dk_at dksX3_divide_2 4 rfl rfl)
theorem dX3_divide_53 : decode cX3_divide 53 = .ok (.getfield 29, 3) := dk_180 0 29 (dk_at dksX3_divide_2 5 rfl rfl)
theorem dX3_divide_56 : decode cX3_divide 56 = .ok (.iload_n 1, 1) := dk_27 (dk_at dksX3_divide_2 8 rfl rfl)
theorem dX3_divide_57 : decode cX3_divide 57 = .ok (.iload 4, 2) := dk_21 4 (dk_at dksX3_divide_2 9 rfl rfl)
theorem dX3_divide_59 : decode cX3_divide 59 = .ok (.ifCond .eq 22, 3) := dk_153 0 22 (dk_at dksX3_divide_2 11 rfl rfl)
theorem dX3_divide_62 : decode cX3_divide 62 = .ok (.aload_n 0, 1) := dk_42 (dk_at dksX3_divide_2 14 rfl rfl)
theorem dX3_divide_63 : decode cX3_divide 63 = .ok (.getfield 29, 3) := dk_180 0 29 (dk_at dksX3_divide_2 15 rfl rfl)
theorem dX3_divide_66 : decode cX3_divide 66 = .ok (.iload_n 2, 1) := dk_28 (dk_at dksX3_divide_2 18 rfl rfl)
theorem dX3_divide_67 : decode cX3_divide 67 = .ok (.laload, 1) := dk_47 (dk_at dksX3_divide_2 19 rfl rfl)
theorem dX3_divide_68 : decode cX3_divide 68 = .ok (.lload 5, 2) := dk_22 5 (dk_at dksX3_divide_2 20 rfl rfl)
theorem dX3_divide_70 : decode cX3_divide 70 = .ok (.aload_n 0, 1) := dk_42 (dk_at dksX3_divide_2 22 rfl rfl)
theorem dX3_divide_71 : decode cX3_divide 71 = .ok (.getfield 29, 3) := dk_180 0 29 (dk_at dksX3_divide_3 0 rfl rfl)
theorem dX3_divide_74 : decode cX3_divide 74 = .ok (.iload_n 3, 1) := dk_29 (dk_at dksX3_divide_3 3 rfl rfl)
theorem dX3_divide_75 : decode cX3_divide 75 = .ok (.laload, 1) := dk_47 (dk_at dksX3_divide_3 4 rfl rfl)
theorem dX3_divide_76 : decode cX3_divide 76 = .ok (.lmul, 1) := dk_105 (dk_at dksX3_divide_3 5 rfl rfl)
theorem dX3_divide_77 : decode cX3_divide 77 = .ok (.lsub, 1) := dk_101 (dk_at dksX3_divide_3 6 rfl rfl)
theorem dX3_divide_78 : decode cX3_divide 78 = .ok (.goto 5, 3) := dk_167 0 5 (dk_at dksX3_divide_3 7 rfl rfl)
theorem dX3_divide_81 : decode cX3_divide 81 = .ok (.lload 5, 2) := dk_22 5 (dk_at dksX3_divide_3 10 rfl rfl)
theorem dX3_divide_83 : decode cX3_divide 83 = .ok (.lastore, 1) := dk_80 (dk_at dksX3_divide_3 12 rfl rfl)
theorem dX3_divide_84 : decode cX3_divide 84 = .ok (.iconst 0, 1) := dk_3 (dk_at dksX3_divide_3 13 rfl rfl)
theorem dX3_divide_85 : decode cX3_divide 85 = .ok (.ireturn, 1) := dk_172 (dk_at dksX3_divide_3 14 rfl rfl)
abbrev cX3_ofGuard : ByteArray := prog_15_method_39_code
def yX3_ofGuard : MethodName := ⟨RX3, "ofGuard", "(II)I"⟩
def dkwX3_ofGuard_9 : List UInt8 := [182, 0, 244, 3, 172]
abbrev dktX3_ofGuard_9 : List UInt8 := dkwX3_ofGuard_9 ++ []
def dkwX3_ofGuard_8 : List UInt8 := [181, 0, 251, 42, 180, 0, 66, 42, 180, 0, 228, 21, 5, 79, 42, 6, 42, 180, 0, 47, 27, 46]
abbrev dktX3_ofGuard_8 : List UInt8 := dkwX3_ofGuard_8 ++ dktX3_ofGuard_9
def dkwX3_ofGuard_7 : List UInt8 := [156, 0, 16, 42, 89, 180, 0, 228, 4, 100, 181, 0, 228, 21, 5, 172, 42, 89, 180, 0, 251, 4, 96]
abbrev dktX3_ofGuard_7 : List UInt8 := dkwX3_ofGuard_7 ++ dktX3_ofGuard_8
def dkwX3_ofGuard_6 : List UInt8 := [182, 0, 244, 3, 172, 21, 4, 153, 0, 7, 3, 167, 0, 4, 28, 54, 5, 42, 180, 0, 47, 27, 46]
abbrev dktX3_ofGuard_6 : List UInt8 := dkwX3_ofGuard_6 ++ dktX3_ofGuard_7
def dkwX3_ofGuard_5 : List UInt8 := [54, 4, 21, 4, 153, 0, 25, 42, 180, 0, 44, 27, 46, 155, 0, 16, 42, 5, 42, 180, 0, 44, 27, 46]
abbrev dktX3_ofGuard_5 : List UInt8 := dkwX3_ofGuard_5 ++ dktX3_ofGuard_6
def dkwX3_ofGuard_4 : List UInt8 := [29, 4, 160, 0, 21, 42, 180, 0, 41, 27, 46, 28, 122, 4, 126, 4, 160, 0, 7, 4, 167, 0, 4, 3]
abbrev dktX3_ofGuard_4 : List UInt8 := dkwX3_ofGuard_4 ++ dktX3_ofGuard_5
def dkwX3_ofGuard_3 : List UInt8 := [42, 180, 0, 66, 42, 180, 0, 228, 46, 54, 4, 42, 89, 180, 0, 228, 4, 100, 181, 0, 228, 21, 4, 172]
abbrev dktX3_ofGuard_3 : List UInt8 := dkwX3_ofGuard_3 ++ dktX3_ofGuard_4
def dkwX3_ofGuard_2 : List UInt8 := [180, 0, 228, 46, 153, 0, 7, 4, 167, 0, 4, 3, 96, 181, 0, 248, 28, 153, 0, 7, 28, 167, 0, 12]
abbrev dktX3_ofGuard_2 : List UInt8 := dkwX3_ofGuard_2 ++ dktX3_ofGuard_3
def dkwX3_ofGuard_1 : List UInt8 := [182, 0, 244, 3, 172, 29, 6, 160, 0, 65, 42, 89, 180, 0, 248, 28, 153, 0, 19, 42, 180, 0, 66, 42]
abbrev dktX3_ofGuard_1 : List UInt8 := dkwX3_ofGuard_1 ++ dktX3_ofGuard_2
def dkwX3_ofGuard_0 : List UInt8 := [42, 180, 0, 63, 42, 180, 0, 228, 46, 62, 29, 154, 0, 16, 42, 4, 42, 180, 0, 38, 27, 46]
abbrev dktX3_ofGuard_0 : List UInt8 := dkwX3_ofGuard_0 ++ dktX3_ofGuard_1
theorem dksX3_ofGuard_0 : cX3_ofGuard.data.toList.drop 0 = dktX3_ofGuard_0 := by decide +kernel
theorem dksX3_ofGuard_1 : cX3_ofGuard.data.toList.drop 22 = dktX3_ofGuard_1 := dk_seg dksX3_ofGuard_0 22 rfl rfl
theorem dksX3_ofGuard_2 : cX3_ofGuard.data.toList.drop 46 = dktX3_ofGuard_2 := dk_seg dksX3_ofGuard_1 24 rfl rfl
theorem dksX3_ofGuard_3 : cX3_ofGuard.data.toList.drop 70 = dktX3_ofGuard_3 := dk_seg dksX3_ofGuard_2 24 rfl rfl
theorem dksX3_ofGuard_4 : cX3_ofGuard.data.toList.drop 94 = dktX3_ofGuard_4 := dk_seg dksX3_ofGuard_3 24 rfl rfl
theorem dksX3_ofGuard_5 : cX3_ofGuard.data.toList.drop 118 = dktX3_ofGuard_5 := dk_seg dksX3_ofGuard_4 24 rfl rfl
theorem dksX3_ofGuard_6 : cX3_ofGuard.data.toList.drop 142 = dktX3_ofGuard_6 := dk_seg dksX3_ofGuard_5 24 rfl rfl
theorem dksX3_ofGuard_7 : cX3_ofGuard.data.toList.drop 165 = dktX3_ofGuard_7 := dk_seg dksX3_ofGuard_6 23 rfl rfl
theorem dksX3_ofGuard_8 : cX3_ofGuard.data.toList.drop 188 = dktX3_ofGuard_8 := dk_seg dksX3_ofGuard_7 23 rfl rfl
theorem dksX3_ofGuard_9 : cX3_ofGuard.data.toList.drop 210 = dktX3_ofGuard_9 := dk_seg dksX3_ofGuard_8 22 rfl rfl
theorem dX3_ofGuard_0 : decode cX3_ofGuard 0 = .ok (.aload_n 0, 1) := dk_42 (dk_at dksX3_ofGuard_0 0 rfl rfl)
theorem dX3_ofGuard_1 : decode cX3_ofGuard 1 = .ok (.getfield 63, 3) := dk_180 0 63 (dk_at dksX3_ofGuard_0 1 rfl rfl)
theorem dX3_ofGuard_4 : decode cX3_ofGuard 4 = .ok (.aload_n 0, 1) := dk_42 (dk_at dksX3_ofGuard_0 4 rfl rfl)
theorem dX3_ofGuard_5 : decode cX3_ofGuard 5 = .ok (.getfield 228, 3) := dk_180 0 228 (dk_at dksX3_ofGuard_0 5 rfl rfl)
theorem dX3_ofGuard_8 : decode cX3_ofGuard 8 = .ok (.iaload, 1) := dk_46 (dk_at dksX3_ofGuard_0 8 rfl rfl)
theorem dX3_ofGuard_9 : decode cX3_ofGuard 9 = .ok (.istore_n 3, 1) := dk_62 (dk_at dksX3_ofGuard_0 9 rfl rfl)
theorem dX3_ofGuard_10 : decode cX3_ofGuard 10 = .ok (.iload_n 3, 1) := dk_29 (dk_at dksX3_ofGuard_0 10 rfl rfl)
theorem dX3_ofGuard_11 : decode cX3_ofGuard 11 = .ok (.ifCond .ne 16, 3) := dk_154 0 16 (dk_at dksX3_ofGuard_0 11 rfl rfl)
theorem dX3_ofGuard_14 : decode cX3_ofGuard 14 = .ok (.aload_n 0, 1) := dk_42 (dk_at dksX3_ofGuard_0 14 rfl rfl)
theorem dX3_ofGuard_15 : decode cX3_ofGuard 15 = .ok (.iconst 1, 1) := dk_4 (dk_at dksX3_ofGuard_0 15 rfl rfl)
theorem dX3_ofGuard_16 : decode cX3_ofGuard 16 = .ok (.aload_n 0, 1) := dk_42 (dk_at dksX3_ofGuard_0 16 rfl rfl)
theorem dX3_ofGuard_17 : decode cX3_ofGuard 17 = .ok (.getfield 38, 3) := dk_180 0 38 (dk_at dksX3_ofGuard_0 17 rfl rfl)
theorem dX3_ofGuard_20 : decode cX3_ofGuard 20 = .ok (.iload_n 1, 1) := dk_27 (dk_at dksX3_ofGuard_0 20 rfl rfl)
theorem dX3_ofGuard_21 : decode cX3_ofGuard 21 = .ok (.iaload, 1) := dk_46 (dk_at dksX3_ofGuard_0 21 rfl rfl)
theorem dX3_ofGuard_22 : decode cX3_ofGuard 22 = .ok (.invokevirtual 244, 3) := dk_182 0 244 (dk_at dksX3_ofGuard_1 0 rfl rfl)
theorem dX3_ofGuard_25 : decode cX3_ofGuard 25 = .ok (.iconst 0, 1) := dk_3 (dk_at dksX3_ofGuard_1 3 rfl rfl)
theorem dX3_ofGuard_26 : decode cX3_ofGuard 26 = .ok (.ireturn, 1) := dk_172 (dk_at dksX3_ofGuard_1 4 rfl rfl)
theorem dX3_ofGuard_27 : decode cX3_ofGuard 27 = .ok (.iload_n 3, 1) := dk_29 (dk_at dksX3_ofGuard_1 5 rfl rfl)
theorem dX3_ofGuard_28 : decode cX3_ofGuard 28 = .ok (.iconst 3, 1) := dk_6 (dk_at dksX3_ofGuard_1 6 rfl rfl)
theorem dX3_ofGuard_29 : decode cX3_ofGuard 29 = .ok (.if_icmp .ne 65, 3) := dk_160 0 65 (dk_at dksX3_ofGuard_1 7 rfl rfl)
theorem dX3_ofGuard_32 : decode cX3_ofGuard 32 = .ok (.aload_n 0, 1) := dk_42 (dk_at dksX3_ofGuard_1 10 rfl rfl)
theorem dX3_ofGuard_33 : decode cX3_ofGuard 33 = .ok (.dup, 1) := dk_89 (dk_at dksX3_ofGuard_1 11 rfl rfl)
theorem dX3_ofGuard_34 : decode cX3_ofGuard 34 = .ok (.getfield 248, 3) := dk_180 0 248 (dk_at dksX3_ofGuard_1 12 rfl rfl)
theorem dX3_ofGuard_37 : decode cX3_ofGuard 37 = .ok (.iload_n 2, 1) := dk_28 (dk_at dksX3_ofGuard_1 15 rfl rfl)
theorem dX3_ofGuard_38 : decode cX3_ofGuard 38 = .ok (.ifCond .eq 19, 3) := dk_153 0 19 (dk_at dksX3_ofGuard_1 16 rfl rfl)
theorem dX3_ofGuard_41 : decode cX3_ofGuard 41 = .ok (.aload_n 0, 1) := dk_42 (dk_at dksX3_ofGuard_1 19 rfl rfl)
theorem dX3_ofGuard_42 : decode cX3_ofGuard 42 = .ok (.getfield 66, 3) := dk_180 0 66 (dk_at dksX3_ofGuard_1 20 rfl rfl)
theorem dX3_ofGuard_45 : decode cX3_ofGuard 45 = .ok (.aload_n 0, 1) := dk_42 (dk_at dksX3_ofGuard_1 23 rfl rfl)
theorem dX3_ofGuard_46 : decode cX3_ofGuard 46 = .ok (.getfield 228, 3) := dk_180 0 228 (dk_at dksX3_ofGuard_2 0 rfl rfl)
theorem dX3_ofGuard_49 : decode cX3_ofGuard 49 = .ok (.iaload, 1) := dk_46 (dk_at dksX3_ofGuard_2 3 rfl rfl)
theorem dX3_ofGuard_50 : decode cX3_ofGuard 50 = .ok (.ifCond .eq 7, 3) := dk_153 0 7 (dk_at dksX3_ofGuard_2 4 rfl rfl)
theorem dX3_ofGuard_53 : decode cX3_ofGuard 53 = .ok (.iconst 1, 1) := dk_4 (dk_at dksX3_ofGuard_2 7 rfl rfl)
theorem dX3_ofGuard_54 : decode cX3_ofGuard 54 = .ok (.goto 4, 3) := dk_167 0 4 (dk_at dksX3_ofGuard_2 8 rfl rfl)
theorem dX3_ofGuard_57 : decode cX3_ofGuard 57 = .ok (.iconst 0, 1) := dk_3 (dk_at dksX3_ofGuard_2 11 rfl rfl)
theorem dX3_ofGuard_58 : decode cX3_ofGuard 58 = .ok (.iadd, 1) := dk_96 (dk_at dksX3_ofGuard_2 12 rfl rfl)
theorem dX3_ofGuard_59 : decode cX3_ofGuard 59 = .ok (.putfield 248, 3) := dk_181 0 248 (dk_at dksX3_ofGuard_2 13 rfl rfl)
theorem dX3_ofGuard_62 : decode cX3_ofGuard 62 = .ok (.iload_n 2, 1) := dk_28 (dk_at dksX3_ofGuard_2 16 rfl rfl)
theorem dX3_ofGuard_63 : decode cX3_ofGuard 63 = .ok (.ifCond .eq 7, 3) := dk_153 0 7 (dk_at dksX3_ofGuard_2 17 rfl rfl)
theorem dX3_ofGuard_66 : decode cX3_ofGuard 66 = .ok (.iload_n 2, 1) := dk_28 (dk_at dksX3_ofGuard_2 20 rfl rfl)
theorem dX3_ofGuard_67 : decode cX3_ofGuard 67 = .ok (.goto 12, 3) := dk_167 0 12 (dk_at dksX3_ofGuard_2 21 rfl rfl)
theorem dX3_ofGuard_70 : decode cX3_ofGuard 70 = .ok (.aload_n 0, 1) := dk_42 (dk_at dksX3_ofGuard_3 0 rfl rfl)
theorem dX3_ofGuard_71 : decode cX3_ofGuard 71 = .ok (.getfield 66, 3) := dk_180 0 66 (dk_at dksX3_ofGuard_3 1 rfl rfl)
theorem dX3_ofGuard_74 : decode cX3_ofGuard 74 = .ok (.aload_n 0, 1) := dk_42 (dk_at dksX3_ofGuard_3 4 rfl rfl)
theorem dX3_ofGuard_75 : decode cX3_ofGuard 75 = .ok (.getfield 228, 3) := dk_180 0 228 (dk_at dksX3_ofGuard_3 5 rfl rfl)
theorem dX3_ofGuard_78 : decode cX3_ofGuard 78 = .ok (.iaload, 1) := dk_46 (dk_at dksX3_ofGuard_3 8 rfl rfl)
theorem dX3_ofGuard_79 : decode cX3_ofGuard 79 = .ok (.istore 4, 2) := dk_54 4 (dk_at dksX3_ofGuard_3 9 rfl rfl)
theorem dX3_ofGuard_81 : decode cX3_ofGuard 81 = .ok (.aload_n 0, 1) := dk_42 (dk_at dksX3_ofGuard_3 11 rfl rfl)
theorem dX3_ofGuard_82 : decode cX3_ofGuard 82 = .ok (.dup, 1) := dk_89 (dk_at dksX3_ofGuard_3 12 rfl rfl)
theorem dX3_ofGuard_83 : decode cX3_ofGuard 83 = .ok (.getfield 228, 3) := dk_180 0 228 (dk_at dksX3_ofGuard_3 13 rfl rfl)
theorem dX3_ofGuard_86 : decode cX3_ofGuard 86 = .ok (.iconst 1, 1) := dk_4 (dk_at dksX3_ofGuard_3 16 rfl rfl)
theorem dX3_ofGuard_87 : decode cX3_ofGuard 87 = .ok (.isub, 1) := dk_100 (dk_at dksX3_ofGuard_3 17 rfl rfl)
theorem dX3_ofGuard_88 : decode cX3_ofGuard 88 = .ok (.putfield 228, 3) := dk_181 0 228 (dk_at dksX3_ofGuard_3 18 rfl rfl)
theorem dX3_ofGuard_91 : decode cX3_ofGuard 91 = .ok (.iload 4, 2) := dk_21 4 (dk_at dksX3_ofGuard_3 21 rfl rfl)
theorem dX3_ofGuard_93 : decode cX3_ofGuard 93 = .ok (.ireturn, 1) := dk_172 (dk_at dksX3_ofGuard_3 23 rfl rfl)
theorem dX3_ofGuard_94 : decode cX3_ofGuard 94 = .ok (.iload_n 3, 1) := dk_29 (dk_at dksX3_ofGuard_4 0 rfl rfl)
theorem dX3_ofGuard_95 : decode cX3_ofGuard 95 = .ok (.iconst 1, 1) := dk_4 (dk_at dksX3_ofGuard_4 1 rfl rfl)
theorem dX3_ofGuard_96 : decode cX3_ofGuard 96 = .ok (.if_icmp .ne 21, 3) := dk_160 0 21 (dk_at dksX3_ofGuard_4 2 rfl rfl)
theorem dX3_ofGuard_99 : decode cX3_ofGuard 99 = .ok (.aload_n 0, 1) := dk_42 (dk_at dksX3_ofGuard_4 5 rfl rfl)
theorem dX3_ofGuard_100 : decode cX3_ofGuard 100 = .ok (.getfield 41, 3) := dk_180 0 41 (dk_at dksX3_ofGuard_4 6 rfl rfl)
theorem dX3_ofGuard_103 : decode cX3_ofGuard 103 = .ok (.iload_n 1, 1) := dk_27 (dk_at dksX3_ofGuard_4 9 rfl rfl)
theorem dX3_ofGuard_104 : decode cX3_ofGuard 104 = .ok (.iaload, 1) := dk_46 (dk_at dksX3_ofGuard_4 10 rfl rfl)
theorem dX3_ofGuard_105 : decode cX3_ofGuard 105 = .ok (.iload_n 2, 1) := dk_28 (dk_at dksX3_ofGuard_4 11 rfl rfl)
theorem dX3_ofGuard_106 : decode cX3_ofGuard 106 = .ok (.ishr, 1) := dk_122 (dk_at dksX3_ofGuard_4 12 rfl rfl)
theorem dX3_ofGuard_107 : decode cX3_ofGuard 107 = .ok (.iconst 1, 1) := dk_4 (dk_at dksX3_ofGuard_4 13 rfl rfl)
theorem dX3_ofGuard_108 : decode cX3_ofGuard 108 = .ok (.iand, 1) := dk_126 (dk_at dksX3_ofGuard_4 14 rfl rfl)
theorem dX3_ofGuard_109 : decode cX3_ofGuard 109 = .ok (.iconst 1, 1) := dk_4 (dk_at dksX3_ofGuard_4 15 rfl rfl)
theorem dX3_ofGuard_110 : decode cX3_ofGuard 110 = .ok (.if_icmp .ne 7, 3) := dk_160 0 7 (dk_at dksX3_ofGuard_4 16 rfl rfl)
theorem dX3_ofGuard_113 : decode cX3_ofGuard 113 = .ok (.iconst 1, 1) := dk_4 (dk_at dksX3_ofGuard_4 19 rfl rfl)
theorem dX3_ofGuard_114 : decode cX3_ofGuard 114 = .ok (.goto 4, 3) := dk_167 0 4 (dk_at dksX3_ofGuard_4 20 rfl rfl)
theorem dX3_ofGuard_117 : decode cX3_ofGuard 117 = .ok (.iconst 0, 1) := dk_3 (dk_at dksX3_ofGuard_4 23 rfl rfl)
theorem dX3_ofGuard_118 : decode cX3_ofGuard 118 = .ok (.istore 4, 2) := dk_54 4 (dk_at dksX3_ofGuard_5 0 rfl rfl)
theorem dX3_ofGuard_120 : decode cX3_ofGuard 120 = .ok (.iload 4, 2) := dk_21 4 (dk_at dksX3_ofGuard_5 2 rfl rfl)
theorem dX3_ofGuard_122 : decode cX3_ofGuard 122 = .ok (.ifCond .eq 25, 3) := dk_153 0 25 (dk_at dksX3_ofGuard_5 4 rfl rfl)
theorem dX3_ofGuard_125 : decode cX3_ofGuard 125 = .ok (.aload_n 0, 1) := dk_42 (dk_at dksX3_ofGuard_5 7 rfl rfl)
theorem dX3_ofGuard_126 : decode cX3_ofGuard 126 = .ok (.getfield 44, 3) := dk_180 0 44 (dk_at dksX3_ofGuard_5 8 rfl rfl)
theorem dX3_ofGuard_129 : decode cX3_ofGuard 129 = .ok (.iload_n 1, 1) := dk_27 (dk_at dksX3_ofGuard_5 11 rfl rfl)
theorem dX3_ofGuard_130 : decode cX3_ofGuard 130 = .ok (.iaload, 1) := dk_46 (dk_at dksX3_ofGuard_5 12 rfl rfl)
theorem dX3_ofGuard_131 : decode cX3_ofGuard 131 = .ok (.ifCond .lt 16, 3) := dk_155 0 16 (dk_at dksX3_ofGuard_5 13 rfl rfl)
theorem dX3_ofGuard_134 : decode cX3_ofGuard 134 = .ok (.aload_n 0, 1) := dk_42 (dk_at dksX3_ofGuard_5 16 rfl rfl)
theorem dX3_ofGuard_135 : decode cX3_ofGuard 135 = .ok (.iconst 2, 1) := dk_5 (dk_at dksX3_ofGuard_5 17 rfl rfl)
theorem dX3_ofGuard_136 : decode cX3_ofGuard 136 = .ok (.aload_n 0, 1) := dk_42 (dk_at dksX3_ofGuard_5 18 rfl rfl)
theorem dX3_ofGuard_137 : decode cX3_ofGuard 137 = .ok (.getfield 44, 3) := dk_180 0 44 (dk_at dksX3_ofGuard_5 19 rfl rfl)
theorem dX3_ofGuard_140 : decode cX3_ofGuard 140 = .ok (.iload_n 1, 1) := dk_27 (dk_at dksX3_ofGuard_5 22 rfl rfl)
theorem dX3_ofGuard_141 : decode cX3_ofGuard 141 = .ok (.iaload, 1) := dk_46 (dk_at dksX3_ofGuard_5 23 rfl rfl)
theorem dX3_ofGuard_142 : decode cX3_ofGuard 142 = .ok (.invokevirtual 244, 3) := dk_182 0 244 (dk_at dksX3_ofGuard_6 0 rfl rfl)
theorem dX3_ofGuard_145 : decode cX3_ofGuard 145 = .ok (.iconst 0, 1) := dk_3 (dk_at dksX3_ofGuard_6 3 rfl rfl)
theorem dX3_ofGuard_146 : decode cX3_ofGuard 146 = .ok (.ireturn, 1) := dk_172 (dk_at dksX3_ofGuard_6 4 rfl rfl)
theorem dX3_ofGuard_147 : decode cX3_ofGuard 147 = .ok (.iload 4, 2) := dk_21 4 (dk_at dksX3_ofGuard_6 5 rfl rfl)
theorem dX3_ofGuard_149 : decode cX3_ofGuard 149 = .ok (.ifCond .eq 7, 3) := dk_153 0 7 (dk_at dksX3_ofGuard_6 7 rfl rfl)
theorem dX3_ofGuard_152 : decode cX3_ofGuard 152 = .ok (.iconst 0, 1) := dk_3 (dk_at dksX3_ofGuard_6 10 rfl rfl)
theorem dX3_ofGuard_153 : decode cX3_ofGuard 153 = .ok (.goto 4, 3) := dk_167 0 4 (dk_at dksX3_ofGuard_6 11 rfl rfl)
theorem dX3_ofGuard_156 : decode cX3_ofGuard 156 = .ok (.iload_n 2, 1) := dk_28 (dk_at dksX3_ofGuard_6 14 rfl rfl)
theorem dX3_ofGuard_157 : decode cX3_ofGuard 157 = .ok (.istore 5, 2) := dk_54 5 (dk_at dksX3_ofGuard_6 15 rfl rfl)
theorem dX3_ofGuard_159 : decode cX3_ofGuard 159 = .ok (.aload_n 0, 1) := dk_42 (dk_at dksX3_ofGuard_6 17 rfl rfl)
theorem dX3_ofGuard_160 : decode cX3_ofGuard 160 = .ok (.getfield 47, 3) := dk_180 0 47 (dk_at dksX3_ofGuard_6 18 rfl rfl)
theorem dX3_ofGuard_163 : decode cX3_ofGuard 163 = .ok (.iload_n 1, 1) := dk_27 (dk_at dksX3_ofGuard_6 21 rfl rfl)
theorem dX3_ofGuard_164 : decode cX3_ofGuard 164 = .ok (.iaload, 1) := dk_46 (dk_at dksX3_ofGuard_6 22 rfl rfl)
theorem dX3_ofGuard_165 : decode cX3_ofGuard 165 = .ok (.ifCond .ge 16, 3) := dk_156 0 16 (dk_at dksX3_ofGuard_7 0 rfl rfl)
theorem dX3_ofGuard_168 : decode cX3_ofGuard 168 = .ok (.aload_n 0, 1) := dk_42 (dk_at dksX3_ofGuard_7 3 rfl rfl)
theorem dX3_ofGuard_169 : decode cX3_ofGuard 169 = .ok (.dup, 1) := dk_89 (dk_at dksX3_ofGuard_7 4 rfl rfl)
theorem dX3_ofGuard_170 : decode cX3_ofGuard 170 = .ok (.getfield 228, 3) := dk_180 0 228 (dk_at dksX3_ofGuard_7 5 rfl rfl)
theorem dX3_ofGuard_173 : decode cX3_ofGuard 173 = .ok (.iconst 1, 1) := dk_4 (dk_at dksX3_ofGuard_7 8 rfl rfl)
theorem dX3_ofGuard_174 : decode cX3_ofGuard 174 = .ok (.isub, 1) := dk_100 (dk_at dksX3_ofGuard_7 9 rfl rfl)
theorem dX3_ofGuard_175 : decode cX3_ofGuard 175 = .ok (.putfield 228, 3) := dk_181 0 228 (dk_at dksX3_ofGuard_7 10 rfl rfl)
theorem dX3_ofGuard_178 : decode cX3_ofGuard 178 = .ok (.iload 5, 2) := dk_21 5 (dk_at dksX3_ofGuard_7 13 rfl rfl)
theorem dX3_ofGuard_180 : decode cX3_ofGuard 180 = .ok (.ireturn, 1) := dk_172 (dk_at dksX3_ofGuard_7 15 rfl rfl)
theorem dX3_ofGuard_181 : decode cX3_ofGuard 181 = .ok (.aload_n 0, 1) := dk_42 (dk_at dksX3_ofGuard_7 16 rfl rfl)
theorem dX3_ofGuard_182 : decode cX3_ofGuard 182 = .ok (.dup, 1) := dk_89 (dk_at dksX3_ofGuard_7 17 rfl rfl)
theorem dX3_ofGuard_183 : decode cX3_ofGuard 183 = .ok (.getfield 251, 3) := dk_180 0 251 (dk_at dksX3_ofGuard_7 18 rfl rfl)
theorem dX3_ofGuard_186 : decode cX3_ofGuard 186 = .ok (.iconst 1, 1) := dk_4 (dk_at dksX3_ofGuard_7 21 rfl rfl)
theorem dX3_ofGuard_187 : decode cX3_ofGuard 187 = .ok (.iadd, 1) := dk_96 (dk_at dksX3_ofGuard_7 22 rfl rfl)
theorem dX3_ofGuard_188 : decode cX3_ofGuard 188 = .ok (.putfield 251, 3) := dk_181 0 251 (dk_at dksX3_ofGuard_8 0 rfl rfl)
theorem dX3_ofGuard_191 : decode cX3_ofGuard 191 = .ok (.aload_n 0, 1) := dk_42 (dk_at dksX3_ofGuard_8 3 rfl rfl)
theorem dX3_ofGuard_192 : decode cX3_ofGuard 192 = .ok (.getfield 66, 3) := dk_180 0 66 (dk_at dksX3_ofGuard_8 4 rfl rfl)
theorem dX3_ofGuard_195 : decode cX3_ofGuard 195 = .ok (.aload_n 0, 1) := dk_42 (dk_at dksX3_ofGuard_8 7 rfl rfl)
theorem dX3_ofGuard_196 : decode cX3_ofGuard 196 = .ok (.getfield 228, 3) := dk_180 0 228 (dk_at dksX3_ofGuard_8 8 rfl rfl)
theorem dX3_ofGuard_199 : decode cX3_ofGuard 199 = .ok (.iload 5, 2) := dk_21 5 (dk_at dksX3_ofGuard_8 11 rfl rfl)
theorem dX3_ofGuard_201 : decode cX3_ofGuard 201 = .ok (.iastore, 1) := dk_79 (dk_at dksX3_ofGuard_8 13 rfl rfl)
theorem dX3_ofGuard_202 : decode cX3_ofGuard 202 = .ok (.aload_n 0, 1) := dk_42 (dk_at dksX3_ofGuard_8 14 rfl rfl)
theorem dX3_ofGuard_203 : decode cX3_ofGuard 203 = .ok (.iconst 3, 1) := dk_6 (dk_at dksX3_ofGuard_8 15 rfl rfl)
theorem dX3_ofGuard_204 : decode cX3_ofGuard 204 = .ok (.aload_n 0, 1) := dk_42 (dk_at dksX3_ofGuard_8 16 rfl rfl)
theorem dX3_ofGuard_205 : decode cX3_ofGuard 205 = .ok (.getfield 47, 3) := dk_180 0 47 (dk_at dksX3_ofGuard_8 17 rfl rfl)
theorem dX3_ofGuard_208 : decode cX3_ofGuard 208 = .ok (.iload_n 1, 1) := dk_27 (dk_at dksX3_ofGuard_8 20 rfl rfl)
theorem dX3_ofGuard_209 : decode cX3_ofGuard 209 = .ok (.iaload, 1) := dk_46 (dk_at dksX3_ofGuard_8 21 rfl rfl)
theorem dX3_ofGuard_210 : decode cX3_ofGuard 210 = .ok (.invokevirtual 244, 3) := dk_182 0 244 (dk_at dksX3_ofGuard_9 0 rfl rfl)
theorem dX3_ofGuard_213 : decode cX3_ofGuard 213 = .ok (.iconst 0, 1) := dk_3 (dk_at dksX3_ofGuard_9 3 rfl rfl)
theorem dX3_ofGuard_214 : decode cX3_ofGuard 214 = .ok (.ireturn, 1) := dk_172 (dk_at dksX3_ofGuard_9 4 rfl rfl)
abbrev cX3_step : ByteArray := prog_15_method_37_code
def yX3_step : MethodName := ⟨RX3, "step", "(II)V"⟩
def dkwX3_step_0 : List UInt8 := [42, 180, 0, 63, 42, 180, 0, 228, 27, 79, 42, 28, 182, 0, 231, 177]
abbrev dktX3_step_0 : List UInt8 := dkwX3_step_0 ++ []
theorem dksX3_step_0 : cX3_step.data.toList.drop 0 = dktX3_step_0 := by decide +kernel
theorem dX3_step_0 : decode cX3_step 0 = .ok (.aload_n 0, 1) := dk_42 (dk_at dksX3_step_0 0 rfl rfl)
theorem dX3_step_1 : decode cX3_step 1 = .ok (.getfield 63, 3) := dk_180 0 63 (dk_at dksX3_step_0 1 rfl rfl)
theorem dX3_step_4 : decode cX3_step 4 = .ok (.aload_n 0, 1) := dk_42 (dk_at dksX3_step_0 4 rfl rfl)
theorem dX3_step_5 : decode cX3_step 5 = .ok (.getfield 228, 3) := dk_180 0 228 (dk_at dksX3_step_0 5 rfl rfl)
theorem dX3_step_8 : decode cX3_step 8 = .ok (.iload_n 1, 1) := dk_27 (dk_at dksX3_step_0 8 rfl rfl)
theorem dX3_step_9 : decode cX3_step 9 = .ok (.iastore, 1) := dk_79 (dk_at dksX3_step_0 9 rfl rfl)
theorem dX3_step_10 : decode cX3_step 10 = .ok (.aload_n 0, 1) := dk_42 (dk_at dksX3_step_0 10 rfl rfl)
theorem dX3_step_11 : decode cX3_step 11 = .ok (.iload_n 2, 1) := dk_28 (dk_at dksX3_step_0 11 rfl rfl)
theorem dX3_step_12 : decode cX3_step 12 = .ok (.invokevirtual 231, 3) := dk_182 0 231 (dk_at dksX3_step_0 12 rfl rfl)
theorem dX3_step_15 : decode cX3_step 15 = .ok (.return_, 1) := dk_177 (dk_at dksX3_step_0 15 rfl rfl)
abbrev cX3_ofOther : ByteArray := prog_15_method_40_code
def yX3_ofOther : MethodName := ⟨RX3, "ofOther", "(II)I"⟩
def dkwX3_ofOther_7 : List UInt8 := [89, 180, 0, 228, 4, 100, 181, 0, 228, 28, 172]
abbrev dktX3_ofOther_7 : List UInt8 := dkwX3_ofOther_7 ++ []
def dkwX3_ofOther_6 : List UInt8 := [153, 0, 12, 42, 180, 0, 44, 27, 46, 167, 0, 9, 42, 180, 0, 47, 27, 46, 182, 0, 244, 3, 172, 42]
abbrev dktX3_ofOther_6 : List UInt8 := dkwX3_ofOther_6 ++ dktX3_ofOther_7
def dkwX3_ofOther_5 : List UInt8 := [42, 180, 0, 41, 27, 46, 182, 0, 146, 153, 0, 7, 4, 167, 0, 4, 3, 54, 5, 42, 4, 21, 5]
abbrev dktX3_ofOther_5 : List UInt8 := dkwX3_ofOther_5 ++ dktX3_ofOther_6
def dkwX3_ofOther_4 : List UInt8 := [154, 0, 16, 21, 4, 154, 0, 7, 4, 167, 0, 32, 3, 167, 0, 28, 21, 4, 153, 0, 22, 42, 21, 4]
abbrev dktX3_ofOther_4 : List UInt8 := dkwX3_ofOther_4 ++ dktX3_ofOther_5
def dkwX3_ofOther_3 : List UInt8 := [29, 154, 0, 92, 42, 180, 0, 26, 42, 180, 0, 38, 27, 46, 46, 54, 4, 42, 180, 0, 41, 27, 46]
abbrev dktX3_ofOther_3 : List UInt8 := dkwX3_ofOther_3 ++ dktX3_ofOther_4
def dkwX3_ofOther_2 : List UInt8 := [167, 0, 9, 42, 180, 0, 41, 27, 46, 182, 0, 244, 3, 172, 42, 180, 0, 32, 27, 46, 5, 160, 0, 96]
abbrev dktX3_ofOther_2 : List UInt8 := dkwX3_ofOther_2 ++ dktX3_ofOther_3
def dkwX3_ofOther_1 : List UInt8 := [29, 4, 160, 0, 35, 28, 154, 0, 31, 42, 29, 4, 96, 29, 154, 0, 12, 42, 180, 0, 38, 27, 46]
abbrev dktX3_ofOther_1 : List UInt8 := dkwX3_ofOther_1 ++ dktX3_ofOther_2
def dkwX3_ofOther_0 : List UInt8 := [42, 180, 0, 63, 42, 180, 0, 228, 46, 62, 42, 180, 0, 32, 27, 46, 4, 160, 0, 44, 29, 153, 0, 12]
abbrev dktX3_ofOther_0 : List UInt8 := dkwX3_ofOther_0 ++ dktX3_ofOther_1
theorem dksX3_ofOther_0 : cX3_ofOther.data.toList.drop 0 = dktX3_ofOther_0 := by decide +kernel
theorem dksX3_ofOther_1 : cX3_ofOther.data.toList.drop 24 = dktX3_ofOther_1 := dk_seg dksX3_ofOther_0 24 rfl rfl
theorem dksX3_ofOther_2 : cX3_ofOther.data.toList.drop 47 = dktX3_ofOther_2 := dk_seg dksX3_ofOther_1 23 rfl rfl
theorem dksX3_ofOther_3 : cX3_ofOther.data.toList.drop 71 = dktX3_ofOther_3 := dk_seg dksX3_ofOther_2 24 rfl rfl
theorem dksX3_ofOther_4 : cX3_ofOther.data.toList.drop 94 = dktX3_ofOther_4 := dk_seg dksX3_ofOther_3 23 rfl rfl
theorem dksX3_ofOther_5 : cX3_ofOther.data.toList.drop 118 = dktX3_ofOther_5 := dk_seg dksX3_ofOther_4 24 rfl rfl
theorem dksX3_ofOther_6 : cX3_ofOther.data.toList.drop 141 = dktX3_ofOther_6 := dk_seg dksX3_ofOther_5 23 rfl rfl
theorem dksX3_ofOther_7 : cX3_ofOther.data.toList.drop 165 = dktX3_ofOther_7 := dk_seg dksX3_ofOther_6 24 rfl rfl
theorem dX3_ofOther_0 : decode cX3_ofOther 0 = .ok (.aload_n 0, 1) := dk_42 (dk_at dksX3_ofOther_0 0 rfl rfl)
theorem dX3_ofOther_1 : decode cX3_ofOther 1 = .ok (.getfield 63, 3) := dk_180 0 63 (dk_at dksX3_ofOther_0 1 rfl rfl)
theorem dX3_ofOther_4 : decode cX3_ofOther 4 = .ok (.aload_n 0, 1) := dk_42 (dk_at dksX3_ofOther_0 4 rfl rfl)
theorem dX3_ofOther_5 : decode cX3_ofOther 5 = .ok (.getfield 228, 3) := dk_180 0 228 (dk_at dksX3_ofOther_0 5 rfl rfl)
theorem dX3_ofOther_8 : decode cX3_ofOther 8 = .ok (.iaload, 1) := dk_46 (dk_at dksX3_ofOther_0 8 rfl rfl)
theorem dX3_ofOther_9 : decode cX3_ofOther 9 = .ok (.istore_n 3, 1) := dk_62 (dk_at dksX3_ofOther_0 9 rfl rfl)
theorem dX3_ofOther_10 : decode cX3_ofOther 10 = .ok (.aload_n 0, 1) := dk_42 (dk_at dksX3_ofOther_0 10 rfl rfl)
theorem dX3_ofOther_11 : decode cX3_ofOther 11 = .ok (.getfield 32, 3) := dk_180 0 32 (dk_at dksX3_ofOther_0 11 rfl rfl)
theorem dX3_ofOther_14 : decode cX3_ofOther 14 = .ok (.iload_n 1, 1) := dk_27 (dk_at dksX3_ofOther_0 14 rfl rfl)
theorem dX3_ofOther_15 : decode cX3_ofOther 15 = .ok (.iaload, 1) := dk_46 (dk_at dksX3_ofOther_0 15 rfl rfl)
theorem dX3_ofOther_16 : decode cX3_ofOther 16 = .ok (.iconst 1, 1) := dk_4 (dk_at dksX3_ofOther_0 16 rfl rfl)
theorem dX3_ofOther_17 : decode cX3_ofOther 17 = .ok (.if_icmp .ne 44, 3) := dk_160 0 44 (dk_at dksX3_ofOther_0 17 rfl rfl)
theorem dX3_ofOther_20 : decode cX3_ofOther 20 = .ok (.iload_n 3, 1) := dk_29 (dk_at dksX3_ofOther_0 20 rfl rfl)
theorem dX3_ofOther_21 : decode cX3_ofOther 21 = .ok (.ifCond .eq 12, 3) := dk_153 0 12 (dk_at dksX3_ofOther_0 21 rfl rfl)
theorem dX3_ofOther_24 : decode cX3_ofOther 24 = .ok (.iload_n 3, 1) := dk_29 (dk_at dksX3_ofOther_1 0 rfl rfl)
theorem dX3_ofOther_25 : decode cX3_ofOther 25 = .ok (.iconst 1, 1) := dk_4 (dk_at dksX3_ofOther_1 1 rfl rfl)
theorem dX3_ofOther_26 : decode cX3_ofOther 26 = .ok (.if_icmp .ne 35, 3) := dk_160 0 35 (dk_at dksX3_ofOther_1 2 rfl rfl)
theorem dX3_ofOther_29 : decode cX3_ofOther 29 = .ok (.iload_n 2, 1) := dk_28 (dk_at dksX3_ofOther_1 5 rfl rfl)
theorem dX3_ofOther_30 : decode cX3_ofOther 30 = .ok (.ifCond .ne 31, 3) := dk_154 0 31 (dk_at dksX3_ofOther_1 6 rfl rfl)
theorem dX3_ofOther_33 : decode cX3_ofOther 33 = .ok (.aload_n 0, 1) := dk_42 (dk_at dksX3_ofOther_1 9 rfl rfl)
theorem dX3_ofOther_34 : decode cX3_ofOther 34 = .ok (.iload_n 3, 1) := dk_29 (dk_at dksX3_ofOther_1 10 rfl rfl)
theorem dX3_ofOther_35 : decode cX3_ofOther 35 = .ok (.iconst 1, 1) := dk_4 (dk_at dksX3_ofOther_1 11 rfl rfl)
theorem dX3_ofOther_36 : decode cX3_ofOther 36 = .ok (.iadd, 1) := dk_96 (dk_at dksX3_ofOther_1 12 rfl rfl)
theorem dX3_ofOther_37 : decode cX3_ofOther 37 = .ok (.iload_n 3, 1) := dk_29 (dk_at dksX3_ofOther_1 13 rfl rfl)
theorem dX3_ofOther_38 : decode cX3_ofOther 38 = .ok (.ifCond .ne 12, 3) := dk_154 0 12 (dk_at dksX3_ofOther_1 14 rfl rfl)
theorem dX3_ofOther_41 : decode cX3_ofOther 41 = .ok (.aload_n 0, 1) := dk_42 (dk_at dksX3_ofOther_1 17 rfl rfl)
theorem dX3_ofOther_42 : decode cX3_ofOther 42 = .ok (.getfield 38, 3) := dk_180 0 38 (dk_at dksX3_ofOther_1 18 rfl rfl)
theorem dX3_ofOther_45 : decode cX3_ofOther 45 = .ok (.iload_n 1, 1) := dk_27 (dk_at dksX3_ofOther_1 21 rfl rfl)
theorem dX3_ofOther_46 : decode cX3_ofOther 46 = .ok (.iaload, 1) := dk_46 (dk_at dksX3_ofOther_1 22 rfl rfl)
theorem dX3_ofOther_47 : decode cX3_ofOther 47 = .ok (.goto 9, 3) := dk_167 0 9 (dk_at dksX3_ofOther_2 0 rfl rfl)
theorem dX3_ofOther_50 : decode cX3_ofOther 50 = .ok (.aload_n 0, 1) := dk_42 (dk_at dksX3_ofOther_2 3 rfl rfl)
theorem dX3_ofOther_51 : decode cX3_ofOther 51 = .ok (.getfield 41, 3) := dk_180 0 41 (dk_at dksX3_ofOther_2 4 rfl rfl)
theorem dX3_ofOther_54 : decode cX3_ofOther 54 = .ok (.iload_n 1, 1) := dk_27 (dk_at dksX3_ofOther_2 7 rfl rfl)
theorem dX3_ofOther_55 : decode cX3_ofOther 55 = .ok (.iaload, 1) := dk_46 (dk_at dksX3_ofOther_2 8 rfl rfl)
theorem dX3_ofOther_56 : decode cX3_ofOther 56 = .ok (.invokevirtual 244, 3) := dk_182 0 244 (dk_at dksX3_ofOther_2 9 rfl rfl)
theorem dX3_ofOther_59 : decode cX3_ofOther 59 = .ok (.iconst 0, 1) := dk_3 (dk_at dksX3_ofOther_2 12 rfl rfl)
theorem dX3_ofOther_60 : decode cX3_ofOther 60 = .ok (.ireturn, 1) := dk_172 (dk_at dksX3_ofOther_2 13 rfl rfl)
theorem dX3_ofOther_61 : decode cX3_ofOther 61 = .ok (.aload_n 0, 1) := dk_42 (dk_at dksX3_ofOther_2 14 rfl rfl)
theorem dX3_ofOther_62 : decode cX3_ofOther 62 = .ok (.getfield 32, 3) := dk_180 0 32 (dk_at dksX3_ofOther_2 15 rfl rfl)
theorem dX3_ofOther_65 : decode cX3_ofOther 65 = .ok (.iload_n 1, 1) := dk_27 (dk_at dksX3_ofOther_2 18 rfl rfl)
theorem dX3_ofOther_66 : decode cX3_ofOther 66 = .ok (.iaload, 1) := dk_46 (dk_at dksX3_ofOther_2 19 rfl rfl)
theorem dX3_ofOther_67 : decode cX3_ofOther 67 = .ok (.iconst 2, 1) := dk_5 (dk_at dksX3_ofOther_2 20 rfl rfl)
theorem dX3_ofOther_68 : decode cX3_ofOther 68 = .ok (.if_icmp .ne 96, 3) := dk_160 0 96 (dk_at dksX3_ofOther_2 21 rfl rfl)
theorem dX3_ofOther_71 : decode cX3_ofOther 71 = .ok (.iload_n 3, 1) := dk_29 (dk_at dksX3_ofOther_3 0 rfl rfl)
theorem dX3_ofOther_72 : decode cX3_ofOther 72 = .ok (.ifCond .ne 92, 3) := dk_154 0 92 (dk_at dksX3_ofOther_3 1 rfl rfl)
theorem dX3_ofOther_75 : decode cX3_ofOther 75 = .ok (.aload_n 0, 1) := dk_42 (dk_at dksX3_ofOther_3 4 rfl rfl)
theorem dX3_ofOther_76 : decode cX3_ofOther 76 = .ok (.getfield 26, 3) := dk_180 0 26 (dk_at dksX3_ofOther_3 5 rfl rfl)
theorem dX3_ofOther_79 : decode cX3_ofOther 79 = .ok (.aload_n 0, 1) := dk_42 (dk_at dksX3_ofOther_3 8 rfl rfl)
theorem dX3_ofOther_80 : decode cX3_ofOther 80 = .ok (.getfield 38, 3) := dk_180 0 38 (dk_at dksX3_ofOther_3 9 rfl rfl)
theorem dX3_ofOther_83 : decode cX3_ofOther 83 = .ok (.iload_n 1, 1) := dk_27 (dk_at dksX3_ofOther_3 12 rfl rfl)
theorem dX3_ofOther_84 : decode cX3_ofOther 84 = .ok (.iaload, 1) := dk_46 (dk_at dksX3_ofOther_3 13 rfl rfl)
theorem dX3_ofOther_85 : decode cX3_ofOther 85 = .ok (.iaload, 1) := dk_46 (dk_at dksX3_ofOther_3 14 rfl rfl)
theorem dX3_ofOther_86 : decode cX3_ofOther 86 = .ok (.istore 4, 2) := dk_54 4 (dk_at dksX3_ofOther_3 15 rfl rfl)
theorem dX3_ofOther_88 : decode cX3_ofOther 88 = .ok (.aload_n 0, 1) := dk_42 (dk_at dksX3_ofOther_3 17 rfl rfl)
theorem dX3_ofOther_89 : decode cX3_ofOther 89 = .ok (.getfield 41, 3) := dk_180 0 41 (dk_at dksX3_ofOther_3 18 rfl rfl)
theorem dX3_ofOther_92 : decode cX3_ofOther 92 = .ok (.iload_n 1, 1) := dk_27 (dk_at dksX3_ofOther_3 21 rfl rfl)
theorem dX3_ofOther_93 : decode cX3_ofOther 93 = .ok (.iaload, 1) := dk_46 (dk_at dksX3_ofOther_3 22 rfl rfl)
theorem dX3_ofOther_94 : decode cX3_ofOther 94 = .ok (.ifCond .ne 16, 3) := dk_154 0 16 (dk_at dksX3_ofOther_4 0 rfl rfl)
theorem dX3_ofOther_97 : decode cX3_ofOther 97 = .ok (.iload 4, 2) := dk_21 4 (dk_at dksX3_ofOther_4 3 rfl rfl)
theorem dX3_ofOther_99 : decode cX3_ofOther 99 = .ok (.ifCond .ne 7, 3) := dk_154 0 7 (dk_at dksX3_ofOther_4 5 rfl rfl)
theorem dX3_ofOther_102 : decode cX3_ofOther 102 = .ok (.iconst 1, 1) := dk_4 (dk_at dksX3_ofOther_4 8 rfl rfl)
theorem dX3_ofOther_103 : decode cX3_ofOther 103 = .ok (.goto 32, 3) := dk_167 0 32 (dk_at dksX3_ofOther_4 9 rfl rfl)
theorem dX3_ofOther_106 : decode cX3_ofOther 106 = .ok (.iconst 0, 1) := dk_3 (dk_at dksX3_ofOther_4 12 rfl rfl)
theorem dX3_ofOther_107 : decode cX3_ofOther 107 = .ok (.goto 28, 3) := dk_167 0 28 (dk_at dksX3_ofOther_4 13 rfl rfl)
theorem dX3_ofOther_110 : decode cX3_ofOther 110 = .ok (.iload 4, 2) := dk_21 4 (dk_at dksX3_ofOther_4 16 rfl rfl)
theorem dX3_ofOther_112 : decode cX3_ofOther 112 = .ok (.ifCond .eq 22, 3) := dk_153 0 22 (dk_at dksX3_ofOther_4 18 rfl rfl)
theorem dX3_ofOther_115 : decode cX3_ofOther 115 = .ok (.aload_n 0, 1) := dk_42 (dk_at dksX3_ofOther_4 21 rfl rfl)
theorem dX3_ofOther_116 : decode cX3_ofOther 116 = .ok (.iload 4, 2) := dk_21 4 (dk_at dksX3_ofOther_4 22 rfl rfl)
theorem dX3_ofOther_118 : decode cX3_ofOther 118 = .ok (.aload_n 0, 1) := dk_42 (dk_at dksX3_ofOther_5 0 rfl rfl)
theorem dX3_ofOther_119 : decode cX3_ofOther 119 = .ok (.getfield 41, 3) := dk_180 0 41 (dk_at dksX3_ofOther_5 1 rfl rfl)
theorem dX3_ofOther_122 : decode cX3_ofOther 122 = .ok (.iload_n 1, 1) := dk_27 (dk_at dksX3_ofOther_5 4 rfl rfl)
theorem dX3_ofOther_123 : decode cX3_ofOther 123 = .ok (.iaload, 1) := dk_46 (dk_at dksX3_ofOther_5 5 rfl rfl)
theorem dX3_ofOther_124 : decode cX3_ofOther 124 = .ok (.invokevirtual 146, 3) := dk_182 0 146 (dk_at dksX3_ofOther_5 6 rfl rfl)
theorem dX3_ofOther_127 : decode cX3_ofOther 127 = .ok (.ifCond .eq 7, 3) := dk_153 0 7 (dk_at dksX3_ofOther_5 9 rfl rfl)
theorem dX3_ofOther_130 : decode cX3_ofOther 130 = .ok (.iconst 1, 1) := dk_4 (dk_at dksX3_ofOther_5 12 rfl rfl)
theorem dX3_ofOther_131 : decode cX3_ofOther 131 = .ok (.goto 4, 3) := dk_167 0 4 (dk_at dksX3_ofOther_5 13 rfl rfl)
theorem dX3_ofOther_134 : decode cX3_ofOther 134 = .ok (.iconst 0, 1) := dk_3 (dk_at dksX3_ofOther_5 16 rfl rfl)
theorem dX3_ofOther_135 : decode cX3_ofOther 135 = .ok (.istore 5, 2) := dk_54 5 (dk_at dksX3_ofOther_5 17 rfl rfl)
theorem dX3_ofOther_137 : decode cX3_ofOther 137 = .ok (.aload_n 0, 1) := dk_42 (dk_at dksX3_ofOther_5 19 rfl rfl)
theorem dX3_ofOther_138 : decode cX3_ofOther 138 = .ok (.iconst 1, 1) := dk_4 (dk_at dksX3_ofOther_5 20 rfl rfl)
theorem dX3_ofOther_139 : decode cX3_ofOther 139 = .ok (.iload 5, 2) := dk_21 5 (dk_at dksX3_ofOther_5 21 rfl rfl)
theorem dX3_ofOther_141 : decode cX3_ofOther 141 = .ok (.ifCond .eq 12, 3) := dk_153 0 12 (dk_at dksX3_ofOther_6 0 rfl rfl)
theorem dX3_ofOther_144 : decode cX3_ofOther 144 = .ok (.aload_n 0, 1) := dk_42 (dk_at dksX3_ofOther_6 3 rfl rfl)
theorem dX3_ofOther_145 : decode cX3_ofOther 145 = .ok (.getfield 44, 3) := dk_180 0 44 (dk_at dksX3_ofOther_6 4 rfl rfl)
theorem dX3_ofOther_148 : decode cX3_ofOther 148 = .ok (.iload_n 1, 1) := dk_27 (dk_at dksX3_ofOther_6 7 rfl rfl)
theorem dX3_ofOther_149 : decode cX3_ofOther 149 = .ok (.iaload, 1) := dk_46 (dk_at dksX3_ofOther_6 8 rfl rfl)
theorem dX3_ofOther_150 : decode cX3_ofOther 150 = .ok (.goto 9, 3) := dk_167 0 9 (dk_at dksX3_ofOther_6 9 rfl rfl)
theorem dX3_ofOther_153 : decode cX3_ofOther 153 = .ok (.aload_n 0, 1) := dk_42 (dk_at dksX3_ofOther_6 12 rfl rfl)
theorem dX3_ofOther_154 : decode cX3_ofOther 154 = .ok (.getfield 47, 3) := dk_180 0 47 (dk_at dksX3_ofOther_6 13 rfl rfl)
theorem dX3_ofOther_157 : decode cX3_ofOther 157 = .ok (.iload_n 1, 1) := dk_27 (dk_at dksX3_ofOther_6 16 rfl rfl)
theorem dX3_ofOther_158 : decode cX3_ofOther 158 = .ok (.iaload, 1) := dk_46 (dk_at dksX3_ofOther_6 17 rfl rfl)
theorem dX3_ofOther_159 : decode cX3_ofOther 159 = .ok (.invokevirtual 244, 3) := dk_182 0 244 (dk_at dksX3_ofOther_6 18 rfl rfl)
theorem dX3_ofOther_162 : decode cX3_ofOther 162 = .ok (.iconst 0, 1) := dk_3 (dk_at dksX3_ofOther_6 21 rfl rfl)
theorem dX3_ofOther_163 : decode cX3_ofOther 163 = .ok (.ireturn, 1) := dk_172 (dk_at dksX3_ofOther_6 22 rfl rfl)
theorem dX3_ofOther_164 : decode cX3_ofOther 164 = .ok (.aload_n 0, 1) := dk_42 (dk_at dksX3_ofOther_6 23 rfl rfl)
theorem dX3_ofOther_165 : decode cX3_ofOther 165 = .ok (.dup, 1) := dk_89 (dk_at dksX3_ofOther_7 0 rfl rfl)
theorem dX3_ofOther_166 : decode cX3_ofOther 166 = .ok (.getfield 228, 3) := dk_180 0 228 (dk_at dksX3_ofOther_7 1 rfl rfl)
theorem dX3_ofOther_169 : decode cX3_ofOther 169 = .ok (.iconst 1, 1) := dk_4 (dk_at dksX3_ofOther_7 4 rfl rfl)
theorem dX3_ofOther_170 : decode cX3_ofOther 170 = .ok (.isub, 1) := dk_100 (dk_at dksX3_ofOther_7 5 rfl rfl)
theorem dX3_ofOther_171 : decode cX3_ofOther 171 = .ok (.putfield 228, 3) := dk_181 0 228 (dk_at dksX3_ofOther_7 6 rfl rfl)
theorem dX3_ofOther_174 : decode cX3_ofOther 174 = .ok (.iload_n 2, 1) := dk_28 (dk_at dksX3_ofOther_7 9 rfl rfl)
theorem dX3_ofOther_175 : decode cX3_ofOther 175 = .ok (.ireturn, 1) := dk_172 (dk_at dksX3_ofOther_7 10 rfl rfl)
abbrev cX3_ran : ByteArray := prog_15_method_43_code
def yX3_ran : MethodName := ⟨RX3, "ran", "(I)I"⟩
def dkwX3_ran_3 : List UInt8 := [172, 42, 180, 0, 53, 172, 2, 172]
abbrev dktX3_ran_3 : List UInt8 := dkwX3_ran_3 ++ []
def dkwX3_ran_2 : List UInt8 := [42, 180, 0, 235, 172, 42, 180, 0, 241, 172, 42, 180, 0, 177, 172, 42, 180, 0, 251, 172, 42, 180, 0, 248]
abbrev dktX3_ran_2 : List UInt8 := dkwX3_ran_2 ++ dktX3_ran_3
def dkwX3_ran_1 : List UInt8 := [170, 0, 0, 0, 0, 0, 69, 0, 0, 0, 0, 0, 0, 0, 5, 0, 0, 0, 39, 0, 0, 0, 44, 0, 0, 0, 49, 0, 0, 0, 54, 0, 0, 0, 59, 0, 0, 0, 64]
abbrev dktX3_ran_1 : List UInt8 := dkwX3_ran_1 ++ dktX3_ran_2
def dkwX3_ran_0 : List UInt8 := [27]
abbrev dktX3_ran_0 : List UInt8 := dkwX3_ran_0 ++ dktX3_ran_1
theorem dksX3_ran_0 : cX3_ran.data.toList.drop 0 = dktX3_ran_0 := by decide +kernel
theorem dksX3_ran_1 : cX3_ran.data.toList.drop 1 = dktX3_ran_1 := dk_seg dksX3_ran_0 1 rfl rfl
theorem dksX3_ran_2 : cX3_ran.data.toList.drop 40 = dktX3_ran_2 := dk_seg dksX3_ran_1 39 rfl rfl
theorem dksX3_ran_3 : cX3_ran.data.toList.drop 64 = dktX3_ran_3 := dk_seg dksX3_ran_2 24 rfl rfl
theorem dX3_ran_0 : decode cX3_ran 0 = .ok (.iload_n 1, 1) := dk_27 (dk_at dksX3_ran_0 0 rfl rfl)
theorem dX3_ran_1 : decode cX3_ran 1 = .ok (.tableswitch 69 0 5 #[39, 44, 49, 54, 59, 64], 39) := by decide +kernel
theorem dX3_ran_40 : decode cX3_ran 40 = .ok (.aload_n 0, 1) := dk_42 (dk_at dksX3_ran_2 0 rfl rfl)
theorem dX3_ran_41 : decode cX3_ran 41 = .ok (.getfield 235, 3) := dk_180 0 235 (dk_at dksX3_ran_2 1 rfl rfl)
theorem dX3_ran_44 : decode cX3_ran 44 = .ok (.ireturn, 1) := dk_172 (dk_at dksX3_ran_2 4 rfl rfl)
theorem dX3_ran_45 : decode cX3_ran 45 = .ok (.aload_n 0, 1) := dk_42 (dk_at dksX3_ran_2 5 rfl rfl)
theorem dX3_ran_46 : decode cX3_ran 46 = .ok (.getfield 241, 3) := dk_180 0 241 (dk_at dksX3_ran_2 6 rfl rfl)
theorem dX3_ran_49 : decode cX3_ran 49 = .ok (.ireturn, 1) := dk_172 (dk_at dksX3_ran_2 9 rfl rfl)
theorem dX3_ran_50 : decode cX3_ran 50 = .ok (.aload_n 0, 1) := dk_42 (dk_at dksX3_ran_2 10 rfl rfl)
theorem dX3_ran_51 : decode cX3_ran 51 = .ok (.getfield 177, 3) := dk_180 0 177 (dk_at dksX3_ran_2 11 rfl rfl)
theorem dX3_ran_54 : decode cX3_ran 54 = .ok (.ireturn, 1) := dk_172 (dk_at dksX3_ran_2 14 rfl rfl)
theorem dX3_ran_55 : decode cX3_ran 55 = .ok (.aload_n 0, 1) := dk_42 (dk_at dksX3_ran_2 15 rfl rfl)
theorem dX3_ran_56 : decode cX3_ran 56 = .ok (.getfield 251, 3) := dk_180 0 251 (dk_at dksX3_ran_2 16 rfl rfl)
theorem dX3_ran_59 : decode cX3_ran 59 = .ok (.ireturn, 1) := dk_172 (dk_at dksX3_ran_2 19 rfl rfl)
theorem dX3_ran_60 : decode cX3_ran 60 = .ok (.aload_n 0, 1) := dk_42 (dk_at dksX3_ran_2 20 rfl rfl)
theorem dX3_ran_61 : decode cX3_ran 61 = .ok (.getfield 248, 3) := dk_180 0 248 (dk_at dksX3_ran_2 21 rfl rfl)
theorem dX3_ran_64 : decode cX3_ran 64 = .ok (.ireturn, 1) := dk_172 (dk_at dksX3_ran_3 0 rfl rfl)
theorem dX3_ran_65 : decode cX3_ran 65 = .ok (.aload_n 0, 1) := dk_42 (dk_at dksX3_ran_3 1 rfl rfl)
theorem dX3_ran_66 : decode cX3_ran 66 = .ok (.getfield 53, 3) := dk_180 0 53 (dk_at dksX3_ran_3 2 rfl rfl)
theorem dX3_ran_69 : decode cX3_ran 69 = .ok (.ireturn, 1) := dk_172 (dk_at dksX3_ran_3 5 rfl rfl)
theorem dX3_ran_70 : decode cX3_ran 70 = .ok (.iconst (-1), 1) := dk_2 (dk_at dksX3_ran_3 6 rfl rfl)
theorem dX3_ran_71 : decode cX3_ran 71 = .ok (.ireturn, 1) := dk_172 (dk_at dksX3_ran_3 7 rfl rfl)
abbrev cX3_clear : ByteArray := prog_15_method_44_code
def yX3_clear : MethodName := ⟨RX3, "clear", "()I"⟩
def dkwX3_clear_2 : List UInt8 := [28, 9, 80, 132, 2, 1, 167, 255, 240, 27, 172]
abbrev dktX3_clear_2 : List UInt8 := dkwX3_clear_2 ++ []
def dkwX3_clear_1 : List UInt8 := [180, 0, 26, 28, 3, 79, 132, 2, 1, 167, 255, 240, 3, 61, 28, 16, 8, 162, 0, 16, 42, 180, 0, 29]
abbrev dktX3_clear_1 : List UInt8 := dkwX3_clear_1 ++ dktX3_clear_2
def dkwX3_clear_0 : List UInt8 := [42, 180, 0, 111, 60, 42, 3, 181, 0, 111, 42, 3, 181, 0, 114, 3, 61, 28, 16, 12, 162, 0, 16, 42]
abbrev dktX3_clear_0 : List UInt8 := dkwX3_clear_0 ++ dktX3_clear_1
theorem dksX3_clear_0 : cX3_clear.data.toList.drop 0 = dktX3_clear_0 := by decide +kernel
theorem dksX3_clear_1 : cX3_clear.data.toList.drop 24 = dktX3_clear_1 := dk_seg dksX3_clear_0 24 rfl rfl
theorem dksX3_clear_2 : cX3_clear.data.toList.drop 48 = dktX3_clear_2 := dk_seg dksX3_clear_1 24 rfl rfl
theorem dX3_clear_0 : decode cX3_clear 0 = .ok (.aload_n 0, 1) := dk_42 (dk_at dksX3_clear_0 0 rfl rfl)
theorem dX3_clear_1 : decode cX3_clear 1 = .ok (.getfield 111, 3) := dk_180 0 111 (dk_at dksX3_clear_0 1 rfl rfl)
theorem dX3_clear_4 : decode cX3_clear 4 = .ok (.istore_n 1, 1) := dk_60 (dk_at dksX3_clear_0 4 rfl rfl)
theorem dX3_clear_5 : decode cX3_clear 5 = .ok (.aload_n 0, 1) := dk_42 (dk_at dksX3_clear_0 5 rfl rfl)
theorem dX3_clear_6 : decode cX3_clear 6 = .ok (.iconst 0, 1) := dk_3 (dk_at dksX3_clear_0 6 rfl rfl)
theorem dX3_clear_7 : decode cX3_clear 7 = .ok (.putfield 111, 3) := dk_181 0 111 (dk_at dksX3_clear_0 7 rfl rfl)
theorem dX3_clear_10 : decode cX3_clear 10 = .ok (.aload_n 0, 1) := dk_42 (dk_at dksX3_clear_0 10 rfl rfl)
theorem dX3_clear_11 : decode cX3_clear 11 = .ok (.iconst 0, 1) := dk_3 (dk_at dksX3_clear_0 11 rfl rfl)
theorem dX3_clear_12 : decode cX3_clear 12 = .ok (.putfield 114, 3) := dk_181 0 114 (dk_at dksX3_clear_0 12 rfl rfl)
theorem dX3_clear_15 : decode cX3_clear 15 = .ok (.iconst 0, 1) := dk_3 (dk_at dksX3_clear_0 15 rfl rfl)
theorem dX3_clear_16 : decode cX3_clear 16 = .ok (.istore_n 2, 1) := dk_61 (dk_at dksX3_clear_0 16 rfl rfl)
theorem dX3_clear_17 : decode cX3_clear 17 = .ok (.iload_n 2, 1) := dk_28 (dk_at dksX3_clear_0 17 rfl rfl)
theorem dX3_clear_18 : decode cX3_clear 18 = .ok (.bipush 12, 2) := dk_16 12 (dk_at dksX3_clear_0 18 rfl rfl)
theorem dX3_clear_20 : decode cX3_clear 20 = .ok (.if_icmp .ge 16, 3) := dk_162 0 16 (dk_at dksX3_clear_0 20 rfl rfl)
theorem dX3_clear_23 : decode cX3_clear 23 = .ok (.aload_n 0, 1) := dk_42 (dk_at dksX3_clear_0 23 rfl rfl)
theorem dX3_clear_24 : decode cX3_clear 24 = .ok (.getfield 26, 3) := dk_180 0 26 (dk_at dksX3_clear_1 0 rfl rfl)
theorem dX3_clear_27 : decode cX3_clear 27 = .ok (.iload_n 2, 1) := dk_28 (dk_at dksX3_clear_1 3 rfl rfl)
theorem dX3_clear_28 : decode cX3_clear 28 = .ok (.iconst 0, 1) := dk_3 (dk_at dksX3_clear_1 4 rfl rfl)
theorem dX3_clear_29 : decode cX3_clear 29 = .ok (.iastore, 1) := dk_79 (dk_at dksX3_clear_1 5 rfl rfl)
theorem dX3_clear_30 : decode cX3_clear 30 = .ok (.iinc 2 1, 3) := dk_132 2 1 (dk_at dksX3_clear_1 6 rfl rfl)
theorem dX3_clear_33 : decode cX3_clear 33 = .ok (.goto (-16), 3) := dk_167 255 240 (dk_at dksX3_clear_1 9 rfl rfl)
theorem dX3_clear_36 : decode cX3_clear 36 = .ok (.iconst 0, 1) := dk_3 (dk_at dksX3_clear_1 12 rfl rfl)
theorem dX3_clear_37 : decode cX3_clear 37 = .ok (.istore_n 2, 1) := dk_61 (dk_at dksX3_clear_1 13 rfl rfl)
theorem dX3_clear_38 : decode cX3_clear 38 = .ok (.iload_n 2, 1) := dk_28 (dk_at dksX3_clear_1 14 rfl rfl)
theorem dX3_clear_39 : decode cX3_clear 39 = .ok (.bipush 8, 2) := dk_16 8 (dk_at dksX3_clear_1 15 rfl rfl)
theorem dX3_clear_41 : decode cX3_clear 41 = .ok (.if_icmp .ge 16, 3) := dk_162 0 16 (dk_at dksX3_clear_1 17 rfl rfl)
theorem dX3_clear_44 : decode cX3_clear 44 = .ok (.aload_n 0, 1) := dk_42 (dk_at dksX3_clear_1 20 rfl rfl)
theorem dX3_clear_45 : decode cX3_clear 45 = .ok (.getfield 29, 3) := dk_180 0 29 (dk_at dksX3_clear_1 21 rfl rfl)
theorem dX3_clear_48 : decode cX3_clear 48 = .ok (.iload_n 2, 1) := dk_28 (dk_at dksX3_clear_2 0 rfl rfl)
theorem dX3_clear_49 : decode cX3_clear 49 = .ok (.lconst 0, 1) := dk_9 (dk_at dksX3_clear_2 1 rfl rfl)
theorem dX3_clear_50 : decode cX3_clear 50 = .ok (.lastore, 1) := dk_80 (dk_at dksX3_clear_2 2 rfl rfl)
theorem dX3_clear_51 : decode cX3_clear 51 = .ok (.iinc 2 1, 3) := dk_132 2 1 (dk_at dksX3_clear_2 3 rfl rfl)
theorem dX3_clear_54 : decode cX3_clear 54 = .ok (.goto (-16), 3) := dk_167 255 240 (dk_at dksX3_clear_2 6 rfl rfl)
theorem dX3_clear_57 : decode cX3_clear 57 = .ok (.iload_n 1, 1) := dk_27 (dk_at dksX3_clear_2 9 rfl rfl)
theorem dX3_clear_58 : decode cX3_clear 58 = .ok (.ireturn, 1) := dk_172 (dk_at dksX3_clear_2 10 rfl rfl)
abbrev cX3_count : ByteArray := prog_15_method_45_code
def yX3_count : MethodName := ⟨RX3, "count", "(I)I"⟩
def dkwX3_count_2 : List UInt8 := [167, 0, 18, 42, 180, 0, 50, 42, 180, 0, 121, 4, 100, 46, 167, 0, 4, 2, 172]
abbrev dktX3_count_2 : List UInt8 := dkwX3_count_2 ++ []
def dkwX3_count_1 : List UInt8 := [5, 160, 0, 10, 42, 180, 0, 121, 167, 0, 34, 27, 6, 160, 0, 28, 42, 180, 0, 121, 154, 0, 7, 3]
abbrev dktX3_count_1 : List UInt8 := dkwX3_count_1 ++ dktX3_count_2
def dkwX3_count_0 : List UInt8 := [27, 154, 0, 10, 42, 180, 0, 111, 167, 0, 58, 27, 4, 160, 0, 10, 42, 180, 0, 114, 167, 0, 46, 27]
abbrev dktX3_count_0 : List UInt8 := dkwX3_count_0 ++ dktX3_count_1
theorem dksX3_count_0 : cX3_count.data.toList.drop 0 = dktX3_count_0 := by decide +kernel
theorem dksX3_count_1 : cX3_count.data.toList.drop 24 = dktX3_count_1 := dk_seg dksX3_count_0 24 rfl rfl
theorem dksX3_count_2 : cX3_count.data.toList.drop 48 = dktX3_count_2 := dk_seg dksX3_count_1 24 rfl rfl
theorem dX3_count_0 : decode cX3_count 0 = .ok (.iload_n 1, 1) := dk_27 (dk_at dksX3_count_0 0 rfl rfl)
theorem dX3_count_1 : decode cX3_count 1 = .ok (.ifCond .ne 10, 3) := dk_154 0 10 (dk_at dksX3_count_0 1 rfl rfl)
theorem dX3_count_4 : decode cX3_count 4 = .ok (.aload_n 0, 1) := dk_42 (dk_at dksX3_count_0 4 rfl rfl)
theorem dX3_count_5 : decode cX3_count 5 = .ok (.getfield 111, 3) := dk_180 0 111 (dk_at dksX3_count_0 5 rfl rfl)
theorem dX3_count_8 : decode cX3_count 8 = .ok (.goto 58, 3) := dk_167 0 58 (dk_at dksX3_count_0 8 rfl rfl)
theorem dX3_count_11 : decode cX3_count 11 = .ok (.iload_n 1, 1) := dk_27 (dk_at dksX3_count_0 11 rfl rfl)
theorem dX3_count_12 : decode cX3_count 12 = .ok (.iconst 1, 1) := dk_4 (dk_at dksX3_count_0 12 rfl rfl)
theorem dX3_count_13 : decode cX3_count 13 = .ok (.if_icmp .ne 10, 3) := dk_160 0 10 (dk_at dksX3_count_0 13 rfl rfl)
theorem dX3_count_16 : decode cX3_count 16 = .ok (.aload_n 0, 1) := dk_42 (dk_at dksX3_count_0 16 rfl rfl)
theorem dX3_count_17 : decode cX3_count 17 = .ok (.getfield 114, 3) := dk_180 0 114 (dk_at dksX3_count_0 17 rfl rfl)
theorem dX3_count_20 : decode cX3_count 20 = .ok (.goto 46, 3) := dk_167 0 46 (dk_at dksX3_count_0 20 rfl rfl)
theorem dX3_count_23 : decode cX3_count 23 = .ok (.iload_n 1, 1) := dk_27 (dk_at dksX3_count_0 23 rfl rfl)
theorem dX3_count_24 : decode cX3_count 24 = .ok (.iconst 2, 1) := dk_5 (dk_at dksX3_count_1 0 rfl rfl)
theorem dX3_count_25 : decode cX3_count 25 = .ok (.if_icmp .ne 10, 3) := dk_160 0 10 (dk_at dksX3_count_1 1 rfl rfl)
theorem dX3_count_28 : decode cX3_count 28 = .ok (.aload_n 0, 1) := dk_42 (dk_at dksX3_count_1 4 rfl rfl)
theorem dX3_count_29 : decode cX3_count 29 = .ok (.getfield 121, 3) := dk_180 0 121 (dk_at dksX3_count_1 5 rfl rfl)
theorem dX3_count_32 : decode cX3_count 32 = .ok (.goto 34, 3) := dk_167 0 34 (dk_at dksX3_count_1 8 rfl rfl)
theorem dX3_count_35 : decode cX3_count 35 = .ok (.iload_n 1, 1) := dk_27 (dk_at dksX3_count_1 11 rfl rfl)
theorem dX3_count_36 : decode cX3_count 36 = .ok (.iconst 3, 1) := dk_6 (dk_at dksX3_count_1 12 rfl rfl)
theorem dX3_count_37 : decode cX3_count 37 = .ok (.if_icmp .ne 28, 3) := dk_160 0 28 (dk_at dksX3_count_1 13 rfl rfl)
theorem dX3_count_40 : decode cX3_count 40 = .ok (.aload_n 0, 1) := dk_42 (dk_at dksX3_count_1 16 rfl rfl)
theorem dX3_count_41 : decode cX3_count 41 = .ok (.getfield 121, 3) := dk_180 0 121 (dk_at dksX3_count_1 17 rfl rfl)
theorem dX3_count_44 : decode cX3_count 44 = .ok (.ifCond .ne 7, 3) := dk_154 0 7 (dk_at dksX3_count_1 20 rfl rfl)
theorem dX3_count_47 : decode cX3_count 47 = .ok (.iconst 0, 1) := dk_3 (dk_at dksX3_count_1 23 rfl rfl)
theorem dX3_count_48 : decode cX3_count 48 = .ok (.goto 18, 3) := dk_167 0 18 (dk_at dksX3_count_2 0 rfl rfl)
theorem dX3_count_51 : decode cX3_count 51 = .ok (.aload_n 0, 1) := dk_42 (dk_at dksX3_count_2 3 rfl rfl)
theorem dX3_count_52 : decode cX3_count 52 = .ok (.getfield 50, 3) := dk_180 0 50 (dk_at dksX3_count_2 4 rfl rfl)
theorem dX3_count_55 : decode cX3_count 55 = .ok (.aload_n 0, 1) := dk_42 (dk_at dksX3_count_2 7 rfl rfl)
theorem dX3_count_56 : decode cX3_count 56 = .ok (.getfield 121, 3) := dk_180 0 121 (dk_at dksX3_count_2 8 rfl rfl)
theorem dX3_count_59 : decode cX3_count 59 = .ok (.iconst 1, 1) := dk_4 (dk_at dksX3_count_2 11 rfl rfl)
theorem dX3_count_60 : decode cX3_count 60 = .ok (.isub, 1) := dk_100 (dk_at dksX3_count_2 12 rfl rfl)
theorem dX3_count_61 : decode cX3_count 61 = .ok (.iaload, 1) := dk_46 (dk_at dksX3_count_2 13 rfl rfl)
theorem dX3_count_62 : decode cX3_count 62 = .ok (.goto 4, 3) := dk_167 0 4 (dk_at dksX3_count_2 14 rfl rfl)
theorem dX3_count_65 : decode cX3_count 65 = .ok (.iconst (-1), 1) := dk_2 (dk_at dksX3_count_2 17 rfl rfl)
theorem dX3_count_66 : decode cX3_count 66 = .ok (.ireturn, 1) := dk_172 (dk_at dksX3_count_2 18 rfl rfl)
abbrev cX3_slot : ByteArray := prog_15_method_46_code
def yX3_slot : MethodName := ⟨RX3, "slot", "(II)I"⟩
def dkwX3_slot_3 : List UInt8 := [46, 167, 0, 9, 42, 180, 0, 19, 29, 46, 172]
abbrev dktX3_slot_3 : List UInt8 := dkwX3_slot_3 ++ []
def dkwX3_slot_2 : List UInt8 := [180, 0, 7, 29, 46, 167, 0, 29, 42, 180, 0, 7, 29, 46, 16, 8, 162, 0, 12, 42, 180, 0, 16, 29]
abbrev dktX3_slot_2 : List UInt8 := dkwX3_slot_2 ++ dktX3_slot_3
def dkwX3_slot_1 : List UInt8 := [62, 28, 154, 0, 7, 29, 167, 0, 51, 29, 154, 0, 7, 3, 167, 0, 43, 28, 4, 160, 0, 12, 42]
abbrev dktX3_slot_1 : List UInt8 := dkwX3_slot_1 ++ dktX3_slot_2
def dkwX3_slot_0 : List UInt8 := [27, 184, 0, 124, 153, 0, 12, 28, 3, 5, 184, 0, 103, 154, 0, 5, 2, 172, 42, 180, 0, 26, 27, 46]
abbrev dktX3_slot_0 : List UInt8 := dkwX3_slot_0 ++ dktX3_slot_1
theorem dksX3_slot_0 : cX3_slot.data.toList.drop 0 = dktX3_slot_0 := by decide +kernel
theorem dksX3_slot_1 : cX3_slot.data.toList.drop 24 = dktX3_slot_1 := dk_seg dksX3_slot_0 24 rfl rfl
theorem dksX3_slot_2 : cX3_slot.data.toList.drop 47 = dktX3_slot_2 := dk_seg dksX3_slot_1 23 rfl rfl
theorem dksX3_slot_3 : cX3_slot.data.toList.drop 71 = dktX3_slot_3 := dk_seg dksX3_slot_2 24 rfl rfl
theorem dX3_slot_0 : decode cX3_slot 0 = .ok (.iload_n 1, 1) := dk_27 (dk_at dksX3_slot_0 0 rfl rfl)
theorem dX3_slot_1 : decode cX3_slot 1 = .ok (.invokestatic 124, 3) := dk_184 0 124 (dk_at dksX3_slot_0 1 rfl rfl)
theorem dX3_slot_4 : decode cX3_slot 4 = .ok (.ifCond .eq 12, 3) := dk_153 0 12 (dk_at dksX3_slot_0 4 rfl rfl)
theorem dX3_slot_7 : decode cX3_slot 7 = .ok (.iload_n 2, 1) := dk_28 (dk_at dksX3_slot_0 7 rfl rfl)
theorem dX3_slot_8 : decode cX3_slot 8 = .ok (.iconst 0, 1) := dk_3 (dk_at dksX3_slot_0 8 rfl rfl)
theorem dX3_slot_9 : decode cX3_slot 9 = .ok (.iconst 2, 1) := dk_5 (dk_at dksX3_slot_0 9 rfl rfl)
theorem dX3_slot_10 : decode cX3_slot 10 = .ok (.invokestatic 103, 3) := dk_184 0 103 (dk_at dksX3_slot_0 10 rfl rfl)
theorem dX3_slot_13 : decode cX3_slot 13 = .ok (.ifCond .ne 5, 3) := dk_154 0 5 (dk_at dksX3_slot_0 13 rfl rfl)
theorem dX3_slot_16 : decode cX3_slot 16 = .ok (.iconst (-1), 1) := dk_2 (dk_at dksX3_slot_0 16 rfl rfl)
theorem dX3_slot_17 : decode cX3_slot 17 = .ok (.ireturn, 1) := dk_172 (dk_at dksX3_slot_0 17 rfl rfl)
theorem dX3_slot_18 : decode cX3_slot 18 = .ok (.aload_n 0, 1) := dk_42 (dk_at dksX3_slot_0 18 rfl rfl)
theorem dX3_slot_19 : decode cX3_slot 19 = .ok (.getfield 26, 3) := dk_180 0 26 (dk_at dksX3_slot_0 19 rfl rfl)
theorem dX3_slot_22 : decode cX3_slot 22 = .ok (.iload_n 1, 1) := dk_27 (dk_at dksX3_slot_0 22 rfl rfl)
theorem dX3_slot_23 : decode cX3_slot 23 = .ok (.iaload, 1) := dk_46 (dk_at dksX3_slot_0 23 rfl rfl)
theorem dX3_slot_24 : decode cX3_slot 24 = .ok (.istore_n 3, 1) := dk_62 (dk_at dksX3_slot_1 0 rfl rfl)
theorem dX3_slot_25 : decode cX3_slot 25 = .ok (.iload_n 2, 1) := dk_28 (dk_at dksX3_slot_1 1 rfl rfl)
theorem dX3_slot_26 : decode cX3_slot 26 = .ok (.ifCond .ne 7, 3) := dk_154 0 7 (dk_at dksX3_slot_1 2 rfl rfl)
theorem dX3_slot_29 : decode cX3_slot 29 = .ok (.iload_n 3, 1) := dk_29 (dk_at dksX3_slot_1 5 rfl rfl)
theorem dX3_slot_30 : decode cX3_slot 30 = .ok (.goto 51, 3) := dk_167 0 51 (dk_at dksX3_slot_1 6 rfl rfl)
theorem dX3_slot_33 : decode cX3_slot 33 = .ok (.iload_n 3, 1) := dk_29 (dk_at dksX3_slot_1 9 rfl rfl)
theorem dX3_slot_34 : decode cX3_slot 34 = .ok (.ifCond .ne 7, 3) := dk_154 0 7 (dk_at dksX3_slot_1 10 rfl rfl)
theorem dX3_slot_37 : decode cX3_slot 37 = .ok (.iconst 0, 1) := dk_3 (dk_at dksX3_slot_1 13 rfl rfl)
theorem dX3_slot_38 : decode cX3_slot 38 = .ok (.goto 43, 3) := dk_167 0 43 (dk_at dksX3_slot_1 14 rfl rfl)
theorem dX3_slot_41 : decode cX3_slot 41 = .ok (.iload_n 2, 1) := dk_28 (dk_at dksX3_slot_1 17 rfl rfl)
theorem dX3_slot_42 : decode cX3_slot 42 = .ok (.iconst 1, 1) := dk_4 (dk_at dksX3_slot_1 18 rfl rfl)
theorem dX3_slot_43 : decode cX3_slot 43 = .ok (.if_icmp .ne 12, 3) := dk_160 0 12 (dk_at dksX3_slot_1 19 rfl rfl)
theorem dX3_slot_46 : decode cX3_slot 46 = .ok (.aload_n 0, 1) := dk_42 (dk_at dksX3_slot_1 22 rfl rfl)
theorem dX3_slot_47 : decode cX3_slot 47 = .ok (.getfield 7, 3) := dk_180 0 7 (dk_at dksX3_slot_2 0 rfl rfl)
theorem dX3_slot_50 : decode cX3_slot 50 = .ok (.iload_n 3, 1) := dk_29 (dk_at dksX3_slot_2 3 rfl rfl)
theorem dX3_slot_51 : decode cX3_slot 51 = .ok (.iaload, 1) := dk_46 (dk_at dksX3_slot_2 4 rfl rfl)
theorem dX3_slot_52 : decode cX3_slot 52 = .ok (.goto 29, 3) := dk_167 0 29 (dk_at dksX3_slot_2 5 rfl rfl)
theorem dX3_slot_55 : decode cX3_slot 55 = .ok (.aload_n 0, 1) := dk_42 (dk_at dksX3_slot_2 8 rfl rfl)
theorem dX3_slot_56 : decode cX3_slot 56 = .ok (.getfield 7, 3) := dk_180 0 7 (dk_at dksX3_slot_2 9 rfl rfl)
theorem dX3_slot_59 : decode cX3_slot 59 = .ok (.iload_n 3, 1) := dk_29 (dk_at dksX3_slot_2 12 rfl rfl)
theorem dX3_slot_60 : decode cX3_slot 60 = .ok (.iaload, 1) := dk_46 (dk_at dksX3_slot_2 13 rfl rfl)
theorem dX3_slot_61 : decode cX3_slot 61 = .ok (.bipush 8, 2) := dk_16 8 (dk_at dksX3_slot_2 14 rfl rfl)
theorem dX3_slot_63 : decode cX3_slot 63 = .ok (.if_icmp .ge 12, 3) := dk_162 0 12 (dk_at dksX3_slot_2 16 rfl rfl)
theorem dX3_slot_66 : decode cX3_slot 66 = .ok (.aload_n 0, 1) := dk_42 (dk_at dksX3_slot_2 19 rfl rfl)
theorem dX3_slot_67 : decode cX3_slot 67 = .ok (.getfield 16, 3) := dk_180 0 16 (dk_at dksX3_slot_2 20 rfl rfl)
theorem dX3_slot_70 : decode cX3_slot 70 = .ok (.iload_n 3, 1) := dk_29 (dk_at dksX3_slot_2 23 rfl rfl)
theorem dX3_slot_71 : decode cX3_slot 71 = .ok (.iaload, 1) := dk_46 (dk_at dksX3_slot_3 0 rfl rfl)
theorem dX3_slot_72 : decode cX3_slot 72 = .ok (.goto 9, 3) := dk_167 0 9 (dk_at dksX3_slot_3 1 rfl rfl)
theorem dX3_slot_75 : decode cX3_slot 75 = .ok (.aload_n 0, 1) := dk_42 (dk_at dksX3_slot_3 4 rfl rfl)
theorem dX3_slot_76 : decode cX3_slot 76 = .ok (.getfield 19, 3) := dk_180 0 19 (dk_at dksX3_slot_3 5 rfl rfl)
theorem dX3_slot_79 : decode cX3_slot 79 = .ok (.iload_n 3, 1) := dk_29 (dk_at dksX3_slot_3 8 rfl rfl)
theorem dX3_slot_80 : decode cX3_slot 80 = .ok (.iaload, 1) := dk_46 (dk_at dksX3_slot_3 9 rfl rfl)
theorem dX3_slot_81 : decode cX3_slot 81 = .ok (.ireturn, 1) := dk_172 (dk_at dksX3_slot_3 10 rfl rfl)
abbrev cX3_item : ByteArray := prog_15_method_47_code
def yX3_item : MethodName := ⟨RX3, "item", "(II)J"⟩
def dkwX3_item_2 : List UInt8 := [42, 180, 0, 22, 42, 180, 0, 13, 42, 180, 0, 26, 27, 46, 46, 28, 96, 47, 167, 0, 4, 9, 173]
abbrev dktX3_item_2 : List UInt8 := dkwX3_item_2 ++ []
def dkwX3_item_1 : List UInt8 := [180, 0, 26, 27, 46, 46, 4, 100, 184, 0, 103, 153, 0, 7, 4, 167, 0, 4, 3, 62, 29, 153, 0, 24]
abbrev dktX3_item_1 : List UInt8 := dkwX3_item_1 ++ dktX3_item_2
def dkwX3_item_0 : List UInt8 := [27, 184, 0, 124, 153, 0, 37, 42, 180, 0, 26, 27, 46, 153, 0, 28, 28, 3, 42, 180, 0, 16, 42]
abbrev dktX3_item_0 : List UInt8 := dkwX3_item_0 ++ dktX3_item_1
theorem dksX3_item_0 : cX3_item.data.toList.drop 0 = dktX3_item_0 := by decide +kernel
theorem dksX3_item_1 : cX3_item.data.toList.drop 23 = dktX3_item_1 := dk_seg dksX3_item_0 23 rfl rfl
theorem dksX3_item_2 : cX3_item.data.toList.drop 47 = dktX3_item_2 := dk_seg dksX3_item_1 24 rfl rfl
theorem dX3_item_0 : decode cX3_item 0 = .ok (.iload_n 1, 1) := dk_27 (dk_at dksX3_item_0 0 rfl rfl)
theorem dX3_item_1 : decode cX3_item 1 = .ok (.invokestatic 124, 3) := dk_184 0 124 (dk_at dksX3_item_0 1 rfl rfl)
theorem dX3_item_4 : decode cX3_item 4 = .ok (.ifCond .eq 37, 3) := dk_153 0 37 (dk_at dksX3_item_0 4 rfl rfl)
theorem dX3_item_7 : decode cX3_item 7 = .ok (.aload_n 0, 1) := dk_42 (dk_at dksX3_item_0 7 rfl rfl)
theorem dX3_item_8 : decode cX3_item 8 = .ok (.getfield 26, 3) := dk_180 0 26 (dk_at dksX3_item_0 8 rfl rfl)
theorem dX3_item_11 : decode cX3_item 11 = .ok (.iload_n 1, 1) := dk_27 (dk_at dksX3_item_0 11 rfl rfl)
theorem dX3_item_12 : decode cX3_item 12 = .ok (.iaload, 1) := dk_46 (dk_at dksX3_item_0 12 rfl rfl)
theorem dX3_item_13 : decode cX3_item 13 = .ok (.ifCond .eq 28, 3) := dk_153 0 28 (dk_at dksX3_item_0 13 rfl rfl)
theorem dX3_item_16 : decode cX3_item 16 = .ok (.iload_n 2, 1) := dk_28 (dk_at dksX3_item_0 16 rfl rfl)
theorem dX3_item_17 : decode cX3_item 17 = .ok (.iconst 0, 1) := dk_3 (dk_at dksX3_item_0 17 rfl rfl)
theorem dX3_item_18 : decode cX3_item 18 = .ok (.aload_n 0, 1) := dk_42 (dk_at dksX3_item_0 18 rfl rfl)
theorem dX3_item_19 : decode cX3_item 19 = .ok (.getfield 16, 3) := dk_180 0 16 (dk_at dksX3_item_0 19 rfl rfl)
theorem dX3_item_22 : decode cX3_item 22 = .ok (.aload_n 0, 1) := dk_42 (dk_at dksX3_item_0 22 rfl rfl)
theorem dX3_item_23 : decode cX3_item 23 = .ok (.getfield 26, 3) := dk_180 0 26 (dk_at dksX3_item_1 0 rfl rfl)
theorem dX3_item_26 : decode cX3_item 26 = .ok (.iload_n 1, 1) := dk_27 (dk_at dksX3_item_1 3 rfl rfl)
theorem dX3_item_27 : decode cX3_item 27 = .ok (.iaload, 1) := dk_46 (dk_at dksX3_item_1 4 rfl rfl)
theorem dX3_item_28 : decode cX3_item 28 = .ok (.iaload, 1) := dk_46 (dk_at dksX3_item_1 5 rfl rfl)
theorem dX3_item_29 : decode cX3_item 29 = .ok (.iconst 1, 1) := dk_4 (dk_at dksX3_item_1 6 rfl rfl)
theorem dX3_item_30 : decode cX3_item 30 = .ok (.isub, 1) := dk_100 (dk_at dksX3_item_1 7 rfl rfl)
theorem dX3_item_31 : decode cX3_item 31 = .ok (.invokestatic 103, 3) := dk_184 0 103 (dk_at dksX3_item_1 8 rfl rfl)
theorem dX3_item_34 : decode cX3_item 34 = .ok (.ifCond .eq 7, 3) := dk_153 0 7 (dk_at dksX3_item_1 11 rfl rfl)
theorem dX3_item_37 : decode cX3_item 37 = .ok (.iconst 1, 1) := dk_4 (dk_at dksX3_item_1 14 rfl rfl)
theorem dX3_item_38 : decode cX3_item 38 = .ok (.goto 4, 3) := dk_167 0 4 (dk_at dksX3_item_1 15 rfl rfl)
theorem dX3_item_41 : decode cX3_item 41 = .ok (.iconst 0, 1) := dk_3 (dk_at dksX3_item_1 18 rfl rfl)
theorem dX3_item_42 : decode cX3_item 42 = .ok (.istore_n 3, 1) := dk_62 (dk_at dksX3_item_1 19 rfl rfl)
theorem dX3_item_43 : decode cX3_item 43 = .ok (.iload_n 3, 1) := dk_29 (dk_at dksX3_item_1 20 rfl rfl)
theorem dX3_item_44 : decode cX3_item 44 = .ok (.ifCond .eq 24, 3) := dk_153 0 24 (dk_at dksX3_item_1 21 rfl rfl)
theorem dX3_item_47 : decode cX3_item 47 = .ok (.aload_n 0, 1) := dk_42 (dk_at dksX3_item_2 0 rfl rfl)
theorem dX3_item_48 : decode cX3_item 48 = .ok (.getfield 22, 3) := dk_180 0 22 (dk_at dksX3_item_2 1 rfl rfl)
theorem dX3_item_51 : decode cX3_item 51 = .ok (.aload_n 0, 1) := dk_42 (dk_at dksX3_item_2 4 rfl rfl)
theorem dX3_item_52 : decode cX3_item 52 = .ok (.getfield 13, 3) := dk_180 0 13 (dk_at dksX3_item_2 5 rfl rfl)
theorem dX3_item_55 : decode cX3_item 55 = .ok (.aload_n 0, 1) := dk_42 (dk_at dksX3_item_2 8 rfl rfl)
theorem dX3_item_56 : decode cX3_item 56 = .ok (.getfield 26, 3) := dk_180 0 26 (dk_at dksX3_item_2 9 rfl rfl)
theorem dX3_item_59 : decode cX3_item 59 = .ok (.iload_n 1, 1) := dk_27 (dk_at dksX3_item_2 12 rfl rfl)
theorem dX3_item_60 : decode cX3_item 60 = .ok (.iaload, 1) := dk_46 (dk_at dksX3_item_2 13 rfl rfl)
theorem dX3_item_61 : decode cX3_item 61 = .ok (.iaload, 1) := dk_46 (dk_at dksX3_item_2 14 rfl rfl)
theorem dX3_item_62 : decode cX3_item 62 = .ok (.iload_n 2, 1) := dk_28 (dk_at dksX3_item_2 15 rfl rfl)
theorem dX3_item_63 : decode cX3_item 63 = .ok (.iadd, 1) := dk_96 (dk_at dksX3_item_2 16 rfl rfl)
theorem dX3_item_64 : decode cX3_item 64 = .ok (.laload, 1) := dk_47 (dk_at dksX3_item_2 17 rfl rfl)
theorem dX3_item_65 : decode cX3_item 65 = .ok (.goto 4, 3) := dk_167 0 4 (dk_at dksX3_item_2 18 rfl rfl)
theorem dX3_item_68 : decode cX3_item 68 = .ok (.lconst 0, 1) := dk_9 (dk_at dksX3_item_2 21 rfl rfl)
theorem dX3_item_69 : decode cX3_item 69 = .ok (.lreturn, 1) := dk_173 (dk_at dksX3_item_2 22 rfl rfl)
abbrev cX3_register : ByteArray := prog_15_method_48_code
def yX3_register : MethodName := ⟨RX3, "register", "(I)J"⟩
def dkwX3_register_0 : List UInt8 := [27, 184, 0, 128, 153, 0, 12, 42, 180, 0, 29, 27, 47, 167, 0, 4, 9, 173]
abbrev dktX3_register_0 : List UInt8 := dkwX3_register_0 ++ []
theorem dksX3_register_0 : cX3_register.data.toList.drop 0 = dktX3_register_0 := by decide +kernel
theorem dX3_register_0 : decode cX3_register 0 = .ok (.iload_n 1, 1) := dk_27 (dk_at dksX3_register_0 0 rfl rfl)
theorem dX3_register_1 : decode cX3_register 1 = .ok (.invokestatic 128, 3) := dk_184 0 128 (dk_at dksX3_register_0 1 rfl rfl)
theorem dX3_register_4 : decode cX3_register 4 = .ok (.ifCond .eq 12, 3) := dk_153 0 12 (dk_at dksX3_register_0 4 rfl rfl)
theorem dX3_register_7 : decode cX3_register 7 = .ok (.aload_n 0, 1) := dk_42 (dk_at dksX3_register_0 7 rfl rfl)
theorem dX3_register_8 : decode cX3_register 8 = .ok (.getfield 29, 3) := dk_180 0 29 (dk_at dksX3_register_0 8 rfl rfl)
theorem dX3_register_11 : decode cX3_register 11 = .ok (.iload_n 1, 1) := dk_27 (dk_at dksX3_register_0 11 rfl rfl)
theorem dX3_register_12 : decode cX3_register 12 = .ok (.laload, 1) := dk_47 (dk_at dksX3_register_0 12 rfl rfl)
theorem dX3_register_13 : decode cX3_register 13 = .ok (.goto 4, 3) := dk_167 0 4 (dk_at dksX3_register_0 13 rfl rfl)
theorem dX3_register_16 : decode cX3_register 16 = .ok (.lconst 0, 1) := dk_9 (dk_at dksX3_register_0 16 rfl rfl)
theorem dX3_register_17 : decode cX3_register 17 = .ok (.lreturn, 1) := dk_173 (dk_at dksX3_register_0 17 rfl rfl)
abbrev cX3_alike : ByteArray := prog_15_method_51_code
def yX3_alike : MethodName := ⟨RX3, "alike", "(II)I"⟩
def dkwX3_alike_2 : List UInt8 := [153, 0, 17, 42, 29, 21, 4, 182, 1, 13, 153, 0, 7, 5, 167, 0, 4, 3, 172]
abbrev dktX3_alike_2 : List UInt8 := dkwX3_alike_2 ++ []
def dkwX3_alike_1 : List UInt8 := [180, 0, 26, 28, 46, 54, 4, 29, 21, 4, 160, 0, 7, 4, 167, 0, 27, 29, 153, 0, 22, 21, 4]
abbrev dktX3_alike_1 : List UInt8 := dkwX3_alike_1 ++ dktX3_alike_2
def dkwX3_alike_0 : List UInt8 := [27, 184, 0, 124, 153, 0, 10, 28, 184, 0, 124, 154, 0, 5, 2, 172, 42, 180, 0, 26, 27, 46, 62, 42]
abbrev dktX3_alike_0 : List UInt8 := dkwX3_alike_0 ++ dktX3_alike_1
theorem dksX3_alike_0 : cX3_alike.data.toList.drop 0 = dktX3_alike_0 := by decide +kernel
theorem dksX3_alike_1 : cX3_alike.data.toList.drop 24 = dktX3_alike_1 := dk_seg dksX3_alike_0 24 rfl rfl
theorem dksX3_alike_2 : cX3_alike.data.toList.drop 47 = dktX3_alike_2 := dk_seg dksX3_alike_1 23 rfl rfl
theorem dX3_alike_0 : decode cX3_alike 0 = .ok (.iload_n 1, 1) := dk_27 (dk_at dksX3_alike_0 0 rfl rfl)
theorem dX3_alike_1 : decode cX3_alike 1 = .ok (.invokestatic 124, 3) := dk_184 0 124 (dk_at dksX3_alike_0 1 rfl rfl)
theorem dX3_alike_4 : decode cX3_alike 4 = .ok (.ifCond .eq 10, 3) := dk_153 0 10 (dk_at dksX3_alike_0 4 rfl rfl)
theorem dX3_alike_7 : decode cX3_alike 7 = .ok (.iload_n 2, 1) := dk_28 (dk_at dksX3_alike_0 7 rfl rfl)
theorem dX3_alike_8 : decode cX3_alike 8 = .ok (.invokestatic 124, 3) := dk_184 0 124 (dk_at dksX3_alike_0 8 rfl rfl)
theorem dX3_alike_11 : decode cX3_alike 11 = .ok (.ifCond .ne 5, 3) := dk_154 0 5 (dk_at dksX3_alike_0 11 rfl rfl)
theorem dX3_alike_14 : decode cX3_alike 14 = .ok (.iconst (-1), 1) := dk_2 (dk_at dksX3_alike_0 14 rfl rfl)
theorem dX3_alike_15 : decode cX3_alike 15 = .ok (.ireturn, 1) := dk_172 (dk_at dksX3_alike_0 15 rfl rfl)
theorem dX3_alike_16 : decode cX3_alike 16 = .ok (.aload_n 0, 1) := dk_42 (dk_at dksX3_alike_0 16 rfl rfl)
theorem dX3_alike_17 : decode cX3_alike 17 = .ok (.getfield 26, 3) := dk_180 0 26 (dk_at dksX3_alike_0 17 rfl rfl)
theorem dX3_alike_20 : decode cX3_alike 20 = .ok (.iload_n 1, 1) := dk_27 (dk_at dksX3_alike_0 20 rfl rfl)
theorem dX3_alike_21 : decode cX3_alike 21 = .ok (.iaload, 1) := dk_46 (dk_at dksX3_alike_0 21 rfl rfl)
theorem dX3_alike_22 : decode cX3_alike 22 = .ok (.istore_n 3, 1) := dk_62 (dk_at dksX3_alike_0 22 rfl rfl)
theorem dX3_alike_23 : decode cX3_alike 23 = .ok (.aload_n 0, 1) := dk_42 (dk_at dksX3_alike_0 23 rfl rfl)
theorem dX3_alike_24 : decode cX3_alike 24 = .ok (.getfield 26, 3) := dk_180 0 26 (dk_at dksX3_alike_1 0 rfl rfl)
theorem dX3_alike_27 : decode cX3_alike 27 = .ok (.iload_n 2, 1) := dk_28 (dk_at dksX3_alike_1 3 rfl rfl)
theorem dX3_alike_28 : decode cX3_alike 28 = .ok (.iaload, 1) := dk_46 (dk_at dksX3_alike_1 4 rfl rfl)
theorem dX3_alike_29 : decode cX3_alike 29 = .ok (.istore 4, 2) := dk_54 4 (dk_at dksX3_alike_1 5 rfl rfl)
theorem dX3_alike_31 : decode cX3_alike 31 = .ok (.iload_n 3, 1) := dk_29 (dk_at dksX3_alike_1 7 rfl rfl)
theorem dX3_alike_32 : decode cX3_alike 32 = .ok (.iload 4, 2) := dk_21 4 (dk_at dksX3_alike_1 8 rfl rfl)
theorem dX3_alike_34 : decode cX3_alike 34 = .ok (.if_icmp .ne 7, 3) := dk_160 0 7 (dk_at dksX3_alike_1 10 rfl rfl)
theorem dX3_alike_37 : decode cX3_alike 37 = .ok (.iconst 1, 1) := dk_4 (dk_at dksX3_alike_1 13 rfl rfl)
theorem dX3_alike_38 : decode cX3_alike 38 = .ok (.goto 27, 3) := dk_167 0 27 (dk_at dksX3_alike_1 14 rfl rfl)
theorem dX3_alike_41 : decode cX3_alike 41 = .ok (.iload_n 3, 1) := dk_29 (dk_at dksX3_alike_1 17 rfl rfl)
theorem dX3_alike_42 : decode cX3_alike 42 = .ok (.ifCond .eq 22, 3) := dk_153 0 22 (dk_at dksX3_alike_1 18 rfl rfl)
theorem dX3_alike_45 : decode cX3_alike 45 = .ok (.iload 4, 2) := dk_21 4 (dk_at dksX3_alike_1 21 rfl rfl)
theorem dX3_alike_47 : decode cX3_alike 47 = .ok (.ifCond .eq 17, 3) := dk_153 0 17 (dk_at dksX3_alike_2 0 rfl rfl)
theorem dX3_alike_50 : decode cX3_alike 50 = .ok (.aload_n 0, 1) := dk_42 (dk_at dksX3_alike_2 3 rfl rfl)
theorem dX3_alike_51 : decode cX3_alike 51 = .ok (.iload_n 3, 1) := dk_29 (dk_at dksX3_alike_2 4 rfl rfl)
theorem dX3_alike_52 : decode cX3_alike 52 = .ok (.iload 4, 2) := dk_21 4 (dk_at dksX3_alike_2 5 rfl rfl)
theorem dX3_alike_54 : decode cX3_alike 54 = .ok (.invokevirtual 269, 3) := dk_182 1 13 (dk_at dksX3_alike_2 7 rfl rfl)
theorem dX3_alike_57 : decode cX3_alike 57 = .ok (.ifCond .eq 7, 3) := dk_153 0 7 (dk_at dksX3_alike_2 10 rfl rfl)
theorem dX3_alike_60 : decode cX3_alike 60 = .ok (.iconst 2, 1) := dk_5 (dk_at dksX3_alike_2 13 rfl rfl)
theorem dX3_alike_61 : decode cX3_alike 61 = .ok (.goto 4, 3) := dk_167 0 4 (dk_at dksX3_alike_2 14 rfl rfl)
theorem dX3_alike_64 : decode cX3_alike 64 = .ok (.iconst 0, 1) := dk_3 (dk_at dksX3_alike_2 17 rfl rfl)
theorem dX3_alike_65 : decode cX3_alike 65 = .ok (.ireturn, 1) := dk_172 (dk_at dksX3_alike_2 18 rfl rfl)
abbrev cX3_twins : ByteArray := prog_15_method_50_code
def yX3_twins : MethodName := ⟨RX3, "twins", "(II)Z"⟩
def dkwX3_twins_5 : List UInt8 := [21, 5, 21, 6, 182, 1, 10, 153, 0, 7, 4, 167, 0, 4, 3, 62, 132, 4, 1, 167, 255, 170, 29, 172]
abbrev dktX3_twins_5 : List UInt8 := dkwX3_twins_5 ++ []
def dkwX3_twins_4 : List UInt8 := [96, 47, 136, 54, 6, 21, 5, 21, 6, 159, 0, 24, 21, 5, 153, 0, 23, 21, 6, 153, 0, 18, 42]
abbrev dktX3_twins_4 : List UInt8 := dkwX3_twins_4 ++ dktX3_twins_5
def dkwX3_twins_3 : List UInt8 := [180, 0, 13, 27, 46, 21, 4, 96, 47, 136, 54, 5, 42, 180, 0, 22, 42, 180, 0, 13, 28, 46, 21, 4]
abbrev dktX3_twins_3 : List UInt8 := dkwX3_twins_3 ++ dktX3_twins_4
def dkwX3_twins_2 : List UInt8 := [62, 3, 54, 4, 29, 153, 0, 88, 21, 4, 42, 180, 0, 16, 27, 46, 162, 0, 77, 42, 180, 0, 22, 42]
abbrev dktX3_twins_2 : List UInt8 := dkwX3_twins_2 ++ dktX3_twins_3
def dkwX3_twins_1 : List UInt8 := [182, 1, 10, 172, 42, 180, 0, 16, 27, 46, 42, 180, 0, 16, 28, 46, 160, 0, 7, 4, 167, 0, 4, 3]
abbrev dktX3_twins_1 : List UInt8 := dkwX3_twins_1 ++ dktX3_twins_2
def dkwX3_twins_0 : List UInt8 := [42, 180, 0, 7, 27, 46, 8, 160, 0, 13, 42, 180, 0, 7, 28, 46, 8, 159, 0, 10, 42, 27, 28]
abbrev dktX3_twins_0 : List UInt8 := dkwX3_twins_0 ++ dktX3_twins_1
theorem dksX3_twins_0 : cX3_twins.data.toList.drop 0 = dktX3_twins_0 := by decide +kernel
theorem dksX3_twins_1 : cX3_twins.data.toList.drop 23 = dktX3_twins_1 := dk_seg dksX3_twins_0 23 rfl rfl
theorem dksX3_twins_2 : cX3_twins.data.toList.drop 47 = dktX3_twins_2 := dk_seg dksX3_twins_1 24 rfl rfl
theorem dksX3_twins_3 : cX3_twins.data.toList.drop 71 = dktX3_twins_3 := dk_seg dksX3_twins_2 24 rfl rfl
theorem dksX3_twins_4 : cX3_twins.data.toList.drop 95 = dktX3_twins_4 := dk_seg dksX3_twins_3 24 rfl rfl
theorem dksX3_twins_5 : cX3_twins.data.toList.drop 118 = dktX3_twins_5 := dk_seg dksX3_twins_4 23 rfl rfl
theorem dX3_twins_0 : decode cX3_twins 0 = .ok (.aload_n 0, 1) := dk_42 (dk_at dksX3_twins_0 0 rfl rfl)
theorem dX3_twins_1 : decode cX3_twins 1 = .ok (.getfield 7, 3) := dk_180 0 7 (dk_at dksX3_twins_0 1 rfl rfl)
theorem dX3_twins_4 : decode cX3_twins 4 = .ok (.iload_n 1, 1) := dk_27 (dk_at dksX3_twins_0 4 rfl rfl)
theorem dX3_twins_5 : decode cX3_twins 5 = .ok (.iaload, 1) := dk_46 (dk_at dksX3_twins_0 5 rfl rfl)
theorem dX3_twins_6 : decode cX3_twins 6 = .ok (.iconst 5, 1) := dk_8 (dk_at dksX3_twins_0 6 rfl rfl)
theorem dX3_twins_7 : decode cX3_twins 7 = .ok (.if_icmp .ne 13, 3) := dk_160 0 13 (dk_at dksX3_twins_0 7 rfl rfl)
theorem dX3_twins_10 : decode cX3_twins 10 = .ok (.aload_n 0, 1) := dk_42 (dk_at dksX3_twins_0 10 rfl rfl)
theorem dX3_twins_11 : decode cX3_twins 11 = .ok (.getfield 7, 3) := dk_180 0 7 (dk_at dksX3_twins_0 11 rfl rfl)
theorem dX3_twins_14 : decode cX3_twins 14 = .ok (.iload_n 2, 1) := dk_28 (dk_at dksX3_twins_0 14 rfl rfl)
theorem dX3_twins_15 : decode cX3_twins 15 = .ok (.iaload, 1) := dk_46 (dk_at dksX3_twins_0 15 rfl rfl)
theorem dX3_twins_16 : decode cX3_twins 16 = .ok (.iconst 5, 1) := dk_8 (dk_at dksX3_twins_0 16 rfl rfl)
theorem dX3_twins_17 : decode cX3_twins 17 = .ok (.if_icmp .eq 10, 3) := dk_159 0 10 (dk_at dksX3_twins_0 17 rfl rfl)
theorem dX3_twins_20 : decode cX3_twins 20 = .ok (.aload_n 0, 1) := dk_42 (dk_at dksX3_twins_0 20 rfl rfl)
theorem dX3_twins_21 : decode cX3_twins 21 = .ok (.iload_n 1, 1) := dk_27 (dk_at dksX3_twins_0 21 rfl rfl)
theorem dX3_twins_22 : decode cX3_twins 22 = .ok (.iload_n 2, 1) := dk_28 (dk_at dksX3_twins_0 22 rfl rfl)
theorem dX3_twins_23 : decode cX3_twins 23 = .ok (.invokevirtual 266, 3) := dk_182 1 10 (dk_at dksX3_twins_1 0 rfl rfl)
theorem dX3_twins_26 : decode cX3_twins 26 = .ok (.ireturn, 1) := dk_172 (dk_at dksX3_twins_1 3 rfl rfl)
theorem dX3_twins_27 : decode cX3_twins 27 = .ok (.aload_n 0, 1) := dk_42 (dk_at dksX3_twins_1 4 rfl rfl)
theorem dX3_twins_28 : decode cX3_twins 28 = .ok (.getfield 16, 3) := dk_180 0 16 (dk_at dksX3_twins_1 5 rfl rfl)
theorem dX3_twins_31 : decode cX3_twins 31 = .ok (.iload_n 1, 1) := dk_27 (dk_at dksX3_twins_1 8 rfl rfl)
theorem dX3_twins_32 : decode cX3_twins 32 = .ok (.iaload, 1) := dk_46 (dk_at dksX3_twins_1 9 rfl rfl)
theorem dX3_twins_33 : decode cX3_twins 33 = .ok (.aload_n 0, 1) := dk_42 (dk_at dksX3_twins_1 10 rfl rfl)
theorem dX3_twins_34 : decode cX3_twins 34 = .ok (.getfield 16, 3) := dk_180 0 16 (dk_at dksX3_twins_1 11 rfl rfl)
theorem dX3_twins_37 : decode cX3_twins 37 = .ok (.iload_n 2, 1) := dk_28 (dk_at dksX3_twins_1 14 rfl rfl)
theorem dX3_twins_38 : decode cX3_twins 38 = .ok (.iaload, 1) := dk_46 (dk_at dksX3_twins_1 15 rfl rfl)
theorem dX3_twins_39 : decode cX3_twins 39 = .ok (.if_icmp .ne 7, 3) := dk_160 0 7 (dk_at dksX3_twins_1 16 rfl rfl)
theorem dX3_twins_42 : decode cX3_twins 42 = .ok (.iconst 1, 1) := dk_4 (dk_at dksX3_twins_1 19 rfl rfl)
theorem dX3_twins_43 : decode cX3_twins 43 = .ok (.goto 4, 3) := dk_167 0 4 (dk_at dksX3_twins_1 20 rfl rfl)
theorem dX3_twins_46 : decode cX3_twins 46 = .ok (.iconst 0, 1) := dk_3 (dk_at dksX3_twins_1 23 rfl rfl)
theorem dX3_twins_47 : decode cX3_twins 47 = .ok (.istore_n 3, 1) := dk_62 (dk_at dksX3_twins_2 0 rfl rfl)
theorem dX3_twins_48 : decode cX3_twins 48 = .ok (.iconst 0, 1) := dk_3 (dk_at dksX3_twins_2 1 rfl rfl)
theorem dX3_twins_49 : decode cX3_twins 49 = .ok (.istore 4, 2) := dk_54 4 (dk_at dksX3_twins_2 2 rfl rfl)
theorem dX3_twins_51 : decode cX3_twins 51 = .ok (.iload_n 3, 1) := dk_29 (dk_at dksX3_twins_2 4 rfl rfl)
theorem dX3_twins_52 : decode cX3_twins 52 = .ok (.ifCond .eq 88, 3) := dk_153 0 88 (dk_at dksX3_twins_2 5 rfl rfl)
theorem dX3_twins_55 : decode cX3_twins 55 = .ok (.iload 4, 2) := dk_21 4 (dk_at dksX3_twins_2 8 rfl rfl)
theorem dX3_twins_57 : decode cX3_twins 57 = .ok (.aload_n 0, 1) := dk_42 (dk_at dksX3_twins_2 10 rfl rfl)
theorem dX3_twins_58 : decode cX3_twins 58 = .ok (.getfield 16, 3) := dk_180 0 16 (dk_at dksX3_twins_2 11 rfl rfl)
theorem dX3_twins_61 : decode cX3_twins 61 = .ok (.iload_n 1, 1) := dk_27 (dk_at dksX3_twins_2 14 rfl rfl)
theorem dX3_twins_62 : decode cX3_twins 62 = .ok (.iaload, 1) := dk_46 (dk_at dksX3_twins_2 15 rfl rfl)
theorem dX3_twins_63 : decode cX3_twins 63 = .ok (.if_icmp .ge 77, 3) := dk_162 0 77 (dk_at dksX3_twins_2 16 rfl rfl)
theorem dX3_twins_66 : decode cX3_twins 66 = .ok (.aload_n 0, 1) := dk_42 (dk_at dksX3_twins_2 19 rfl rfl)
theorem dX3_twins_67 : decode cX3_twins 67 = .ok (.getfield 22, 3) := dk_180 0 22 (dk_at dksX3_twins_2 20 rfl rfl)
theorem dX3_twins_70 : decode cX3_twins 70 = .ok (.aload_n 0, 1) := dk_42 (dk_at dksX3_twins_2 23 rfl rfl)
theorem dX3_twins_71 : decode cX3_twins 71 = .ok (.getfield 13, 3) := dk_180 0 13 (dk_at dksX3_twins_3 0 rfl rfl)
theorem dX3_twins_74 : decode cX3_twins 74 = .ok (.iload_n 1, 1) := dk_27 (dk_at dksX3_twins_3 3 rfl rfl)
theorem dX3_twins_75 : decode cX3_twins 75 = .ok (.iaload, 1) := dk_46 (dk_at dksX3_twins_3 4 rfl rfl)
theorem dX3_twins_76 : decode cX3_twins 76 = .ok (.iload 4, 2) := dk_21 4 (dk_at dksX3_twins_3 5 rfl rfl)
theorem dX3_twins_78 : decode cX3_twins 78 = .ok (.iadd, 1) := dk_96 (dk_at dksX3_twins_3 7 rfl rfl)
theorem dX3_twins_79 : decode cX3_twins 79 = .ok (.laload, 1) := dk_47 (dk_at dksX3_twins_3 8 rfl rfl)
theorem dX3_twins_80 : decode cX3_twins 80 = .ok (.l2i, 1) := dk_136 (dk_at dksX3_twins_3 9 rfl rfl)
theorem dX3_twins_81 : decode cX3_twins 81 = .ok (.istore 5, 2) := dk_54 5 (dk_at dksX3_twins_3 10 rfl rfl)
theorem dX3_twins_83 : decode cX3_twins 83 = .ok (.aload_n 0, 1) := dk_42 (dk_at dksX3_twins_3 12 rfl rfl)
theorem dX3_twins_84 : decode cX3_twins 84 = .ok (.getfield 22, 3) := dk_180 0 22 (dk_at dksX3_twins_3 13 rfl rfl)
theorem dX3_twins_87 : decode cX3_twins 87 = .ok (.aload_n 0, 1) := dk_42 (dk_at dksX3_twins_3 16 rfl rfl)
theorem dX3_twins_88 : decode cX3_twins 88 = .ok (.getfield 13, 3) := dk_180 0 13 (dk_at dksX3_twins_3 17 rfl rfl)
theorem dX3_twins_91 : decode cX3_twins 91 = .ok (.iload_n 2, 1) := dk_28 (dk_at dksX3_twins_3 20 rfl rfl)
theorem dX3_twins_92 : decode cX3_twins 92 = .ok (.iaload, 1) := dk_46 (dk_at dksX3_twins_3 21 rfl rfl)
theorem dX3_twins_93 : decode cX3_twins 93 = .ok (.iload 4, 2) := dk_21 4 (dk_at dksX3_twins_3 22 rfl rfl)
theorem dX3_twins_95 : decode cX3_twins 95 = .ok (.iadd, 1) := dk_96 (dk_at dksX3_twins_4 0 rfl rfl)
theorem dX3_twins_96 : decode cX3_twins 96 = .ok (.laload, 1) := dk_47 (dk_at dksX3_twins_4 1 rfl rfl)
theorem dX3_twins_97 : decode cX3_twins 97 = .ok (.l2i, 1) := dk_136 (dk_at dksX3_twins_4 2 rfl rfl)
theorem dX3_twins_98 : decode cX3_twins 98 = .ok (.istore 6, 2) := dk_54 6 (dk_at dksX3_twins_4 3 rfl rfl)
theorem dX3_twins_100 : decode cX3_twins 100 = .ok (.iload 5, 2) := dk_21 5 (dk_at dksX3_twins_4 5 rfl rfl)
theorem dX3_twins_102 : decode cX3_twins 102 = .ok (.iload 6, 2) := dk_21 6 (dk_at dksX3_twins_4 7 rfl rfl)
theorem dX3_twins_104 : decode cX3_twins 104 = .ok (.if_icmp .eq 24, 3) := dk_159 0 24 (dk_at dksX3_twins_4 9 rfl rfl)
theorem dX3_twins_107 : decode cX3_twins 107 = .ok (.iload 5, 2) := dk_21 5 (dk_at dksX3_twins_4 12 rfl rfl)
theorem dX3_twins_109 : decode cX3_twins 109 = .ok (.ifCond .eq 23, 3) := dk_153 0 23 (dk_at dksX3_twins_4 14 rfl rfl)
theorem dX3_twins_112 : decode cX3_twins 112 = .ok (.iload 6, 2) := dk_21 6 (dk_at dksX3_twins_4 17 rfl rfl)
theorem dX3_twins_114 : decode cX3_twins 114 = .ok (.ifCond .eq 18, 3) := dk_153 0 18 (dk_at dksX3_twins_4 19 rfl rfl)
theorem dX3_twins_117 : decode cX3_twins 117 = .ok (.aload_n 0, 1) := dk_42 (dk_at dksX3_twins_4 22 rfl rfl)
theorem dX3_twins_118 : decode cX3_twins 118 = .ok (.iload 5, 2) := dk_21 5 (dk_at dksX3_twins_5 0 rfl rfl)
theorem dX3_twins_120 : decode cX3_twins 120 = .ok (.iload 6, 2) := dk_21 6 (dk_at dksX3_twins_5 2 rfl rfl)
theorem dX3_twins_122 : decode cX3_twins 122 = .ok (.invokevirtual 266, 3) := dk_182 1 10 (dk_at dksX3_twins_5 4 rfl rfl)
theorem dX3_twins_125 : decode cX3_twins 125 = .ok (.ifCond .eq 7, 3) := dk_153 0 7 (dk_at dksX3_twins_5 7 rfl rfl)
theorem dX3_twins_128 : decode cX3_twins 128 = .ok (.iconst 1, 1) := dk_4 (dk_at dksX3_twins_5 10 rfl rfl)
theorem dX3_twins_129 : decode cX3_twins 129 = .ok (.goto 4, 3) := dk_167 0 4 (dk_at dksX3_twins_5 11 rfl rfl)
theorem dX3_twins_132 : decode cX3_twins 132 = .ok (.iconst 0, 1) := dk_3 (dk_at dksX3_twins_5 14 rfl rfl)
theorem dX3_twins_133 : decode cX3_twins 133 = .ok (.istore_n 3, 1) := dk_62 (dk_at dksX3_twins_5 15 rfl rfl)
theorem dX3_twins_134 : decode cX3_twins 134 = .ok (.iinc 4 1, 3) := dk_132 4 1 (dk_at dksX3_twins_5 16 rfl rfl)
theorem dX3_twins_137 : decode cX3_twins 137 = .ok (.goto (-86), 3) := dk_167 255 170 (dk_at dksX3_twins_5 19 rfl rfl)
theorem dX3_twins_140 : decode cX3_twins 140 = .ok (.iload_n 3, 1) := dk_29 (dk_at dksX3_twins_5 22 rfl rfl)
theorem dX3_twins_141 : decode cX3_twins 141 = .ok (.ireturn, 1) := dk_172 (dk_at dksX3_twins_5 23 rfl rfl)
abbrev cX3_plainTwins : ByteArray := prog_15_method_49_code
def yX3_plainTwins : MethodName := ⟨RX3, "plainTwins", "(II)Z"⟩
def dkwX3_plainTwins_4 : List UInt8 := [21, 4, 96, 47, 148, 154, 0, 7, 4, 167, 0, 4, 3, 62, 132, 4, 1, 167, 255, 200, 29, 172]
abbrev dktX3_plainTwins_4 : List UInt8 := dkwX3_plainTwins_4 ++ []
def dkwX3_plainTwins_3 : List UInt8 := [180, 0, 22, 42, 180, 0, 13, 27, 46, 21, 4, 96, 47, 42, 180, 0, 22, 42, 180, 0, 13, 28, 46]
abbrev dktX3_plainTwins_3 : List UInt8 := dkwX3_plainTwins_3 ++ dktX3_plainTwins_4
def dkwX3_plainTwins_2 : List UInt8 := [167, 0, 4, 3, 62, 3, 54, 4, 29, 153, 0, 58, 21, 4, 42, 180, 0, 16, 27, 46, 162, 0, 47, 42]
abbrev dktX3_plainTwins_2 : List UInt8 := dkwX3_plainTwins_2 ++ dktX3_plainTwins_3
def dkwX3_plainTwins_1 : List UInt8 := [180, 0, 16, 28, 46, 160, 0, 22, 42, 180, 0, 19, 27, 46, 42, 180, 0, 19, 28, 46, 160, 0, 7, 4]
abbrev dktX3_plainTwins_1 : List UInt8 := dkwX3_plainTwins_1 ++ dktX3_plainTwins_2
def dkwX3_plainTwins_0 : List UInt8 := [42, 180, 0, 7, 27, 46, 42, 180, 0, 7, 28, 46, 160, 0, 37, 42, 180, 0, 16, 27, 46, 42]
abbrev dktX3_plainTwins_0 : List UInt8 := dkwX3_plainTwins_0 ++ dktX3_plainTwins_1
theorem dksX3_plainTwins_0 : cX3_plainTwins.data.toList.drop 0 = dktX3_plainTwins_0 := by decide +kernel
theorem dksX3_plainTwins_1 : cX3_plainTwins.data.toList.drop 22 = dktX3_plainTwins_1 := dk_seg dksX3_plainTwins_0 22 rfl rfl
theorem dksX3_plainTwins_2 : cX3_plainTwins.data.toList.drop 46 = dktX3_plainTwins_2 := dk_seg dksX3_plainTwins_1 24 rfl rfl
theorem dksX3_plainTwins_3 : cX3_plainTwins.data.toList.drop 70 = dktX3_plainTwins_3 := dk_seg dksX3_plainTwins_2 24 rfl rfl
theorem dksX3_plainTwins_4 : cX3_plainTwins.data.toList.drop 93 = dktX3_plainTwins_4 := dk_seg dksX3_plainTwins_3 23 rfl rfl
theorem dX3_plainTwins_0 : decode cX3_plainTwins 0 = .ok (.aload_n 0, 1) := dk_42 (dk_at dksX3_plainTwins_0 0 rfl rfl)
theorem dX3_plainTwins_1 : decode cX3_plainTwins 1 = .ok (.getfield 7, 3) := dk_180 0 7 (dk_at dksX3_plainTwins_0 1 rfl rfl)
theorem dX3_plainTwins_4 : decode cX3_plainTwins 4 = .ok (.iload_n 1, 1) := dk_27 (dk_at dksX3_plainTwins_0 4 rfl rfl)
theorem dX3_plainTwins_5 : decode cX3_plainTwins 5 = .ok (.iaload, 1) := dk_46 (dk_at dksX3_plainTwins_0 5 rfl rfl)
theorem dX3_plainTwins_6 : decode cX3_plainTwins 6 = .ok (.aload_n 0, 1) := dk_42 (dk_at dksX3_plainTwins_0 6 rfl rfl)
theorem dX3_plainTwins_7 : decode cX3_plainTwins 7 = .ok (.getfield 7, 3) := dk_180 0 7 (dk_at dksX3_plainTwins_0 7 rfl rfl)
theorem dX3_plainTwins_10 : decode cX3_plainTwins 10 = .ok (.iload_n 2, 1) := dk_28 (dk_at dksX3_plainTwins_0 10 rfl rfl)
theorem dX3_plainTwins_11 : decode cX3_plainTwins 11 = .ok (.iaload, 1) := dk_46 (dk_at dksX3_plainTwins_0 11 rfl rfl)
theorem dX3_plainTwins_12 : decode cX3_plainTwins 12 = .ok (.if_icmp .ne 37, 3) := dk_160 0 37 (dk_at dksX3_plainTwins_0 12 rfl rfl)
theorem dX3_plainTwins_15 : decode cX3_plainTwins 15 = .ok (.aload_n 0, 1) := dk_42 (dk_at dksX3_plainTwins_0 15 rfl rfl)
theorem dX3_plainTwins_16 : decode cX3_plainTwins 16 = .ok (.getfield 16, 3) := dk_180 0 16 (dk_at dksX3_plainTwins_0 16 rfl rfl)
theorem dX3_plainTwins_19 : decode cX3_plainTwins 19 = .ok (.iload_n 1, 1) := dk_27 (dk_at dksX3_plainTwins_0 19 rfl rfl)
theorem dX3_plainTwins_20 : decode cX3_plainTwins 20 = .ok (.iaload, 1) := dk_46 (dk_at dksX3_plainTwins_0 20 rfl rfl)
theorem dX3_plainTwins_21 : decode cX3_plainTwins 21 = .ok (.aload_n 0, 1) := dk_42 (dk_at dksX3_plainTwins_0 21 rfl rfl)
theorem dX3_plainTwins_22 : decode cX3_plainTwins 22 = .ok (.getfield 16, 3) := dk_180 0 16 (dk_at dksX3_plainTwins_1 0 rfl rfl)
theorem dX3_plainTwins_25 : decode cX3_plainTwins 25 = .ok (.iload_n 2, 1) := dk_28 (dk_at dksX3_plainTwins_1 3 rfl rfl)
theorem dX3_plainTwins_26 : decode cX3_plainTwins 26 = .ok (.iaload, 1) := dk_46 (dk_at dksX3_plainTwins_1 4 rfl rfl)
theorem dX3_plainTwins_27 : decode cX3_plainTwins 27 = .ok (.if_icmp .ne 22, 3) := dk_160 0 22 (dk_at dksX3_plainTwins_1 5 rfl rfl)
theorem dX3_plainTwins_30 : decode cX3_plainTwins 30 = .ok (.aload_n 0, 1) := dk_42 (dk_at dksX3_plainTwins_1 8 rfl rfl)
theorem dX3_plainTwins_31 : decode cX3_plainTwins 31 = .ok (.getfield 19, 3) := dk_180 0 19 (dk_at dksX3_plainTwins_1 9 rfl rfl)
theorem dX3_plainTwins_34 : decode cX3_plainTwins 34 = .ok (.iload_n 1, 1) := dk_27 (dk_at dksX3_plainTwins_1 12 rfl rfl)
theorem dX3_plainTwins_35 : decode cX3_plainTwins 35 = .ok (.iaload, 1) := dk_46 (dk_at dksX3_plainTwins_1 13 rfl rfl)
theorem dX3_plainTwins_36 : decode cX3_plainTwins 36 = .ok (.aload_n 0, 1) := dk_42 (dk_at dksX3_plainTwins_1 14 rfl rfl)
theorem dX3_plainTwins_37 : decode cX3_plainTwins 37 = .ok (.getfield 19, 3) := dk_180 0 19 (dk_at dksX3_plainTwins_1 15 rfl rfl)
theorem dX3_plainTwins_40 : decode cX3_plainTwins 40 = .ok (.iload_n 2, 1) := dk_28 (dk_at dksX3_plainTwins_1 18 rfl rfl)
theorem dX3_plainTwins_41 : decode cX3_plainTwins 41 = .ok (.iaload, 1) := dk_46 (dk_at dksX3_plainTwins_1 19 rfl rfl)
theorem dX3_plainTwins_42 : decode cX3_plainTwins 42 = .ok (.if_icmp .ne 7, 3) := dk_160 0 7 (dk_at dksX3_plainTwins_1 20 rfl rfl)
theorem dX3_plainTwins_45 : decode cX3_plainTwins 45 = .ok (.iconst 1, 1) := dk_4 (dk_at dksX3_plainTwins_1 23 rfl rfl)
theorem dX3_plainTwins_46 : decode cX3_plainTwins 46 = .ok (.goto 4, 3) := dk_167 0 4 (dk_at dksX3_plainTwins_2 0 rfl rfl)
theorem dX3_plainTwins_49 : decode cX3_plainTwins 49 = .ok (.iconst 0, 1) := dk_3 (dk_at dksX3_plainTwins_2 3 rfl rfl)
theorem dX3_plainTwins_50 : decode cX3_plainTwins 50 = .ok (.istore_n 3, 1) := dk_62 (dk_at dksX3_plainTwins_2 4 rfl rfl)
theorem dX3_plainTwins_51 : decode cX3_plainTwins 51 = .ok (.iconst 0, 1) := dk_3 (dk_at dksX3_plainTwins_2 5 rfl rfl)
theorem dX3_plainTwins_52 : decode cX3_plainTwins 52 = .ok (.istore 4, 2) := dk_54 4 (dk_at dksX3_plainTwins_2 6 rfl rfl)
theorem dX3_plainTwins_54 : decode cX3_plainTwins 54 = .ok (.iload_n 3, 1) := dk_29 (dk_at dksX3_plainTwins_2 8 rfl rfl)
theorem dX3_plainTwins_55 : decode cX3_plainTwins 55 = .ok (.ifCond .eq 58, 3) := dk_153 0 58 (dk_at dksX3_plainTwins_2 9 rfl rfl)
theorem dX3_plainTwins_58 : decode cX3_plainTwins 58 = .ok (.iload 4, 2) := dk_21 4 (dk_at dksX3_plainTwins_2 12 rfl rfl)
theorem dX3_plainTwins_60 : decode cX3_plainTwins 60 = .ok (.aload_n 0, 1) := dk_42 (dk_at dksX3_plainTwins_2 14 rfl rfl)
theorem dX3_plainTwins_61 : decode cX3_plainTwins 61 = .ok (.getfield 16, 3) := dk_180 0 16 (dk_at dksX3_plainTwins_2 15 rfl rfl)
theorem dX3_plainTwins_64 : decode cX3_plainTwins 64 = .ok (.iload_n 1, 1) := dk_27 (dk_at dksX3_plainTwins_2 18 rfl rfl)
theorem dX3_plainTwins_65 : decode cX3_plainTwins 65 = .ok (.iaload, 1) := dk_46 (dk_at dksX3_plainTwins_2 19 rfl rfl)
theorem dX3_plainTwins_66 : decode cX3_plainTwins 66 = .ok (.if_icmp .ge 47, 3) := dk_162 0 47 (dk_at dksX3_plainTwins_2 20 rfl rfl)
theorem dX3_plainTwins_69 : decode cX3_plainTwins 69 = .ok (.aload_n 0, 1) := dk_42 (dk_at dksX3_plainTwins_2 23 rfl rfl)
theorem dX3_plainTwins_70 : decode cX3_plainTwins 70 = .ok (.getfield 22, 3) := dk_180 0 22 (dk_at dksX3_plainTwins_3 0 rfl rfl)
theorem dX3_plainTwins_73 : decode cX3_plainTwins 73 = .ok (.aload_n 0, 1) := dk_42 (dk_at dksX3_plainTwins_3 3 rfl rfl)
theorem dX3_plainTwins_74 : decode cX3_plainTwins 74 = .ok (.getfield 13, 3) := dk_180 0 13 (dk_at dksX3_plainTwins_3 4 rfl rfl)
theorem dX3_plainTwins_77 : decode cX3_plainTwins 77 = .ok (.iload_n 1, 1) := dk_27 (dk_at dksX3_plainTwins_3 7 rfl rfl)
theorem dX3_plainTwins_78 : decode cX3_plainTwins 78 = .ok (.iaload, 1) := dk_46 (dk_at dksX3_plainTwins_3 8 rfl rfl)
theorem dX3_plainTwins_79 : decode cX3_plainTwins 79 = .ok (.iload 4, 2) := dk_21 4 (dk_at dksX3_plainTwins_3 9 rfl rfl)
theorem dX3_plainTwins_81 : decode cX3_plainTwins 81 = .ok (.iadd, 1) := dk_96 (dk_at dksX3_plainTwins_3 11 rfl rfl)
theorem dX3_plainTwins_82 : decode cX3_plainTwins 82 = .ok (.laload, 1) := dk_47 (dk_at dksX3_plainTwins_3 12 rfl rfl)
theorem dX3_plainTwins_83 : decode cX3_plainTwins 83 = .ok (.aload_n 0, 1) := dk_42 (dk_at dksX3_plainTwins_3 13 rfl rfl)
theorem dX3_plainTwins_84 : decode cX3_plainTwins 84 = .ok (.getfield 22, 3) := dk_180 0 22 (dk_at dksX3_plainTwins_3 14 rfl rfl)
theorem dX3_plainTwins_87 : decode cX3_plainTwins 87 = .ok (.aload_n 0, 1) := dk_42 (dk_at dksX3_plainTwins_3 17 rfl rfl)
theorem dX3_plainTwins_88 : decode cX3_plainTwins 88 = .ok (.getfield 13, 3) := dk_180 0 13 (dk_at dksX3_plainTwins_3 18 rfl rfl)
theorem dX3_plainTwins_91 : decode cX3_plainTwins 91 = .ok (.iload_n 2, 1) := dk_28 (dk_at dksX3_plainTwins_3 21 rfl rfl)
theorem dX3_plainTwins_92 : decode cX3_plainTwins 92 = .ok (.iaload, 1) := dk_46 (dk_at dksX3_plainTwins_3 22 rfl rfl)
theorem dX3_plainTwins_93 : decode cX3_plainTwins 93 = .ok (.iload 4, 2) := dk_21 4 (dk_at dksX3_plainTwins_4 0 rfl rfl)
theorem dX3_plainTwins_95 : decode cX3_plainTwins 95 = .ok (.iadd, 1) := dk_96 (dk_at dksX3_plainTwins_4 2 rfl rfl)
theorem dX3_plainTwins_96 : decode cX3_plainTwins 96 = .ok (.laload, 1) := dk_47 (dk_at dksX3_plainTwins_4 3 rfl rfl)
theorem dX3_plainTwins_97 : decode cX3_plainTwins 97 = .ok (.lcmp, 1) := dk_148 (dk_at dksX3_plainTwins_4 4 rfl rfl)
theorem dX3_plainTwins_98 : decode cX3_plainTwins 98 = .ok (.ifCond .ne 7, 3) := dk_154 0 7 (dk_at dksX3_plainTwins_4 5 rfl rfl)
theorem dX3_plainTwins_101 : decode cX3_plainTwins 101 = .ok (.iconst 1, 1) := dk_4 (dk_at dksX3_plainTwins_4 8 rfl rfl)
theorem dX3_plainTwins_102 : decode cX3_plainTwins 102 = .ok (.goto 4, 3) := dk_167 0 4 (dk_at dksX3_plainTwins_4 9 rfl rfl)
theorem dX3_plainTwins_105 : decode cX3_plainTwins 105 = .ok (.iconst 0, 1) := dk_3 (dk_at dksX3_plainTwins_4 12 rfl rfl)
theorem dX3_plainTwins_106 : decode cX3_plainTwins 106 = .ok (.istore_n 3, 1) := dk_62 (dk_at dksX3_plainTwins_4 13 rfl rfl)
theorem dX3_plainTwins_107 : decode cX3_plainTwins 107 = .ok (.iinc 4 1, 3) := dk_132 4 1 (dk_at dksX3_plainTwins_4 14 rfl rfl)
theorem dX3_plainTwins_110 : decode cX3_plainTwins 110 = .ok (.goto (-56), 3) := dk_167 255 200 (dk_at dksX3_plainTwins_4 17 rfl rfl)
theorem dX3_plainTwins_113 : decode cX3_plainTwins 113 = .ok (.iload_n 3, 1) := dk_29 (dk_at dksX3_plainTwins_4 20 rfl rfl)
theorem dX3_plainTwins_114 : decode cX3_plainTwins 114 = .ok (.ireturn, 1) := dk_172 (dk_at dksX3_plainTwins_4 21 rfl rfl)
abbrev cX3_given : ByteArray := prog_15_method_53_code
def yX3_given : MethodName := ⟨RX3, "given", "(II)I"⟩
def dkwX3_given_1 : List UInt8 := [182, 1, 16, 62, 42, 180, 0, 69, 27, 28, 79, 42, 180, 0, 72, 27, 4, 84, 29, 172]
abbrev dktX3_given_1 : List UInt8 := dkwX3_given_1 ++ []
def dkwX3_given_0 : List UInt8 := [27, 184, 0, 124, 153, 0, 15, 28, 4, 161, 0, 10, 28, 17, 3, 255, 164, 0, 5, 2, 172, 42, 27]
abbrev dktX3_given_0 : List UInt8 := dkwX3_given_0 ++ dktX3_given_1
theorem dksX3_given_0 : cX3_given.data.toList.drop 0 = dktX3_given_0 := by decide +kernel
theorem dksX3_given_1 : cX3_given.data.toList.drop 23 = dktX3_given_1 := dk_seg dksX3_given_0 23 rfl rfl
theorem dX3_given_0 : decode cX3_given 0 = .ok (.iload_n 1, 1) := dk_27 (dk_at dksX3_given_0 0 rfl rfl)
theorem dX3_given_1 : decode cX3_given 1 = .ok (.invokestatic 124, 3) := dk_184 0 124 (dk_at dksX3_given_0 1 rfl rfl)
theorem dX3_given_4 : decode cX3_given 4 = .ok (.ifCond .eq 15, 3) := dk_153 0 15 (dk_at dksX3_given_0 4 rfl rfl)
theorem dX3_given_7 : decode cX3_given 7 = .ok (.iload_n 2, 1) := dk_28 (dk_at dksX3_given_0 7 rfl rfl)
theorem dX3_given_8 : decode cX3_given 8 = .ok (.iconst 1, 1) := dk_4 (dk_at dksX3_given_0 8 rfl rfl)
theorem dX3_given_9 : decode cX3_given 9 = .ok (.if_icmp .lt 10, 3) := dk_161 0 10 (dk_at dksX3_given_0 9 rfl rfl)
theorem dX3_given_12 : decode cX3_given 12 = .ok (.iload_n 2, 1) := dk_28 (dk_at dksX3_given_0 12 rfl rfl)
theorem dX3_given_13 : decode cX3_given 13 = .ok (.sipush 1023, 3) := dk_17 3 255 (dk_at dksX3_given_0 13 rfl rfl)
theorem dX3_given_16 : decode cX3_given 16 = .ok (.if_icmp .le 5, 3) := dk_164 0 5 (dk_at dksX3_given_0 16 rfl rfl)
theorem dX3_given_19 : decode cX3_given 19 = .ok (.iconst (-1), 1) := dk_2 (dk_at dksX3_given_0 19 rfl rfl)
theorem dX3_given_20 : decode cX3_given 20 = .ok (.ireturn, 1) := dk_172 (dk_at dksX3_given_0 20 rfl rfl)
theorem dX3_given_21 : decode cX3_given 21 = .ok (.aload_n 0, 1) := dk_42 (dk_at dksX3_given_0 21 rfl rfl)
theorem dX3_given_22 : decode cX3_given 22 = .ok (.iload_n 1, 1) := dk_27 (dk_at dksX3_given_0 22 rfl rfl)
theorem dX3_given_23 : decode cX3_given 23 = .ok (.invokevirtual 272, 3) := dk_182 1 16 (dk_at dksX3_given_1 0 rfl rfl)
theorem dX3_given_26 : decode cX3_given 26 = .ok (.istore_n 3, 1) := dk_62 (dk_at dksX3_given_1 3 rfl rfl)
theorem dX3_given_27 : decode cX3_given 27 = .ok (.aload_n 0, 1) := dk_42 (dk_at dksX3_given_1 4 rfl rfl)
theorem dX3_given_28 : decode cX3_given 28 = .ok (.getfield 69, 3) := dk_180 0 69 (dk_at dksX3_given_1 5 rfl rfl)
theorem dX3_given_31 : decode cX3_given 31 = .ok (.iload_n 1, 1) := dk_27 (dk_at dksX3_given_1 8 rfl rfl)
theorem dX3_given_32 : decode cX3_given 32 = .ok (.iload_n 2, 1) := dk_28 (dk_at dksX3_given_1 9 rfl rfl)
theorem dX3_given_33 : decode cX3_given 33 = .ok (.iastore, 1) := dk_79 (dk_at dksX3_given_1 10 rfl rfl)
theorem dX3_given_34 : decode cX3_given 34 = .ok (.aload_n 0, 1) := dk_42 (dk_at dksX3_given_1 11 rfl rfl)
theorem dX3_given_35 : decode cX3_given 35 = .ok (.getfield 72, 3) := dk_180 0 72 (dk_at dksX3_given_1 12 rfl rfl)
theorem dX3_given_38 : decode cX3_given 38 = .ok (.iload_n 1, 1) := dk_27 (dk_at dksX3_given_1 15 rfl rfl)
theorem dX3_given_39 : decode cX3_given 39 = .ok (.iconst 1, 1) := dk_4 (dk_at dksX3_given_1 16 rfl rfl)
theorem dX3_given_40 : decode cX3_given 40 = .ok (.bastore, 1) := dk_84 (dk_at dksX3_given_1 17 rfl rfl)
theorem dX3_given_41 : decode cX3_given 41 = .ok (.iload_n 3, 1) := dk_29 (dk_at dksX3_given_1 18 rfl rfl)
theorem dX3_given_42 : decode cX3_given 42 = .ok (.ireturn, 1) := dk_172 (dk_at dksX3_given_1 19 rfl rfl)
abbrev cX3_startOf : ByteArray := prog_15_method_52_code
def yX3_startOf : MethodName := ⟨RX3, "startOf", "(I)I"⟩
def dkwX3_startOf_0 : List UInt8 := [42, 180, 0, 72, 27, 51, 153, 0, 12, 42, 180, 0, 69, 27, 46, 167, 0, 4, 4, 172]
abbrev dktX3_startOf_0 : List UInt8 := dkwX3_startOf_0 ++ []
theorem dksX3_startOf_0 : cX3_startOf.data.toList.drop 0 = dktX3_startOf_0 := by decide +kernel
theorem dX3_startOf_0 : decode cX3_startOf 0 = .ok (.aload_n 0, 1) := dk_42 (dk_at dksX3_startOf_0 0 rfl rfl)
theorem dX3_startOf_1 : decode cX3_startOf 1 = .ok (.getfield 72, 3) := dk_180 0 72 (dk_at dksX3_startOf_0 1 rfl rfl)
theorem dX3_startOf_4 : decode cX3_startOf 4 = .ok (.iload_n 1, 1) := dk_27 (dk_at dksX3_startOf_0 4 rfl rfl)
theorem dX3_startOf_5 : decode cX3_startOf 5 = .ok (.baload, 1) := dk_51 (dk_at dksX3_startOf_0 5 rfl rfl)
theorem dX3_startOf_6 : decode cX3_startOf 6 = .ok (.ifCond .eq 12, 3) := dk_153 0 12 (dk_at dksX3_startOf_0 6 rfl rfl)
theorem dX3_startOf_9 : decode cX3_startOf 9 = .ok (.aload_n 0, 1) := dk_42 (dk_at dksX3_startOf_0 9 rfl rfl)
theorem dX3_startOf_10 : decode cX3_startOf 10 = .ok (.getfield 69, 3) := dk_180 0 69 (dk_at dksX3_startOf_0 10 rfl rfl)
theorem dX3_startOf_13 : decode cX3_startOf 13 = .ok (.iload_n 1, 1) := dk_27 (dk_at dksX3_startOf_0 13 rfl rfl)
theorem dX3_startOf_14 : decode cX3_startOf 14 = .ok (.iaload, 1) := dk_46 (dk_at dksX3_startOf_0 14 rfl rfl)
theorem dX3_startOf_15 : decode cX3_startOf 15 = .ok (.goto 4, 3) := dk_167 0 4 (dk_at dksX3_startOf_0 15 rfl rfl)
theorem dX3_startOf_18 : decode cX3_startOf 18 = .ok (.iconst 1, 1) := dk_4 (dk_at dksX3_startOf_0 18 rfl rfl)
theorem dX3_startOf_19 : decode cX3_startOf 19 = .ok (.ireturn, 1) := dk_172 (dk_at dksX3_startOf_0 19 rfl rfl)
abbrev cX3_report : ByteArray := prog_15_method_77_code
def yX3_report : MethodName := ⟨RX3, "report", "(I)I"⟩
def dkwX3_report_4 : List UInt8 := [181, 0, 142, 42, 27, 182, 1, 90, 42, 180, 0, 79, 27, 46, 172]
abbrev dktX3_report_4 : List UInt8 := dkwX3_report_4 ++ []
def dkwX3_report_3 : List UInt8 := [162, 0, 20, 42, 180, 0, 97, 28, 42, 28, 182, 1, 16, 79, 132, 2, 1, 167, 255, 236, 42, 4]
abbrev dktX3_report_3 : List UInt8 := dkwX3_report_3 ++ dktX3_report_4
def dkwX3_report_2 : List UInt8 := [132, 2, 1, 167, 255, 219, 42, 180, 0, 82, 3, 17, 3, 192, 184, 1, 53, 3, 61, 28, 16, 12]
abbrev dktX3_report_2 : List UInt8 := dkwX3_report_2 ++ dktX3_report_3
def dkwX3_report_1 : List UInt8 := [84, 42, 180, 0, 79, 28, 3, 79, 42, 180, 0, 85, 28, 3, 79, 42, 180, 0, 88, 28, 3, 79]
abbrev dktX3_report_1 : List UInt8 := dkwX3_report_1 ++ dktX3_report_2
def dkwX3_report_0 : List UInt8 := [42, 27, 182, 0, 139, 154, 0, 5, 2, 172, 3, 61, 28, 16, 80, 162, 0, 37, 42, 180, 0, 76, 28, 3]
abbrev dktX3_report_0 : List UInt8 := dkwX3_report_0 ++ dktX3_report_1
theorem dksX3_report_0 : cX3_report.data.toList.drop 0 = dktX3_report_0 := by decide +kernel
theorem dksX3_report_1 : cX3_report.data.toList.drop 24 = dktX3_report_1 := dk_seg dksX3_report_0 24 rfl rfl
theorem dksX3_report_2 : cX3_report.data.toList.drop 46 = dktX3_report_2 := dk_seg dksX3_report_1 22 rfl rfl
theorem dksX3_report_3 : cX3_report.data.toList.drop 68 = dktX3_report_3 := dk_seg dksX3_report_2 22 rfl rfl
theorem dksX3_report_4 : cX3_report.data.toList.drop 90 = dktX3_report_4 := dk_seg dksX3_report_3 22 rfl rfl
theorem dX3_report_0 : decode cX3_report 0 = .ok (.aload_n 0, 1) := dk_42 (dk_at dksX3_report_0 0 rfl rfl)
theorem dX3_report_1 : decode cX3_report 1 = .ok (.iload_n 1, 1) := dk_27 (dk_at dksX3_report_0 1 rfl rfl)
theorem dX3_report_2 : decode cX3_report 2 = .ok (.invokevirtual 139, 3) := dk_182 0 139 (dk_at dksX3_report_0 2 rfl rfl)
theorem dX3_report_5 : decode cX3_report 5 = .ok (.ifCond .ne 5, 3) := dk_154 0 5 (dk_at dksX3_report_0 5 rfl rfl)
theorem dX3_report_8 : decode cX3_report 8 = .ok (.iconst (-1), 1) := dk_2 (dk_at dksX3_report_0 8 rfl rfl)
theorem dX3_report_9 : decode cX3_report 9 = .ok (.ireturn, 1) := dk_172 (dk_at dksX3_report_0 9 rfl rfl)
theorem dX3_report_10 : decode cX3_report 10 = .ok (.iconst 0, 1) := dk_3 (dk_at dksX3_report_0 10 rfl rfl)
theorem dX3_report_11 : decode cX3_report 11 = .ok (.istore_n 2, 1) := dk_61 (dk_at dksX3_report_0 11 rfl rfl)
theorem dX3_report_12 : decode cX3_report 12 = .ok (.iload_n 2, 1) := dk_28 (dk_at dksX3_report_0 12 rfl rfl)
theorem dX3_report_13 : decode cX3_report 13 = .ok (.bipush 80, 2) := dk_16 80 (dk_at dksX3_report_0 13 rfl rfl)
theorem dX3_report_15 : decode cX3_report 15 = .ok (.if_icmp .ge 37, 3) := dk_162 0 37 (dk_at dksX3_report_0 15 rfl rfl)
theorem dX3_report_18 : decode cX3_report 18 = .ok (.aload_n 0, 1) := dk_42 (dk_at dksX3_report_0 18 rfl rfl)
theorem dX3_report_19 : decode cX3_report 19 = .ok (.getfield 76, 3) := dk_180 0 76 (dk_at dksX3_report_0 19 rfl rfl)
theorem dX3_report_22 : decode cX3_report 22 = .ok (.iload_n 2, 1) := dk_28 (dk_at dksX3_report_0 22 rfl rfl)
theorem dX3_report_23 : decode cX3_report 23 = .ok (.iconst 0, 1) := dk_3 (dk_at dksX3_report_0 23 rfl rfl)
theorem dX3_report_24 : decode cX3_report 24 = .ok (.bastore, 1) := dk_84 (dk_at dksX3_report_1 0 rfl rfl)
theorem dX3_report_25 : decode cX3_report 25 = .ok (.aload_n 0, 1) := dk_42 (dk_at dksX3_report_1 1 rfl rfl)
theorem dX3_report_26 : decode cX3_report 26 = .ok (.getfield 79, 3) := dk_180 0 79 (dk_at dksX3_report_1 2 rfl rfl)
theorem dX3_report_29 : decode cX3_report 29 = .ok (.iload_n 2, 1) := dk_28 (dk_at dksX3_report_1 5 rfl rfl)
theorem dX3_report_30 : decode cX3_report 30 = .ok (.iconst 0, 1) := dk_3 (dk_at dksX3_report_1 6 rfl rfl)
theorem dX3_report_31 : decode cX3_report 31 = .ok (.iastore, 1) := dk_79 (dk_at dksX3_report_1 7 rfl rfl)
theorem dX3_report_32 : decode cX3_report 32 = .ok (.aload_n 0, 1) := dk_42 (dk_at dksX3_report_1 8 rfl rfl)
theorem dX3_report_33 : decode cX3_report 33 = .ok (.getfield 85, 3) := dk_180 0 85 (dk_at dksX3_report_1 9 rfl rfl)
theorem dX3_report_36 : decode cX3_report 36 = .ok (.iload_n 2, 1) := dk_28 (dk_at dksX3_report_1 12 rfl rfl)
theorem dX3_report_37 : decode cX3_report 37 = .ok (.iconst 0, 1) := dk_3 (dk_at dksX3_report_1 13 rfl rfl)
theorem dX3_report_38 : decode cX3_report 38 = .ok (.iastore, 1) := dk_79 (dk_at dksX3_report_1 14 rfl rfl)
theorem dX3_report_39 : decode cX3_report 39 = .ok (.aload_n 0, 1) := dk_42 (dk_at dksX3_report_1 15 rfl rfl)
theorem dX3_report_40 : decode cX3_report 40 = .ok (.getfield 88, 3) := dk_180 0 88 (dk_at dksX3_report_1 16 rfl rfl)
theorem dX3_report_43 : decode cX3_report 43 = .ok (.iload_n 2, 1) := dk_28 (dk_at dksX3_report_1 19 rfl rfl)
theorem dX3_report_44 : decode cX3_report 44 = .ok (.iconst 0, 1) := dk_3 (dk_at dksX3_report_1 20 rfl rfl)
theorem dX3_report_45 : decode cX3_report 45 = .ok (.iastore, 1) := dk_79 (dk_at dksX3_report_1 21 rfl rfl)
theorem dX3_report_46 : decode cX3_report 46 = .ok (.iinc 2 1, 3) := dk_132 2 1 (dk_at dksX3_report_2 0 rfl rfl)
theorem dX3_report_49 : decode cX3_report 49 = .ok (.goto (-37), 3) := dk_167 255 219 (dk_at dksX3_report_2 3 rfl rfl)
theorem dX3_report_52 : decode cX3_report 52 = .ok (.aload_n 0, 1) := dk_42 (dk_at dksX3_report_2 6 rfl rfl)
theorem dX3_report_53 : decode cX3_report 53 = .ok (.getfield 82, 3) := dk_180 0 82 (dk_at dksX3_report_2 7 rfl rfl)
theorem dX3_report_56 : decode cX3_report 56 = .ok (.iconst 0, 1) := dk_3 (dk_at dksX3_report_2 10 rfl rfl)
theorem dX3_report_57 : decode cX3_report 57 = .ok (.sipush 960, 3) := dk_17 3 192 (dk_at dksX3_report_2 11 rfl rfl)
theorem dX3_report_60 : decode cX3_report 60 = .ok (.invokestatic 309, 3) := dk_184 1 53 (dk_at dksX3_report_2 14 rfl rfl)
theorem dX3_report_63 : decode cX3_report 63 = .ok (.iconst 0, 1) := dk_3 (dk_at dksX3_report_2 17 rfl rfl)
theorem dX3_report_64 : decode cX3_report 64 = .ok (.istore_n 2, 1) := dk_61 (dk_at dksX3_report_2 18 rfl rfl)
theorem dX3_report_65 : decode cX3_report 65 = .ok (.iload_n 2, 1) := dk_28 (dk_at dksX3_report_2 19 rfl rfl)
theorem dX3_report_66 : decode cX3_report 66 = .ok (.bipush 12, 2) := dk_16 12 (dk_at dksX3_report_2 20 rfl rfl)
theorem dX3_report_68 : decode cX3_report 68 = .ok (.if_icmp .ge 20, 3) := dk_162 0 20 (dk_at dksX3_report_3 0 rfl rfl)
theorem dX3_report_71 : decode cX3_report 71 = .ok (.aload_n 0, 1) := dk_42 (dk_at dksX3_report_3 3 rfl rfl)
theorem dX3_report_72 : decode cX3_report 72 = .ok (.getfield 97, 3) := dk_180 0 97 (dk_at dksX3_report_3 4 rfl rfl)
theorem dX3_report_75 : decode cX3_report 75 = .ok (.iload_n 2, 1) := dk_28 (dk_at dksX3_report_3 7 rfl rfl)
theorem dX3_report_76 : decode cX3_report 76 = .ok (.aload_n 0, 1) := dk_42 (dk_at dksX3_report_3 8 rfl rfl)
theorem dX3_report_77 : decode cX3_report 77 = .ok (.iload_n 2, 1) := dk_28 (dk_at dksX3_report_3 9 rfl rfl)
theorem dX3_report_78 : decode cX3_report 78 = .ok (.invokevirtual 272, 3) := dk_182 1 16 (dk_at dksX3_report_3 10 rfl rfl)
theorem dX3_report_81 : decode cX3_report 81 = .ok (.iastore, 1) := dk_79 (dk_at dksX3_report_3 13 rfl rfl)
theorem dX3_report_82 : decode cX3_report 82 = .ok (.iinc 2 1, 3) := dk_132 2 1 (dk_at dksX3_report_3 14 rfl rfl)
theorem dX3_report_85 : decode cX3_report 85 = .ok (.goto (-20), 3) := dk_167 255 236 (dk_at dksX3_report_3 17 rfl rfl)
theorem dX3_report_88 : decode cX3_report 88 = .ok (.aload_n 0, 1) := dk_42 (dk_at dksX3_report_3 20 rfl rfl)
theorem dX3_report_89 : decode cX3_report 89 = .ok (.iconst 1, 1) := dk_4 (dk_at dksX3_report_3 21 rfl rfl)
theorem dX3_report_90 : decode cX3_report 90 = .ok (.putfield 142, 3) := dk_181 0 142 (dk_at dksX3_report_4 0 rfl rfl)
theorem dX3_report_93 : decode cX3_report 93 = .ok (.aload_n 0, 1) := dk_42 (dk_at dksX3_report_4 3 rfl rfl)
theorem dX3_report_94 : decode cX3_report 94 = .ok (.iload_n 1, 1) := dk_27 (dk_at dksX3_report_4 4 rfl rfl)
theorem dX3_report_95 : decode cX3_report 95 = .ok (.invokevirtual 346, 3) := dk_182 1 90 (dk_at dksX3_report_4 5 rfl rfl)
theorem dX3_report_98 : decode cX3_report 98 = .ok (.aload_n 0, 1) := dk_42 (dk_at dksX3_report_4 8 rfl rfl)
theorem dX3_report_99 : decode cX3_report 99 = .ok (.getfield 79, 3) := dk_180 0 79 (dk_at dksX3_report_4 9 rfl rfl)
theorem dX3_report_102 : decode cX3_report 102 = .ok (.iload_n 1, 1) := dk_27 (dk_at dksX3_report_4 12 rfl rfl)
theorem dX3_report_103 : decode cX3_report 103 = .ok (.iaload, 1) := dk_46 (dk_at dksX3_report_4 13 rfl rfl)
theorem dX3_report_104 : decode cX3_report 104 = .ok (.ireturn, 1) := dk_172 (dk_at dksX3_report_4 14 rfl rfl)
abbrev cX3_wipe : ByteArray := prog_15_method_56_code
def yX3_wipe : MethodName := ⟨RX3, "wipe", "([III)V"⟩
def dkwX3_wipe_0 : List UInt8 := [27, 62, 29, 27, 28, 96, 162, 0, 13, 42, 29, 3, 79, 132, 3, 1, 167, 255, 242, 177]
abbrev dktX3_wipe_0 : List UInt8 := dkwX3_wipe_0 ++ []
theorem dksX3_wipe_0 : cX3_wipe.data.toList.drop 0 = dktX3_wipe_0 := by decide +kernel
theorem dX3_wipe_0 : decode cX3_wipe 0 = .ok (.iload_n 1, 1) := dk_27 (dk_at dksX3_wipe_0 0 rfl rfl)
theorem dX3_wipe_1 : decode cX3_wipe 1 = .ok (.istore_n 3, 1) := dk_62 (dk_at dksX3_wipe_0 1 rfl rfl)
theorem dX3_wipe_2 : decode cX3_wipe 2 = .ok (.iload_n 3, 1) := dk_29 (dk_at dksX3_wipe_0 2 rfl rfl)
theorem dX3_wipe_3 : decode cX3_wipe 3 = .ok (.iload_n 1, 1) := dk_27 (dk_at dksX3_wipe_0 3 rfl rfl)
theorem dX3_wipe_4 : decode cX3_wipe 4 = .ok (.iload_n 2, 1) := dk_28 (dk_at dksX3_wipe_0 4 rfl rfl)
theorem dX3_wipe_5 : decode cX3_wipe 5 = .ok (.iadd, 1) := dk_96 (dk_at dksX3_wipe_0 5 rfl rfl)
theorem dX3_wipe_6 : decode cX3_wipe 6 = .ok (.if_icmp .ge 13, 3) := dk_162 0 13 (dk_at dksX3_wipe_0 6 rfl rfl)
theorem dX3_wipe_9 : decode cX3_wipe 9 = .ok (.aload_n 0, 1) := dk_42 (dk_at dksX3_wipe_0 9 rfl rfl)
theorem dX3_wipe_10 : decode cX3_wipe 10 = .ok (.iload_n 3, 1) := dk_29 (dk_at dksX3_wipe_0 10 rfl rfl)
theorem dX3_wipe_11 : decode cX3_wipe 11 = .ok (.iconst 0, 1) := dk_3 (dk_at dksX3_wipe_0 11 rfl rfl)
theorem dX3_wipe_12 : decode cX3_wipe 12 = .ok (.iastore, 1) := dk_79 (dk_at dksX3_wipe_0 12 rfl rfl)
theorem dX3_wipe_13 : decode cX3_wipe 13 = .ok (.iinc 3 1, 3) := dk_132 3 1 (dk_at dksX3_wipe_0 13 rfl rfl)
theorem dX3_wipe_16 : decode cX3_wipe 16 = .ok (.goto (-14), 3) := dk_167 255 242 (dk_at dksX3_wipe_0 16 rfl rfl)
theorem dX3_wipe_19 : decode cX3_wipe 19 = .ok (.return_, 1) := dk_177 (dk_at dksX3_wipe_0 19 rfl rfl)
abbrev cX3_through : ByteArray := prog_15_method_76_code
def yX3_through : MethodName := ⟨RX3, "through", "(I)V"⟩
def dkwX3_through_4 : List UInt8 := [167, 0, 12, 42, 28, 42, 180, 0, 228, 182, 1, 87, 167, 255, 165, 177]
abbrev dktX3_through_4 : List UInt8 := dkwX3_through_4 ++ []
def dkwX3_through_3 : List UInt8 := [167, 0, 34, 42, 180, 0, 32, 28, 46, 5, 160, 0, 15, 42, 28, 42, 180, 0, 228, 182, 1, 84]
abbrev dktX3_through_3 : List UInt8 := dkwX3_through_3 ++ dktX3_through_4
def dkwX3_through_2 : List UInt8 := [167, 0, 56, 42, 180, 0, 32, 28, 46, 4, 160, 0, 15, 42, 28, 42, 180, 0, 228, 182, 1, 81]
abbrev dktX3_through_2 : List UInt8 := dkwX3_through_2 ++ dktX3_through_3
def dkwX3_through_1 : List UInt8 := [180, 0, 228, 46, 61, 42, 180, 0, 32, 28, 46, 154, 0, 15, 42, 28, 42, 180, 0, 228, 182, 1, 78]
abbrev dktX3_through_1 : List UInt8 := dkwX3_through_1 ++ dktX3_through_2
def dkwX3_through_0 : List UInt8 := [42, 2, 181, 0, 228, 42, 27, 182, 0, 231, 42, 180, 0, 228, 155, 0, 90, 42, 180, 0, 60, 42]
abbrev dktX3_through_0 : List UInt8 := dkwX3_through_0 ++ dktX3_through_1
theorem dksX3_through_0 : cX3_through.data.toList.drop 0 = dktX3_through_0 := by decide +kernel
theorem dksX3_through_1 : cX3_through.data.toList.drop 22 = dktX3_through_1 := dk_seg dksX3_through_0 22 rfl rfl
theorem dksX3_through_2 : cX3_through.data.toList.drop 45 = dktX3_through_2 := dk_seg dksX3_through_1 23 rfl rfl
theorem dksX3_through_3 : cX3_through.data.toList.drop 67 = dktX3_through_3 := dk_seg dksX3_through_2 22 rfl rfl
theorem dksX3_through_4 : cX3_through.data.toList.drop 89 = dktX3_through_4 := dk_seg dksX3_through_3 22 rfl rfl
theorem dX3_through_0 : decode cX3_through 0 = .ok (.aload_n 0, 1) := dk_42 (dk_at dksX3_through_0 0 rfl rfl)
theorem dX3_through_1 : decode cX3_through 1 = .ok (.iconst (-1), 1) := dk_2 (dk_at dksX3_through_0 1 rfl rfl)
theorem dX3_through_2 : decode cX3_through 2 = .ok (.putfield 228, 3) := dk_181 0 228 (dk_at dksX3_through_0 2 rfl rfl)
theorem dX3_through_5 : decode cX3_through 5 = .ok (.aload_n 0, 1) := dk_42 (dk_at dksX3_through_0 5 rfl rfl)
theorem dX3_through_6 : decode cX3_through 6 = .ok (.iload_n 1, 1) := dk_27 (dk_at dksX3_through_0 6 rfl rfl)
theorem dX3_through_7 : decode cX3_through 7 = .ok (.invokevirtual 231, 3) := dk_182 0 231 (dk_at dksX3_through_0 7 rfl rfl)
theorem dX3_through_10 : decode cX3_through 10 = .ok (.aload_n 0, 1) := dk_42 (dk_at dksX3_through_0 10 rfl rfl)
theorem dX3_through_11 : decode cX3_through 11 = .ok (.getfield 228, 3) := dk_180 0 228 (dk_at dksX3_through_0 11 rfl rfl)
theorem dX3_through_14 : decode cX3_through 14 = .ok (.ifCond .lt 90, 3) := dk_155 0 90 (dk_at dksX3_through_0 14 rfl rfl)
theorem dX3_through_17 : decode cX3_through 17 = .ok (.aload_n 0, 1) := dk_42 (dk_at dksX3_through_0 17 rfl rfl)
theorem dX3_through_18 : decode cX3_through 18 = .ok (.getfield 60, 3) := dk_180 0 60 (dk_at dksX3_through_0 18 rfl rfl)
theorem dX3_through_21 : decode cX3_through 21 = .ok (.aload_n 0, 1) := dk_42 (dk_at dksX3_through_0 21 rfl rfl)
theorem dX3_through_22 : decode cX3_through 22 = .ok (.getfield 228, 3) := dk_180 0 228 (dk_at dksX3_through_1 0 rfl rfl)
theorem dX3_through_25 : decode cX3_through 25 = .ok (.iaload, 1) := dk_46 (dk_at dksX3_through_1 3 rfl rfl)
theorem dX3_through_26 : decode cX3_through 26 = .ok (.istore_n 2, 1) := dk_61 (dk_at dksX3_through_1 4 rfl rfl)
theorem dX3_through_27 : decode cX3_through 27 = .ok (.aload_n 0, 1) := dk_42 (dk_at dksX3_through_1 5 rfl rfl)
theorem dX3_through_28 : decode cX3_through 28 = .ok (.getfield 32, 3) := dk_180 0 32 (dk_at dksX3_through_1 6 rfl rfl)
theorem dX3_through_31 : decode cX3_through 31 = .ok (.iload_n 2, 1) := dk_28 (dk_at dksX3_through_1 9 rfl rfl)
theorem dX3_through_32 : decode cX3_through 32 = .ok (.iaload, 1) := dk_46 (dk_at dksX3_through_1 10 rfl rfl)
theorem dX3_through_33 : decode cX3_through 33 = .ok (.ifCond .ne 15, 3) := dk_154 0 15 (dk_at dksX3_through_1 11 rfl rfl)
theorem dX3_through_36 : decode cX3_through 36 = .ok (.aload_n 0, 1) := dk_42 (dk_at dksX3_through_1 14 rfl rfl)
theorem dX3_through_37 : decode cX3_through 37 = .ok (.iload_n 2, 1) := dk_28 (dk_at dksX3_through_1 15 rfl rfl)
theorem dX3_through_38 : decode cX3_through 38 = .ok (.aload_n 0, 1) := dk_42 (dk_at dksX3_through_1 16 rfl rfl)
theorem dX3_through_39 : decode cX3_through 39 = .ok (.getfield 228, 3) := dk_180 0 228 (dk_at dksX3_through_1 17 rfl rfl)
theorem dX3_through_42 : decode cX3_through 42 = .ok (.invokevirtual 334, 3) := dk_182 1 78 (dk_at dksX3_through_1 20 rfl rfl)
theorem dX3_through_45 : decode cX3_through 45 = .ok (.goto 56, 3) := dk_167 0 56 (dk_at dksX3_through_2 0 rfl rfl)
theorem dX3_through_48 : decode cX3_through 48 = .ok (.aload_n 0, 1) := dk_42 (dk_at dksX3_through_2 3 rfl rfl)
theorem dX3_through_49 : decode cX3_through 49 = .ok (.getfield 32, 3) := dk_180 0 32 (dk_at dksX3_through_2 4 rfl rfl)
theorem dX3_through_52 : decode cX3_through 52 = .ok (.iload_n 2, 1) := dk_28 (dk_at dksX3_through_2 7 rfl rfl)
theorem dX3_through_53 : decode cX3_through 53 = .ok (.iaload, 1) := dk_46 (dk_at dksX3_through_2 8 rfl rfl)
theorem dX3_through_54 : decode cX3_through 54 = .ok (.iconst 1, 1) := dk_4 (dk_at dksX3_through_2 9 rfl rfl)
theorem dX3_through_55 : decode cX3_through 55 = .ok (.if_icmp .ne 15, 3) := dk_160 0 15 (dk_at dksX3_through_2 10 rfl rfl)
theorem dX3_through_58 : decode cX3_through 58 = .ok (.aload_n 0, 1) := dk_42 (dk_at dksX3_through_2 13 rfl rfl)
theorem dX3_through_59 : decode cX3_through 59 = .ok (.iload_n 2, 1) := dk_28 (dk_at dksX3_through_2 14 rfl rfl)
theorem dX3_through_60 : decode cX3_through 60 = .ok (.aload_n 0, 1) := dk_42 (dk_at dksX3_through_2 15 rfl rfl)
theorem dX3_through_61 : decode cX3_through 61 = .ok (.getfield 228, 3) := dk_180 0 228 (dk_at dksX3_through_2 16 rfl rfl)
theorem dX3_through_64 : decode cX3_through 64 = .ok (.invokevirtual 337, 3) := dk_182 1 81 (dk_at dksX3_through_2 19 rfl rfl)
theorem dX3_through_67 : decode cX3_through 67 = .ok (.goto 34, 3) := dk_167 0 34 (dk_at dksX3_through_3 0 rfl rfl)
theorem dX3_through_70 : decode cX3_through 70 = .ok (.aload_n 0, 1) := dk_42 (dk_at dksX3_through_3 3 rfl rfl)
theorem dX3_through_71 : decode cX3_through 71 = .ok (.getfield 32, 3) := dk_180 0 32 (dk_at dksX3_through_3 4 rfl rfl)
theorem dX3_through_74 : decode cX3_through 74 = .ok (.iload_n 2, 1) := dk_28 (dk_at dksX3_through_3 7 rfl rfl)
theorem dX3_through_75 : decode cX3_through 75 = .ok (.iaload, 1) := dk_46 (dk_at dksX3_through_3 8 rfl rfl)
theorem dX3_through_76 : decode cX3_through 76 = .ok (.iconst 2, 1) := dk_5 (dk_at dksX3_through_3 9 rfl rfl)
theorem dX3_through_77 : decode cX3_through 77 = .ok (.if_icmp .ne 15, 3) := dk_160 0 15 (dk_at dksX3_through_3 10 rfl rfl)
theorem dX3_through_80 : decode cX3_through 80 = .ok (.aload_n 0, 1) := dk_42 (dk_at dksX3_through_3 13 rfl rfl)
theorem dX3_through_81 : decode cX3_through 81 = .ok (.iload_n 2, 1) := dk_28 (dk_at dksX3_through_3 14 rfl rfl)
theorem dX3_through_82 : decode cX3_through 82 = .ok (.aload_n 0, 1) := dk_42 (dk_at dksX3_through_3 15 rfl rfl)
theorem dX3_through_83 : decode cX3_through 83 = .ok (.getfield 228, 3) := dk_180 0 228 (dk_at dksX3_through_3 16 rfl rfl)
theorem dX3_through_86 : decode cX3_through 86 = .ok (.invokevirtual 340, 3) := dk_182 1 84 (dk_at dksX3_through_3 19 rfl rfl)
theorem dX3_through_89 : decode cX3_through 89 = .ok (.goto 12, 3) := dk_167 0 12 (dk_at dksX3_through_4 0 rfl rfl)
theorem dX3_through_92 : decode cX3_through 92 = .ok (.aload_n 0, 1) := dk_42 (dk_at dksX3_through_4 3 rfl rfl)
theorem dX3_through_93 : decode cX3_through 93 = .ok (.iload_n 2, 1) := dk_28 (dk_at dksX3_through_4 4 rfl rfl)
theorem dX3_through_94 : decode cX3_through 94 = .ok (.aload_n 0, 1) := dk_42 (dk_at dksX3_through_4 5 rfl rfl)
theorem dX3_through_95 : decode cX3_through 95 = .ok (.getfield 228, 3) := dk_180 0 228 (dk_at dksX3_through_4 6 rfl rfl)
theorem dX3_through_98 : decode cX3_through 98 = .ok (.invokevirtual 343, 3) := dk_182 1 87 (dk_at dksX3_through_4 9 rfl rfl)
theorem dX3_through_101 : decode cX3_through 101 = .ok (.goto (-91), 3) := dk_167 255 165 (dk_at dksX3_through_4 12 rfl rfl)
theorem dX3_through_104 : decode cX3_through 104 = .ok (.return_, 1) := dk_177 (dk_at dksX3_through_4 15 rfl rfl)
abbrev cX3_throughAct : ByteArray := prog_15_method_70_code
def yX3_throughAct : MethodName := ⟨RX3, "throughAct", "(II)V"⟩
def dkwX3_throughAct_2 : List UInt8 := [27, 28, 182, 1, 65, 177]
abbrev dktX3_throughAct_2 : List UInt8 := dkwX3_throughAct_2 ++ []
def dkwX3_throughAct_1 : List UInt8 := [27, 182, 1, 62, 153, 0, 19, 42, 180, 0, 100, 3, 42, 180, 0, 91, 16, 108, 28, 104, 184, 1, 19, 42]
abbrev dktX3_throughAct_1 : List UInt8 := dkwX3_throughAct_1 ++ dktX3_throughAct_2
def dkwX3_throughAct_0 : List UInt8 := [42, 27, 28, 182, 1, 57, 42, 180, 0, 97, 16, 12, 28, 104, 42, 180, 0, 100, 3, 184, 1, 60, 42, 28]
abbrev dktX3_throughAct_0 : List UInt8 := dkwX3_throughAct_0 ++ dktX3_throughAct_1
theorem dksX3_throughAct_0 : cX3_throughAct.data.toList.drop 0 = dktX3_throughAct_0 := by decide +kernel
theorem dksX3_throughAct_1 : cX3_throughAct.data.toList.drop 24 = dktX3_throughAct_1 := dk_seg dksX3_throughAct_0 24 rfl rfl
theorem dksX3_throughAct_2 : cX3_throughAct.data.toList.drop 48 = dktX3_throughAct_2 := dk_seg dksX3_throughAct_1 24 rfl rfl
theorem dX3_throughAct_0 : decode cX3_throughAct 0 = .ok (.aload_n 0, 1) := dk_42 (dk_at dksX3_throughAct_0 0 rfl rfl)
theorem dX3_throughAct_1 : decode cX3_throughAct 1 = .ok (.iload_n 1, 1) := dk_27 (dk_at dksX3_throughAct_0 1 rfl rfl)
theorem dX3_throughAct_2 : decode cX3_throughAct 2 = .ok (.iload_n 2, 1) := dk_28 (dk_at dksX3_throughAct_0 2 rfl rfl)
theorem dX3_throughAct_3 : decode cX3_throughAct 3 = .ok (.invokevirtual 313, 3) := dk_182 1 57 (dk_at dksX3_throughAct_0 3 rfl rfl)
theorem dX3_throughAct_6 : decode cX3_throughAct 6 = .ok (.aload_n 0, 1) := dk_42 (dk_at dksX3_throughAct_0 6 rfl rfl)
theorem dX3_throughAct_7 : decode cX3_throughAct 7 = .ok (.getfield 97, 3) := dk_180 0 97 (dk_at dksX3_throughAct_0 7 rfl rfl)
theorem dX3_throughAct_10 : decode cX3_throughAct 10 = .ok (.bipush 12, 2) := dk_16 12 (dk_at dksX3_throughAct_0 10 rfl rfl)
theorem dX3_throughAct_12 : decode cX3_throughAct 12 = .ok (.iload_n 2, 1) := dk_28 (dk_at dksX3_throughAct_0 12 rfl rfl)
theorem dX3_throughAct_13 : decode cX3_throughAct 13 = .ok (.imul, 1) := dk_104 (dk_at dksX3_throughAct_0 13 rfl rfl)
theorem dX3_throughAct_14 : decode cX3_throughAct 14 = .ok (.aload_n 0, 1) := dk_42 (dk_at dksX3_throughAct_0 14 rfl rfl)
theorem dX3_throughAct_15 : decode cX3_throughAct 15 = .ok (.getfield 100, 3) := dk_180 0 100 (dk_at dksX3_throughAct_0 15 rfl rfl)
theorem dX3_throughAct_18 : decode cX3_throughAct 18 = .ok (.iconst 0, 1) := dk_3 (dk_at dksX3_throughAct_0 18 rfl rfl)
theorem dX3_throughAct_19 : decode cX3_throughAct 19 = .ok (.invokestatic 316, 3) := dk_184 1 60 (dk_at dksX3_throughAct_0 19 rfl rfl)
theorem dX3_throughAct_22 : decode cX3_throughAct 22 = .ok (.aload_n 0, 1) := dk_42 (dk_at dksX3_throughAct_0 22 rfl rfl)
theorem dX3_throughAct_23 : decode cX3_throughAct 23 = .ok (.iload_n 2, 1) := dk_28 (dk_at dksX3_throughAct_0 23 rfl rfl)
theorem dX3_throughAct_24 : decode cX3_throughAct 24 = .ok (.iload_n 1, 1) := dk_27 (dk_at dksX3_throughAct_1 0 rfl rfl)
theorem dX3_throughAct_25 : decode cX3_throughAct 25 = .ok (.invokevirtual 318, 3) := dk_182 1 62 (dk_at dksX3_throughAct_1 1 rfl rfl)
theorem dX3_throughAct_28 : decode cX3_throughAct 28 = .ok (.ifCond .eq 19, 3) := dk_153 0 19 (dk_at dksX3_throughAct_1 4 rfl rfl)
theorem dX3_throughAct_31 : decode cX3_throughAct 31 = .ok (.aload_n 0, 1) := dk_42 (dk_at dksX3_throughAct_1 7 rfl rfl)
theorem dX3_throughAct_32 : decode cX3_throughAct 32 = .ok (.getfield 100, 3) := dk_180 0 100 (dk_at dksX3_throughAct_1 8 rfl rfl)
theorem dX3_throughAct_35 : decode cX3_throughAct 35 = .ok (.iconst 0, 1) := dk_3 (dk_at dksX3_throughAct_1 11 rfl rfl)
theorem dX3_throughAct_36 : decode cX3_throughAct 36 = .ok (.aload_n 0, 1) := dk_42 (dk_at dksX3_throughAct_1 12 rfl rfl)
theorem dX3_throughAct_37 : decode cX3_throughAct 37 = .ok (.getfield 91, 3) := dk_180 0 91 (dk_at dksX3_throughAct_1 13 rfl rfl)
theorem dX3_throughAct_40 : decode cX3_throughAct 40 = .ok (.bipush 108, 2) := dk_16 108 (dk_at dksX3_throughAct_1 16 rfl rfl)
theorem dX3_throughAct_42 : decode cX3_throughAct 42 = .ok (.iload_n 2, 1) := dk_28 (dk_at dksX3_throughAct_1 18 rfl rfl)
theorem dX3_throughAct_43 : decode cX3_throughAct 43 = .ok (.imul, 1) := dk_104 (dk_at dksX3_throughAct_1 19 rfl rfl)
theorem dX3_throughAct_44 : decode cX3_throughAct 44 = .ok (.invokestatic 275, 3) := dk_184 1 19 (dk_at dksX3_throughAct_1 20 rfl rfl)
theorem dX3_throughAct_47 : decode cX3_throughAct 47 = .ok (.aload_n 0, 1) := dk_42 (dk_at dksX3_throughAct_1 23 rfl rfl)
theorem dX3_throughAct_48 : decode cX3_throughAct 48 = .ok (.iload_n 1, 1) := dk_27 (dk_at dksX3_throughAct_2 0 rfl rfl)
theorem dX3_throughAct_49 : decode cX3_throughAct 49 = .ok (.iload_n 2, 1) := dk_28 (dk_at dksX3_throughAct_2 1 rfl rfl)
theorem dX3_throughAct_50 : decode cX3_throughAct 50 = .ok (.invokevirtual 321, 3) := dk_182 1 65 (dk_at dksX3_throughAct_2 2 rfl rfl)
theorem dX3_throughAct_53 : decode cX3_throughAct 53 = .ok (.return_, 1) := dk_177 (dk_at dksX3_throughAct_2 5 rfl rfl)
abbrev cX3_enter : ByteArray := prog_15_method_68_code
def yX3_enter : MethodName := ⟨RX3, "enter", "(II)V"⟩
def dkwX3_enter_1 : List UInt8 := [16, 12, 28, 104, 42, 180, 0, 82, 16, 12, 27, 104, 184, 1, 19, 177]
abbrev dktX3_enter_1 : List UInt8 := dkwX3_enter_1 ++ []
def dkwX3_enter_0 : List UInt8 := [42, 180, 0, 91, 16, 108, 28, 104, 16, 108, 184, 1, 53, 42, 180, 0, 76, 27, 4, 84, 42, 180, 0, 97]
abbrev dktX3_enter_0 : List UInt8 := dkwX3_enter_0 ++ dktX3_enter_1
theorem dksX3_enter_0 : cX3_enter.data.toList.drop 0 = dktX3_enter_0 := by decide +kernel
theorem dksX3_enter_1 : cX3_enter.data.toList.drop 24 = dktX3_enter_1 := dk_seg dksX3_enter_0 24 rfl rfl
theorem dX3_enter_0 : decode cX3_enter 0 = .ok (.aload_n 0, 1) := dk_42 (dk_at dksX3_enter_0 0 rfl rfl)
theorem dX3_enter_1 : decode cX3_enter 1 = .ok (.getfield 91, 3) := dk_180 0 91 (dk_at dksX3_enter_0 1 rfl rfl)
theorem dX3_enter_4 : decode cX3_enter 4 = .ok (.bipush 108, 2) := dk_16 108 (dk_at dksX3_enter_0 4 rfl rfl)
theorem dX3_enter_6 : decode cX3_enter 6 = .ok (.iload_n 2, 1) := dk_28 (dk_at dksX3_enter_0 6 rfl rfl)
theorem dX3_enter_7 : decode cX3_enter 7 = .ok (.imul, 1) := dk_104 (dk_at dksX3_enter_0 7 rfl rfl)
theorem dX3_enter_8 : decode cX3_enter 8 = .ok (.bipush 108, 2) := dk_16 108 (dk_at dksX3_enter_0 8 rfl rfl)
theorem dX3_enter_10 : decode cX3_enter 10 = .ok (.invokestatic 309, 3) := dk_184 1 53 (dk_at dksX3_enter_0 10 rfl rfl)
theorem dX3_enter_13 : decode cX3_enter 13 = .ok (.aload_n 0, 1) := dk_42 (dk_at dksX3_enter_0 13 rfl rfl)
theorem dX3_enter_14 : decode cX3_enter 14 = .ok (.getfield 76, 3) := dk_180 0 76 (dk_at dksX3_enter_0 14 rfl rfl)
theorem dX3_enter_17 : decode cX3_enter 17 = .ok (.iload_n 1, 1) := dk_27 (dk_at dksX3_enter_0 17 rfl rfl)
theorem dX3_enter_18 : decode cX3_enter 18 = .ok (.iconst 1, 1) := dk_4 (dk_at dksX3_enter_0 18 rfl rfl)
theorem dX3_enter_19 : decode cX3_enter 19 = .ok (.bastore, 1) := dk_84 (dk_at dksX3_enter_0 19 rfl rfl)
theorem dX3_enter_20 : decode cX3_enter 20 = .ok (.aload_n 0, 1) := dk_42 (dk_at dksX3_enter_0 20 rfl rfl)
theorem dX3_enter_21 : decode cX3_enter 21 = .ok (.getfield 97, 3) := dk_180 0 97 (dk_at dksX3_enter_0 21 rfl rfl)
theorem dX3_enter_24 : decode cX3_enter 24 = .ok (.bipush 12, 2) := dk_16 12 (dk_at dksX3_enter_1 0 rfl rfl)
theorem dX3_enter_26 : decode cX3_enter 26 = .ok (.iload_n 2, 1) := dk_28 (dk_at dksX3_enter_1 2 rfl rfl)
theorem dX3_enter_27 : decode cX3_enter 27 = .ok (.imul, 1) := dk_104 (dk_at dksX3_enter_1 3 rfl rfl)
theorem dX3_enter_28 : decode cX3_enter 28 = .ok (.aload_n 0, 1) := dk_42 (dk_at dksX3_enter_1 4 rfl rfl)
theorem dX3_enter_29 : decode cX3_enter 29 = .ok (.getfield 82, 3) := dk_180 0 82 (dk_at dksX3_enter_1 5 rfl rfl)
theorem dX3_enter_32 : decode cX3_enter 32 = .ok (.bipush 12, 2) := dk_16 12 (dk_at dksX3_enter_1 8 rfl rfl)
theorem dX3_enter_34 : decode cX3_enter 34 = .ok (.iload_n 1, 1) := dk_27 (dk_at dksX3_enter_1 10 rfl rfl)
theorem dX3_enter_35 : decode cX3_enter 35 = .ok (.imul, 1) := dk_104 (dk_at dksX3_enter_1 11 rfl rfl)
theorem dX3_enter_36 : decode cX3_enter 36 = .ok (.invokestatic 275, 3) := dk_184 1 19 (dk_at dksX3_enter_1 12 rfl rfl)
theorem dX3_enter_39 : decode cX3_enter 39 = .ok (.return_, 1) := dk_177 (dk_at dksX3_enter_1 15 rfl rfl)
abbrev cX3_join : ByteArray := prog_15_method_54_code
def yX3_join : MethodName := ⟨RX3, "join", "([II[II)V"⟩
def dkwX3_join_1 : List UInt8 := [79, 132, 4, 1, 167, 255, 231, 177]
abbrev dktX3_join_1 : List UInt8 := dkwX3_join_1 ++ []
def dkwX3_join_0 : List UInt8 := [3, 54, 4, 21, 4, 16, 12, 162, 0, 24, 44, 29, 21, 4, 96, 92, 46, 42, 27, 21, 4, 96, 46, 128]
abbrev dktX3_join_0 : List UInt8 := dkwX3_join_0 ++ dktX3_join_1
theorem dksX3_join_0 : cX3_join.data.toList.drop 0 = dktX3_join_0 := by decide +kernel
theorem dksX3_join_1 : cX3_join.data.toList.drop 24 = dktX3_join_1 := dk_seg dksX3_join_0 24 rfl rfl
theorem dX3_join_0 : decode cX3_join 0 = .ok (.iconst 0, 1) := dk_3 (dk_at dksX3_join_0 0 rfl rfl)
theorem dX3_join_1 : decode cX3_join 1 = .ok (.istore 4, 2) := dk_54 4 (dk_at dksX3_join_0 1 rfl rfl)
theorem dX3_join_3 : decode cX3_join 3 = .ok (.iload 4, 2) := dk_21 4 (dk_at dksX3_join_0 3 rfl rfl)
theorem dX3_join_5 : decode cX3_join 5 = .ok (.bipush 12, 2) := dk_16 12 (dk_at dksX3_join_0 5 rfl rfl)
theorem dX3_join_7 : decode cX3_join 7 = .ok (.if_icmp .ge 24, 3) := dk_162 0 24 (dk_at dksX3_join_0 7 rfl rfl)
theorem dX3_join_10 : decode cX3_join 10 = .ok (.aload_n 2, 1) := dk_44 (dk_at dksX3_join_0 10 rfl rfl)
theorem dX3_join_11 : decode cX3_join 11 = .ok (.iload_n 3, 1) := dk_29 (dk_at dksX3_join_0 11 rfl rfl)
theorem dX3_join_12 : decode cX3_join 12 = .ok (.iload 4, 2) := dk_21 4 (dk_at dksX3_join_0 12 rfl rfl)
theorem dX3_join_14 : decode cX3_join 14 = .ok (.iadd, 1) := dk_96 (dk_at dksX3_join_0 14 rfl rfl)
theorem dX3_join_15 : decode cX3_join 15 = .ok (.dup2, 1) := dk_92 (dk_at dksX3_join_0 15 rfl rfl)
theorem dX3_join_16 : decode cX3_join 16 = .ok (.iaload, 1) := dk_46 (dk_at dksX3_join_0 16 rfl rfl)
theorem dX3_join_17 : decode cX3_join 17 = .ok (.aload_n 0, 1) := dk_42 (dk_at dksX3_join_0 17 rfl rfl)
theorem dX3_join_18 : decode cX3_join 18 = .ok (.iload_n 1, 1) := dk_27 (dk_at dksX3_join_0 18 rfl rfl)
theorem dX3_join_19 : decode cX3_join 19 = .ok (.iload 4, 2) := dk_21 4 (dk_at dksX3_join_0 19 rfl rfl)
theorem dX3_join_21 : decode cX3_join 21 = .ok (.iadd, 1) := dk_96 (dk_at dksX3_join_0 21 rfl rfl)
theorem dX3_join_22 : decode cX3_join 22 = .ok (.iaload, 1) := dk_46 (dk_at dksX3_join_0 22 rfl rfl)
theorem dX3_join_23 : decode cX3_join 23 = .ok (.ior, 1) := dk_128 (dk_at dksX3_join_0 23 rfl rfl)
theorem dX3_join_24 : decode cX3_join 24 = .ok (.iastore, 1) := dk_79 (dk_at dksX3_join_1 0 rfl rfl)
theorem dX3_join_25 : decode cX3_join 25 = .ok (.iinc 4 1, 3) := dk_132 4 1 (dk_at dksX3_join_1 1 rfl rfl)
theorem dX3_join_28 : decode cX3_join 28 = .ok (.goto (-25), 3) := dk_167 255 231 (dk_at dksX3_join_1 4 rfl rfl)
theorem dX3_join_31 : decode cX3_join 31 = .ok (.return_, 1) := dk_177 (dk_at dksX3_join_1 7 rfl rfl)
abbrev cX3_lay_2 : ByteArray := prog_15_method_55_code
def yX3_lay_2 : MethodName := ⟨RX3, "lay", "([II[II)V"⟩
def dkwX3_lay_2_1 : List UInt8 := [132, 4, 1, 167, 255, 234, 177]
abbrev dktX3_lay_2_1 : List UInt8 := dkwX3_lay_2_1 ++ []
def dkwX3_lay_2_0 : List UInt8 := [3, 54, 4, 21, 4, 16, 12, 162, 0, 21, 44, 29, 21, 4, 96, 42, 27, 21, 4, 96, 46, 79]
abbrev dktX3_lay_2_0 : List UInt8 := dkwX3_lay_2_0 ++ dktX3_lay_2_1
theorem dksX3_lay_2_0 : cX3_lay_2.data.toList.drop 0 = dktX3_lay_2_0 := by decide +kernel
theorem dksX3_lay_2_1 : cX3_lay_2.data.toList.drop 22 = dktX3_lay_2_1 := dk_seg dksX3_lay_2_0 22 rfl rfl
theorem dX3_lay_2_0 : decode cX3_lay_2 0 = .ok (.iconst 0, 1) := dk_3 (dk_at dksX3_lay_2_0 0 rfl rfl)
theorem dX3_lay_2_1 : decode cX3_lay_2 1 = .ok (.istore 4, 2) := dk_54 4 (dk_at dksX3_lay_2_0 1 rfl rfl)
theorem dX3_lay_2_3 : decode cX3_lay_2 3 = .ok (.iload 4, 2) := dk_21 4 (dk_at dksX3_lay_2_0 3 rfl rfl)
theorem dX3_lay_2_5 : decode cX3_lay_2 5 = .ok (.bipush 12, 2) := dk_16 12 (dk_at dksX3_lay_2_0 5 rfl rfl)
theorem dX3_lay_2_7 : decode cX3_lay_2 7 = .ok (.if_icmp .ge 21, 3) := dk_162 0 21 (dk_at dksX3_lay_2_0 7 rfl rfl)
theorem dX3_lay_2_10 : decode cX3_lay_2 10 = .ok (.aload_n 2, 1) := dk_44 (dk_at dksX3_lay_2_0 10 rfl rfl)
theorem dX3_lay_2_11 : decode cX3_lay_2 11 = .ok (.iload_n 3, 1) := dk_29 (dk_at dksX3_lay_2_0 11 rfl rfl)
theorem dX3_lay_2_12 : decode cX3_lay_2 12 = .ok (.iload 4, 2) := dk_21 4 (dk_at dksX3_lay_2_0 12 rfl rfl)
theorem dX3_lay_2_14 : decode cX3_lay_2 14 = .ok (.iadd, 1) := dk_96 (dk_at dksX3_lay_2_0 14 rfl rfl)
theorem dX3_lay_2_15 : decode cX3_lay_2 15 = .ok (.aload_n 0, 1) := dk_42 (dk_at dksX3_lay_2_0 15 rfl rfl)
theorem dX3_lay_2_16 : decode cX3_lay_2 16 = .ok (.iload_n 1, 1) := dk_27 (dk_at dksX3_lay_2_0 16 rfl rfl)
theorem dX3_lay_2_17 : decode cX3_lay_2 17 = .ok (.iload 4, 2) := dk_21 4 (dk_at dksX3_lay_2_0 17 rfl rfl)
theorem dX3_lay_2_19 : decode cX3_lay_2 19 = .ok (.iadd, 1) := dk_96 (dk_at dksX3_lay_2_0 19 rfl rfl)
theorem dX3_lay_2_20 : decode cX3_lay_2 20 = .ok (.iaload, 1) := dk_46 (dk_at dksX3_lay_2_0 20 rfl rfl)
theorem dX3_lay_2_21 : decode cX3_lay_2 21 = .ok (.iastore, 1) := dk_79 (dk_at dksX3_lay_2_0 21 rfl rfl)
theorem dX3_lay_2_22 : decode cX3_lay_2 22 = .ok (.iinc 4 1, 3) := dk_132 4 1 (dk_at dksX3_lay_2_1 0 rfl rfl)
theorem dX3_lay_2_25 : decode cX3_lay_2 25 = .ok (.goto (-22), 3) := dk_167 255 234 (dk_at dksX3_lay_2_1 3 rfl rfl)
theorem dX3_lay_2_28 : decode cX3_lay_2 28 = .ok (.return_, 1) := dk_177 (dk_at dksX3_lay_2_1 6 rfl rfl)
abbrev cX3_mayAct : ByteArray := prog_15_method_66_code
def yX3_mayAct : MethodName := ⟨RX3, "mayAct", "(II)Z"⟩
def dkwX3_mayAct_15 : List UInt8 := [27, 16, 6, 2, 3, 182, 1, 23, 4, 172, 42, 27, 16, 7, 2, 3, 182, 1, 23, 3, 172]
abbrev dktX3_mayAct_15 : List UInt8 := dkwX3_mayAct_15 ++ []
def dkwX3_mayAct_14 : List UInt8 := [182, 1, 30, 153, 0, 7, 4, 167, 0, 4, 3, 172, 42, 27, 29, 21, 5, 182, 1, 50, 172, 4, 172, 42]
abbrev dktX3_mayAct_14 : List UInt8 := dkwX3_mayAct_14 ++ dktX3_mayAct_15
def dkwX3_mayAct_13 : List UInt8 := [4, 167, 0, 4, 3, 172, 42, 27, 21, 4, 16, 8, 182, 1, 27, 153, 0, 17, 42, 27, 21, 4]
abbrev dktX3_mayAct_13 : List UInt8 := dkwX3_mayAct_13 ++ dktX3_mayAct_14
def dkwX3_mayAct_12 : List UInt8 := [153, 0, 28, 42, 27, 21, 4, 182, 1, 30, 153, 0, 18, 42, 27, 3, 29, 5, 182, 1, 39, 153, 0, 7]
abbrev dktX3_mayAct_12 : List UInt8 := dkwX3_mayAct_12 ++ dktX3_mayAct_13
def dkwX3_mayAct_11 : List UInt8 := [21, 4, 182, 1, 30, 153, 0, 7, 4, 167, 0, 4, 3, 172, 42, 27, 21, 4, 4, 182, 1, 27]
abbrev dktX3_mayAct_11 : List UInt8 := dkwX3_mayAct_11 ++ dktX3_mayAct_12
def dkwX3_mayAct_10 : List UInt8 := [180, 0, 47, 28, 46, 182, 1, 47, 172, 42, 27, 21, 4, 21, 5, 182, 1, 27, 153, 0, 17, 42, 27]
abbrev dktX3_mayAct_10 : List UInt8 := dkwX3_mayAct_10 ++ dktX3_mayAct_11
def dkwX3_mayAct_9 : List UInt8 := [21, 4, 182, 1, 36, 172, 42, 27, 29, 21, 4, 21, 5, 182, 1, 43, 172, 42, 27, 29, 21, 4, 42]
abbrev dktX3_mayAct_9 : List UInt8 := dkwX3_mayAct_9 ++ dktX3_mayAct_10
def dkwX3_mayAct_8 : List UInt8 := [180, 0, 100, 21, 4, 46, 79, 21, 6, 172, 42, 27, 21, 4, 21, 5, 182, 1, 36, 172, 42, 27, 29]
abbrev dktX3_mayAct_8 : List UInt8 := dkwX3_mayAct_8 ++ dktX3_mayAct_9
def dkwX3_mayAct_7 : List UInt8 := [21, 4, 21, 5, 182, 1, 27, 153, 0, 7, 4, 167, 0, 4, 3, 54, 6, 42, 180, 0, 100, 29, 42]
abbrev dktX3_mayAct_7 : List UInt8 := dkwX3_mayAct_7 ++ dktX3_mayAct_8
def dkwX3_mayAct_6 : List UInt8 := [154, 0, 9, 17, 1, 0, 167, 0, 6, 17, 2, 0, 182, 1, 39, 172, 21, 5, 153, 0, 15, 42, 27]
abbrev dktX3_mayAct_6 : List UInt8 := dkwX3_mayAct_6 ++ dktX3_mayAct_7
def dkwX3_mayAct_5 : List UInt8 := [21, 4, 156, 0, 7, 4, 167, 0, 4, 3, 29, 16, 32, 182, 1, 39, 172, 42, 27, 3, 29, 21, 4]
abbrev dktX3_mayAct_5 : List UInt8 := dkwX3_mayAct_5 ++ dktX3_mayAct_6
def dkwX3_mayAct_4 : List UInt8 := [21, 4, 155, 0, 8, 21, 5, 156, 0, 7, 4, 167, 0, 4, 3, 29, 16, 32, 182, 1, 39, 172, 42, 27]
abbrev dktX3_mayAct_4 : List UInt8 := dkwX3_mayAct_4 ++ dktX3_mayAct_5
def dkwX3_mayAct_3 : List UInt8 := [42, 27, 21, 5, 156, 0, 7, 4, 167, 0, 4, 3, 29, 4, 21, 4, 120, 182, 1, 39, 172, 42, 27]
abbrev dktX3_mayAct_3 : List UInt8 := dkwX3_mayAct_3 ++ dktX3_mayAct_4
def dkwX3_mayAct_2 : List UInt8 := [170, 0, 0, 0, 0, 1, 114, 0, 0, 0, 0, 0, 0, 0, 16, 0, 0, 0, 83, 0, 0, 0, 104, 0, 0, 0, 128, 0, 0, 0, 147, 0, 0, 0, 169, 0, 0, 0, 209, 0, 0, 0, 219, 0, 0, 0, 228, 0, 0, 0, 239, 0, 0, 0, 254, 0, 0, 1, 26, 0, 0, 1, 64, 0, 0, 1, 92, 0, 0, 1, 101, 0, 0, 1, 101, 0, 0, 1, 103, 0, 0, 1, 103]
abbrev dktX3_mayAct_2 : List UInt8 := dkwX3_mayAct_2 ++ dktX3_mayAct_3
def dkwX3_mayAct_1 : List UInt8 := [180, 0, 35, 28, 46]
abbrev dktX3_mayAct_1 : List UInt8 := dkwX3_mayAct_1 ++ dktX3_mayAct_2
def dkwX3_mayAct_0 : List UInt8 := [42, 180, 0, 38, 28, 46, 62, 42, 180, 0, 41, 28, 46, 54, 4, 42, 180, 0, 44, 28, 46, 54, 5, 42]
abbrev dktX3_mayAct_0 : List UInt8 := dkwX3_mayAct_0 ++ dktX3_mayAct_1
theorem dksX3_mayAct_0 : cX3_mayAct.data.toList.drop 0 = dktX3_mayAct_0 := by decide +kernel
theorem dksX3_mayAct_1 : cX3_mayAct.data.toList.drop 24 = dktX3_mayAct_1 := dk_seg dksX3_mayAct_0 24 rfl rfl
theorem dksX3_mayAct_2 : cX3_mayAct.data.toList.drop 29 = dktX3_mayAct_2 := dk_seg dksX3_mayAct_1 5 rfl rfl
theorem dksX3_mayAct_3 : cX3_mayAct.data.toList.drop 112 = dktX3_mayAct_3 := dk_seg dksX3_mayAct_2 83 rfl rfl
theorem dksX3_mayAct_4 : cX3_mayAct.data.toList.drop 135 = dktX3_mayAct_4 := dk_seg dksX3_mayAct_3 23 rfl rfl
theorem dksX3_mayAct_5 : cX3_mayAct.data.toList.drop 159 = dktX3_mayAct_5 := dk_seg dksX3_mayAct_4 24 rfl rfl
theorem dksX3_mayAct_6 : cX3_mayAct.data.toList.drop 182 = dktX3_mayAct_6 := dk_seg dksX3_mayAct_5 23 rfl rfl
theorem dksX3_mayAct_7 : cX3_mayAct.data.toList.drop 205 = dktX3_mayAct_7 := dk_seg dksX3_mayAct_6 23 rfl rfl
theorem dksX3_mayAct_8 : cX3_mayAct.data.toList.drop 228 = dktX3_mayAct_8 := dk_seg dksX3_mayAct_7 23 rfl rfl
theorem dksX3_mayAct_9 : cX3_mayAct.data.toList.drop 251 = dktX3_mayAct_9 := dk_seg dksX3_mayAct_8 23 rfl rfl
theorem dksX3_mayAct_10 : cX3_mayAct.data.toList.drop 274 = dktX3_mayAct_10 := dk_seg dksX3_mayAct_9 23 rfl rfl
theorem dksX3_mayAct_11 : cX3_mayAct.data.toList.drop 297 = dktX3_mayAct_11 := dk_seg dksX3_mayAct_10 23 rfl rfl
theorem dksX3_mayAct_12 : cX3_mayAct.data.toList.drop 319 = dktX3_mayAct_12 := dk_seg dksX3_mayAct_11 22 rfl rfl
theorem dksX3_mayAct_13 : cX3_mayAct.data.toList.drop 343 = dktX3_mayAct_13 := dk_seg dksX3_mayAct_12 24 rfl rfl
theorem dksX3_mayAct_14 : cX3_mayAct.data.toList.drop 365 = dktX3_mayAct_14 := dk_seg dksX3_mayAct_13 22 rfl rfl
theorem dksX3_mayAct_15 : cX3_mayAct.data.toList.drop 389 = dktX3_mayAct_15 := dk_seg dksX3_mayAct_14 24 rfl rfl
theorem dX3_mayAct_0 : decode cX3_mayAct 0 = .ok (.aload_n 0, 1) := dk_42 (dk_at dksX3_mayAct_0 0 rfl rfl)
theorem dX3_mayAct_1 : decode cX3_mayAct 1 = .ok (.getfield 38, 3) := dk_180 0 38 (dk_at dksX3_mayAct_0 1 rfl rfl)
theorem dX3_mayAct_4 : decode cX3_mayAct 4 = .ok (.iload_n 2, 1) := dk_28 (dk_at dksX3_mayAct_0 4 rfl rfl)
theorem dX3_mayAct_5 : decode cX3_mayAct 5 = .ok (.iaload, 1) := dk_46 (dk_at dksX3_mayAct_0 5 rfl rfl)
theorem dX3_mayAct_6 : decode cX3_mayAct 6 = .ok (.istore_n 3, 1) := dk_62 (dk_at dksX3_mayAct_0 6 rfl rfl)
theorem dX3_mayAct_7 : decode cX3_mayAct 7 = .ok (.aload_n 0, 1) := dk_42 (dk_at dksX3_mayAct_0 7 rfl rfl)
theorem dX3_mayAct_8 : decode cX3_mayAct 8 = .ok (.getfield 41, 3) := dk_180 0 41 (dk_at dksX3_mayAct_0 8 rfl rfl)
theorem dX3_mayAct_11 : decode cX3_mayAct 11 = .ok (.iload_n 2, 1) := dk_28 (dk_at dksX3_mayAct_0 11 rfl rfl)
theorem dX3_mayAct_12 : decode cX3_mayAct 12 = .ok (.iaload, 1) := dk_46 (dk_at dksX3_mayAct_0 12 rfl rfl)
theorem dX3_mayAct_13 : decode cX3_mayAct 13 = .ok (.istore 4, 2) := dk_54 4 (dk_at dksX3_mayAct_0 13 rfl rfl)
theorem dX3_mayAct_15 : decode cX3_mayAct 15 = .ok (.aload_n 0, 1) := dk_42 (dk_at dksX3_mayAct_0 15 rfl rfl)
theorem dX3_mayAct_16 : decode cX3_mayAct 16 = .ok (.getfield 44, 3) := dk_180 0 44 (dk_at dksX3_mayAct_0 16 rfl rfl)
theorem dX3_mayAct_19 : decode cX3_mayAct 19 = .ok (.iload_n 2, 1) := dk_28 (dk_at dksX3_mayAct_0 19 rfl rfl)
theorem dX3_mayAct_20 : decode cX3_mayAct 20 = .ok (.iaload, 1) := dk_46 (dk_at dksX3_mayAct_0 20 rfl rfl)
theorem dX3_mayAct_21 : decode cX3_mayAct 21 = .ok (.istore 5, 2) := dk_54 5 (dk_at dksX3_mayAct_0 21 rfl rfl)
theorem dX3_mayAct_23 : decode cX3_mayAct 23 = .ok (.aload_n 0, 1) := dk_42 (dk_at dksX3_mayAct_0 23 rfl rfl)
theorem dX3_mayAct_24 : decode cX3_mayAct 24 = .ok (.getfield 35, 3) := dk_180 0 35 (dk_at dksX3_mayAct_1 0 rfl rfl)
theorem dX3_mayAct_27 : decode cX3_mayAct 27 = .ok (.iload_n 2, 1) := dk_28 (dk_at dksX3_mayAct_1 3 rfl rfl)
theorem dX3_mayAct_28 : decode cX3_mayAct 28 = .ok (.iaload, 1) := dk_46 (dk_at dksX3_mayAct_1 4 rfl rfl)
theorem dX3_mayAct_29 : decode cX3_mayAct 29 = .ok (.tableswitch 370 0 16 #[83, 104, 128, 147, 169, 209, 219, 228, 239, 254, 282, 320, 348, 357, 357, 359, 359], 83) := by decide +kernel
theorem dX3_mayAct_112 : decode cX3_mayAct 112 = .ok (.aload_n 0, 1) := dk_42 (dk_at dksX3_mayAct_3 0 rfl rfl)
theorem dX3_mayAct_113 : decode cX3_mayAct 113 = .ok (.iload_n 1, 1) := dk_27 (dk_at dksX3_mayAct_3 1 rfl rfl)
theorem dX3_mayAct_114 : decode cX3_mayAct 114 = .ok (.iload 5, 2) := dk_21 5 (dk_at dksX3_mayAct_3 2 rfl rfl)
theorem dX3_mayAct_116 : decode cX3_mayAct 116 = .ok (.ifCond .ge 7, 3) := dk_156 0 7 (dk_at dksX3_mayAct_3 4 rfl rfl)
theorem dX3_mayAct_119 : decode cX3_mayAct 119 = .ok (.iconst 1, 1) := dk_4 (dk_at dksX3_mayAct_3 7 rfl rfl)
theorem dX3_mayAct_120 : decode cX3_mayAct 120 = .ok (.goto 4, 3) := dk_167 0 4 (dk_at dksX3_mayAct_3 8 rfl rfl)
theorem dX3_mayAct_123 : decode cX3_mayAct 123 = .ok (.iconst 0, 1) := dk_3 (dk_at dksX3_mayAct_3 11 rfl rfl)
theorem dX3_mayAct_124 : decode cX3_mayAct 124 = .ok (.iload_n 3, 1) := dk_29 (dk_at dksX3_mayAct_3 12 rfl rfl)
theorem dX3_mayAct_125 : decode cX3_mayAct 125 = .ok (.iconst 1, 1) := dk_4 (dk_at dksX3_mayAct_3 13 rfl rfl)
theorem dX3_mayAct_126 : decode cX3_mayAct 126 = .ok (.iload 4, 2) := dk_21 4 (dk_at dksX3_mayAct_3 14 rfl rfl)
theorem dX3_mayAct_128 : decode cX3_mayAct 128 = .ok (.ishl, 1) := dk_120 (dk_at dksX3_mayAct_3 16 rfl rfl)
theorem dX3_mayAct_129 : decode cX3_mayAct 129 = .ok (.invokevirtual 295, 3) := dk_182 1 39 (dk_at dksX3_mayAct_3 17 rfl rfl)
theorem dX3_mayAct_132 : decode cX3_mayAct 132 = .ok (.ireturn, 1) := dk_172 (dk_at dksX3_mayAct_3 20 rfl rfl)
theorem dX3_mayAct_133 : decode cX3_mayAct 133 = .ok (.aload_n 0, 1) := dk_42 (dk_at dksX3_mayAct_3 21 rfl rfl)
theorem dX3_mayAct_134 : decode cX3_mayAct 134 = .ok (.iload_n 1, 1) := dk_27 (dk_at dksX3_mayAct_3 22 rfl rfl)
theorem dX3_mayAct_135 : decode cX3_mayAct 135 = .ok (.iload 4, 2) := dk_21 4 (dk_at dksX3_mayAct_4 0 rfl rfl)
theorem dX3_mayAct_137 : decode cX3_mayAct 137 = .ok (.ifCond .lt 8, 3) := dk_155 0 8 (dk_at dksX3_mayAct_4 2 rfl rfl)
theorem dX3_mayAct_140 : decode cX3_mayAct 140 = .ok (.iload 5, 2) := dk_21 5 (dk_at dksX3_mayAct_4 5 rfl rfl)
theorem dX3_mayAct_142 : decode cX3_mayAct 142 = .ok (.ifCond .ge 7, 3) := dk_156 0 7 (dk_at dksX3_mayAct_4 7 rfl rfl)
theorem dX3_mayAct_145 : decode cX3_mayAct 145 = .ok (.iconst 1, 1) := dk_4 (dk_at dksX3_mayAct_4 10 rfl rfl)
theorem dX3_mayAct_146 : decode cX3_mayAct 146 = .ok (.goto 4, 3) := dk_167 0 4 (dk_at dksX3_mayAct_4 11 rfl rfl)
theorem dX3_mayAct_149 : decode cX3_mayAct 149 = .ok (.iconst 0, 1) := dk_3 (dk_at dksX3_mayAct_4 14 rfl rfl)
theorem dX3_mayAct_150 : decode cX3_mayAct 150 = .ok (.iload_n 3, 1) := dk_29 (dk_at dksX3_mayAct_4 15 rfl rfl)
theorem dX3_mayAct_151 : decode cX3_mayAct 151 = .ok (.bipush 32, 2) := dk_16 32 (dk_at dksX3_mayAct_4 16 rfl rfl)
theorem dX3_mayAct_153 : decode cX3_mayAct 153 = .ok (.invokevirtual 295, 3) := dk_182 1 39 (dk_at dksX3_mayAct_4 18 rfl rfl)
theorem dX3_mayAct_156 : decode cX3_mayAct 156 = .ok (.ireturn, 1) := dk_172 (dk_at dksX3_mayAct_4 21 rfl rfl)
theorem dX3_mayAct_157 : decode cX3_mayAct 157 = .ok (.aload_n 0, 1) := dk_42 (dk_at dksX3_mayAct_4 22 rfl rfl)
theorem dX3_mayAct_158 : decode cX3_mayAct 158 = .ok (.iload_n 1, 1) := dk_27 (dk_at dksX3_mayAct_4 23 rfl rfl)
theorem dX3_mayAct_159 : decode cX3_mayAct 159 = .ok (.iload 4, 2) := dk_21 4 (dk_at dksX3_mayAct_5 0 rfl rfl)
theorem dX3_mayAct_161 : decode cX3_mayAct 161 = .ok (.ifCond .ge 7, 3) := dk_156 0 7 (dk_at dksX3_mayAct_5 2 rfl rfl)
theorem dX3_mayAct_164 : decode cX3_mayAct 164 = .ok (.iconst 1, 1) := dk_4 (dk_at dksX3_mayAct_5 5 rfl rfl)
theorem dX3_mayAct_165 : decode cX3_mayAct 165 = .ok (.goto 4, 3) := dk_167 0 4 (dk_at dksX3_mayAct_5 6 rfl rfl)
theorem dX3_mayAct_168 : decode cX3_mayAct 168 = .ok (.iconst 0, 1) := dk_3 (dk_at dksX3_mayAct_5 9 rfl rfl)
theorem dX3_mayAct_169 : decode cX3_mayAct 169 = .ok (.iload_n 3, 1) := dk_29 (dk_at dksX3_mayAct_5 10 rfl rfl)
theorem dX3_mayAct_170 : decode cX3_mayAct 170 = .ok (.bipush 32, 2) := dk_16 32 (dk_at dksX3_mayAct_5 11 rfl rfl)
theorem dX3_mayAct_172 : decode cX3_mayAct 172 = .ok (.invokevirtual 295, 3) := dk_182 1 39 (dk_at dksX3_mayAct_5 13 rfl rfl)
theorem dX3_mayAct_175 : decode cX3_mayAct 175 = .ok (.ireturn, 1) := dk_172 (dk_at dksX3_mayAct_5 16 rfl rfl)
theorem dX3_mayAct_176 : decode cX3_mayAct 176 = .ok (.aload_n 0, 1) := dk_42 (dk_at dksX3_mayAct_5 17 rfl rfl)
theorem dX3_mayAct_177 : decode cX3_mayAct 177 = .ok (.iload_n 1, 1) := dk_27 (dk_at dksX3_mayAct_5 18 rfl rfl)
theorem dX3_mayAct_178 : decode cX3_mayAct 178 = .ok (.iconst 0, 1) := dk_3 (dk_at dksX3_mayAct_5 19 rfl rfl)
theorem dX3_mayAct_179 : decode cX3_mayAct 179 = .ok (.iload_n 3, 1) := dk_29 (dk_at dksX3_mayAct_5 20 rfl rfl)
theorem dX3_mayAct_180 : decode cX3_mayAct 180 = .ok (.iload 4, 2) := dk_21 4 (dk_at dksX3_mayAct_5 21 rfl rfl)
theorem dX3_mayAct_182 : decode cX3_mayAct 182 = .ok (.ifCond .ne 9, 3) := dk_154 0 9 (dk_at dksX3_mayAct_6 0 rfl rfl)
theorem dX3_mayAct_185 : decode cX3_mayAct 185 = .ok (.sipush 256, 3) := dk_17 1 0 (dk_at dksX3_mayAct_6 3 rfl rfl)
theorem dX3_mayAct_188 : decode cX3_mayAct 188 = .ok (.goto 6, 3) := dk_167 0 6 (dk_at dksX3_mayAct_6 6 rfl rfl)
theorem dX3_mayAct_191 : decode cX3_mayAct 191 = .ok (.sipush 512, 3) := dk_17 2 0 (dk_at dksX3_mayAct_6 9 rfl rfl)
theorem dX3_mayAct_194 : decode cX3_mayAct 194 = .ok (.invokevirtual 295, 3) := dk_182 1 39 (dk_at dksX3_mayAct_6 12 rfl rfl)
theorem dX3_mayAct_197 : decode cX3_mayAct 197 = .ok (.ireturn, 1) := dk_172 (dk_at dksX3_mayAct_6 15 rfl rfl)
theorem dX3_mayAct_198 : decode cX3_mayAct 198 = .ok (.iload 5, 2) := dk_21 5 (dk_at dksX3_mayAct_6 16 rfl rfl)
theorem dX3_mayAct_200 : decode cX3_mayAct 200 = .ok (.ifCond .eq 15, 3) := dk_153 0 15 (dk_at dksX3_mayAct_6 18 rfl rfl)
theorem dX3_mayAct_203 : decode cX3_mayAct 203 = .ok (.aload_n 0, 1) := dk_42 (dk_at dksX3_mayAct_6 21 rfl rfl)
theorem dX3_mayAct_204 : decode cX3_mayAct 204 = .ok (.iload_n 1, 1) := dk_27 (dk_at dksX3_mayAct_6 22 rfl rfl)
theorem dX3_mayAct_205 : decode cX3_mayAct 205 = .ok (.iload 4, 2) := dk_21 4 (dk_at dksX3_mayAct_7 0 rfl rfl)
theorem dX3_mayAct_207 : decode cX3_mayAct 207 = .ok (.iload 5, 2) := dk_21 5 (dk_at dksX3_mayAct_7 2 rfl rfl)
theorem dX3_mayAct_209 : decode cX3_mayAct 209 = .ok (.invokevirtual 283, 3) := dk_182 1 27 (dk_at dksX3_mayAct_7 4 rfl rfl)
theorem dX3_mayAct_212 : decode cX3_mayAct 212 = .ok (.ifCond .eq 7, 3) := dk_153 0 7 (dk_at dksX3_mayAct_7 7 rfl rfl)
theorem dX3_mayAct_215 : decode cX3_mayAct 215 = .ok (.iconst 1, 1) := dk_4 (dk_at dksX3_mayAct_7 10 rfl rfl)
theorem dX3_mayAct_216 : decode cX3_mayAct 216 = .ok (.goto 4, 3) := dk_167 0 4 (dk_at dksX3_mayAct_7 11 rfl rfl)
theorem dX3_mayAct_219 : decode cX3_mayAct 219 = .ok (.iconst 0, 1) := dk_3 (dk_at dksX3_mayAct_7 14 rfl rfl)
theorem dX3_mayAct_220 : decode cX3_mayAct 220 = .ok (.istore 6, 2) := dk_54 6 (dk_at dksX3_mayAct_7 15 rfl rfl)
theorem dX3_mayAct_222 : decode cX3_mayAct 222 = .ok (.aload_n 0, 1) := dk_42 (dk_at dksX3_mayAct_7 17 rfl rfl)
theorem dX3_mayAct_223 : decode cX3_mayAct 223 = .ok (.getfield 100, 3) := dk_180 0 100 (dk_at dksX3_mayAct_7 18 rfl rfl)
theorem dX3_mayAct_226 : decode cX3_mayAct 226 = .ok (.iload_n 3, 1) := dk_29 (dk_at dksX3_mayAct_7 21 rfl rfl)
theorem dX3_mayAct_227 : decode cX3_mayAct 227 = .ok (.aload_n 0, 1) := dk_42 (dk_at dksX3_mayAct_7 22 rfl rfl)
theorem dX3_mayAct_228 : decode cX3_mayAct 228 = .ok (.getfield 100, 3) := dk_180 0 100 (dk_at dksX3_mayAct_8 0 rfl rfl)
theorem dX3_mayAct_231 : decode cX3_mayAct 231 = .ok (.iload 4, 2) := dk_21 4 (dk_at dksX3_mayAct_8 3 rfl rfl)
theorem dX3_mayAct_233 : decode cX3_mayAct 233 = .ok (.iaload, 1) := dk_46 (dk_at dksX3_mayAct_8 5 rfl rfl)
theorem dX3_mayAct_234 : decode cX3_mayAct 234 = .ok (.iastore, 1) := dk_79 (dk_at dksX3_mayAct_8 6 rfl rfl)
theorem dX3_mayAct_235 : decode cX3_mayAct 235 = .ok (.iload 6, 2) := dk_21 6 (dk_at dksX3_mayAct_8 7 rfl rfl)
theorem dX3_mayAct_237 : decode cX3_mayAct 237 = .ok (.ireturn, 1) := dk_172 (dk_at dksX3_mayAct_8 9 rfl rfl)
theorem dX3_mayAct_238 : decode cX3_mayAct 238 = .ok (.aload_n 0, 1) := dk_42 (dk_at dksX3_mayAct_8 10 rfl rfl)
theorem dX3_mayAct_239 : decode cX3_mayAct 239 = .ok (.iload_n 1, 1) := dk_27 (dk_at dksX3_mayAct_8 11 rfl rfl)
theorem dX3_mayAct_240 : decode cX3_mayAct 240 = .ok (.iload 4, 2) := dk_21 4 (dk_at dksX3_mayAct_8 12 rfl rfl)
theorem dX3_mayAct_242 : decode cX3_mayAct 242 = .ok (.iload 5, 2) := dk_21 5 (dk_at dksX3_mayAct_8 14 rfl rfl)
theorem dX3_mayAct_244 : decode cX3_mayAct 244 = .ok (.invokevirtual 292, 3) := dk_182 1 36 (dk_at dksX3_mayAct_8 16 rfl rfl)
theorem dX3_mayAct_247 : decode cX3_mayAct 247 = .ok (.ireturn, 1) := dk_172 (dk_at dksX3_mayAct_8 19 rfl rfl)
theorem dX3_mayAct_248 : decode cX3_mayAct 248 = .ok (.aload_n 0, 1) := dk_42 (dk_at dksX3_mayAct_8 20 rfl rfl)
theorem dX3_mayAct_249 : decode cX3_mayAct 249 = .ok (.iload_n 1, 1) := dk_27 (dk_at dksX3_mayAct_8 21 rfl rfl)
theorem dX3_mayAct_250 : decode cX3_mayAct 250 = .ok (.iload_n 3, 1) := dk_29 (dk_at dksX3_mayAct_8 22 rfl rfl)
theorem dX3_mayAct_251 : decode cX3_mayAct 251 = .ok (.iload 4, 2) := dk_21 4 (dk_at dksX3_mayAct_9 0 rfl rfl)
theorem dX3_mayAct_253 : decode cX3_mayAct 253 = .ok (.invokevirtual 292, 3) := dk_182 1 36 (dk_at dksX3_mayAct_9 2 rfl rfl)
theorem dX3_mayAct_256 : decode cX3_mayAct 256 = .ok (.ireturn, 1) := dk_172 (dk_at dksX3_mayAct_9 5 rfl rfl)
theorem dX3_mayAct_257 : decode cX3_mayAct 257 = .ok (.aload_n 0, 1) := dk_42 (dk_at dksX3_mayAct_9 6 rfl rfl)
theorem dX3_mayAct_258 : decode cX3_mayAct 258 = .ok (.iload_n 1, 1) := dk_27 (dk_at dksX3_mayAct_9 7 rfl rfl)
theorem dX3_mayAct_259 : decode cX3_mayAct 259 = .ok (.iload_n 3, 1) := dk_29 (dk_at dksX3_mayAct_9 8 rfl rfl)
theorem dX3_mayAct_260 : decode cX3_mayAct 260 = .ok (.iload 4, 2) := dk_21 4 (dk_at dksX3_mayAct_9 9 rfl rfl)
theorem dX3_mayAct_262 : decode cX3_mayAct 262 = .ok (.iload 5, 2) := dk_21 5 (dk_at dksX3_mayAct_9 11 rfl rfl)
theorem dX3_mayAct_264 : decode cX3_mayAct 264 = .ok (.invokevirtual 299, 3) := dk_182 1 43 (dk_at dksX3_mayAct_9 13 rfl rfl)
theorem dX3_mayAct_267 : decode cX3_mayAct 267 = .ok (.ireturn, 1) := dk_172 (dk_at dksX3_mayAct_9 16 rfl rfl)
theorem dX3_mayAct_268 : decode cX3_mayAct 268 = .ok (.aload_n 0, 1) := dk_42 (dk_at dksX3_mayAct_9 17 rfl rfl)
theorem dX3_mayAct_269 : decode cX3_mayAct 269 = .ok (.iload_n 1, 1) := dk_27 (dk_at dksX3_mayAct_9 18 rfl rfl)
theorem dX3_mayAct_270 : decode cX3_mayAct 270 = .ok (.iload_n 3, 1) := dk_29 (dk_at dksX3_mayAct_9 19 rfl rfl)
theorem dX3_mayAct_271 : decode cX3_mayAct 271 = .ok (.iload 4, 2) := dk_21 4 (dk_at dksX3_mayAct_9 20 rfl rfl)
theorem dX3_mayAct_273 : decode cX3_mayAct 273 = .ok (.aload_n 0, 1) := dk_42 (dk_at dksX3_mayAct_9 22 rfl rfl)
theorem dX3_mayAct_274 : decode cX3_mayAct 274 = .ok (.getfield 47, 3) := dk_180 0 47 (dk_at dksX3_mayAct_10 0 rfl rfl)
theorem dX3_mayAct_277 : decode cX3_mayAct 277 = .ok (.iload_n 2, 1) := dk_28 (dk_at dksX3_mayAct_10 3 rfl rfl)
theorem dX3_mayAct_278 : decode cX3_mayAct 278 = .ok (.iaload, 1) := dk_46 (dk_at dksX3_mayAct_10 4 rfl rfl)
theorem dX3_mayAct_279 : decode cX3_mayAct 279 = .ok (.invokevirtual 303, 3) := dk_182 1 47 (dk_at dksX3_mayAct_10 5 rfl rfl)
theorem dX3_mayAct_282 : decode cX3_mayAct 282 = .ok (.ireturn, 1) := dk_172 (dk_at dksX3_mayAct_10 8 rfl rfl)
theorem dX3_mayAct_283 : decode cX3_mayAct 283 = .ok (.aload_n 0, 1) := dk_42 (dk_at dksX3_mayAct_10 9 rfl rfl)
theorem dX3_mayAct_284 : decode cX3_mayAct 284 = .ok (.iload_n 1, 1) := dk_27 (dk_at dksX3_mayAct_10 10 rfl rfl)
theorem dX3_mayAct_285 : decode cX3_mayAct 285 = .ok (.iload 4, 2) := dk_21 4 (dk_at dksX3_mayAct_10 11 rfl rfl)
theorem dX3_mayAct_287 : decode cX3_mayAct 287 = .ok (.iload 5, 2) := dk_21 5 (dk_at dksX3_mayAct_10 13 rfl rfl)
theorem dX3_mayAct_289 : decode cX3_mayAct 289 = .ok (.invokevirtual 283, 3) := dk_182 1 27 (dk_at dksX3_mayAct_10 15 rfl rfl)
theorem dX3_mayAct_292 : decode cX3_mayAct 292 = .ok (.ifCond .eq 17, 3) := dk_153 0 17 (dk_at dksX3_mayAct_10 18 rfl rfl)
theorem dX3_mayAct_295 : decode cX3_mayAct 295 = .ok (.aload_n 0, 1) := dk_42 (dk_at dksX3_mayAct_10 21 rfl rfl)
theorem dX3_mayAct_296 : decode cX3_mayAct 296 = .ok (.iload_n 1, 1) := dk_27 (dk_at dksX3_mayAct_10 22 rfl rfl)
theorem dX3_mayAct_297 : decode cX3_mayAct 297 = .ok (.iload 4, 2) := dk_21 4 (dk_at dksX3_mayAct_11 0 rfl rfl)
theorem dX3_mayAct_299 : decode cX3_mayAct 299 = .ok (.invokevirtual 286, 3) := dk_182 1 30 (dk_at dksX3_mayAct_11 2 rfl rfl)
theorem dX3_mayAct_302 : decode cX3_mayAct 302 = .ok (.ifCond .eq 7, 3) := dk_153 0 7 (dk_at dksX3_mayAct_11 5 rfl rfl)
theorem dX3_mayAct_305 : decode cX3_mayAct 305 = .ok (.iconst 1, 1) := dk_4 (dk_at dksX3_mayAct_11 8 rfl rfl)
theorem dX3_mayAct_306 : decode cX3_mayAct 306 = .ok (.goto 4, 3) := dk_167 0 4 (dk_at dksX3_mayAct_11 9 rfl rfl)
theorem dX3_mayAct_309 : decode cX3_mayAct 309 = .ok (.iconst 0, 1) := dk_3 (dk_at dksX3_mayAct_11 12 rfl rfl)
theorem dX3_mayAct_310 : decode cX3_mayAct 310 = .ok (.ireturn, 1) := dk_172 (dk_at dksX3_mayAct_11 13 rfl rfl)
theorem dX3_mayAct_311 : decode cX3_mayAct 311 = .ok (.aload_n 0, 1) := dk_42 (dk_at dksX3_mayAct_11 14 rfl rfl)
theorem dX3_mayAct_312 : decode cX3_mayAct 312 = .ok (.iload_n 1, 1) := dk_27 (dk_at dksX3_mayAct_11 15 rfl rfl)
theorem dX3_mayAct_313 : decode cX3_mayAct 313 = .ok (.iload 4, 2) := dk_21 4 (dk_at dksX3_mayAct_11 16 rfl rfl)
theorem dX3_mayAct_315 : decode cX3_mayAct 315 = .ok (.iconst 1, 1) := dk_4 (dk_at dksX3_mayAct_11 18 rfl rfl)
theorem dX3_mayAct_316 : decode cX3_mayAct 316 = .ok (.invokevirtual 283, 3) := dk_182 1 27 (dk_at dksX3_mayAct_11 19 rfl rfl)
theorem dX3_mayAct_319 : decode cX3_mayAct 319 = .ok (.ifCond .eq 28, 3) := dk_153 0 28 (dk_at dksX3_mayAct_12 0 rfl rfl)
theorem dX3_mayAct_322 : decode cX3_mayAct 322 = .ok (.aload_n 0, 1) := dk_42 (dk_at dksX3_mayAct_12 3 rfl rfl)
theorem dX3_mayAct_323 : decode cX3_mayAct 323 = .ok (.iload_n 1, 1) := dk_27 (dk_at dksX3_mayAct_12 4 rfl rfl)
theorem dX3_mayAct_324 : decode cX3_mayAct 324 = .ok (.iload 4, 2) := dk_21 4 (dk_at dksX3_mayAct_12 5 rfl rfl)
theorem dX3_mayAct_326 : decode cX3_mayAct 326 = .ok (.invokevirtual 286, 3) := dk_182 1 30 (dk_at dksX3_mayAct_12 7 rfl rfl)
theorem dX3_mayAct_329 : decode cX3_mayAct 329 = .ok (.ifCond .eq 18, 3) := dk_153 0 18 (dk_at dksX3_mayAct_12 10 rfl rfl)
theorem dX3_mayAct_332 : decode cX3_mayAct 332 = .ok (.aload_n 0, 1) := dk_42 (dk_at dksX3_mayAct_12 13 rfl rfl)
theorem dX3_mayAct_333 : decode cX3_mayAct 333 = .ok (.iload_n 1, 1) := dk_27 (dk_at dksX3_mayAct_12 14 rfl rfl)
theorem dX3_mayAct_334 : decode cX3_mayAct 334 = .ok (.iconst 0, 1) := dk_3 (dk_at dksX3_mayAct_12 15 rfl rfl)
theorem dX3_mayAct_335 : decode cX3_mayAct 335 = .ok (.iload_n 3, 1) := dk_29 (dk_at dksX3_mayAct_12 16 rfl rfl)
theorem dX3_mayAct_336 : decode cX3_mayAct 336 = .ok (.iconst 2, 1) := dk_5 (dk_at dksX3_mayAct_12 17 rfl rfl)
theorem dX3_mayAct_337 : decode cX3_mayAct 337 = .ok (.invokevirtual 295, 3) := dk_182 1 39 (dk_at dksX3_mayAct_12 18 rfl rfl)
theorem dX3_mayAct_340 : decode cX3_mayAct 340 = .ok (.ifCond .eq 7, 3) := dk_153 0 7 (dk_at dksX3_mayAct_12 21 rfl rfl)
theorem dX3_mayAct_343 : decode cX3_mayAct 343 = .ok (.iconst 1, 1) := dk_4 (dk_at dksX3_mayAct_13 0 rfl rfl)
theorem dX3_mayAct_344 : decode cX3_mayAct 344 = .ok (.goto 4, 3) := dk_167 0 4 (dk_at dksX3_mayAct_13 1 rfl rfl)
theorem dX3_mayAct_347 : decode cX3_mayAct 347 = .ok (.iconst 0, 1) := dk_3 (dk_at dksX3_mayAct_13 4 rfl rfl)
theorem dX3_mayAct_348 : decode cX3_mayAct 348 = .ok (.ireturn, 1) := dk_172 (dk_at dksX3_mayAct_13 5 rfl rfl)
theorem dX3_mayAct_349 : decode cX3_mayAct 349 = .ok (.aload_n 0, 1) := dk_42 (dk_at dksX3_mayAct_13 6 rfl rfl)
theorem dX3_mayAct_350 : decode cX3_mayAct 350 = .ok (.iload_n 1, 1) := dk_27 (dk_at dksX3_mayAct_13 7 rfl rfl)
theorem dX3_mayAct_351 : decode cX3_mayAct 351 = .ok (.iload 4, 2) := dk_21 4 (dk_at dksX3_mayAct_13 8 rfl rfl)
theorem dX3_mayAct_353 : decode cX3_mayAct 353 = .ok (.bipush 8, 2) := dk_16 8 (dk_at dksX3_mayAct_13 10 rfl rfl)
theorem dX3_mayAct_355 : decode cX3_mayAct 355 = .ok (.invokevirtual 283, 3) := dk_182 1 27 (dk_at dksX3_mayAct_13 12 rfl rfl)
theorem dX3_mayAct_358 : decode cX3_mayAct 358 = .ok (.ifCond .eq 17, 3) := dk_153 0 17 (dk_at dksX3_mayAct_13 15 rfl rfl)
theorem dX3_mayAct_361 : decode cX3_mayAct 361 = .ok (.aload_n 0, 1) := dk_42 (dk_at dksX3_mayAct_13 18 rfl rfl)
theorem dX3_mayAct_362 : decode cX3_mayAct 362 = .ok (.iload_n 1, 1) := dk_27 (dk_at dksX3_mayAct_13 19 rfl rfl)
theorem dX3_mayAct_363 : decode cX3_mayAct 363 = .ok (.iload 4, 2) := dk_21 4 (dk_at dksX3_mayAct_13 20 rfl rfl)
theorem dX3_mayAct_365 : decode cX3_mayAct 365 = .ok (.invokevirtual 286, 3) := dk_182 1 30 (dk_at dksX3_mayAct_14 0 rfl rfl)
theorem dX3_mayAct_368 : decode cX3_mayAct 368 = .ok (.ifCond .eq 7, 3) := dk_153 0 7 (dk_at dksX3_mayAct_14 3 rfl rfl)
theorem dX3_mayAct_371 : decode cX3_mayAct 371 = .ok (.iconst 1, 1) := dk_4 (dk_at dksX3_mayAct_14 6 rfl rfl)
theorem dX3_mayAct_372 : decode cX3_mayAct 372 = .ok (.goto 4, 3) := dk_167 0 4 (dk_at dksX3_mayAct_14 7 rfl rfl)
theorem dX3_mayAct_375 : decode cX3_mayAct 375 = .ok (.iconst 0, 1) := dk_3 (dk_at dksX3_mayAct_14 10 rfl rfl)
theorem dX3_mayAct_376 : decode cX3_mayAct 376 = .ok (.ireturn, 1) := dk_172 (dk_at dksX3_mayAct_14 11 rfl rfl)
theorem dX3_mayAct_377 : decode cX3_mayAct 377 = .ok (.aload_n 0, 1) := dk_42 (dk_at dksX3_mayAct_14 12 rfl rfl)
theorem dX3_mayAct_378 : decode cX3_mayAct 378 = .ok (.iload_n 1, 1) := dk_27 (dk_at dksX3_mayAct_14 13 rfl rfl)
theorem dX3_mayAct_379 : decode cX3_mayAct 379 = .ok (.iload_n 3, 1) := dk_29 (dk_at dksX3_mayAct_14 14 rfl rfl)
theorem dX3_mayAct_380 : decode cX3_mayAct 380 = .ok (.iload 5, 2) := dk_21 5 (dk_at dksX3_mayAct_14 15 rfl rfl)
theorem dX3_mayAct_382 : decode cX3_mayAct 382 = .ok (.invokevirtual 306, 3) := dk_182 1 50 (dk_at dksX3_mayAct_14 17 rfl rfl)
theorem dX3_mayAct_385 : decode cX3_mayAct 385 = .ok (.ireturn, 1) := dk_172 (dk_at dksX3_mayAct_14 20 rfl rfl)
theorem dX3_mayAct_386 : decode cX3_mayAct 386 = .ok (.iconst 1, 1) := dk_4 (dk_at dksX3_mayAct_14 21 rfl rfl)
theorem dX3_mayAct_387 : decode cX3_mayAct 387 = .ok (.ireturn, 1) := dk_172 (dk_at dksX3_mayAct_14 22 rfl rfl)
theorem dX3_mayAct_388 : decode cX3_mayAct 388 = .ok (.aload_n 0, 1) := dk_42 (dk_at dksX3_mayAct_14 23 rfl rfl)
theorem dX3_mayAct_389 : decode cX3_mayAct 389 = .ok (.iload_n 1, 1) := dk_27 (dk_at dksX3_mayAct_15 0 rfl rfl)
theorem dX3_mayAct_390 : decode cX3_mayAct 390 = .ok (.bipush 6, 2) := dk_16 6 (dk_at dksX3_mayAct_15 1 rfl rfl)
theorem dX3_mayAct_392 : decode cX3_mayAct 392 = .ok (.iconst (-1), 1) := dk_2 (dk_at dksX3_mayAct_15 3 rfl rfl)
theorem dX3_mayAct_393 : decode cX3_mayAct 393 = .ok (.iconst 0, 1) := dk_3 (dk_at dksX3_mayAct_15 4 rfl rfl)
theorem dX3_mayAct_394 : decode cX3_mayAct 394 = .ok (.invokevirtual 279, 3) := dk_182 1 23 (dk_at dksX3_mayAct_15 5 rfl rfl)
theorem dX3_mayAct_397 : decode cX3_mayAct 397 = .ok (.iconst 1, 1) := dk_4 (dk_at dksX3_mayAct_15 8 rfl rfl)
theorem dX3_mayAct_398 : decode cX3_mayAct 398 = .ok (.ireturn, 1) := dk_172 (dk_at dksX3_mayAct_15 9 rfl rfl)
theorem dX3_mayAct_399 : decode cX3_mayAct 399 = .ok (.aload_n 0, 1) := dk_42 (dk_at dksX3_mayAct_15 10 rfl rfl)
theorem dX3_mayAct_400 : decode cX3_mayAct 400 = .ok (.iload_n 1, 1) := dk_27 (dk_at dksX3_mayAct_15 11 rfl rfl)
theorem dX3_mayAct_401 : decode cX3_mayAct 401 = .ok (.bipush 7, 2) := dk_16 7 (dk_at dksX3_mayAct_15 12 rfl rfl)
theorem dX3_mayAct_403 : decode cX3_mayAct 403 = .ok (.iconst (-1), 1) := dk_2 (dk_at dksX3_mayAct_15 14 rfl rfl)
theorem dX3_mayAct_404 : decode cX3_mayAct 404 = .ok (.iconst 0, 1) := dk_3 (dk_at dksX3_mayAct_15 15 rfl rfl)
theorem dX3_mayAct_405 : decode cX3_mayAct 405 = .ok (.invokevirtual 279, 3) := dk_182 1 23 (dk_at dksX3_mayAct_15 16 rfl rfl)
theorem dX3_mayAct_408 : decode cX3_mayAct 408 = .ok (.iconst 0, 1) := dk_3 (dk_at dksX3_mayAct_15 19 rfl rfl)
theorem dX3_mayAct_409 : decode cX3_mayAct 409 = .ok (.ireturn, 1) := dk_172 (dk_at dksX3_mayAct_15 20 rfl rfl)
abbrev cX3_mayNew : ByteArray := prog_15_method_61_code
def yX3_mayNew : MethodName := ⟨RX3, "mayNew", "(IZII)Z"⟩
def dkwX3_mayNew_1 : List UInt8 := [180, 0, 100, 29, 21, 4, 79, 4, 172]
abbrev dktX3_mayNew_1 : List UInt8 := dkwX3_mayNew_1 ++ []
def dkwX3_mayNew_0 : List UInt8 := [28, 153, 0, 13, 42, 27, 7, 2, 3, 182, 1, 23, 3, 172, 42, 27, 16, 8, 2, 3, 182, 1, 23, 42]
abbrev dktX3_mayNew_0 : List UInt8 := dkwX3_mayNew_0 ++ dktX3_mayNew_1
theorem dksX3_mayNew_0 : cX3_mayNew.data.toList.drop 0 = dktX3_mayNew_0 := by decide +kernel
theorem dksX3_mayNew_1 : cX3_mayNew.data.toList.drop 24 = dktX3_mayNew_1 := dk_seg dksX3_mayNew_0 24 rfl rfl
theorem dX3_mayNew_0 : decode cX3_mayNew 0 = .ok (.iload_n 2, 1) := dk_28 (dk_at dksX3_mayNew_0 0 rfl rfl)
theorem dX3_mayNew_1 : decode cX3_mayNew 1 = .ok (.ifCond .eq 13, 3) := dk_153 0 13 (dk_at dksX3_mayNew_0 1 rfl rfl)
theorem dX3_mayNew_4 : decode cX3_mayNew 4 = .ok (.aload_n 0, 1) := dk_42 (dk_at dksX3_mayNew_0 4 rfl rfl)
theorem dX3_mayNew_5 : decode cX3_mayNew 5 = .ok (.iload_n 1, 1) := dk_27 (dk_at dksX3_mayNew_0 5 rfl rfl)
theorem dX3_mayNew_6 : decode cX3_mayNew 6 = .ok (.iconst 4, 1) := dk_7 (dk_at dksX3_mayNew_0 6 rfl rfl)
theorem dX3_mayNew_7 : decode cX3_mayNew 7 = .ok (.iconst (-1), 1) := dk_2 (dk_at dksX3_mayNew_0 7 rfl rfl)
theorem dX3_mayNew_8 : decode cX3_mayNew 8 = .ok (.iconst 0, 1) := dk_3 (dk_at dksX3_mayNew_0 8 rfl rfl)
theorem dX3_mayNew_9 : decode cX3_mayNew 9 = .ok (.invokevirtual 279, 3) := dk_182 1 23 (dk_at dksX3_mayNew_0 9 rfl rfl)
theorem dX3_mayNew_12 : decode cX3_mayNew 12 = .ok (.iconst 0, 1) := dk_3 (dk_at dksX3_mayNew_0 12 rfl rfl)
theorem dX3_mayNew_13 : decode cX3_mayNew 13 = .ok (.ireturn, 1) := dk_172 (dk_at dksX3_mayNew_0 13 rfl rfl)
theorem dX3_mayNew_14 : decode cX3_mayNew 14 = .ok (.aload_n 0, 1) := dk_42 (dk_at dksX3_mayNew_0 14 rfl rfl)
theorem dX3_mayNew_15 : decode cX3_mayNew 15 = .ok (.iload_n 1, 1) := dk_27 (dk_at dksX3_mayNew_0 15 rfl rfl)
theorem dX3_mayNew_16 : decode cX3_mayNew 16 = .ok (.bipush 8, 2) := dk_16 8 (dk_at dksX3_mayNew_0 16 rfl rfl)
theorem dX3_mayNew_18 : decode cX3_mayNew 18 = .ok (.iconst (-1), 1) := dk_2 (dk_at dksX3_mayNew_0 18 rfl rfl)
theorem dX3_mayNew_19 : decode cX3_mayNew 19 = .ok (.iconst 0, 1) := dk_3 (dk_at dksX3_mayNew_0 19 rfl rfl)
theorem dX3_mayNew_20 : decode cX3_mayNew 20 = .ok (.invokevirtual 279, 3) := dk_182 1 23 (dk_at dksX3_mayNew_0 20 rfl rfl)
theorem dX3_mayNew_23 : decode cX3_mayNew 23 = .ok (.aload_n 0, 1) := dk_42 (dk_at dksX3_mayNew_0 23 rfl rfl)
theorem dX3_mayNew_24 : decode cX3_mayNew 24 = .ok (.getfield 100, 3) := dk_180 0 100 (dk_at dksX3_mayNew_1 0 rfl rfl)
theorem dX3_mayNew_27 : decode cX3_mayNew 27 = .ok (.iload_n 3, 1) := dk_29 (dk_at dksX3_mayNew_1 3 rfl rfl)
theorem dX3_mayNew_28 : decode cX3_mayNew 28 = .ok (.iload 4, 2) := dk_21 4 (dk_at dksX3_mayNew_1 4 rfl rfl)
theorem dX3_mayNew_30 : decode cX3_mayNew 30 = .ok (.iastore, 1) := dk_79 (dk_at dksX3_mayNew_1 6 rfl rfl)
theorem dX3_mayNew_31 : decode cX3_mayNew 31 = .ok (.iconst 1, 1) := dk_4 (dk_at dksX3_mayNew_1 7 rfl rfl)
theorem dX3_mayNew_32 : decode cX3_mayNew 32 = .ok (.ireturn, 1) := dk_172 (dk_at dksX3_mayNew_1 8 rfl rfl)
abbrev cX3_mayFail : ByteArray := prog_15_method_57_code
def yX3_mayFail : MethodName := ⟨RX3, "mayFail", "(IIII)V"⟩
def dkwX3_mayFail_2 : List UInt8 := [184, 1, 19, 29, 155, 0, 11, 42, 180, 0, 100, 29, 21, 5, 79, 177]
abbrev dktX3_mayFail_2 : List UInt8 := dkwX3_mayFail_2 ++ []
def dkwX3_mayFail_1 : List UInt8 := [29, 21, 4, 79, 42, 180, 0, 100, 3, 42, 180, 0, 91, 16, 108, 27, 104, 16, 12, 28, 104, 96]
abbrev dktX3_mayFail_1 : List UInt8 := dkwX3_mayFail_1 ++ dktX3_mayFail_2
def dkwX3_mayFail_0 : List UInt8 := [29, 156, 0, 7, 3, 167, 0, 9, 42, 180, 0, 100, 29, 46, 54, 5, 29, 155, 0, 11, 42, 180, 0, 100]
abbrev dktX3_mayFail_0 : List UInt8 := dkwX3_mayFail_0 ++ dktX3_mayFail_1
theorem dksX3_mayFail_0 : cX3_mayFail.data.toList.drop 0 = dktX3_mayFail_0 := by decide +kernel
theorem dksX3_mayFail_1 : cX3_mayFail.data.toList.drop 24 = dktX3_mayFail_1 := dk_seg dksX3_mayFail_0 24 rfl rfl
theorem dksX3_mayFail_2 : cX3_mayFail.data.toList.drop 46 = dktX3_mayFail_2 := dk_seg dksX3_mayFail_1 22 rfl rfl
theorem dX3_mayFail_0 : decode cX3_mayFail 0 = .ok (.iload_n 3, 1) := dk_29 (dk_at dksX3_mayFail_0 0 rfl rfl)
theorem dX3_mayFail_1 : decode cX3_mayFail 1 = .ok (.ifCond .ge 7, 3) := dk_156 0 7 (dk_at dksX3_mayFail_0 1 rfl rfl)
theorem dX3_mayFail_4 : decode cX3_mayFail 4 = .ok (.iconst 0, 1) := dk_3 (dk_at dksX3_mayFail_0 4 rfl rfl)
theorem dX3_mayFail_5 : decode cX3_mayFail 5 = .ok (.goto 9, 3) := dk_167 0 9 (dk_at dksX3_mayFail_0 5 rfl rfl)
theorem dX3_mayFail_8 : decode cX3_mayFail 8 = .ok (.aload_n 0, 1) := dk_42 (dk_at dksX3_mayFail_0 8 rfl rfl)
theorem dX3_mayFail_9 : decode cX3_mayFail 9 = .ok (.getfield 100, 3) := dk_180 0 100 (dk_at dksX3_mayFail_0 9 rfl rfl)
theorem dX3_mayFail_12 : decode cX3_mayFail 12 = .ok (.iload_n 3, 1) := dk_29 (dk_at dksX3_mayFail_0 12 rfl rfl)
theorem dX3_mayFail_13 : decode cX3_mayFail 13 = .ok (.iaload, 1) := dk_46 (dk_at dksX3_mayFail_0 13 rfl rfl)
theorem dX3_mayFail_14 : decode cX3_mayFail 14 = .ok (.istore 5, 2) := dk_54 5 (dk_at dksX3_mayFail_0 14 rfl rfl)
theorem dX3_mayFail_16 : decode cX3_mayFail 16 = .ok (.iload_n 3, 1) := dk_29 (dk_at dksX3_mayFail_0 16 rfl rfl)
theorem dX3_mayFail_17 : decode cX3_mayFail 17 = .ok (.ifCond .lt 11, 3) := dk_155 0 11 (dk_at dksX3_mayFail_0 17 rfl rfl)
theorem dX3_mayFail_20 : decode cX3_mayFail 20 = .ok (.aload_n 0, 1) := dk_42 (dk_at dksX3_mayFail_0 20 rfl rfl)
theorem dX3_mayFail_21 : decode cX3_mayFail 21 = .ok (.getfield 100, 3) := dk_180 0 100 (dk_at dksX3_mayFail_0 21 rfl rfl)
theorem dX3_mayFail_24 : decode cX3_mayFail 24 = .ok (.iload_n 3, 1) := dk_29 (dk_at dksX3_mayFail_1 0 rfl rfl)
theorem dX3_mayFail_25 : decode cX3_mayFail 25 = .ok (.iload 4, 2) := dk_21 4 (dk_at dksX3_mayFail_1 1 rfl rfl)
theorem dX3_mayFail_27 : decode cX3_mayFail 27 = .ok (.iastore, 1) := dk_79 (dk_at dksX3_mayFail_1 3 rfl rfl)
theorem dX3_mayFail_28 : decode cX3_mayFail 28 = .ok (.aload_n 0, 1) := dk_42 (dk_at dksX3_mayFail_1 4 rfl rfl)
theorem dX3_mayFail_29 : decode cX3_mayFail 29 = .ok (.getfield 100, 3) := dk_180 0 100 (dk_at dksX3_mayFail_1 5 rfl rfl)
theorem dX3_mayFail_32 : decode cX3_mayFail 32 = .ok (.iconst 0, 1) := dk_3 (dk_at dksX3_mayFail_1 8 rfl rfl)
theorem dX3_mayFail_33 : decode cX3_mayFail 33 = .ok (.aload_n 0, 1) := dk_42 (dk_at dksX3_mayFail_1 9 rfl rfl)
theorem dX3_mayFail_34 : decode cX3_mayFail 34 = .ok (.getfield 91, 3) := dk_180 0 91 (dk_at dksX3_mayFail_1 10 rfl rfl)
theorem dX3_mayFail_37 : decode cX3_mayFail 37 = .ok (.bipush 108, 2) := dk_16 108 (dk_at dksX3_mayFail_1 13 rfl rfl)
theorem dX3_mayFail_39 : decode cX3_mayFail 39 = .ok (.iload_n 1, 1) := dk_27 (dk_at dksX3_mayFail_1 15 rfl rfl)
theorem dX3_mayFail_40 : decode cX3_mayFail 40 = .ok (.imul, 1) := dk_104 (dk_at dksX3_mayFail_1 16 rfl rfl)
theorem dX3_mayFail_41 : decode cX3_mayFail 41 = .ok (.bipush 12, 2) := dk_16 12 (dk_at dksX3_mayFail_1 17 rfl rfl)
theorem dX3_mayFail_43 : decode cX3_mayFail 43 = .ok (.iload_n 2, 1) := dk_28 (dk_at dksX3_mayFail_1 19 rfl rfl)
theorem dX3_mayFail_44 : decode cX3_mayFail 44 = .ok (.imul, 1) := dk_104 (dk_at dksX3_mayFail_1 20 rfl rfl)
theorem dX3_mayFail_45 : decode cX3_mayFail 45 = .ok (.iadd, 1) := dk_96 (dk_at dksX3_mayFail_1 21 rfl rfl)
theorem dX3_mayFail_46 : decode cX3_mayFail 46 = .ok (.invokestatic 275, 3) := dk_184 1 19 (dk_at dksX3_mayFail_2 0 rfl rfl)
theorem dX3_mayFail_49 : decode cX3_mayFail 49 = .ok (.iload_n 3, 1) := dk_29 (dk_at dksX3_mayFail_2 3 rfl rfl)
theorem dX3_mayFail_50 : decode cX3_mayFail 50 = .ok (.ifCond .lt 11, 3) := dk_155 0 11 (dk_at dksX3_mayFail_2 4 rfl rfl)
theorem dX3_mayFail_53 : decode cX3_mayFail 53 = .ok (.aload_n 0, 1) := dk_42 (dk_at dksX3_mayFail_2 7 rfl rfl)
theorem dX3_mayFail_54 : decode cX3_mayFail 54 = .ok (.getfield 100, 3) := dk_180 0 100 (dk_at dksX3_mayFail_2 8 rfl rfl)
theorem dX3_mayFail_57 : decode cX3_mayFail 57 = .ok (.iload_n 3, 1) := dk_29 (dk_at dksX3_mayFail_2 11 rfl rfl)
theorem dX3_mayFail_58 : decode cX3_mayFail 58 = .ok (.iload 5, 2) := dk_21 5 (dk_at dksX3_mayFail_2 12 rfl rfl)
theorem dX3_mayFail_60 : decode cX3_mayFail 60 = .ok (.iastore, 1) := dk_79 (dk_at dksX3_mayFail_2 14 rfl rfl)
theorem dX3_mayFail_61 : decode cX3_mayFail 61 = .ok (.return_, 1) := dk_177 (dk_at dksX3_mayFail_2 15 rfl rfl)
abbrev cX3_mayAs : ByteArray := prog_15_method_58_code
def yX3_mayAs : MethodName := ⟨RX3, "mayAs", "(III)Z"⟩
def dkwX3_mayAs_2 : List UInt8 := [180, 0, 100, 28, 46, 153, 0, 7, 4, 167, 0, 4, 3, 172]
abbrev dktX3_mayAs_2 : List UInt8 := dkwX3_mayAs_2 ++ []
def dkwX3_mayAs_1 : List UInt8 := [27, 5, 28, 21, 4, 182, 1, 23, 42, 180, 0, 100, 28, 92, 46, 29, 184, 0, 107, 4, 128, 126, 79, 42]
abbrev dktX3_mayAs_1 : List UInt8 := dkwX3_mayAs_1 ++ dktX3_mayAs_2
def dkwX3_mayAs_0 : List UInt8 := [42, 180, 0, 100, 28, 46, 29, 184, 0, 107, 2, 130, 126, 16, 254, 126, 54, 4, 21, 4, 153, 0, 12, 42]
abbrev dktX3_mayAs_0 : List UInt8 := dkwX3_mayAs_0 ++ dktX3_mayAs_1
theorem dksX3_mayAs_0 : cX3_mayAs.data.toList.drop 0 = dktX3_mayAs_0 := by decide +kernel
theorem dksX3_mayAs_1 : cX3_mayAs.data.toList.drop 24 = dktX3_mayAs_1 := dk_seg dksX3_mayAs_0 24 rfl rfl
theorem dksX3_mayAs_2 : cX3_mayAs.data.toList.drop 48 = dktX3_mayAs_2 := dk_seg dksX3_mayAs_1 24 rfl rfl
theorem dX3_mayAs_0 : decode cX3_mayAs 0 = .ok (.aload_n 0, 1) := dk_42 (dk_at dksX3_mayAs_0 0 rfl rfl)
theorem dX3_mayAs_1 : decode cX3_mayAs 1 = .ok (.getfield 100, 3) := dk_180 0 100 (dk_at dksX3_mayAs_0 1 rfl rfl)
theorem dX3_mayAs_4 : decode cX3_mayAs 4 = .ok (.iload_n 2, 1) := dk_28 (dk_at dksX3_mayAs_0 4 rfl rfl)
theorem dX3_mayAs_5 : decode cX3_mayAs 5 = .ok (.iaload, 1) := dk_46 (dk_at dksX3_mayAs_0 5 rfl rfl)
theorem dX3_mayAs_6 : decode cX3_mayAs 6 = .ok (.iload_n 3, 1) := dk_29 (dk_at dksX3_mayAs_0 6 rfl rfl)
theorem dX3_mayAs_7 : decode cX3_mayAs 7 = .ok (.invokestatic 107, 3) := dk_184 0 107 (dk_at dksX3_mayAs_0 7 rfl rfl)
theorem dX3_mayAs_10 : decode cX3_mayAs 10 = .ok (.iconst (-1), 1) := dk_2 (dk_at dksX3_mayAs_0 10 rfl rfl)
theorem dX3_mayAs_11 : decode cX3_mayAs 11 = .ok (.ixor, 1) := dk_130 (dk_at dksX3_mayAs_0 11 rfl rfl)
theorem dX3_mayAs_12 : decode cX3_mayAs 12 = .ok (.iand, 1) := dk_126 (dk_at dksX3_mayAs_0 12 rfl rfl)
theorem dX3_mayAs_13 : decode cX3_mayAs 13 = .ok (.bipush (-2), 2) := dk_16 254 (dk_at dksX3_mayAs_0 13 rfl rfl)
theorem dX3_mayAs_15 : decode cX3_mayAs 15 = .ok (.iand, 1) := dk_126 (dk_at dksX3_mayAs_0 15 rfl rfl)
theorem dX3_mayAs_16 : decode cX3_mayAs 16 = .ok (.istore 4, 2) := dk_54 4 (dk_at dksX3_mayAs_0 16 rfl rfl)
theorem dX3_mayAs_18 : decode cX3_mayAs 18 = .ok (.iload 4, 2) := dk_21 4 (dk_at dksX3_mayAs_0 18 rfl rfl)
theorem dX3_mayAs_20 : decode cX3_mayAs 20 = .ok (.ifCond .eq 12, 3) := dk_153 0 12 (dk_at dksX3_mayAs_0 20 rfl rfl)
theorem dX3_mayAs_23 : decode cX3_mayAs 23 = .ok (.aload_n 0, 1) := dk_42 (dk_at dksX3_mayAs_0 23 rfl rfl)
theorem dX3_mayAs_24 : decode cX3_mayAs 24 = .ok (.iload_n 1, 1) := dk_27 (dk_at dksX3_mayAs_1 0 rfl rfl)
theorem dX3_mayAs_25 : decode cX3_mayAs 25 = .ok (.iconst 2, 1) := dk_5 (dk_at dksX3_mayAs_1 1 rfl rfl)
theorem dX3_mayAs_26 : decode cX3_mayAs 26 = .ok (.iload_n 2, 1) := dk_28 (dk_at dksX3_mayAs_1 2 rfl rfl)
theorem dX3_mayAs_27 : decode cX3_mayAs 27 = .ok (.iload 4, 2) := dk_21 4 (dk_at dksX3_mayAs_1 3 rfl rfl)
theorem dX3_mayAs_29 : decode cX3_mayAs 29 = .ok (.invokevirtual 279, 3) := dk_182 1 23 (dk_at dksX3_mayAs_1 5 rfl rfl)
theorem dX3_mayAs_32 : decode cX3_mayAs 32 = .ok (.aload_n 0, 1) := dk_42 (dk_at dksX3_mayAs_1 8 rfl rfl)
theorem dX3_mayAs_33 : decode cX3_mayAs 33 = .ok (.getfield 100, 3) := dk_180 0 100 (dk_at dksX3_mayAs_1 9 rfl rfl)
theorem dX3_mayAs_36 : decode cX3_mayAs 36 = .ok (.iload_n 2, 1) := dk_28 (dk_at dksX3_mayAs_1 12 rfl rfl)
theorem dX3_mayAs_37 : decode cX3_mayAs 37 = .ok (.dup2, 1) := dk_92 (dk_at dksX3_mayAs_1 13 rfl rfl)
theorem dX3_mayAs_38 : decode cX3_mayAs 38 = .ok (.iaload, 1) := dk_46 (dk_at dksX3_mayAs_1 14 rfl rfl)
theorem dX3_mayAs_39 : decode cX3_mayAs 39 = .ok (.iload_n 3, 1) := dk_29 (dk_at dksX3_mayAs_1 15 rfl rfl)
theorem dX3_mayAs_40 : decode cX3_mayAs 40 = .ok (.invokestatic 107, 3) := dk_184 0 107 (dk_at dksX3_mayAs_1 16 rfl rfl)
theorem dX3_mayAs_43 : decode cX3_mayAs 43 = .ok (.iconst 1, 1) := dk_4 (dk_at dksX3_mayAs_1 19 rfl rfl)
theorem dX3_mayAs_44 : decode cX3_mayAs 44 = .ok (.ior, 1) := dk_128 (dk_at dksX3_mayAs_1 20 rfl rfl)
theorem dX3_mayAs_45 : decode cX3_mayAs 45 = .ok (.iand, 1) := dk_126 (dk_at dksX3_mayAs_1 21 rfl rfl)
theorem dX3_mayAs_46 : decode cX3_mayAs 46 = .ok (.iastore, 1) := dk_79 (dk_at dksX3_mayAs_1 22 rfl rfl)
theorem dX3_mayAs_47 : decode cX3_mayAs 47 = .ok (.aload_n 0, 1) := dk_42 (dk_at dksX3_mayAs_1 23 rfl rfl)
theorem dX3_mayAs_48 : decode cX3_mayAs 48 = .ok (.getfield 100, 3) := dk_180 0 100 (dk_at dksX3_mayAs_2 0 rfl rfl)
theorem dX3_mayAs_51 : decode cX3_mayAs 51 = .ok (.iload_n 2, 1) := dk_28 (dk_at dksX3_mayAs_2 3 rfl rfl)
theorem dX3_mayAs_52 : decode cX3_mayAs 52 = .ok (.iaload, 1) := dk_46 (dk_at dksX3_mayAs_2 4 rfl rfl)
theorem dX3_mayAs_53 : decode cX3_mayAs 53 = .ok (.ifCond .eq 7, 3) := dk_153 0 7 (dk_at dksX3_mayAs_2 5 rfl rfl)
theorem dX3_mayAs_56 : decode cX3_mayAs 56 = .ok (.iconst 1, 1) := dk_4 (dk_at dksX3_mayAs_2 8 rfl rfl)
theorem dX3_mayAs_57 : decode cX3_mayAs 57 = .ok (.goto 4, 3) := dk_167 0 4 (dk_at dksX3_mayAs_2 9 rfl rfl)
theorem dX3_mayAs_60 : decode cX3_mayAs 60 = .ok (.iconst 0, 1) := dk_3 (dk_at dksX3_mayAs_2 12 rfl rfl)
theorem dX3_mayAs_61 : decode cX3_mayAs 61 = .ok (.ireturn, 1) := dk_172 (dk_at dksX3_mayAs_2 13 rfl rfl)
abbrev cX3_mayItem : ByteArray := prog_15_method_60_code
def yX3_mayItem : MethodName := ⟨RX3, "mayItem", "(III)Z"⟩
def dkwX3_mayItem_1 : List UInt8 := [54, 4, 21, 4, 153, 0, 11, 42, 27, 6, 2, 3, 182, 1, 23, 21, 4, 172]
abbrev dktX3_mayItem_1 : List UInt8 := dkwX3_mayItem_1 ++ []
def dkwX3_mayItem_0 : List UInt8 := [42, 27, 28, 29, 182, 1, 27, 153, 0, 16, 42, 27, 28, 182, 1, 30, 153, 0, 7, 4, 167, 0, 4, 3]
abbrev dktX3_mayItem_0 : List UInt8 := dkwX3_mayItem_0 ++ dktX3_mayItem_1
theorem dksX3_mayItem_0 : cX3_mayItem.data.toList.drop 0 = dktX3_mayItem_0 := by decide +kernel
theorem dksX3_mayItem_1 : cX3_mayItem.data.toList.drop 24 = dktX3_mayItem_1 := dk_seg dksX3_mayItem_0 24 rfl rfl
theorem dX3_mayItem_0 : decode cX3_mayItem 0 = .ok (.aload_n 0, 1) := dk_42 (dk_at dksX3_mayItem_0 0 rfl rfl)
theorem dX3_mayItem_1 : decode cX3_mayItem 1 = .ok (.iload_n 1, 1) := dk_27 (dk_at dksX3_mayItem_0 1 rfl rfl)
theorem dX3_mayItem_2 : decode cX3_mayItem 2 = .ok (.iload_n 2, 1) := dk_28 (dk_at dksX3_mayItem_0 2 rfl rfl)
theorem dX3_mayItem_3 : decode cX3_mayItem 3 = .ok (.iload_n 3, 1) := dk_29 (dk_at dksX3_mayItem_0 3 rfl rfl)
theorem dX3_mayItem_4 : decode cX3_mayItem 4 = .ok (.invokevirtual 283, 3) := dk_182 1 27 (dk_at dksX3_mayItem_0 4 rfl rfl)
theorem dX3_mayItem_7 : decode cX3_mayItem 7 = .ok (.ifCond .eq 16, 3) := dk_153 0 16 (dk_at dksX3_mayItem_0 7 rfl rfl)
theorem dX3_mayItem_10 : decode cX3_mayItem 10 = .ok (.aload_n 0, 1) := dk_42 (dk_at dksX3_mayItem_0 10 rfl rfl)
theorem dX3_mayItem_11 : decode cX3_mayItem 11 = .ok (.iload_n 1, 1) := dk_27 (dk_at dksX3_mayItem_0 11 rfl rfl)
theorem dX3_mayItem_12 : decode cX3_mayItem 12 = .ok (.iload_n 2, 1) := dk_28 (dk_at dksX3_mayItem_0 12 rfl rfl)
theorem dX3_mayItem_13 : decode cX3_mayItem 13 = .ok (.invokevirtual 286, 3) := dk_182 1 30 (dk_at dksX3_mayItem_0 13 rfl rfl)
theorem dX3_mayItem_16 : decode cX3_mayItem 16 = .ok (.ifCond .eq 7, 3) := dk_153 0 7 (dk_at dksX3_mayItem_0 16 rfl rfl)
theorem dX3_mayItem_19 : decode cX3_mayItem 19 = .ok (.iconst 1, 1) := dk_4 (dk_at dksX3_mayItem_0 19 rfl rfl)
theorem dX3_mayItem_20 : decode cX3_mayItem 20 = .ok (.goto 4, 3) := dk_167 0 4 (dk_at dksX3_mayItem_0 20 rfl rfl)
theorem dX3_mayItem_23 : decode cX3_mayItem 23 = .ok (.iconst 0, 1) := dk_3 (dk_at dksX3_mayItem_0 23 rfl rfl)
theorem dX3_mayItem_24 : decode cX3_mayItem 24 = .ok (.istore 4, 2) := dk_54 4 (dk_at dksX3_mayItem_1 0 rfl rfl)
theorem dX3_mayItem_26 : decode cX3_mayItem 26 = .ok (.iload 4, 2) := dk_21 4 (dk_at dksX3_mayItem_1 2 rfl rfl)
theorem dX3_mayItem_28 : decode cX3_mayItem 28 = .ok (.ifCond .eq 11, 3) := dk_153 0 11 (dk_at dksX3_mayItem_1 4 rfl rfl)
theorem dX3_mayItem_31 : decode cX3_mayItem 31 = .ok (.aload_n 0, 1) := dk_42 (dk_at dksX3_mayItem_1 7 rfl rfl)
theorem dX3_mayItem_32 : decode cX3_mayItem 32 = .ok (.iload_n 1, 1) := dk_27 (dk_at dksX3_mayItem_1 8 rfl rfl)
theorem dX3_mayItem_33 : decode cX3_mayItem 33 = .ok (.iconst 3, 1) := dk_6 (dk_at dksX3_mayItem_1 9 rfl rfl)
theorem dX3_mayItem_34 : decode cX3_mayItem 34 = .ok (.iconst (-1), 1) := dk_2 (dk_at dksX3_mayItem_1 10 rfl rfl)
theorem dX3_mayItem_35 : decode cX3_mayItem 35 = .ok (.iconst 0, 1) := dk_3 (dk_at dksX3_mayItem_1 11 rfl rfl)
theorem dX3_mayItem_36 : decode cX3_mayItem 36 = .ok (.invokevirtual 279, 3) := dk_182 1 23 (dk_at dksX3_mayItem_1 12 rfl rfl)
theorem dX3_mayItem_39 : decode cX3_mayItem 39 = .ok (.iload 4, 2) := dk_21 4 (dk_at dksX3_mayItem_1 15 rfl rfl)
theorem dX3_mayItem_41 : decode cX3_mayItem 41 = .ok (.ireturn, 1) := dk_172 (dk_at dksX3_mayItem_1 17 rfl rfl)
abbrev cX3_mayRow : ByteArray := prog_15_method_59_code
def yX3_mayRow : MethodName := ⟨RX3, "mayRow", "(II)Z"⟩
def dkwX3_mayRow_1 : List UInt8 := [28, 92, 46, 16, 254, 126, 79, 42, 180, 0, 100, 28, 46, 153, 0, 7, 4, 167, 0, 4, 3, 172]
abbrev dktX3_mayRow_1 : List UInt8 := dkwX3_mayRow_1 ++ []
def dkwX3_mayRow_0 : List UInt8 := [42, 180, 0, 100, 28, 46, 4, 126, 4, 160, 0, 11, 42, 27, 4, 28, 4, 182, 1, 23, 42, 180, 0, 100]
abbrev dktX3_mayRow_0 : List UInt8 := dkwX3_mayRow_0 ++ dktX3_mayRow_1
theorem dksX3_mayRow_0 : cX3_mayRow.data.toList.drop 0 = dktX3_mayRow_0 := by decide +kernel
theorem dksX3_mayRow_1 : cX3_mayRow.data.toList.drop 24 = dktX3_mayRow_1 := dk_seg dksX3_mayRow_0 24 rfl rfl
theorem dX3_mayRow_0 : decode cX3_mayRow 0 = .ok (.aload_n 0, 1) := dk_42 (dk_at dksX3_mayRow_0 0 rfl rfl)
theorem dX3_mayRow_1 : decode cX3_mayRow 1 = .ok (.getfield 100, 3) := dk_180 0 100 (dk_at dksX3_mayRow_0 1 rfl rfl)
theorem dX3_mayRow_4 : decode cX3_mayRow 4 = .ok (.iload_n 2, 1) := dk_28 (dk_at dksX3_mayRow_0 4 rfl rfl)
theorem dX3_mayRow_5 : decode cX3_mayRow 5 = .ok (.iaload, 1) := dk_46 (dk_at dksX3_mayRow_0 5 rfl rfl)
theorem dX3_mayRow_6 : decode cX3_mayRow 6 = .ok (.iconst 1, 1) := dk_4 (dk_at dksX3_mayRow_0 6 rfl rfl)
theorem dX3_mayRow_7 : decode cX3_mayRow 7 = .ok (.iand, 1) := dk_126 (dk_at dksX3_mayRow_0 7 rfl rfl)
theorem dX3_mayRow_8 : decode cX3_mayRow 8 = .ok (.iconst 1, 1) := dk_4 (dk_at dksX3_mayRow_0 8 rfl rfl)
theorem dX3_mayRow_9 : decode cX3_mayRow 9 = .ok (.if_icmp .ne 11, 3) := dk_160 0 11 (dk_at dksX3_mayRow_0 9 rfl rfl)
theorem dX3_mayRow_12 : decode cX3_mayRow 12 = .ok (.aload_n 0, 1) := dk_42 (dk_at dksX3_mayRow_0 12 rfl rfl)
theorem dX3_mayRow_13 : decode cX3_mayRow 13 = .ok (.iload_n 1, 1) := dk_27 (dk_at dksX3_mayRow_0 13 rfl rfl)
theorem dX3_mayRow_14 : decode cX3_mayRow 14 = .ok (.iconst 1, 1) := dk_4 (dk_at dksX3_mayRow_0 14 rfl rfl)
theorem dX3_mayRow_15 : decode cX3_mayRow 15 = .ok (.iload_n 2, 1) := dk_28 (dk_at dksX3_mayRow_0 15 rfl rfl)
theorem dX3_mayRow_16 : decode cX3_mayRow 16 = .ok (.iconst 1, 1) := dk_4 (dk_at dksX3_mayRow_0 16 rfl rfl)
theorem dX3_mayRow_17 : decode cX3_mayRow 17 = .ok (.invokevirtual 279, 3) := dk_182 1 23 (dk_at dksX3_mayRow_0 17 rfl rfl)
theorem dX3_mayRow_20 : decode cX3_mayRow 20 = .ok (.aload_n 0, 1) := dk_42 (dk_at dksX3_mayRow_0 20 rfl rfl)
theorem dX3_mayRow_21 : decode cX3_mayRow 21 = .ok (.getfield 100, 3) := dk_180 0 100 (dk_at dksX3_mayRow_0 21 rfl rfl)
theorem dX3_mayRow_24 : decode cX3_mayRow 24 = .ok (.iload_n 2, 1) := dk_28 (dk_at dksX3_mayRow_1 0 rfl rfl)
theorem dX3_mayRow_25 : decode cX3_mayRow 25 = .ok (.dup2, 1) := dk_92 (dk_at dksX3_mayRow_1 1 rfl rfl)
theorem dX3_mayRow_26 : decode cX3_mayRow 26 = .ok (.iaload, 1) := dk_46 (dk_at dksX3_mayRow_1 2 rfl rfl)
theorem dX3_mayRow_27 : decode cX3_mayRow 27 = .ok (.bipush (-2), 2) := dk_16 254 (dk_at dksX3_mayRow_1 3 rfl rfl)
theorem dX3_mayRow_29 : decode cX3_mayRow 29 = .ok (.iand, 1) := dk_126 (dk_at dksX3_mayRow_1 5 rfl rfl)
theorem dX3_mayRow_30 : decode cX3_mayRow 30 = .ok (.iastore, 1) := dk_79 (dk_at dksX3_mayRow_1 6 rfl rfl)
theorem dX3_mayRow_31 : decode cX3_mayRow 31 = .ok (.aload_n 0, 1) := dk_42 (dk_at dksX3_mayRow_1 7 rfl rfl)
theorem dX3_mayRow_32 : decode cX3_mayRow 32 = .ok (.getfield 100, 3) := dk_180 0 100 (dk_at dksX3_mayRow_1 8 rfl rfl)
theorem dX3_mayRow_35 : decode cX3_mayRow 35 = .ok (.iload_n 2, 1) := dk_28 (dk_at dksX3_mayRow_1 11 rfl rfl)
theorem dX3_mayRow_36 : decode cX3_mayRow 36 = .ok (.iaload, 1) := dk_46 (dk_at dksX3_mayRow_1 12 rfl rfl)
theorem dX3_mayRow_37 : decode cX3_mayRow 37 = .ok (.ifCond .eq 7, 3) := dk_153 0 7 (dk_at dksX3_mayRow_1 13 rfl rfl)
theorem dX3_mayRow_40 : decode cX3_mayRow 40 = .ok (.iconst 1, 1) := dk_4 (dk_at dksX3_mayRow_1 16 rfl rfl)
theorem dX3_mayRow_41 : decode cX3_mayRow 41 = .ok (.goto 4, 3) := dk_167 0 4 (dk_at dksX3_mayRow_1 17 rfl rfl)
theorem dX3_mayRow_44 : decode cX3_mayRow 44 = .ok (.iconst 0, 1) := dk_3 (dk_at dksX3_mayRow_1 20 rfl rfl)
theorem dX3_mayRow_45 : decode cX3_mayRow 45 = .ok (.ireturn, 1) := dk_172 (dk_at dksX3_mayRow_1 21 rfl rfl)
abbrev cX3_mayTake : ByteArray := prog_15_method_65_code
def yX3_mayTake : MethodName := ⟨RX3, "mayTake", "(IIII)Z"⟩
def dkwX3_mayTake_2 : List UInt8 := [160, 0, 7, 6, 167, 0, 9, 17, 2, 1, 21, 6, 128, 79, 21, 5, 172]
abbrev dktX3_mayTake_2 : List UInt8 := dkwX3_mayTake_2 ++ []
def dkwX3_mayTake_1 : List UInt8 := [4, 126, 4, 160, 0, 9, 17, 1, 0, 167, 0, 4, 3, 54, 6, 42, 180, 0, 100, 28, 21, 4, 8]
abbrev dktX3_mayTake_1 : List UInt8 := dkwX3_mayTake_1 ++ dktX3_mayTake_2
def dkwX3_mayTake_0 : List UInt8 := [42, 27, 29, 21, 4, 182, 1, 36, 54, 5, 21, 5, 153, 0, 49, 42, 180, 0, 100, 29, 46, 16, 6, 122]
abbrev dktX3_mayTake_0 : List UInt8 := dkwX3_mayTake_0 ++ dktX3_mayTake_1
theorem dksX3_mayTake_0 : cX3_mayTake.data.toList.drop 0 = dktX3_mayTake_0 := by decide +kernel
theorem dksX3_mayTake_1 : cX3_mayTake.data.toList.drop 24 = dktX3_mayTake_1 := dk_seg dksX3_mayTake_0 24 rfl rfl
theorem dksX3_mayTake_2 : cX3_mayTake.data.toList.drop 47 = dktX3_mayTake_2 := dk_seg dksX3_mayTake_1 23 rfl rfl
theorem dX3_mayTake_0 : decode cX3_mayTake 0 = .ok (.aload_n 0, 1) := dk_42 (dk_at dksX3_mayTake_0 0 rfl rfl)
theorem dX3_mayTake_1 : decode cX3_mayTake 1 = .ok (.iload_n 1, 1) := dk_27 (dk_at dksX3_mayTake_0 1 rfl rfl)
theorem dX3_mayTake_2 : decode cX3_mayTake 2 = .ok (.iload_n 3, 1) := dk_29 (dk_at dksX3_mayTake_0 2 rfl rfl)
theorem dX3_mayTake_3 : decode cX3_mayTake 3 = .ok (.iload 4, 2) := dk_21 4 (dk_at dksX3_mayTake_0 3 rfl rfl)
theorem dX3_mayTake_5 : decode cX3_mayTake 5 = .ok (.invokevirtual 292, 3) := dk_182 1 36 (dk_at dksX3_mayTake_0 5 rfl rfl)
theorem dX3_mayTake_8 : decode cX3_mayTake 8 = .ok (.istore 5, 2) := dk_54 5 (dk_at dksX3_mayTake_0 8 rfl rfl)
theorem dX3_mayTake_10 : decode cX3_mayTake 10 = .ok (.iload 5, 2) := dk_21 5 (dk_at dksX3_mayTake_0 10 rfl rfl)
theorem dX3_mayTake_12 : decode cX3_mayTake 12 = .ok (.ifCond .eq 49, 3) := dk_153 0 49 (dk_at dksX3_mayTake_0 12 rfl rfl)
theorem dX3_mayTake_15 : decode cX3_mayTake 15 = .ok (.aload_n 0, 1) := dk_42 (dk_at dksX3_mayTake_0 15 rfl rfl)
theorem dX3_mayTake_16 : decode cX3_mayTake 16 = .ok (.getfield 100, 3) := dk_180 0 100 (dk_at dksX3_mayTake_0 16 rfl rfl)
theorem dX3_mayTake_19 : decode cX3_mayTake 19 = .ok (.iload_n 3, 1) := dk_29 (dk_at dksX3_mayTake_0 19 rfl rfl)
theorem dX3_mayTake_20 : decode cX3_mayTake 20 = .ok (.iaload, 1) := dk_46 (dk_at dksX3_mayTake_0 20 rfl rfl)
theorem dX3_mayTake_21 : decode cX3_mayTake 21 = .ok (.bipush 6, 2) := dk_16 6 (dk_at dksX3_mayTake_0 21 rfl rfl)
theorem dX3_mayTake_23 : decode cX3_mayTake 23 = .ok (.ishr, 1) := dk_122 (dk_at dksX3_mayTake_0 23 rfl rfl)
theorem dX3_mayTake_24 : decode cX3_mayTake 24 = .ok (.iconst 1, 1) := dk_4 (dk_at dksX3_mayTake_1 0 rfl rfl)
theorem dX3_mayTake_25 : decode cX3_mayTake 25 = .ok (.iand, 1) := dk_126 (dk_at dksX3_mayTake_1 1 rfl rfl)
theorem dX3_mayTake_26 : decode cX3_mayTake 26 = .ok (.iconst 1, 1) := dk_4 (dk_at dksX3_mayTake_1 2 rfl rfl)
theorem dX3_mayTake_27 : decode cX3_mayTake 27 = .ok (.if_icmp .ne 9, 3) := dk_160 0 9 (dk_at dksX3_mayTake_1 3 rfl rfl)
theorem dX3_mayTake_30 : decode cX3_mayTake 30 = .ok (.sipush 256, 3) := dk_17 1 0 (dk_at dksX3_mayTake_1 6 rfl rfl)
theorem dX3_mayTake_33 : decode cX3_mayTake 33 = .ok (.goto 4, 3) := dk_167 0 4 (dk_at dksX3_mayTake_1 9 rfl rfl)
theorem dX3_mayTake_36 : decode cX3_mayTake 36 = .ok (.iconst 0, 1) := dk_3 (dk_at dksX3_mayTake_1 12 rfl rfl)
theorem dX3_mayTake_37 : decode cX3_mayTake 37 = .ok (.istore 6, 2) := dk_54 6 (dk_at dksX3_mayTake_1 13 rfl rfl)
theorem dX3_mayTake_39 : decode cX3_mayTake 39 = .ok (.aload_n 0, 1) := dk_42 (dk_at dksX3_mayTake_1 15 rfl rfl)
theorem dX3_mayTake_40 : decode cX3_mayTake 40 = .ok (.getfield 100, 3) := dk_180 0 100 (dk_at dksX3_mayTake_1 16 rfl rfl)
theorem dX3_mayTake_43 : decode cX3_mayTake 43 = .ok (.iload_n 2, 1) := dk_28 (dk_at dksX3_mayTake_1 19 rfl rfl)
theorem dX3_mayTake_44 : decode cX3_mayTake 44 = .ok (.iload 4, 2) := dk_21 4 (dk_at dksX3_mayTake_1 20 rfl rfl)
theorem dX3_mayTake_46 : decode cX3_mayTake 46 = .ok (.iconst 5, 1) := dk_8 (dk_at dksX3_mayTake_1 22 rfl rfl)
theorem dX3_mayTake_47 : decode cX3_mayTake 47 = .ok (.if_icmp .ne 7, 3) := dk_160 0 7 (dk_at dksX3_mayTake_2 0 rfl rfl)
theorem dX3_mayTake_50 : decode cX3_mayTake 50 = .ok (.iconst 3, 1) := dk_6 (dk_at dksX3_mayTake_2 3 rfl rfl)
theorem dX3_mayTake_51 : decode cX3_mayTake 51 = .ok (.goto 9, 3) := dk_167 0 9 (dk_at dksX3_mayTake_2 4 rfl rfl)
theorem dX3_mayTake_54 : decode cX3_mayTake 54 = .ok (.sipush 513, 3) := dk_17 2 1 (dk_at dksX3_mayTake_2 7 rfl rfl)
theorem dX3_mayTake_57 : decode cX3_mayTake 57 = .ok (.iload 6, 2) := dk_21 6 (dk_at dksX3_mayTake_2 10 rfl rfl)
theorem dX3_mayTake_59 : decode cX3_mayTake 59 = .ok (.ior, 1) := dk_128 (dk_at dksX3_mayTake_2 12 rfl rfl)
theorem dX3_mayTake_60 : decode cX3_mayTake 60 = .ok (.iastore, 1) := dk_79 (dk_at dksX3_mayTake_2 13 rfl rfl)
theorem dX3_mayTake_61 : decode cX3_mayTake 61 = .ok (.iload 5, 2) := dk_21 5 (dk_at dksX3_mayTake_2 14 rfl rfl)
theorem dX3_mayTake_63 : decode cX3_mayTake 63 = .ok (.ireturn, 1) := dk_172 (dk_at dksX3_mayTake_2 16 rfl rfl)
abbrev cX3_mayLay : ByteArray := prog_15_method_62_code
def yX3_mayLay : MethodName := ⟨RX3, "mayLay", "(IIII)Z"⟩
def dkwX3_mayLay_8 : List UInt8 := [167, 0, 4, 3, 172]
abbrev dktX3_mayLay_8 : List UInt8 := dkwX3_mayLay_8 ++ []
def dkwX3_mayLay_7 : List UInt8 := [21, 4, 46, 79, 42, 180, 0, 100, 28, 46, 153, 0, 17, 42, 180, 0, 100, 21, 4, 46, 153, 0, 7, 4]
abbrev dktX3_mayLay_7 : List UInt8 := dkwX3_mayLay_7 ++ dktX3_mayLay_8
def dkwX3_mayLay_6 : List UInt8 := [21, 4, 21, 5, 17, 0, 128, 160, 0, 12, 21, 6, 17, 254, 255, 126, 167, 0, 10, 42, 180, 0, 100]
abbrev dktX3_mayLay_6 : List UInt8 := dkwX3_mayLay_6 ++ dktX3_mayLay_7
def dkwX3_mayLay_5 : List UInt8 := [160, 0, 12, 21, 5, 17, 255, 127, 126, 167, 0, 9, 42, 180, 0, 100, 28, 46, 79, 42, 180, 0, 100]
abbrev dktX3_mayLay_5 : List UInt8 := dkwX3_mayLay_5 ++ dktX3_mayLay_6
def dkwX3_mayLay_4 : List UInt8 := [4, 126, 4, 160, 0, 71, 42, 27, 8, 2, 3, 182, 1, 23, 42, 180, 0, 100, 28, 21, 6, 17, 1, 0]
abbrev dktX3_mayLay_4 : List UInt8 := dkwX3_mayLay_4 ++ dktX3_mayLay_5
def dkwX3_mayLay_3 : List UInt8 := [180, 0, 100, 21, 4, 46, 54, 6, 21, 5, 16, 7, 122, 4, 126, 4, 160, 0, 82, 21, 6, 16, 8, 122]
abbrev dktX3_mayLay_3 : List UInt8 := dkwX3_mayLay_3 ++ dktX3_mayLay_4
def dkwX3_mayLay_2 : List UInt8 := [154, 0, 5, 3, 172, 42, 27, 6, 2, 3, 182, 1, 23, 42, 180, 0, 100, 28, 46, 54, 5, 42]
abbrev dktX3_mayLay_2 : List UInt8 := dkwX3_mayLay_2 ++ dktX3_mayLay_3
def dkwX3_mayLay_1 : List UInt8 := [16, 6, 160, 0, 8, 16, 8, 167, 0, 5, 16, 9, 182, 1, 27, 153, 0, 12, 42, 27, 28, 182, 1, 30]
abbrev dktX3_mayLay_1 : List UInt8 := dkwX3_mayLay_1 ++ dktX3_mayLay_2
def dkwX3_mayLay_0 : List UInt8 := [42, 27, 28, 29, 182, 1, 27, 153, 0, 44, 42, 27, 21, 4, 29, 8, 160, 0, 7, 4, 167, 0, 16, 29]
abbrev dktX3_mayLay_0 : List UInt8 := dkwX3_mayLay_0 ++ dktX3_mayLay_1
theorem dksX3_mayLay_0 : cX3_mayLay.data.toList.drop 0 = dktX3_mayLay_0 := by decide +kernel
theorem dksX3_mayLay_1 : cX3_mayLay.data.toList.drop 24 = dktX3_mayLay_1 := dk_seg dksX3_mayLay_0 24 rfl rfl
theorem dksX3_mayLay_2 : cX3_mayLay.data.toList.drop 48 = dktX3_mayLay_2 := dk_seg dksX3_mayLay_1 24 rfl rfl
theorem dksX3_mayLay_3 : cX3_mayLay.data.toList.drop 70 = dktX3_mayLay_3 := dk_seg dksX3_mayLay_2 22 rfl rfl
theorem dksX3_mayLay_4 : cX3_mayLay.data.toList.drop 94 = dktX3_mayLay_4 := dk_seg dksX3_mayLay_3 24 rfl rfl
theorem dksX3_mayLay_5 : cX3_mayLay.data.toList.drop 118 = dktX3_mayLay_5 := dk_seg dksX3_mayLay_4 24 rfl rfl
theorem dksX3_mayLay_6 : cX3_mayLay.data.toList.drop 141 = dktX3_mayLay_6 := dk_seg dksX3_mayLay_5 23 rfl rfl
theorem dksX3_mayLay_7 : cX3_mayLay.data.toList.drop 164 = dktX3_mayLay_7 := dk_seg dksX3_mayLay_6 23 rfl rfl
theorem dksX3_mayLay_8 : cX3_mayLay.data.toList.drop 188 = dktX3_mayLay_8 := dk_seg dksX3_mayLay_7 24 rfl rfl
theorem dX3_mayLay_0 : decode cX3_mayLay 0 = .ok (.aload_n 0, 1) := dk_42 (dk_at dksX3_mayLay_0 0 rfl rfl)
theorem dX3_mayLay_1 : decode cX3_mayLay 1 = .ok (.iload_n 1, 1) := dk_27 (dk_at dksX3_mayLay_0 1 rfl rfl)
theorem dX3_mayLay_2 : decode cX3_mayLay 2 = .ok (.iload_n 2, 1) := dk_28 (dk_at dksX3_mayLay_0 2 rfl rfl)
theorem dX3_mayLay_3 : decode cX3_mayLay 3 = .ok (.iload_n 3, 1) := dk_29 (dk_at dksX3_mayLay_0 3 rfl rfl)
theorem dX3_mayLay_4 : decode cX3_mayLay 4 = .ok (.invokevirtual 283, 3) := dk_182 1 27 (dk_at dksX3_mayLay_0 4 rfl rfl)
theorem dX3_mayLay_7 : decode cX3_mayLay 7 = .ok (.ifCond .eq 44, 3) := dk_153 0 44 (dk_at dksX3_mayLay_0 7 rfl rfl)
theorem dX3_mayLay_10 : decode cX3_mayLay 10 = .ok (.aload_n 0, 1) := dk_42 (dk_at dksX3_mayLay_0 10 rfl rfl)
theorem dX3_mayLay_11 : decode cX3_mayLay 11 = .ok (.iload_n 1, 1) := dk_27 (dk_at dksX3_mayLay_0 11 rfl rfl)
theorem dX3_mayLay_12 : decode cX3_mayLay 12 = .ok (.iload 4, 2) := dk_21 4 (dk_at dksX3_mayLay_0 12 rfl rfl)
theorem dX3_mayLay_14 : decode cX3_mayLay 14 = .ok (.iload_n 3, 1) := dk_29 (dk_at dksX3_mayLay_0 14 rfl rfl)
theorem dX3_mayLay_15 : decode cX3_mayLay 15 = .ok (.iconst 5, 1) := dk_8 (dk_at dksX3_mayLay_0 15 rfl rfl)
theorem dX3_mayLay_16 : decode cX3_mayLay 16 = .ok (.if_icmp .ne 7, 3) := dk_160 0 7 (dk_at dksX3_mayLay_0 16 rfl rfl)
theorem dX3_mayLay_19 : decode cX3_mayLay 19 = .ok (.iconst 1, 1) := dk_4 (dk_at dksX3_mayLay_0 19 rfl rfl)
theorem dX3_mayLay_20 : decode cX3_mayLay 20 = .ok (.goto 16, 3) := dk_167 0 16 (dk_at dksX3_mayLay_0 20 rfl rfl)
theorem dX3_mayLay_23 : decode cX3_mayLay 23 = .ok (.iload_n 3, 1) := dk_29 (dk_at dksX3_mayLay_0 23 rfl rfl)
theorem dX3_mayLay_24 : decode cX3_mayLay 24 = .ok (.bipush 6, 2) := dk_16 6 (dk_at dksX3_mayLay_1 0 rfl rfl)
theorem dX3_mayLay_26 : decode cX3_mayLay 26 = .ok (.if_icmp .ne 8, 3) := dk_160 0 8 (dk_at dksX3_mayLay_1 2 rfl rfl)
theorem dX3_mayLay_29 : decode cX3_mayLay 29 = .ok (.bipush 8, 2) := dk_16 8 (dk_at dksX3_mayLay_1 5 rfl rfl)
theorem dX3_mayLay_31 : decode cX3_mayLay 31 = .ok (.goto 5, 3) := dk_167 0 5 (dk_at dksX3_mayLay_1 7 rfl rfl)
theorem dX3_mayLay_34 : decode cX3_mayLay 34 = .ok (.bipush 9, 2) := dk_16 9 (dk_at dksX3_mayLay_1 10 rfl rfl)
theorem dX3_mayLay_36 : decode cX3_mayLay 36 = .ok (.invokevirtual 283, 3) := dk_182 1 27 (dk_at dksX3_mayLay_1 12 rfl rfl)
theorem dX3_mayLay_39 : decode cX3_mayLay 39 = .ok (.ifCond .eq 12, 3) := dk_153 0 12 (dk_at dksX3_mayLay_1 15 rfl rfl)
theorem dX3_mayLay_42 : decode cX3_mayLay 42 = .ok (.aload_n 0, 1) := dk_42 (dk_at dksX3_mayLay_1 18 rfl rfl)
theorem dX3_mayLay_43 : decode cX3_mayLay 43 = .ok (.iload_n 1, 1) := dk_27 (dk_at dksX3_mayLay_1 19 rfl rfl)
theorem dX3_mayLay_44 : decode cX3_mayLay 44 = .ok (.iload_n 2, 1) := dk_28 (dk_at dksX3_mayLay_1 20 rfl rfl)
theorem dX3_mayLay_45 : decode cX3_mayLay 45 = .ok (.invokevirtual 286, 3) := dk_182 1 30 (dk_at dksX3_mayLay_1 21 rfl rfl)
theorem dX3_mayLay_48 : decode cX3_mayLay 48 = .ok (.ifCond .ne 5, 3) := dk_154 0 5 (dk_at dksX3_mayLay_2 0 rfl rfl)
theorem dX3_mayLay_51 : decode cX3_mayLay 51 = .ok (.iconst 0, 1) := dk_3 (dk_at dksX3_mayLay_2 3 rfl rfl)
theorem dX3_mayLay_52 : decode cX3_mayLay 52 = .ok (.ireturn, 1) := dk_172 (dk_at dksX3_mayLay_2 4 rfl rfl)
theorem dX3_mayLay_53 : decode cX3_mayLay 53 = .ok (.aload_n 0, 1) := dk_42 (dk_at dksX3_mayLay_2 5 rfl rfl)
theorem dX3_mayLay_54 : decode cX3_mayLay 54 = .ok (.iload_n 1, 1) := dk_27 (dk_at dksX3_mayLay_2 6 rfl rfl)
theorem dX3_mayLay_55 : decode cX3_mayLay 55 = .ok (.iconst 3, 1) := dk_6 (dk_at dksX3_mayLay_2 7 rfl rfl)
theorem dX3_mayLay_56 : decode cX3_mayLay 56 = .ok (.iconst (-1), 1) := dk_2 (dk_at dksX3_mayLay_2 8 rfl rfl)
theorem dX3_mayLay_57 : decode cX3_mayLay 57 = .ok (.iconst 0, 1) := dk_3 (dk_at dksX3_mayLay_2 9 rfl rfl)
theorem dX3_mayLay_58 : decode cX3_mayLay 58 = .ok (.invokevirtual 279, 3) := dk_182 1 23 (dk_at dksX3_mayLay_2 10 rfl rfl)
theorem dX3_mayLay_61 : decode cX3_mayLay 61 = .ok (.aload_n 0, 1) := dk_42 (dk_at dksX3_mayLay_2 13 rfl rfl)
theorem dX3_mayLay_62 : decode cX3_mayLay 62 = .ok (.getfield 100, 3) := dk_180 0 100 (dk_at dksX3_mayLay_2 14 rfl rfl)
theorem dX3_mayLay_65 : decode cX3_mayLay 65 = .ok (.iload_n 2, 1) := dk_28 (dk_at dksX3_mayLay_2 17 rfl rfl)
theorem dX3_mayLay_66 : decode cX3_mayLay 66 = .ok (.iaload, 1) := dk_46 (dk_at dksX3_mayLay_2 18 rfl rfl)
theorem dX3_mayLay_67 : decode cX3_mayLay 67 = .ok (.istore 5, 2) := dk_54 5 (dk_at dksX3_mayLay_2 19 rfl rfl)
theorem dX3_mayLay_69 : decode cX3_mayLay 69 = .ok (.aload_n 0, 1) := dk_42 (dk_at dksX3_mayLay_2 21 rfl rfl)
theorem dX3_mayLay_70 : decode cX3_mayLay 70 = .ok (.getfield 100, 3) := dk_180 0 100 (dk_at dksX3_mayLay_3 0 rfl rfl)
theorem dX3_mayLay_73 : decode cX3_mayLay 73 = .ok (.iload 4, 2) := dk_21 4 (dk_at dksX3_mayLay_3 3 rfl rfl)
theorem dX3_mayLay_75 : decode cX3_mayLay 75 = .ok (.iaload, 1) := dk_46 (dk_at dksX3_mayLay_3 5 rfl rfl)
theorem dX3_mayLay_76 : decode cX3_mayLay 76 = .ok (.istore 6, 2) := dk_54 6 (dk_at dksX3_mayLay_3 6 rfl rfl)
theorem dX3_mayLay_78 : decode cX3_mayLay 78 = .ok (.iload 5, 2) := dk_21 5 (dk_at dksX3_mayLay_3 8 rfl rfl)
theorem dX3_mayLay_80 : decode cX3_mayLay 80 = .ok (.bipush 7, 2) := dk_16 7 (dk_at dksX3_mayLay_3 10 rfl rfl)
theorem dX3_mayLay_82 : decode cX3_mayLay 82 = .ok (.ishr, 1) := dk_122 (dk_at dksX3_mayLay_3 12 rfl rfl)
theorem dX3_mayLay_83 : decode cX3_mayLay 83 = .ok (.iconst 1, 1) := dk_4 (dk_at dksX3_mayLay_3 13 rfl rfl)
theorem dX3_mayLay_84 : decode cX3_mayLay 84 = .ok (.iand, 1) := dk_126 (dk_at dksX3_mayLay_3 14 rfl rfl)
theorem dX3_mayLay_85 : decode cX3_mayLay 85 = .ok (.iconst 1, 1) := dk_4 (dk_at dksX3_mayLay_3 15 rfl rfl)
theorem dX3_mayLay_86 : decode cX3_mayLay 86 = .ok (.if_icmp .ne 82, 3) := dk_160 0 82 (dk_at dksX3_mayLay_3 16 rfl rfl)
theorem dX3_mayLay_89 : decode cX3_mayLay 89 = .ok (.iload 6, 2) := dk_21 6 (dk_at dksX3_mayLay_3 19 rfl rfl)
theorem dX3_mayLay_91 : decode cX3_mayLay 91 = .ok (.bipush 8, 2) := dk_16 8 (dk_at dksX3_mayLay_3 21 rfl rfl)
theorem dX3_mayLay_93 : decode cX3_mayLay 93 = .ok (.ishr, 1) := dk_122 (dk_at dksX3_mayLay_3 23 rfl rfl)
theorem dX3_mayLay_94 : decode cX3_mayLay 94 = .ok (.iconst 1, 1) := dk_4 (dk_at dksX3_mayLay_4 0 rfl rfl)
theorem dX3_mayLay_95 : decode cX3_mayLay 95 = .ok (.iand, 1) := dk_126 (dk_at dksX3_mayLay_4 1 rfl rfl)
theorem dX3_mayLay_96 : decode cX3_mayLay 96 = .ok (.iconst 1, 1) := dk_4 (dk_at dksX3_mayLay_4 2 rfl rfl)
theorem dX3_mayLay_97 : decode cX3_mayLay 97 = .ok (.if_icmp .ne 71, 3) := dk_160 0 71 (dk_at dksX3_mayLay_4 3 rfl rfl)
theorem dX3_mayLay_100 : decode cX3_mayLay 100 = .ok (.aload_n 0, 1) := dk_42 (dk_at dksX3_mayLay_4 6 rfl rfl)
theorem dX3_mayLay_101 : decode cX3_mayLay 101 = .ok (.iload_n 1, 1) := dk_27 (dk_at dksX3_mayLay_4 7 rfl rfl)
theorem dX3_mayLay_102 : decode cX3_mayLay 102 = .ok (.iconst 5, 1) := dk_8 (dk_at dksX3_mayLay_4 8 rfl rfl)
theorem dX3_mayLay_103 : decode cX3_mayLay 103 = .ok (.iconst (-1), 1) := dk_2 (dk_at dksX3_mayLay_4 9 rfl rfl)
theorem dX3_mayLay_104 : decode cX3_mayLay 104 = .ok (.iconst 0, 1) := dk_3 (dk_at dksX3_mayLay_4 10 rfl rfl)
theorem dX3_mayLay_105 : decode cX3_mayLay 105 = .ok (.invokevirtual 279, 3) := dk_182 1 23 (dk_at dksX3_mayLay_4 11 rfl rfl)
theorem dX3_mayLay_108 : decode cX3_mayLay 108 = .ok (.aload_n 0, 1) := dk_42 (dk_at dksX3_mayLay_4 14 rfl rfl)
theorem dX3_mayLay_109 : decode cX3_mayLay 109 = .ok (.getfield 100, 3) := dk_180 0 100 (dk_at dksX3_mayLay_4 15 rfl rfl)
theorem dX3_mayLay_112 : decode cX3_mayLay 112 = .ok (.iload_n 2, 1) := dk_28 (dk_at dksX3_mayLay_4 18 rfl rfl)
theorem dX3_mayLay_113 : decode cX3_mayLay 113 = .ok (.iload 6, 2) := dk_21 6 (dk_at dksX3_mayLay_4 19 rfl rfl)
theorem dX3_mayLay_115 : decode cX3_mayLay 115 = .ok (.sipush 256, 3) := dk_17 1 0 (dk_at dksX3_mayLay_4 21 rfl rfl)
theorem dX3_mayLay_118 : decode cX3_mayLay 118 = .ok (.if_icmp .ne 12, 3) := dk_160 0 12 (dk_at dksX3_mayLay_5 0 rfl rfl)
theorem dX3_mayLay_121 : decode cX3_mayLay 121 = .ok (.iload 5, 2) := dk_21 5 (dk_at dksX3_mayLay_5 3 rfl rfl)
theorem dX3_mayLay_123 : decode cX3_mayLay 123 = .ok (.sipush (-129), 3) := dk_17 255 127 (dk_at dksX3_mayLay_5 5 rfl rfl)
theorem dX3_mayLay_126 : decode cX3_mayLay 126 = .ok (.iand, 1) := dk_126 (dk_at dksX3_mayLay_5 8 rfl rfl)
theorem dX3_mayLay_127 : decode cX3_mayLay 127 = .ok (.goto 9, 3) := dk_167 0 9 (dk_at dksX3_mayLay_5 9 rfl rfl)
theorem dX3_mayLay_130 : decode cX3_mayLay 130 = .ok (.aload_n 0, 1) := dk_42 (dk_at dksX3_mayLay_5 12 rfl rfl)
theorem dX3_mayLay_131 : decode cX3_mayLay 131 = .ok (.getfield 100, 3) := dk_180 0 100 (dk_at dksX3_mayLay_5 13 rfl rfl)
theorem dX3_mayLay_134 : decode cX3_mayLay 134 = .ok (.iload_n 2, 1) := dk_28 (dk_at dksX3_mayLay_5 16 rfl rfl)
theorem dX3_mayLay_135 : decode cX3_mayLay 135 = .ok (.iaload, 1) := dk_46 (dk_at dksX3_mayLay_5 17 rfl rfl)
theorem dX3_mayLay_136 : decode cX3_mayLay 136 = .ok (.iastore, 1) := dk_79 (dk_at dksX3_mayLay_5 18 rfl rfl)
theorem dX3_mayLay_137 : decode cX3_mayLay 137 = .ok (.aload_n 0, 1) := dk_42 (dk_at dksX3_mayLay_5 19 rfl rfl)
theorem dX3_mayLay_138 : decode cX3_mayLay 138 = .ok (.getfield 100, 3) := dk_180 0 100 (dk_at dksX3_mayLay_5 20 rfl rfl)
theorem dX3_mayLay_141 : decode cX3_mayLay 141 = .ok (.iload 4, 2) := dk_21 4 (dk_at dksX3_mayLay_6 0 rfl rfl)
theorem dX3_mayLay_143 : decode cX3_mayLay 143 = .ok (.iload 5, 2) := dk_21 5 (dk_at dksX3_mayLay_6 2 rfl rfl)
theorem dX3_mayLay_145 : decode cX3_mayLay 145 = .ok (.sipush 128, 3) := dk_17 0 128 (dk_at dksX3_mayLay_6 4 rfl rfl)
theorem dX3_mayLay_148 : decode cX3_mayLay 148 = .ok (.if_icmp .ne 12, 3) := dk_160 0 12 (dk_at dksX3_mayLay_6 7 rfl rfl)
theorem dX3_mayLay_151 : decode cX3_mayLay 151 = .ok (.iload 6, 2) := dk_21 6 (dk_at dksX3_mayLay_6 10 rfl rfl)
theorem dX3_mayLay_153 : decode cX3_mayLay 153 = .ok (.sipush (-257), 3) := dk_17 254 255 (dk_at dksX3_mayLay_6 12 rfl rfl)
theorem dX3_mayLay_156 : decode cX3_mayLay 156 = .ok (.iand, 1) := dk_126 (dk_at dksX3_mayLay_6 15 rfl rfl)
theorem dX3_mayLay_157 : decode cX3_mayLay 157 = .ok (.goto 10, 3) := dk_167 0 10 (dk_at dksX3_mayLay_6 16 rfl rfl)
theorem dX3_mayLay_160 : decode cX3_mayLay 160 = .ok (.aload_n 0, 1) := dk_42 (dk_at dksX3_mayLay_6 19 rfl rfl)
theorem dX3_mayLay_161 : decode cX3_mayLay 161 = .ok (.getfield 100, 3) := dk_180 0 100 (dk_at dksX3_mayLay_6 20 rfl rfl)
theorem dX3_mayLay_164 : decode cX3_mayLay 164 = .ok (.iload 4, 2) := dk_21 4 (dk_at dksX3_mayLay_7 0 rfl rfl)
theorem dX3_mayLay_166 : decode cX3_mayLay 166 = .ok (.iaload, 1) := dk_46 (dk_at dksX3_mayLay_7 2 rfl rfl)
theorem dX3_mayLay_167 : decode cX3_mayLay 167 = .ok (.iastore, 1) := dk_79 (dk_at dksX3_mayLay_7 3 rfl rfl)
theorem dX3_mayLay_168 : decode cX3_mayLay 168 = .ok (.aload_n 0, 1) := dk_42 (dk_at dksX3_mayLay_7 4 rfl rfl)
theorem dX3_mayLay_169 : decode cX3_mayLay 169 = .ok (.getfield 100, 3) := dk_180 0 100 (dk_at dksX3_mayLay_7 5 rfl rfl)
theorem dX3_mayLay_172 : decode cX3_mayLay 172 = .ok (.iload_n 2, 1) := dk_28 (dk_at dksX3_mayLay_7 8 rfl rfl)
theorem dX3_mayLay_173 : decode cX3_mayLay 173 = .ok (.iaload, 1) := dk_46 (dk_at dksX3_mayLay_7 9 rfl rfl)
theorem dX3_mayLay_174 : decode cX3_mayLay 174 = .ok (.ifCond .eq 17, 3) := dk_153 0 17 (dk_at dksX3_mayLay_7 10 rfl rfl)
theorem dX3_mayLay_177 : decode cX3_mayLay 177 = .ok (.aload_n 0, 1) := dk_42 (dk_at dksX3_mayLay_7 13 rfl rfl)
theorem dX3_mayLay_178 : decode cX3_mayLay 178 = .ok (.getfield 100, 3) := dk_180 0 100 (dk_at dksX3_mayLay_7 14 rfl rfl)
theorem dX3_mayLay_181 : decode cX3_mayLay 181 = .ok (.iload 4, 2) := dk_21 4 (dk_at dksX3_mayLay_7 17 rfl rfl)
theorem dX3_mayLay_183 : decode cX3_mayLay 183 = .ok (.iaload, 1) := dk_46 (dk_at dksX3_mayLay_7 19 rfl rfl)
theorem dX3_mayLay_184 : decode cX3_mayLay 184 = .ok (.ifCond .eq 7, 3) := dk_153 0 7 (dk_at dksX3_mayLay_7 20 rfl rfl)
theorem dX3_mayLay_187 : decode cX3_mayLay 187 = .ok (.iconst 1, 1) := dk_4 (dk_at dksX3_mayLay_7 23 rfl rfl)
theorem dX3_mayLay_188 : decode cX3_mayLay 188 = .ok (.goto 4, 3) := dk_167 0 4 (dk_at dksX3_mayLay_8 0 rfl rfl)
theorem dX3_mayLay_191 : decode cX3_mayLay 191 = .ok (.iconst 0, 1) := dk_3 (dk_at dksX3_mayLay_8 3 rfl rfl)
theorem dX3_mayLay_192 : decode cX3_mayLay 192 = .ok (.ireturn, 1) := dk_172 (dk_at dksX3_mayLay_8 4 rfl rfl)
abbrev cX3_mayCopy : ByteArray := prog_15_method_64_code
def yX3_mayCopy : MethodName := ⟨RX3, "mayCopy", "(III)Z"⟩
def dkwX3_mayCopy_11 : List UInt8 := [182, 1, 23, 4, 172]
abbrev dktX3_mayCopy_11 : List UInt8 := dkwX3_mayCopy_11 ++ []
def dkwX3_mayCopy_10 : List UInt8 := [21, 5, 79, 42, 180, 0, 100, 29, 21, 6, 79, 21, 5, 154, 0, 5, 3, 172, 42, 27, 6, 2, 3]
abbrev dktX3_mayCopy_10 : List UInt8 := dkwX3_mayCopy_10 ++ dktX3_mayCopy_11
def dkwX3_mayCopy_9 : List UInt8 := [132, 7, 1, 167, 255, 124, 21, 4, 153, 0, 11, 42, 27, 8, 2, 3, 182, 1, 23, 42, 180, 0, 100, 28]
abbrev dktX3_mayCopy_9 : List UInt8 := dkwX3_mayCopy_9 ++ dktX3_mayCopy_10
def dkwX3_mayCopy_8 : List UInt8 := [184, 0, 174, 153, 0, 10, 4, 21, 8, 120, 167, 0, 4, 3, 128, 54, 6, 132, 8, 1, 167, 255, 140]
abbrev dktX3_mayCopy_8 : List UInt8 := dkwX3_mayCopy_8 ++ dktX3_mayCopy_9
def dkwX3_mayCopy_7 : List UInt8 := [184, 0, 174, 153, 0, 10, 4, 21, 7, 120, 167, 0, 4, 3, 128, 54, 5, 21, 6, 21, 7, 21, 8]
abbrev dktX3_mayCopy_7 : List UInt8 := dkwX3_mayCopy_7 ++ dktX3_mayCopy_8
def dkwX3_mayCopy_6 : List UInt8 := [21, 8, 184, 1, 33, 153, 0, 7, 4, 167, 0, 4, 3, 128, 54, 4, 21, 5, 21, 7, 21, 8]
abbrev dktX3_mayCopy_6 : List UInt8 := dkwX3_mayCopy_6 ++ dktX3_mayCopy_7
def dkwX3_mayCopy_5 : List UInt8 := [21, 8, 122, 4, 126, 4, 160, 0, 79, 21, 4, 21, 7, 21, 8, 184, 0, 174, 153, 0, 13, 21, 7]
abbrev dktX3_mayCopy_5 : List UInt8 := dkwX3_mayCopy_5 ++ dktX3_mayCopy_6
def dkwX3_mayCopy_4 : List UInt8 := [162, 0, 115, 42, 180, 0, 100, 28, 46, 21, 7, 122, 4, 126, 4, 160, 0, 94, 42, 180, 0, 100, 29, 46]
abbrev dktX3_mayCopy_4 : List UInt8 := dkwX3_mayCopy_4 ++ dktX3_mayCopy_5
def dkwX3_mayCopy_3 : List UInt8 := [3, 54, 5, 3, 54, 6, 4, 54, 7, 21, 7, 16, 10, 162, 0, 131, 4, 54, 8, 21, 8, 16, 10]
abbrev dktX3_mayCopy_3 : List UInt8 := dkwX3_mayCopy_3 ++ dktX3_mayCopy_4
def dkwX3_mayCopy_2 : List UInt8 := [79, 42, 180, 0, 100, 28, 46, 153, 0, 12, 42, 180, 0, 100, 29, 46, 154, 0, 5, 3, 172, 3, 54, 4]
abbrev dktX3_mayCopy_2 : List UInt8 := dkwX3_mayCopy_2 ++ dktX3_mayCopy_3
def dkwX3_mayCopy_1 : List UInt8 := [182, 1, 23, 42, 180, 0, 100, 28, 92, 46, 16, 254, 126, 79, 42, 180, 0, 100, 29, 92, 46, 16, 254, 126]
abbrev dktX3_mayCopy_1 : List UInt8 := dkwX3_mayCopy_1 ++ dktX3_mayCopy_2
def dkwX3_mayCopy_0 : List UInt8 := [42, 180, 0, 100, 28, 46, 42, 180, 0, 100, 29, 46, 128, 4, 126, 4, 160, 0, 11, 42, 27, 4, 2, 3]
abbrev dktX3_mayCopy_0 : List UInt8 := dkwX3_mayCopy_0 ++ dktX3_mayCopy_1
theorem dksX3_mayCopy_0 : cX3_mayCopy.data.toList.drop 0 = dktX3_mayCopy_0 := by decide +kernel
theorem dksX3_mayCopy_1 : cX3_mayCopy.data.toList.drop 24 = dktX3_mayCopy_1 := dk_seg dksX3_mayCopy_0 24 rfl rfl
theorem dksX3_mayCopy_2 : cX3_mayCopy.data.toList.drop 48 = dktX3_mayCopy_2 := dk_seg dksX3_mayCopy_1 24 rfl rfl
theorem dksX3_mayCopy_3 : cX3_mayCopy.data.toList.drop 72 = dktX3_mayCopy_3 := dk_seg dksX3_mayCopy_2 24 rfl rfl
theorem dksX3_mayCopy_4 : cX3_mayCopy.data.toList.drop 95 = dktX3_mayCopy_4 := dk_seg dksX3_mayCopy_3 23 rfl rfl
theorem dksX3_mayCopy_5 : cX3_mayCopy.data.toList.drop 119 = dktX3_mayCopy_5 := dk_seg dksX3_mayCopy_4 24 rfl rfl
theorem dksX3_mayCopy_6 : cX3_mayCopy.data.toList.drop 142 = dktX3_mayCopy_6 := dk_seg dksX3_mayCopy_5 23 rfl rfl
theorem dksX3_mayCopy_7 : cX3_mayCopy.data.toList.drop 164 = dktX3_mayCopy_7 := dk_seg dksX3_mayCopy_6 22 rfl rfl
theorem dksX3_mayCopy_8 : cX3_mayCopy.data.toList.drop 187 = dktX3_mayCopy_8 := dk_seg dksX3_mayCopy_7 23 rfl rfl
theorem dksX3_mayCopy_9 : cX3_mayCopy.data.toList.drop 210 = dktX3_mayCopy_9 := dk_seg dksX3_mayCopy_8 23 rfl rfl
theorem dksX3_mayCopy_10 : cX3_mayCopy.data.toList.drop 234 = dktX3_mayCopy_10 := dk_seg dksX3_mayCopy_9 24 rfl rfl
theorem dksX3_mayCopy_11 : cX3_mayCopy.data.toList.drop 257 = dktX3_mayCopy_11 := dk_seg dksX3_mayCopy_10 23 rfl rfl
theorem dX3_mayCopy_0 : decode cX3_mayCopy 0 = .ok (.aload_n 0, 1) := dk_42 (dk_at dksX3_mayCopy_0 0 rfl rfl)
theorem dX3_mayCopy_1 : decode cX3_mayCopy 1 = .ok (.getfield 100, 3) := dk_180 0 100 (dk_at dksX3_mayCopy_0 1 rfl rfl)
theorem dX3_mayCopy_4 : decode cX3_mayCopy 4 = .ok (.iload_n 2, 1) := dk_28 (dk_at dksX3_mayCopy_0 4 rfl rfl)
theorem dX3_mayCopy_5 : decode cX3_mayCopy 5 = .ok (.iaload, 1) := dk_46 (dk_at dksX3_mayCopy_0 5 rfl rfl)
theorem dX3_mayCopy_6 : decode cX3_mayCopy 6 = .ok (.aload_n 0, 1) := dk_42 (dk_at dksX3_mayCopy_0 6 rfl rfl)
theorem dX3_mayCopy_7 : decode cX3_mayCopy 7 = .ok (.getfield 100, 3) := dk_180 0 100 (dk_at dksX3_mayCopy_0 7 rfl rfl)
theorem dX3_mayCopy_10 : decode cX3_mayCopy 10 = .ok (.iload_n 3, 1) := dk_29 (dk_at dksX3_mayCopy_0 10 rfl rfl)
theorem dX3_mayCopy_11 : decode cX3_mayCopy 11 = .ok (.iaload, 1) := dk_46 (dk_at dksX3_mayCopy_0 11 rfl rfl)
theorem dX3_mayCopy_12 : decode cX3_mayCopy 12 = .ok (.ior, 1) := dk_128 (dk_at dksX3_mayCopy_0 12 rfl rfl)
theorem dX3_mayCopy_13 : decode cX3_mayCopy 13 = .ok (.iconst 1, 1) := dk_4 (dk_at dksX3_mayCopy_0 13 rfl rfl)
theorem dX3_mayCopy_14 : decode cX3_mayCopy 14 = .ok (.iand, 1) := dk_126 (dk_at dksX3_mayCopy_0 14 rfl rfl)
theorem dX3_mayCopy_15 : decode cX3_mayCopy 15 = .ok (.iconst 1, 1) := dk_4 (dk_at dksX3_mayCopy_0 15 rfl rfl)
theorem dX3_mayCopy_16 : decode cX3_mayCopy 16 = .ok (.if_icmp .ne 11, 3) := dk_160 0 11 (dk_at dksX3_mayCopy_0 16 rfl rfl)
theorem dX3_mayCopy_19 : decode cX3_mayCopy 19 = .ok (.aload_n 0, 1) := dk_42 (dk_at dksX3_mayCopy_0 19 rfl rfl)
theorem dX3_mayCopy_20 : decode cX3_mayCopy 20 = .ok (.iload_n 1, 1) := dk_27 (dk_at dksX3_mayCopy_0 20 rfl rfl)
theorem dX3_mayCopy_21 : decode cX3_mayCopy 21 = .ok (.iconst 1, 1) := dk_4 (dk_at dksX3_mayCopy_0 21 rfl rfl)
theorem dX3_mayCopy_22 : decode cX3_mayCopy 22 = .ok (.iconst (-1), 1) := dk_2 (dk_at dksX3_mayCopy_0 22 rfl rfl)
theorem dX3_mayCopy_23 : decode cX3_mayCopy 23 = .ok (.iconst 0, 1) := dk_3 (dk_at dksX3_mayCopy_0 23 rfl rfl)
theorem dX3_mayCopy_24 : decode cX3_mayCopy 24 = .ok (.invokevirtual 279, 3) := dk_182 1 23 (dk_at dksX3_mayCopy_1 0 rfl rfl)
theorem dX3_mayCopy_27 : decode cX3_mayCopy 27 = .ok (.aload_n 0, 1) := dk_42 (dk_at dksX3_mayCopy_1 3 rfl rfl)
theorem dX3_mayCopy_28 : decode cX3_mayCopy 28 = .ok (.getfield 100, 3) := dk_180 0 100 (dk_at dksX3_mayCopy_1 4 rfl rfl)
theorem dX3_mayCopy_31 : decode cX3_mayCopy 31 = .ok (.iload_n 2, 1) := dk_28 (dk_at dksX3_mayCopy_1 7 rfl rfl)
theorem dX3_mayCopy_32 : decode cX3_mayCopy 32 = .ok (.dup2, 1) := dk_92 (dk_at dksX3_mayCopy_1 8 rfl rfl)
theorem dX3_mayCopy_33 : decode cX3_mayCopy 33 = .ok (.iaload, 1) := dk_46 (dk_at dksX3_mayCopy_1 9 rfl rfl)
theorem dX3_mayCopy_34 : decode cX3_mayCopy 34 = .ok (.bipush (-2), 2) := dk_16 254 (dk_at dksX3_mayCopy_1 10 rfl rfl)
theorem dX3_mayCopy_36 : decode cX3_mayCopy 36 = .ok (.iand, 1) := dk_126 (dk_at dksX3_mayCopy_1 12 rfl rfl)
theorem dX3_mayCopy_37 : decode cX3_mayCopy 37 = .ok (.iastore, 1) := dk_79 (dk_at dksX3_mayCopy_1 13 rfl rfl)
theorem dX3_mayCopy_38 : decode cX3_mayCopy 38 = .ok (.aload_n 0, 1) := dk_42 (dk_at dksX3_mayCopy_1 14 rfl rfl)
theorem dX3_mayCopy_39 : decode cX3_mayCopy 39 = .ok (.getfield 100, 3) := dk_180 0 100 (dk_at dksX3_mayCopy_1 15 rfl rfl)
theorem dX3_mayCopy_42 : decode cX3_mayCopy 42 = .ok (.iload_n 3, 1) := dk_29 (dk_at dksX3_mayCopy_1 18 rfl rfl)
theorem dX3_mayCopy_43 : decode cX3_mayCopy 43 = .ok (.dup2, 1) := dk_92 (dk_at dksX3_mayCopy_1 19 rfl rfl)
theorem dX3_mayCopy_44 : decode cX3_mayCopy 44 = .ok (.iaload, 1) := dk_46 (dk_at dksX3_mayCopy_1 20 rfl rfl)
theorem dX3_mayCopy_45 : decode cX3_mayCopy 45 = .ok (.bipush (-2), 2) := dk_16 254 (dk_at dksX3_mayCopy_1 21 rfl rfl)
theorem dX3_mayCopy_47 : decode cX3_mayCopy 47 = .ok (.iand, 1) := dk_126 (dk_at dksX3_mayCopy_1 23 rfl rfl)
theorem dX3_mayCopy_48 : decode cX3_mayCopy 48 = .ok (.iastore, 1) := dk_79 (dk_at dksX3_mayCopy_2 0 rfl rfl)
theorem dX3_mayCopy_49 : decode cX3_mayCopy 49 = .ok (.aload_n 0, 1) := dk_42 (dk_at dksX3_mayCopy_2 1 rfl rfl)
theorem dX3_mayCopy_50 : decode cX3_mayCopy 50 = .ok (.getfield 100, 3) := dk_180 0 100 (dk_at dksX3_mayCopy_2 2 rfl rfl)
theorem dX3_mayCopy_53 : decode cX3_mayCopy 53 = .ok (.iload_n 2, 1) := dk_28 (dk_at dksX3_mayCopy_2 5 rfl rfl)
theorem dX3_mayCopy_54 : decode cX3_mayCopy 54 = .ok (.iaload, 1) := dk_46 (dk_at dksX3_mayCopy_2 6 rfl rfl)
theorem dX3_mayCopy_55 : decode cX3_mayCopy 55 = .ok (.ifCond .eq 12, 3) := dk_153 0 12 (dk_at dksX3_mayCopy_2 7 rfl rfl)
theorem dX3_mayCopy_58 : decode cX3_mayCopy 58 = .ok (.aload_n 0, 1) := dk_42 (dk_at dksX3_mayCopy_2 10 rfl rfl)
theorem dX3_mayCopy_59 : decode cX3_mayCopy 59 = .ok (.getfield 100, 3) := dk_180 0 100 (dk_at dksX3_mayCopy_2 11 rfl rfl)
theorem dX3_mayCopy_62 : decode cX3_mayCopy 62 = .ok (.iload_n 3, 1) := dk_29 (dk_at dksX3_mayCopy_2 14 rfl rfl)
theorem dX3_mayCopy_63 : decode cX3_mayCopy 63 = .ok (.iaload, 1) := dk_46 (dk_at dksX3_mayCopy_2 15 rfl rfl)
theorem dX3_mayCopy_64 : decode cX3_mayCopy 64 = .ok (.ifCond .ne 5, 3) := dk_154 0 5 (dk_at dksX3_mayCopy_2 16 rfl rfl)
theorem dX3_mayCopy_67 : decode cX3_mayCopy 67 = .ok (.iconst 0, 1) := dk_3 (dk_at dksX3_mayCopy_2 19 rfl rfl)
theorem dX3_mayCopy_68 : decode cX3_mayCopy 68 = .ok (.ireturn, 1) := dk_172 (dk_at dksX3_mayCopy_2 20 rfl rfl)
theorem dX3_mayCopy_69 : decode cX3_mayCopy 69 = .ok (.iconst 0, 1) := dk_3 (dk_at dksX3_mayCopy_2 21 rfl rfl)
theorem dX3_mayCopy_70 : decode cX3_mayCopy 70 = .ok (.istore 4, 2) := dk_54 4 (dk_at dksX3_mayCopy_2 22 rfl rfl)
theorem dX3_mayCopy_72 : decode cX3_mayCopy 72 = .ok (.iconst 0, 1) := dk_3 (dk_at dksX3_mayCopy_3 0 rfl rfl)
theorem dX3_mayCopy_73 : decode cX3_mayCopy 73 = .ok (.istore 5, 2) := dk_54 5 (dk_at dksX3_mayCopy_3 1 rfl rfl)
theorem dX3_mayCopy_75 : decode cX3_mayCopy 75 = .ok (.iconst 0, 1) := dk_3 (dk_at dksX3_mayCopy_3 3 rfl rfl)
theorem dX3_mayCopy_76 : decode cX3_mayCopy 76 = .ok (.istore 6, 2) := dk_54 6 (dk_at dksX3_mayCopy_3 4 rfl rfl)
theorem dX3_mayCopy_78 : decode cX3_mayCopy 78 = .ok (.iconst 1, 1) := dk_4 (dk_at dksX3_mayCopy_3 6 rfl rfl)
theorem dX3_mayCopy_79 : decode cX3_mayCopy 79 = .ok (.istore 7, 2) := dk_54 7 (dk_at dksX3_mayCopy_3 7 rfl rfl)
theorem dX3_mayCopy_81 : decode cX3_mayCopy 81 = .ok (.iload 7, 2) := dk_21 7 (dk_at dksX3_mayCopy_3 9 rfl rfl)
theorem dX3_mayCopy_83 : decode cX3_mayCopy 83 = .ok (.bipush 10, 2) := dk_16 10 (dk_at dksX3_mayCopy_3 11 rfl rfl)
theorem dX3_mayCopy_85 : decode cX3_mayCopy 85 = .ok (.if_icmp .ge 131, 3) := dk_162 0 131 (dk_at dksX3_mayCopy_3 13 rfl rfl)
theorem dX3_mayCopy_88 : decode cX3_mayCopy 88 = .ok (.iconst 1, 1) := dk_4 (dk_at dksX3_mayCopy_3 16 rfl rfl)
theorem dX3_mayCopy_89 : decode cX3_mayCopy 89 = .ok (.istore 8, 2) := dk_54 8 (dk_at dksX3_mayCopy_3 17 rfl rfl)
theorem dX3_mayCopy_91 : decode cX3_mayCopy 91 = .ok (.iload 8, 2) := dk_21 8 (dk_at dksX3_mayCopy_3 19 rfl rfl)
theorem dX3_mayCopy_93 : decode cX3_mayCopy 93 = .ok (.bipush 10, 2) := dk_16 10 (dk_at dksX3_mayCopy_3 21 rfl rfl)
theorem dX3_mayCopy_95 : decode cX3_mayCopy 95 = .ok (.if_icmp .ge 115, 3) := dk_162 0 115 (dk_at dksX3_mayCopy_4 0 rfl rfl)
theorem dX3_mayCopy_98 : decode cX3_mayCopy 98 = .ok (.aload_n 0, 1) := dk_42 (dk_at dksX3_mayCopy_4 3 rfl rfl)
theorem dX3_mayCopy_99 : decode cX3_mayCopy 99 = .ok (.getfield 100, 3) := dk_180 0 100 (dk_at dksX3_mayCopy_4 4 rfl rfl)
theorem dX3_mayCopy_102 : decode cX3_mayCopy 102 = .ok (.iload_n 2, 1) := dk_28 (dk_at dksX3_mayCopy_4 7 rfl rfl)
theorem dX3_mayCopy_103 : decode cX3_mayCopy 103 = .ok (.iaload, 1) := dk_46 (dk_at dksX3_mayCopy_4 8 rfl rfl)
theorem dX3_mayCopy_104 : decode cX3_mayCopy 104 = .ok (.iload 7, 2) := dk_21 7 (dk_at dksX3_mayCopy_4 9 rfl rfl)
theorem dX3_mayCopy_106 : decode cX3_mayCopy 106 = .ok (.ishr, 1) := dk_122 (dk_at dksX3_mayCopy_4 11 rfl rfl)
theorem dX3_mayCopy_107 : decode cX3_mayCopy 107 = .ok (.iconst 1, 1) := dk_4 (dk_at dksX3_mayCopy_4 12 rfl rfl)
theorem dX3_mayCopy_108 : decode cX3_mayCopy 108 = .ok (.iand, 1) := dk_126 (dk_at dksX3_mayCopy_4 13 rfl rfl)
theorem dX3_mayCopy_109 : decode cX3_mayCopy 109 = .ok (.iconst 1, 1) := dk_4 (dk_at dksX3_mayCopy_4 14 rfl rfl)
theorem dX3_mayCopy_110 : decode cX3_mayCopy 110 = .ok (.if_icmp .ne 94, 3) := dk_160 0 94 (dk_at dksX3_mayCopy_4 15 rfl rfl)
theorem dX3_mayCopy_113 : decode cX3_mayCopy 113 = .ok (.aload_n 0, 1) := dk_42 (dk_at dksX3_mayCopy_4 18 rfl rfl)
theorem dX3_mayCopy_114 : decode cX3_mayCopy 114 = .ok (.getfield 100, 3) := dk_180 0 100 (dk_at dksX3_mayCopy_4 19 rfl rfl)
theorem dX3_mayCopy_117 : decode cX3_mayCopy 117 = .ok (.iload_n 3, 1) := dk_29 (dk_at dksX3_mayCopy_4 22 rfl rfl)
theorem dX3_mayCopy_118 : decode cX3_mayCopy 118 = .ok (.iaload, 1) := dk_46 (dk_at dksX3_mayCopy_4 23 rfl rfl)
theorem dX3_mayCopy_119 : decode cX3_mayCopy 119 = .ok (.iload 8, 2) := dk_21 8 (dk_at dksX3_mayCopy_5 0 rfl rfl)
theorem dX3_mayCopy_121 : decode cX3_mayCopy 121 = .ok (.ishr, 1) := dk_122 (dk_at dksX3_mayCopy_5 2 rfl rfl)
theorem dX3_mayCopy_122 : decode cX3_mayCopy 122 = .ok (.iconst 1, 1) := dk_4 (dk_at dksX3_mayCopy_5 3 rfl rfl)
theorem dX3_mayCopy_123 : decode cX3_mayCopy 123 = .ok (.iand, 1) := dk_126 (dk_at dksX3_mayCopy_5 4 rfl rfl)
theorem dX3_mayCopy_124 : decode cX3_mayCopy 124 = .ok (.iconst 1, 1) := dk_4 (dk_at dksX3_mayCopy_5 5 rfl rfl)
theorem dX3_mayCopy_125 : decode cX3_mayCopy 125 = .ok (.if_icmp .ne 79, 3) := dk_160 0 79 (dk_at dksX3_mayCopy_5 6 rfl rfl)
theorem dX3_mayCopy_128 : decode cX3_mayCopy 128 = .ok (.iload 4, 2) := dk_21 4 (dk_at dksX3_mayCopy_5 9 rfl rfl)
theorem dX3_mayCopy_130 : decode cX3_mayCopy 130 = .ok (.iload 7, 2) := dk_21 7 (dk_at dksX3_mayCopy_5 11 rfl rfl)
theorem dX3_mayCopy_132 : decode cX3_mayCopy 132 = .ok (.iload 8, 2) := dk_21 8 (dk_at dksX3_mayCopy_5 13 rfl rfl)
theorem dX3_mayCopy_134 : decode cX3_mayCopy 134 = .ok (.invokestatic 174, 3) := dk_184 0 174 (dk_at dksX3_mayCopy_5 15 rfl rfl)
theorem dX3_mayCopy_137 : decode cX3_mayCopy 137 = .ok (.ifCond .eq 13, 3) := dk_153 0 13 (dk_at dksX3_mayCopy_5 18 rfl rfl)
theorem dX3_mayCopy_140 : decode cX3_mayCopy 140 = .ok (.iload 7, 2) := dk_21 7 (dk_at dksX3_mayCopy_5 21 rfl rfl)
theorem dX3_mayCopy_142 : decode cX3_mayCopy 142 = .ok (.iload 8, 2) := dk_21 8 (dk_at dksX3_mayCopy_6 0 rfl rfl)
theorem dX3_mayCopy_144 : decode cX3_mayCopy 144 = .ok (.invokestatic 289, 3) := dk_184 1 33 (dk_at dksX3_mayCopy_6 2 rfl rfl)
theorem dX3_mayCopy_147 : decode cX3_mayCopy 147 = .ok (.ifCond .eq 7, 3) := dk_153 0 7 (dk_at dksX3_mayCopy_6 5 rfl rfl)
theorem dX3_mayCopy_150 : decode cX3_mayCopy 150 = .ok (.iconst 1, 1) := dk_4 (dk_at dksX3_mayCopy_6 8 rfl rfl)
theorem dX3_mayCopy_151 : decode cX3_mayCopy 151 = .ok (.goto 4, 3) := dk_167 0 4 (dk_at dksX3_mayCopy_6 9 rfl rfl)
theorem dX3_mayCopy_154 : decode cX3_mayCopy 154 = .ok (.iconst 0, 1) := dk_3 (dk_at dksX3_mayCopy_6 12 rfl rfl)
theorem dX3_mayCopy_155 : decode cX3_mayCopy 155 = .ok (.ior, 1) := dk_128 (dk_at dksX3_mayCopy_6 13 rfl rfl)
theorem dX3_mayCopy_156 : decode cX3_mayCopy 156 = .ok (.istore 4, 2) := dk_54 4 (dk_at dksX3_mayCopy_6 14 rfl rfl)
theorem dX3_mayCopy_158 : decode cX3_mayCopy 158 = .ok (.iload 5, 2) := dk_21 5 (dk_at dksX3_mayCopy_6 16 rfl rfl)
theorem dX3_mayCopy_160 : decode cX3_mayCopy 160 = .ok (.iload 7, 2) := dk_21 7 (dk_at dksX3_mayCopy_6 18 rfl rfl)
theorem dX3_mayCopy_162 : decode cX3_mayCopy 162 = .ok (.iload 8, 2) := dk_21 8 (dk_at dksX3_mayCopy_6 20 rfl rfl)
theorem dX3_mayCopy_164 : decode cX3_mayCopy 164 = .ok (.invokestatic 174, 3) := dk_184 0 174 (dk_at dksX3_mayCopy_7 0 rfl rfl)
theorem dX3_mayCopy_167 : decode cX3_mayCopy 167 = .ok (.ifCond .eq 10, 3) := dk_153 0 10 (dk_at dksX3_mayCopy_7 3 rfl rfl)
theorem dX3_mayCopy_170 : decode cX3_mayCopy 170 = .ok (.iconst 1, 1) := dk_4 (dk_at dksX3_mayCopy_7 6 rfl rfl)
theorem dX3_mayCopy_171 : decode cX3_mayCopy 171 = .ok (.iload 7, 2) := dk_21 7 (dk_at dksX3_mayCopy_7 7 rfl rfl)
theorem dX3_mayCopy_173 : decode cX3_mayCopy 173 = .ok (.ishl, 1) := dk_120 (dk_at dksX3_mayCopy_7 9 rfl rfl)
theorem dX3_mayCopy_174 : decode cX3_mayCopy 174 = .ok (.goto 4, 3) := dk_167 0 4 (dk_at dksX3_mayCopy_7 10 rfl rfl)
theorem dX3_mayCopy_177 : decode cX3_mayCopy 177 = .ok (.iconst 0, 1) := dk_3 (dk_at dksX3_mayCopy_7 13 rfl rfl)
theorem dX3_mayCopy_178 : decode cX3_mayCopy 178 = .ok (.ior, 1) := dk_128 (dk_at dksX3_mayCopy_7 14 rfl rfl)
theorem dX3_mayCopy_179 : decode cX3_mayCopy 179 = .ok (.istore 5, 2) := dk_54 5 (dk_at dksX3_mayCopy_7 15 rfl rfl)
theorem dX3_mayCopy_181 : decode cX3_mayCopy 181 = .ok (.iload 6, 2) := dk_21 6 (dk_at dksX3_mayCopy_7 17 rfl rfl)
theorem dX3_mayCopy_183 : decode cX3_mayCopy 183 = .ok (.iload 7, 2) := dk_21 7 (dk_at dksX3_mayCopy_7 19 rfl rfl)
theorem dX3_mayCopy_185 : decode cX3_mayCopy 185 = .ok (.iload 8, 2) := dk_21 8 (dk_at dksX3_mayCopy_7 21 rfl rfl)
theorem dX3_mayCopy_187 : decode cX3_mayCopy 187 = .ok (.invokestatic 174, 3) := dk_184 0 174 (dk_at dksX3_mayCopy_8 0 rfl rfl)
theorem dX3_mayCopy_190 : decode cX3_mayCopy 190 = .ok (.ifCond .eq 10, 3) := dk_153 0 10 (dk_at dksX3_mayCopy_8 3 rfl rfl)
theorem dX3_mayCopy_193 : decode cX3_mayCopy 193 = .ok (.iconst 1, 1) := dk_4 (dk_at dksX3_mayCopy_8 6 rfl rfl)
theorem dX3_mayCopy_194 : decode cX3_mayCopy 194 = .ok (.iload 8, 2) := dk_21 8 (dk_at dksX3_mayCopy_8 7 rfl rfl)
theorem dX3_mayCopy_196 : decode cX3_mayCopy 196 = .ok (.ishl, 1) := dk_120 (dk_at dksX3_mayCopy_8 9 rfl rfl)
theorem dX3_mayCopy_197 : decode cX3_mayCopy 197 = .ok (.goto 4, 3) := dk_167 0 4 (dk_at dksX3_mayCopy_8 10 rfl rfl)
theorem dX3_mayCopy_200 : decode cX3_mayCopy 200 = .ok (.iconst 0, 1) := dk_3 (dk_at dksX3_mayCopy_8 13 rfl rfl)
theorem dX3_mayCopy_201 : decode cX3_mayCopy 201 = .ok (.ior, 1) := dk_128 (dk_at dksX3_mayCopy_8 14 rfl rfl)
theorem dX3_mayCopy_202 : decode cX3_mayCopy 202 = .ok (.istore 6, 2) := dk_54 6 (dk_at dksX3_mayCopy_8 15 rfl rfl)
theorem dX3_mayCopy_204 : decode cX3_mayCopy 204 = .ok (.iinc 8 1, 3) := dk_132 8 1 (dk_at dksX3_mayCopy_8 17 rfl rfl)
theorem dX3_mayCopy_207 : decode cX3_mayCopy 207 = .ok (.goto (-116), 3) := dk_167 255 140 (dk_at dksX3_mayCopy_8 20 rfl rfl)
theorem dX3_mayCopy_210 : decode cX3_mayCopy 210 = .ok (.iinc 7 1, 3) := dk_132 7 1 (dk_at dksX3_mayCopy_9 0 rfl rfl)
theorem dX3_mayCopy_213 : decode cX3_mayCopy 213 = .ok (.goto (-132), 3) := dk_167 255 124 (dk_at dksX3_mayCopy_9 3 rfl rfl)
theorem dX3_mayCopy_216 : decode cX3_mayCopy 216 = .ok (.iload 4, 2) := dk_21 4 (dk_at dksX3_mayCopy_9 6 rfl rfl)
theorem dX3_mayCopy_218 : decode cX3_mayCopy 218 = .ok (.ifCond .eq 11, 3) := dk_153 0 11 (dk_at dksX3_mayCopy_9 8 rfl rfl)
theorem dX3_mayCopy_221 : decode cX3_mayCopy 221 = .ok (.aload_n 0, 1) := dk_42 (dk_at dksX3_mayCopy_9 11 rfl rfl)
theorem dX3_mayCopy_222 : decode cX3_mayCopy 222 = .ok (.iload_n 1, 1) := dk_27 (dk_at dksX3_mayCopy_9 12 rfl rfl)
theorem dX3_mayCopy_223 : decode cX3_mayCopy 223 = .ok (.iconst 5, 1) := dk_8 (dk_at dksX3_mayCopy_9 13 rfl rfl)
theorem dX3_mayCopy_224 : decode cX3_mayCopy 224 = .ok (.iconst (-1), 1) := dk_2 (dk_at dksX3_mayCopy_9 14 rfl rfl)
theorem dX3_mayCopy_225 : decode cX3_mayCopy 225 = .ok (.iconst 0, 1) := dk_3 (dk_at dksX3_mayCopy_9 15 rfl rfl)
theorem dX3_mayCopy_226 : decode cX3_mayCopy 226 = .ok (.invokevirtual 279, 3) := dk_182 1 23 (dk_at dksX3_mayCopy_9 16 rfl rfl)
theorem dX3_mayCopy_229 : decode cX3_mayCopy 229 = .ok (.aload_n 0, 1) := dk_42 (dk_at dksX3_mayCopy_9 19 rfl rfl)
theorem dX3_mayCopy_230 : decode cX3_mayCopy 230 = .ok (.getfield 100, 3) := dk_180 0 100 (dk_at dksX3_mayCopy_9 20 rfl rfl)
theorem dX3_mayCopy_233 : decode cX3_mayCopy 233 = .ok (.iload_n 2, 1) := dk_28 (dk_at dksX3_mayCopy_9 23 rfl rfl)
theorem dX3_mayCopy_234 : decode cX3_mayCopy 234 = .ok (.iload 5, 2) := dk_21 5 (dk_at dksX3_mayCopy_10 0 rfl rfl)
theorem dX3_mayCopy_236 : decode cX3_mayCopy 236 = .ok (.iastore, 1) := dk_79 (dk_at dksX3_mayCopy_10 2 rfl rfl)
theorem dX3_mayCopy_237 : decode cX3_mayCopy 237 = .ok (.aload_n 0, 1) := dk_42 (dk_at dksX3_mayCopy_10 3 rfl rfl)
theorem dX3_mayCopy_238 : decode cX3_mayCopy 238 = .ok (.getfield 100, 3) := dk_180 0 100 (dk_at dksX3_mayCopy_10 4 rfl rfl)
theorem dX3_mayCopy_241 : decode cX3_mayCopy 241 = .ok (.iload_n 3, 1) := dk_29 (dk_at dksX3_mayCopy_10 7 rfl rfl)
theorem dX3_mayCopy_242 : decode cX3_mayCopy 242 = .ok (.iload 6, 2) := dk_21 6 (dk_at dksX3_mayCopy_10 8 rfl rfl)
theorem dX3_mayCopy_244 : decode cX3_mayCopy 244 = .ok (.iastore, 1) := dk_79 (dk_at dksX3_mayCopy_10 10 rfl rfl)
theorem dX3_mayCopy_245 : decode cX3_mayCopy 245 = .ok (.iload 5, 2) := dk_21 5 (dk_at dksX3_mayCopy_10 11 rfl rfl)
theorem dX3_mayCopy_247 : decode cX3_mayCopy 247 = .ok (.ifCond .ne 5, 3) := dk_154 0 5 (dk_at dksX3_mayCopy_10 13 rfl rfl)
theorem dX3_mayCopy_250 : decode cX3_mayCopy 250 = .ok (.iconst 0, 1) := dk_3 (dk_at dksX3_mayCopy_10 16 rfl rfl)
theorem dX3_mayCopy_251 : decode cX3_mayCopy 251 = .ok (.ireturn, 1) := dk_172 (dk_at dksX3_mayCopy_10 17 rfl rfl)
theorem dX3_mayCopy_252 : decode cX3_mayCopy 252 = .ok (.aload_n 0, 1) := dk_42 (dk_at dksX3_mayCopy_10 18 rfl rfl)
theorem dX3_mayCopy_253 : decode cX3_mayCopy 253 = .ok (.iload_n 1, 1) := dk_27 (dk_at dksX3_mayCopy_10 19 rfl rfl)
theorem dX3_mayCopy_254 : decode cX3_mayCopy 254 = .ok (.iconst 3, 1) := dk_6 (dk_at dksX3_mayCopy_10 20 rfl rfl)
theorem dX3_mayCopy_255 : decode cX3_mayCopy 255 = .ok (.iconst (-1), 1) := dk_2 (dk_at dksX3_mayCopy_10 21 rfl rfl)
theorem dX3_mayCopy_256 : decode cX3_mayCopy 256 = .ok (.iconst 0, 1) := dk_3 (dk_at dksX3_mayCopy_10 22 rfl rfl)
theorem dX3_mayCopy_257 : decode cX3_mayCopy 257 = .ok (.invokevirtual 279, 3) := dk_182 1 23 (dk_at dksX3_mayCopy_11 0 rfl rfl)
theorem dX3_mayCopy_260 : decode cX3_mayCopy 260 = .ok (.iconst 1, 1) := dk_4 (dk_at dksX3_mayCopy_11 3 rfl rfl)
theorem dX3_mayCopy_261 : decode cX3_mayCopy 261 = .ok (.ireturn, 1) := dk_172 (dk_at dksX3_mayCopy_11 4 rfl rfl)
abbrev cX3_partly : ByteArray := prog_15_method_63_code
def yX3_partly : MethodName := ⟨RX3, "partly", "(II)Z"⟩
def dkwX3_partly_2 : List UInt8 := [167, 0, 4, 3, 172]
abbrev dktX3_partly_2 : List UInt8 := dkwX3_partly_2 ++ []
def dkwX3_partly_1 : List UInt8 := [16, 7, 160, 0, 8, 27, 8, 159, 0, 15, 26, 16, 6, 160, 0, 13, 27, 16, 7, 160, 0, 7, 4]
abbrev dktX3_partly_1 : List UInt8 := dkwX3_partly_1 ++ dktX3_partly_2
def dkwX3_partly_0 : List UInt8 := [26, 8, 160, 0, 15, 27, 16, 6, 159, 0, 38, 27, 16, 7, 159, 0, 32, 26, 16, 6, 159, 0, 9, 26]
abbrev dktX3_partly_0 : List UInt8 := dkwX3_partly_0 ++ dktX3_partly_1
theorem dksX3_partly_0 : cX3_partly.data.toList.drop 0 = dktX3_partly_0 := by decide +kernel
theorem dksX3_partly_1 : cX3_partly.data.toList.drop 24 = dktX3_partly_1 := dk_seg dksX3_partly_0 24 rfl rfl
theorem dksX3_partly_2 : cX3_partly.data.toList.drop 47 = dktX3_partly_2 := dk_seg dksX3_partly_1 23 rfl rfl
theorem dX3_partly_0 : decode cX3_partly 0 = .ok (.iload_n 0, 1) := dk_26 (dk_at dksX3_partly_0 0 rfl rfl)
theorem dX3_partly_1 : decode cX3_partly 1 = .ok (.iconst 5, 1) := dk_8 (dk_at dksX3_partly_0 1 rfl rfl)
theorem dX3_partly_2 : decode cX3_partly 2 = .ok (.if_icmp .ne 15, 3) := dk_160 0 15 (dk_at dksX3_partly_0 2 rfl rfl)
theorem dX3_partly_5 : decode cX3_partly 5 = .ok (.iload_n 1, 1) := dk_27 (dk_at dksX3_partly_0 5 rfl rfl)
theorem dX3_partly_6 : decode cX3_partly 6 = .ok (.bipush 6, 2) := dk_16 6 (dk_at dksX3_partly_0 6 rfl rfl)
theorem dX3_partly_8 : decode cX3_partly 8 = .ok (.if_icmp .eq 38, 3) := dk_159 0 38 (dk_at dksX3_partly_0 8 rfl rfl)
theorem dX3_partly_11 : decode cX3_partly 11 = .ok (.iload_n 1, 1) := dk_27 (dk_at dksX3_partly_0 11 rfl rfl)
theorem dX3_partly_12 : decode cX3_partly 12 = .ok (.bipush 7, 2) := dk_16 7 (dk_at dksX3_partly_0 12 rfl rfl)
theorem dX3_partly_14 : decode cX3_partly 14 = .ok (.if_icmp .eq 32, 3) := dk_159 0 32 (dk_at dksX3_partly_0 14 rfl rfl)
theorem dX3_partly_17 : decode cX3_partly 17 = .ok (.iload_n 0, 1) := dk_26 (dk_at dksX3_partly_0 17 rfl rfl)
theorem dX3_partly_18 : decode cX3_partly 18 = .ok (.bipush 6, 2) := dk_16 6 (dk_at dksX3_partly_0 18 rfl rfl)
theorem dX3_partly_20 : decode cX3_partly 20 = .ok (.if_icmp .eq 9, 3) := dk_159 0 9 (dk_at dksX3_partly_0 20 rfl rfl)
theorem dX3_partly_23 : decode cX3_partly 23 = .ok (.iload_n 0, 1) := dk_26 (dk_at dksX3_partly_0 23 rfl rfl)
theorem dX3_partly_24 : decode cX3_partly 24 = .ok (.bipush 7, 2) := dk_16 7 (dk_at dksX3_partly_1 0 rfl rfl)
theorem dX3_partly_26 : decode cX3_partly 26 = .ok (.if_icmp .ne 8, 3) := dk_160 0 8 (dk_at dksX3_partly_1 2 rfl rfl)
theorem dX3_partly_29 : decode cX3_partly 29 = .ok (.iload_n 1, 1) := dk_27 (dk_at dksX3_partly_1 5 rfl rfl)
theorem dX3_partly_30 : decode cX3_partly 30 = .ok (.iconst 5, 1) := dk_8 (dk_at dksX3_partly_1 6 rfl rfl)
theorem dX3_partly_31 : decode cX3_partly 31 = .ok (.if_icmp .eq 15, 3) := dk_159 0 15 (dk_at dksX3_partly_1 7 rfl rfl)
theorem dX3_partly_34 : decode cX3_partly 34 = .ok (.iload_n 0, 1) := dk_26 (dk_at dksX3_partly_1 10 rfl rfl)
theorem dX3_partly_35 : decode cX3_partly 35 = .ok (.bipush 6, 2) := dk_16 6 (dk_at dksX3_partly_1 11 rfl rfl)
theorem dX3_partly_37 : decode cX3_partly 37 = .ok (.if_icmp .ne 13, 3) := dk_160 0 13 (dk_at dksX3_partly_1 13 rfl rfl)
theorem dX3_partly_40 : decode cX3_partly 40 = .ok (.iload_n 1, 1) := dk_27 (dk_at dksX3_partly_1 16 rfl rfl)
theorem dX3_partly_41 : decode cX3_partly 41 = .ok (.bipush 7, 2) := dk_16 7 (dk_at dksX3_partly_1 17 rfl rfl)
theorem dX3_partly_43 : decode cX3_partly 43 = .ok (.if_icmp .ne 7, 3) := dk_160 0 7 (dk_at dksX3_partly_1 19 rfl rfl)
theorem dX3_partly_46 : decode cX3_partly 46 = .ok (.iconst 1, 1) := dk_4 (dk_at dksX3_partly_1 22 rfl rfl)
theorem dX3_partly_47 : decode cX3_partly 47 = .ok (.goto 4, 3) := dk_167 0 4 (dk_at dksX3_partly_2 0 rfl rfl)
theorem dX3_partly_50 : decode cX3_partly 50 = .ok (.iconst 0, 1) := dk_3 (dk_at dksX3_partly_2 3 rfl rfl)
theorem dX3_partly_51 : decode cX3_partly 51 = .ok (.ireturn, 1) := dk_172 (dk_at dksX3_partly_2 4 rfl rfl)
abbrev cX3_leave : ByteArray := prog_15_method_69_code
def yX3_leave : MethodName := ⟨RX3, "leave", "(II)V"⟩
def dkwX3_leave_2 : List UInt8 := [42, 89, 180, 0, 228, 4, 100, 181, 0, 228, 177]
abbrev dktX3_leave_2 : List UInt8 := dkwX3_leave_2 ++ []
def dkwX3_leave_1 : List UInt8 := [16, 12, 29, 104, 96, 46, 153, 0, 9, 4, 29, 120, 167, 0, 4, 3, 128, 79, 132, 3, 1, 167, 255, 214]
abbrev dktX3_leave_1 : List UInt8 := dkwX3_leave_1 ++ dktX3_leave_2
def dkwX3_leave_0 : List UInt8 := [3, 62, 29, 16, 9, 162, 0, 42, 42, 180, 0, 79, 27, 92, 46, 42, 180, 0, 91, 16, 108, 28, 104]
abbrev dktX3_leave_0 : List UInt8 := dkwX3_leave_0 ++ dktX3_leave_1
theorem dksX3_leave_0 : cX3_leave.data.toList.drop 0 = dktX3_leave_0 := by decide +kernel
theorem dksX3_leave_1 : cX3_leave.data.toList.drop 23 = dktX3_leave_1 := dk_seg dksX3_leave_0 23 rfl rfl
theorem dksX3_leave_2 : cX3_leave.data.toList.drop 47 = dktX3_leave_2 := dk_seg dksX3_leave_1 24 rfl rfl
theorem dX3_leave_0 : decode cX3_leave 0 = .ok (.iconst 0, 1) := dk_3 (dk_at dksX3_leave_0 0 rfl rfl)
theorem dX3_leave_1 : decode cX3_leave 1 = .ok (.istore_n 3, 1) := dk_62 (dk_at dksX3_leave_0 1 rfl rfl)
theorem dX3_leave_2 : decode cX3_leave 2 = .ok (.iload_n 3, 1) := dk_29 (dk_at dksX3_leave_0 2 rfl rfl)
theorem dX3_leave_3 : decode cX3_leave 3 = .ok (.bipush 9, 2) := dk_16 9 (dk_at dksX3_leave_0 3 rfl rfl)
theorem dX3_leave_5 : decode cX3_leave 5 = .ok (.if_icmp .ge 42, 3) := dk_162 0 42 (dk_at dksX3_leave_0 5 rfl rfl)
theorem dX3_leave_8 : decode cX3_leave 8 = .ok (.aload_n 0, 1) := dk_42 (dk_at dksX3_leave_0 8 rfl rfl)
theorem dX3_leave_9 : decode cX3_leave 9 = .ok (.getfield 79, 3) := dk_180 0 79 (dk_at dksX3_leave_0 9 rfl rfl)
theorem dX3_leave_12 : decode cX3_leave 12 = .ok (.iload_n 1, 1) := dk_27 (dk_at dksX3_leave_0 12 rfl rfl)
theorem dX3_leave_13 : decode cX3_leave 13 = .ok (.dup2, 1) := dk_92 (dk_at dksX3_leave_0 13 rfl rfl)
theorem dX3_leave_14 : decode cX3_leave 14 = .ok (.iaload, 1) := dk_46 (dk_at dksX3_leave_0 14 rfl rfl)
theorem dX3_leave_15 : decode cX3_leave 15 = .ok (.aload_n 0, 1) := dk_42 (dk_at dksX3_leave_0 15 rfl rfl)
theorem dX3_leave_16 : decode cX3_leave 16 = .ok (.getfield 91, 3) := dk_180 0 91 (dk_at dksX3_leave_0 16 rfl rfl)
theorem dX3_leave_19 : decode cX3_leave 19 = .ok (.bipush 108, 2) := dk_16 108 (dk_at dksX3_leave_0 19 rfl rfl)
theorem dX3_leave_21 : decode cX3_leave 21 = .ok (.iload_n 2, 1) := dk_28 (dk_at dksX3_leave_0 21 rfl rfl)
theorem dX3_leave_22 : decode cX3_leave 22 = .ok (.imul, 1) := dk_104 (dk_at dksX3_leave_0 22 rfl rfl)
theorem dX3_leave_23 : decode cX3_leave 23 = .ok (.bipush 12, 2) := dk_16 12 (dk_at dksX3_leave_1 0 rfl rfl)
theorem dX3_leave_25 : decode cX3_leave 25 = .ok (.iload_n 3, 1) := dk_29 (dk_at dksX3_leave_1 2 rfl rfl)
theorem dX3_leave_26 : decode cX3_leave 26 = .ok (.imul, 1) := dk_104 (dk_at dksX3_leave_1 3 rfl rfl)
theorem dX3_leave_27 : decode cX3_leave 27 = .ok (.iadd, 1) := dk_96 (dk_at dksX3_leave_1 4 rfl rfl)
theorem dX3_leave_28 : decode cX3_leave 28 = .ok (.iaload, 1) := dk_46 (dk_at dksX3_leave_1 5 rfl rfl)
theorem dX3_leave_29 : decode cX3_leave 29 = .ok (.ifCond .eq 9, 3) := dk_153 0 9 (dk_at dksX3_leave_1 6 rfl rfl)
theorem dX3_leave_32 : decode cX3_leave 32 = .ok (.iconst 1, 1) := dk_4 (dk_at dksX3_leave_1 9 rfl rfl)
theorem dX3_leave_33 : decode cX3_leave 33 = .ok (.iload_n 3, 1) := dk_29 (dk_at dksX3_leave_1 10 rfl rfl)
theorem dX3_leave_34 : decode cX3_leave 34 = .ok (.ishl, 1) := dk_120 (dk_at dksX3_leave_1 11 rfl rfl)
theorem dX3_leave_35 : decode cX3_leave 35 = .ok (.goto 4, 3) := dk_167 0 4 (dk_at dksX3_leave_1 12 rfl rfl)
theorem dX3_leave_38 : decode cX3_leave 38 = .ok (.iconst 0, 1) := dk_3 (dk_at dksX3_leave_1 15 rfl rfl)
theorem dX3_leave_39 : decode cX3_leave 39 = .ok (.ior, 1) := dk_128 (dk_at dksX3_leave_1 16 rfl rfl)
theorem dX3_leave_40 : decode cX3_leave 40 = .ok (.iastore, 1) := dk_79 (dk_at dksX3_leave_1 17 rfl rfl)
theorem dX3_leave_41 : decode cX3_leave 41 = .ok (.iinc 3 1, 3) := dk_132 3 1 (dk_at dksX3_leave_1 18 rfl rfl)
theorem dX3_leave_44 : decode cX3_leave 44 = .ok (.goto (-42), 3) := dk_167 255 214 (dk_at dksX3_leave_1 21 rfl rfl)
theorem dX3_leave_47 : decode cX3_leave 47 = .ok (.aload_n 0, 1) := dk_42 (dk_at dksX3_leave_2 0 rfl rfl)
theorem dX3_leave_48 : decode cX3_leave 48 = .ok (.dup, 1) := dk_89 (dk_at dksX3_leave_2 1 rfl rfl)
theorem dX3_leave_49 : decode cX3_leave 49 = .ok (.getfield 228, 3) := dk_180 0 228 (dk_at dksX3_leave_2 2 rfl rfl)
theorem dX3_leave_52 : decode cX3_leave 52 = .ok (.iconst 1, 1) := dk_4 (dk_at dksX3_leave_2 5 rfl rfl)
theorem dX3_leave_53 : decode cX3_leave 53 = .ok (.isub, 1) := dk_100 (dk_at dksX3_leave_2 6 rfl rfl)
theorem dX3_leave_54 : decode cX3_leave 54 = .ok (.putfield 228, 3) := dk_181 0 228 (dk_at dksX3_leave_2 7 rfl rfl)
theorem dX3_leave_57 : decode cX3_leave 57 = .ok (.return_, 1) := dk_177 (dk_at dksX3_leave_2 10 rfl rfl)
abbrev cX3_throughBoth : ByteArray := prog_15_method_71_code
def yX3_throughBoth : MethodName := ⟨RX3, "throughBoth", "(II)V"⟩
def dkwX3_throughBoth_5 : List UInt8 := [180, 0, 41, 27, 46, 182, 0, 244, 167, 0, 9, 42, 27, 28, 182, 1, 65, 177]
abbrev dktX3_throughBoth_5 : List UInt8 := dkwX3_throughBoth_5 ++ []
def dkwX3_throughBoth_4 : List UInt8 := [180, 0, 91, 21, 4, 42, 180, 0, 97, 16, 12, 28, 104, 16, 12, 96, 184, 1, 60, 42, 5, 42]
abbrev dktX3_throughBoth_4 : List UInt8 := dkwX3_throughBoth_4 ++ dktX3_throughBoth_5
def dkwX3_throughBoth_3 : List UInt8 := [167, 0, 4, 3, 182, 1, 68, 29, 4, 160, 0, 47, 42, 180, 0, 91, 21, 4, 46, 153, 0, 37, 42]
abbrev dktX3_throughBoth_3 : List UInt8 := dkwX3_throughBoth_3 ++ dktX3_throughBoth_4
def dkwX3_throughBoth_2 : List UInt8 := [184, 1, 60, 42, 4, 42, 180, 0, 38, 27, 46, 182, 0, 244, 177, 42, 28, 29, 4, 160, 0, 7, 4]
abbrev dktX3_throughBoth_2 : List UInt8 := dkwX3_throughBoth_2 ++ dktX3_throughBoth_3
def dkwX3_throughBoth_1 : List UInt8 := [27, 28, 182, 1, 57, 42, 180, 0, 97, 16, 12, 28, 104, 42, 180, 0, 97, 16, 12, 28, 104, 16, 12, 96]
abbrev dktX3_throughBoth_1 : List UInt8 := dkwX3_throughBoth_1 ++ dktX3_throughBoth_2
def dkwX3_throughBoth_0 : List UInt8 := [42, 180, 0, 63, 42, 180, 0, 228, 46, 62, 16, 108, 28, 104, 16, 108, 96, 54, 4, 29, 154, 0, 43, 42]
abbrev dktX3_throughBoth_0 : List UInt8 := dkwX3_throughBoth_0 ++ dktX3_throughBoth_1
theorem dksX3_throughBoth_0 : cX3_throughBoth.data.toList.drop 0 = dktX3_throughBoth_0 := by decide +kernel
theorem dksX3_throughBoth_1 : cX3_throughBoth.data.toList.drop 24 = dktX3_throughBoth_1 := dk_seg dksX3_throughBoth_0 24 rfl rfl
theorem dksX3_throughBoth_2 : cX3_throughBoth.data.toList.drop 48 = dktX3_throughBoth_2 := dk_seg dksX3_throughBoth_1 24 rfl rfl
theorem dksX3_throughBoth_3 : cX3_throughBoth.data.toList.drop 71 = dktX3_throughBoth_3 := dk_seg dksX3_throughBoth_2 23 rfl rfl
theorem dksX3_throughBoth_4 : cX3_throughBoth.data.toList.drop 94 = dktX3_throughBoth_4 := dk_seg dksX3_throughBoth_3 23 rfl rfl
theorem dksX3_throughBoth_5 : cX3_throughBoth.data.toList.drop 116 = dktX3_throughBoth_5 := dk_seg dksX3_throughBoth_4 22 rfl rfl
theorem dX3_throughBoth_0 : decode cX3_throughBoth 0 = .ok (.aload_n 0, 1) := dk_42 (dk_at dksX3_throughBoth_0 0 rfl rfl)
theorem dX3_throughBoth_1 : decode cX3_throughBoth 1 = .ok (.getfield 63, 3) := dk_180 0 63 (dk_at dksX3_throughBoth_0 1 rfl rfl)
theorem dX3_throughBoth_4 : decode cX3_throughBoth 4 = .ok (.aload_n 0, 1) := dk_42 (dk_at dksX3_throughBoth_0 4 rfl rfl)
theorem dX3_throughBoth_5 : decode cX3_throughBoth 5 = .ok (.getfield 228, 3) := dk_180 0 228 (dk_at dksX3_throughBoth_0 5 rfl rfl)
theorem dX3_throughBoth_8 : decode cX3_throughBoth 8 = .ok (.iaload, 1) := dk_46 (dk_at dksX3_throughBoth_0 8 rfl rfl)
theorem dX3_throughBoth_9 : decode cX3_throughBoth 9 = .ok (.istore_n 3, 1) := dk_62 (dk_at dksX3_throughBoth_0 9 rfl rfl)
theorem dX3_throughBoth_10 : decode cX3_throughBoth 10 = .ok (.bipush 108, 2) := dk_16 108 (dk_at dksX3_throughBoth_0 10 rfl rfl)
theorem dX3_throughBoth_12 : decode cX3_throughBoth 12 = .ok (.iload_n 2, 1) := dk_28 (dk_at dksX3_throughBoth_0 12 rfl rfl)
theorem dX3_throughBoth_13 : decode cX3_throughBoth 13 = .ok (.imul, 1) := dk_104 (dk_at dksX3_throughBoth_0 13 rfl rfl)
theorem dX3_throughBoth_14 : decode cX3_throughBoth 14 = .ok (.bipush 108, 2) := dk_16 108 (dk_at dksX3_throughBoth_0 14 rfl rfl)
theorem dX3_throughBoth_16 : decode cX3_throughBoth 16 = .ok (.iadd, 1) := dk_96 (dk_at dksX3_throughBoth_0 16 rfl rfl)
theorem dX3_throughBoth_17 : decode cX3_throughBoth 17 = .ok (.istore 4, 2) := dk_54 4 (dk_at dksX3_throughBoth_0 17 rfl rfl)
theorem dX3_throughBoth_19 : decode cX3_throughBoth 19 = .ok (.iload_n 3, 1) := dk_29 (dk_at dksX3_throughBoth_0 19 rfl rfl)
theorem dX3_throughBoth_20 : decode cX3_throughBoth 20 = .ok (.ifCond .ne 43, 3) := dk_154 0 43 (dk_at dksX3_throughBoth_0 20 rfl rfl)
theorem dX3_throughBoth_23 : decode cX3_throughBoth 23 = .ok (.aload_n 0, 1) := dk_42 (dk_at dksX3_throughBoth_0 23 rfl rfl)
theorem dX3_throughBoth_24 : decode cX3_throughBoth 24 = .ok (.iload_n 1, 1) := dk_27 (dk_at dksX3_throughBoth_1 0 rfl rfl)
theorem dX3_throughBoth_25 : decode cX3_throughBoth 25 = .ok (.iload_n 2, 1) := dk_28 (dk_at dksX3_throughBoth_1 1 rfl rfl)
theorem dX3_throughBoth_26 : decode cX3_throughBoth 26 = .ok (.invokevirtual 313, 3) := dk_182 1 57 (dk_at dksX3_throughBoth_1 2 rfl rfl)
theorem dX3_throughBoth_29 : decode cX3_throughBoth 29 = .ok (.aload_n 0, 1) := dk_42 (dk_at dksX3_throughBoth_1 5 rfl rfl)
theorem dX3_throughBoth_30 : decode cX3_throughBoth 30 = .ok (.getfield 97, 3) := dk_180 0 97 (dk_at dksX3_throughBoth_1 6 rfl rfl)
theorem dX3_throughBoth_33 : decode cX3_throughBoth 33 = .ok (.bipush 12, 2) := dk_16 12 (dk_at dksX3_throughBoth_1 9 rfl rfl)
theorem dX3_throughBoth_35 : decode cX3_throughBoth 35 = .ok (.iload_n 2, 1) := dk_28 (dk_at dksX3_throughBoth_1 11 rfl rfl)
theorem dX3_throughBoth_36 : decode cX3_throughBoth 36 = .ok (.imul, 1) := dk_104 (dk_at dksX3_throughBoth_1 12 rfl rfl)
theorem dX3_throughBoth_37 : decode cX3_throughBoth 37 = .ok (.aload_n 0, 1) := dk_42 (dk_at dksX3_throughBoth_1 13 rfl rfl)
theorem dX3_throughBoth_38 : decode cX3_throughBoth 38 = .ok (.getfield 97, 3) := dk_180 0 97 (dk_at dksX3_throughBoth_1 14 rfl rfl)
theorem dX3_throughBoth_41 : decode cX3_throughBoth 41 = .ok (.bipush 12, 2) := dk_16 12 (dk_at dksX3_throughBoth_1 17 rfl rfl)
theorem dX3_throughBoth_43 : decode cX3_throughBoth 43 = .ok (.iload_n 2, 1) := dk_28 (dk_at dksX3_throughBoth_1 19 rfl rfl)
theorem dX3_throughBoth_44 : decode cX3_throughBoth 44 = .ok (.imul, 1) := dk_104 (dk_at dksX3_throughBoth_1 20 rfl rfl)
theorem dX3_throughBoth_45 : decode cX3_throughBoth 45 = .ok (.bipush 12, 2) := dk_16 12 (dk_at dksX3_throughBoth_1 21 rfl rfl)
theorem dX3_throughBoth_47 : decode cX3_throughBoth 47 = .ok (.iadd, 1) := dk_96 (dk_at dksX3_throughBoth_1 23 rfl rfl)
theorem dX3_throughBoth_48 : decode cX3_throughBoth 48 = .ok (.invokestatic 316, 3) := dk_184 1 60 (dk_at dksX3_throughBoth_2 0 rfl rfl)
theorem dX3_throughBoth_51 : decode cX3_throughBoth 51 = .ok (.aload_n 0, 1) := dk_42 (dk_at dksX3_throughBoth_2 3 rfl rfl)
theorem dX3_throughBoth_52 : decode cX3_throughBoth 52 = .ok (.iconst 1, 1) := dk_4 (dk_at dksX3_throughBoth_2 4 rfl rfl)
theorem dX3_throughBoth_53 : decode cX3_throughBoth 53 = .ok (.aload_n 0, 1) := dk_42 (dk_at dksX3_throughBoth_2 5 rfl rfl)
theorem dX3_throughBoth_54 : decode cX3_throughBoth 54 = .ok (.getfield 38, 3) := dk_180 0 38 (dk_at dksX3_throughBoth_2 6 rfl rfl)
theorem dX3_throughBoth_57 : decode cX3_throughBoth 57 = .ok (.iload_n 1, 1) := dk_27 (dk_at dksX3_throughBoth_2 9 rfl rfl)
theorem dX3_throughBoth_58 : decode cX3_throughBoth 58 = .ok (.iaload, 1) := dk_46 (dk_at dksX3_throughBoth_2 10 rfl rfl)
theorem dX3_throughBoth_59 : decode cX3_throughBoth 59 = .ok (.invokevirtual 244, 3) := dk_182 0 244 (dk_at dksX3_throughBoth_2 11 rfl rfl)
theorem dX3_throughBoth_62 : decode cX3_throughBoth 62 = .ok (.return_, 1) := dk_177 (dk_at dksX3_throughBoth_2 14 rfl rfl)
theorem dX3_throughBoth_63 : decode cX3_throughBoth 63 = .ok (.aload_n 0, 1) := dk_42 (dk_at dksX3_throughBoth_2 15 rfl rfl)
theorem dX3_throughBoth_64 : decode cX3_throughBoth 64 = .ok (.iload_n 2, 1) := dk_28 (dk_at dksX3_throughBoth_2 16 rfl rfl)
theorem dX3_throughBoth_65 : decode cX3_throughBoth 65 = .ok (.iload_n 3, 1) := dk_29 (dk_at dksX3_throughBoth_2 17 rfl rfl)
theorem dX3_throughBoth_66 : decode cX3_throughBoth 66 = .ok (.iconst 1, 1) := dk_4 (dk_at dksX3_throughBoth_2 18 rfl rfl)
theorem dX3_throughBoth_67 : decode cX3_throughBoth 67 = .ok (.if_icmp .ne 7, 3) := dk_160 0 7 (dk_at dksX3_throughBoth_2 19 rfl rfl)
theorem dX3_throughBoth_70 : decode cX3_throughBoth 70 = .ok (.iconst 1, 1) := dk_4 (dk_at dksX3_throughBoth_2 22 rfl rfl)
theorem dX3_throughBoth_71 : decode cX3_throughBoth 71 = .ok (.goto 4, 3) := dk_167 0 4 (dk_at dksX3_throughBoth_3 0 rfl rfl)
theorem dX3_throughBoth_74 : decode cX3_throughBoth 74 = .ok (.iconst 0, 1) := dk_3 (dk_at dksX3_throughBoth_3 3 rfl rfl)
theorem dX3_throughBoth_75 : decode cX3_throughBoth 75 = .ok (.invokevirtual 324, 3) := dk_182 1 68 (dk_at dksX3_throughBoth_3 4 rfl rfl)
theorem dX3_throughBoth_78 : decode cX3_throughBoth 78 = .ok (.iload_n 3, 1) := dk_29 (dk_at dksX3_throughBoth_3 7 rfl rfl)
theorem dX3_throughBoth_79 : decode cX3_throughBoth 79 = .ok (.iconst 1, 1) := dk_4 (dk_at dksX3_throughBoth_3 8 rfl rfl)
theorem dX3_throughBoth_80 : decode cX3_throughBoth 80 = .ok (.if_icmp .ne 47, 3) := dk_160 0 47 (dk_at dksX3_throughBoth_3 9 rfl rfl)
theorem dX3_throughBoth_83 : decode cX3_throughBoth 83 = .ok (.aload_n 0, 1) := dk_42 (dk_at dksX3_throughBoth_3 12 rfl rfl)
theorem dX3_throughBoth_84 : decode cX3_throughBoth 84 = .ok (.getfield 91, 3) := dk_180 0 91 (dk_at dksX3_throughBoth_3 13 rfl rfl)
theorem dX3_throughBoth_87 : decode cX3_throughBoth 87 = .ok (.iload 4, 2) := dk_21 4 (dk_at dksX3_throughBoth_3 16 rfl rfl)
theorem dX3_throughBoth_89 : decode cX3_throughBoth 89 = .ok (.iaload, 1) := dk_46 (dk_at dksX3_throughBoth_3 18 rfl rfl)
theorem dX3_throughBoth_90 : decode cX3_throughBoth 90 = .ok (.ifCond .eq 37, 3) := dk_153 0 37 (dk_at dksX3_throughBoth_3 19 rfl rfl)
theorem dX3_throughBoth_93 : decode cX3_throughBoth 93 = .ok (.aload_n 0, 1) := dk_42 (dk_at dksX3_throughBoth_3 22 rfl rfl)
theorem dX3_throughBoth_94 : decode cX3_throughBoth 94 = .ok (.getfield 91, 3) := dk_180 0 91 (dk_at dksX3_throughBoth_4 0 rfl rfl)
theorem dX3_throughBoth_97 : decode cX3_throughBoth 97 = .ok (.iload 4, 2) := dk_21 4 (dk_at dksX3_throughBoth_4 3 rfl rfl)
theorem dX3_throughBoth_99 : decode cX3_throughBoth 99 = .ok (.aload_n 0, 1) := dk_42 (dk_at dksX3_throughBoth_4 5 rfl rfl)
theorem dX3_throughBoth_100 : decode cX3_throughBoth 100 = .ok (.getfield 97, 3) := dk_180 0 97 (dk_at dksX3_throughBoth_4 6 rfl rfl)
theorem dX3_throughBoth_103 : decode cX3_throughBoth 103 = .ok (.bipush 12, 2) := dk_16 12 (dk_at dksX3_throughBoth_4 9 rfl rfl)
theorem dX3_throughBoth_105 : decode cX3_throughBoth 105 = .ok (.iload_n 2, 1) := dk_28 (dk_at dksX3_throughBoth_4 11 rfl rfl)
theorem dX3_throughBoth_106 : decode cX3_throughBoth 106 = .ok (.imul, 1) := dk_104 (dk_at dksX3_throughBoth_4 12 rfl rfl)
theorem dX3_throughBoth_107 : decode cX3_throughBoth 107 = .ok (.bipush 12, 2) := dk_16 12 (dk_at dksX3_throughBoth_4 13 rfl rfl)
theorem dX3_throughBoth_109 : decode cX3_throughBoth 109 = .ok (.iadd, 1) := dk_96 (dk_at dksX3_throughBoth_4 15 rfl rfl)
theorem dX3_throughBoth_110 : decode cX3_throughBoth 110 = .ok (.invokestatic 316, 3) := dk_184 1 60 (dk_at dksX3_throughBoth_4 16 rfl rfl)
theorem dX3_throughBoth_113 : decode cX3_throughBoth 113 = .ok (.aload_n 0, 1) := dk_42 (dk_at dksX3_throughBoth_4 19 rfl rfl)
theorem dX3_throughBoth_114 : decode cX3_throughBoth 114 = .ok (.iconst 2, 1) := dk_5 (dk_at dksX3_throughBoth_4 20 rfl rfl)
theorem dX3_throughBoth_115 : decode cX3_throughBoth 115 = .ok (.aload_n 0, 1) := dk_42 (dk_at dksX3_throughBoth_4 21 rfl rfl)
theorem dX3_throughBoth_116 : decode cX3_throughBoth 116 = .ok (.getfield 41, 3) := dk_180 0 41 (dk_at dksX3_throughBoth_5 0 rfl rfl)
theorem dX3_throughBoth_119 : decode cX3_throughBoth 119 = .ok (.iload_n 1, 1) := dk_27 (dk_at dksX3_throughBoth_5 3 rfl rfl)
theorem dX3_throughBoth_120 : decode cX3_throughBoth 120 = .ok (.iaload, 1) := dk_46 (dk_at dksX3_throughBoth_5 4 rfl rfl)
theorem dX3_throughBoth_121 : decode cX3_throughBoth 121 = .ok (.invokevirtual 244, 3) := dk_182 0 244 (dk_at dksX3_throughBoth_5 5 rfl rfl)
theorem dX3_throughBoth_124 : decode cX3_throughBoth 124 = .ok (.goto 9, 3) := dk_167 0 9 (dk_at dksX3_throughBoth_5 8 rfl rfl)
theorem dX3_throughBoth_127 : decode cX3_throughBoth 127 = .ok (.aload_n 0, 1) := dk_42 (dk_at dksX3_throughBoth_5 11 rfl rfl)
theorem dX3_throughBoth_128 : decode cX3_throughBoth 128 = .ok (.iload_n 1, 1) := dk_27 (dk_at dksX3_throughBoth_5 12 rfl rfl)
theorem dX3_throughBoth_129 : decode cX3_throughBoth 129 = .ok (.iload_n 2, 1) := dk_28 (dk_at dksX3_throughBoth_5 13 rfl rfl)
theorem dX3_throughBoth_130 : decode cX3_throughBoth 130 = .ok (.invokevirtual 321, 3) := dk_182 1 65 (dk_at dksX3_throughBoth_5 14 rfl rfl)
theorem dX3_throughBoth_133 : decode cX3_throughBoth 133 = .ok (.return_, 1) := dk_177 (dk_at dksX3_throughBoth_5 17 rfl rfl)
abbrev cX3_put : ByteArray := prog_15_method_67_code
def yX3_put : MethodName := ⟨RX3, "put", "(II)V"⟩
def dkwX3_put_1 : List UInt8 := [42, 180, 0, 91, 16, 108, 27, 104, 16, 12, 29, 104, 96, 184, 1, 19, 132, 3, 1, 167, 255, 215, 177]
abbrev dktX3_put_1 : List UInt8 := dkwX3_put_1 ++ []
def dkwX3_put_0 : List UInt8 := [28, 62, 29, 16, 9, 162, 0, 41, 42, 180, 0, 91, 16, 108, 27, 104, 16, 108, 96, 16, 12, 29, 104, 96]
abbrev dktX3_put_0 : List UInt8 := dkwX3_put_0 ++ dktX3_put_1
theorem dksX3_put_0 : cX3_put.data.toList.drop 0 = dktX3_put_0 := by decide +kernel
theorem dksX3_put_1 : cX3_put.data.toList.drop 24 = dktX3_put_1 := dk_seg dksX3_put_0 24 rfl rfl
theorem dX3_put_0 : decode cX3_put 0 = .ok (.iload_n 2, 1) := dk_28 (dk_at dksX3_put_0 0 rfl rfl)
theorem dX3_put_1 : decode cX3_put 1 = .ok (.istore_n 3, 1) := dk_62 (dk_at dksX3_put_0 1 rfl rfl)
theorem dX3_put_2 : decode cX3_put 2 = .ok (.iload_n 3, 1) := dk_29 (dk_at dksX3_put_0 2 rfl rfl)
theorem dX3_put_3 : decode cX3_put 3 = .ok (.bipush 9, 2) := dk_16 9 (dk_at dksX3_put_0 3 rfl rfl)
theorem dX3_put_5 : decode cX3_put 5 = .ok (.if_icmp .ge 41, 3) := dk_162 0 41 (dk_at dksX3_put_0 5 rfl rfl)
theorem dX3_put_8 : decode cX3_put 8 = .ok (.aload_n 0, 1) := dk_42 (dk_at dksX3_put_0 8 rfl rfl)
theorem dX3_put_9 : decode cX3_put 9 = .ok (.getfield 91, 3) := dk_180 0 91 (dk_at dksX3_put_0 9 rfl rfl)
theorem dX3_put_12 : decode cX3_put 12 = .ok (.bipush 108, 2) := dk_16 108 (dk_at dksX3_put_0 12 rfl rfl)
theorem dX3_put_14 : decode cX3_put 14 = .ok (.iload_n 1, 1) := dk_27 (dk_at dksX3_put_0 14 rfl rfl)
theorem dX3_put_15 : decode cX3_put 15 = .ok (.imul, 1) := dk_104 (dk_at dksX3_put_0 15 rfl rfl)
theorem dX3_put_16 : decode cX3_put 16 = .ok (.bipush 108, 2) := dk_16 108 (dk_at dksX3_put_0 16 rfl rfl)
theorem dX3_put_18 : decode cX3_put 18 = .ok (.iadd, 1) := dk_96 (dk_at dksX3_put_0 18 rfl rfl)
theorem dX3_put_19 : decode cX3_put 19 = .ok (.bipush 12, 2) := dk_16 12 (dk_at dksX3_put_0 19 rfl rfl)
theorem dX3_put_21 : decode cX3_put 21 = .ok (.iload_n 3, 1) := dk_29 (dk_at dksX3_put_0 21 rfl rfl)
theorem dX3_put_22 : decode cX3_put 22 = .ok (.imul, 1) := dk_104 (dk_at dksX3_put_0 22 rfl rfl)
theorem dX3_put_23 : decode cX3_put 23 = .ok (.iadd, 1) := dk_96 (dk_at dksX3_put_0 23 rfl rfl)
theorem dX3_put_24 : decode cX3_put 24 = .ok (.aload_n 0, 1) := dk_42 (dk_at dksX3_put_1 0 rfl rfl)
theorem dX3_put_25 : decode cX3_put 25 = .ok (.getfield 91, 3) := dk_180 0 91 (dk_at dksX3_put_1 1 rfl rfl)
theorem dX3_put_28 : decode cX3_put 28 = .ok (.bipush 108, 2) := dk_16 108 (dk_at dksX3_put_1 4 rfl rfl)
theorem dX3_put_30 : decode cX3_put 30 = .ok (.iload_n 1, 1) := dk_27 (dk_at dksX3_put_1 6 rfl rfl)
theorem dX3_put_31 : decode cX3_put 31 = .ok (.imul, 1) := dk_104 (dk_at dksX3_put_1 7 rfl rfl)
theorem dX3_put_32 : decode cX3_put 32 = .ok (.bipush 12, 2) := dk_16 12 (dk_at dksX3_put_1 8 rfl rfl)
theorem dX3_put_34 : decode cX3_put 34 = .ok (.iload_n 3, 1) := dk_29 (dk_at dksX3_put_1 10 rfl rfl)
theorem dX3_put_35 : decode cX3_put 35 = .ok (.imul, 1) := dk_104 (dk_at dksX3_put_1 11 rfl rfl)
theorem dX3_put_36 : decode cX3_put 36 = .ok (.iadd, 1) := dk_96 (dk_at dksX3_put_1 12 rfl rfl)
theorem dX3_put_37 : decode cX3_put 37 = .ok (.invokestatic 275, 3) := dk_184 1 19 (dk_at dksX3_put_1 13 rfl rfl)
theorem dX3_put_40 : decode cX3_put 40 = .ok (.iinc 3 1, 3) := dk_132 3 1 (dk_at dksX3_put_1 16 rfl rfl)
theorem dX3_put_43 : decode cX3_put 43 = .ok (.goto (-41), 3) := dk_167 255 215 (dk_at dksX3_put_1 19 rfl rfl)
theorem dX3_put_46 : decode cX3_put 46 = .ok (.return_, 1) := dk_177 (dk_at dksX3_put_1 22 rfl rfl)
abbrev cX3_throughChoice : ByteArray := prog_15_method_72_code
def yX3_throughChoice : MethodName := ⟨RX3, "throughChoice", "(II)V"⟩
def dkwX3_throughChoice_8 : List UInt8 := [180, 0, 44, 27, 46, 167, 0, 9, 42, 180, 0, 47, 27, 46, 182, 0, 244, 177]
abbrev dktX3_throughChoice_8 : List UInt8 := dkwX3_throughChoice_8 ++ []
def dkwX3_throughChoice_7 : List UInt8 := [28, 104, 16, 12, 96, 42, 180, 0, 38, 27, 46, 96, 21, 5, 79, 42, 29, 4, 96, 29, 154, 0, 12, 42]
abbrev dktX3_throughChoice_7 : List UInt8 := dkwX3_throughChoice_7 ++ dktX3_throughChoice_8
def dkwX3_throughChoice_6 : List UInt8 := [16, 12, 28, 104, 42, 180, 0, 97, 16, 12, 28, 104, 16, 12, 96, 184, 1, 60, 42, 180, 0, 97, 16, 12]
abbrev dktX3_throughChoice_6 : List UInt8 := dkwX3_throughChoice_6 ++ dktX3_throughChoice_7
def dkwX3_throughChoice_5 : List UInt8 := [21, 5, 79, 42, 180, 0, 63, 42, 180, 0, 228, 29, 4, 96, 79, 21, 5, 153, 0, 72, 42, 180, 0, 97]
abbrev dktX3_throughChoice_5 : List UInt8 := dkwX3_throughChoice_5 ++ dktX3_throughChoice_6
def dkwX3_throughChoice_4 : List UInt8 := [154, 0, 8, 21, 4, 167, 0, 7, 21, 4, 2, 130, 126, 54, 5, 42, 180, 0, 66, 42, 180, 0, 228]
abbrev dktX3_throughChoice_4 : List UInt8 := dkwX3_throughChoice_4 ++ dktX3_throughChoice_5
def dkwX3_throughChoice_3 : List UInt8 := [184, 0, 107, 54, 4, 42, 180, 0, 97, 16, 12, 28, 104, 42, 180, 0, 38, 27, 46, 96, 46, 29]
abbrev dktX3_throughChoice_3 : List UInt8 := dkwX3_throughChoice_3 ++ dktX3_throughChoice_4
def dkwX3_throughChoice_2 : List UInt8 := [28, 182, 1, 65, 177, 42, 180, 0, 41, 27, 46, 154, 0, 7, 4, 167, 0, 12, 42, 180, 0, 41, 27, 46]
abbrev dktX3_throughChoice_2 : List UInt8 := dkwX3_throughChoice_2 ++ dktX3_throughChoice_3
def dkwX3_throughChoice_1 : List UInt8 := [180, 0, 66, 42, 180, 0, 228, 46, 153, 0, 9, 42, 28, 3, 182, 1, 68, 29, 5, 160, 0, 10, 42, 27]
abbrev dktX3_throughChoice_1 : List UInt8 := dkwX3_throughChoice_1 ++ dktX3_throughChoice_2
def dkwX3_throughChoice_0 : List UInt8 := [42, 180, 0, 63, 42, 180, 0, 228, 46, 62, 29, 154, 0, 12, 42, 27, 28, 182, 1, 57, 167, 0, 21, 42]
abbrev dktX3_throughChoice_0 : List UInt8 := dkwX3_throughChoice_0 ++ dktX3_throughChoice_1
theorem dksX3_throughChoice_0 : cX3_throughChoice.data.toList.drop 0 = dktX3_throughChoice_0 := by decide +kernel
theorem dksX3_throughChoice_1 : cX3_throughChoice.data.toList.drop 24 = dktX3_throughChoice_1 := dk_seg dksX3_throughChoice_0 24 rfl rfl
theorem dksX3_throughChoice_2 : cX3_throughChoice.data.toList.drop 48 = dktX3_throughChoice_2 := dk_seg dksX3_throughChoice_1 24 rfl rfl
theorem dksX3_throughChoice_3 : cX3_throughChoice.data.toList.drop 72 = dktX3_throughChoice_3 := dk_seg dksX3_throughChoice_2 24 rfl rfl
theorem dksX3_throughChoice_4 : cX3_throughChoice.data.toList.drop 94 = dktX3_throughChoice_4 := dk_seg dksX3_throughChoice_3 22 rfl rfl
theorem dksX3_throughChoice_5 : cX3_throughChoice.data.toList.drop 117 = dktX3_throughChoice_5 := dk_seg dksX3_throughChoice_4 23 rfl rfl
theorem dksX3_throughChoice_6 : cX3_throughChoice.data.toList.drop 141 = dktX3_throughChoice_6 := dk_seg dksX3_throughChoice_5 24 rfl rfl
theorem dksX3_throughChoice_7 : cX3_throughChoice.data.toList.drop 165 = dktX3_throughChoice_7 := dk_seg dksX3_throughChoice_6 24 rfl rfl
theorem dksX3_throughChoice_8 : cX3_throughChoice.data.toList.drop 189 = dktX3_throughChoice_8 := dk_seg dksX3_throughChoice_7 24 rfl rfl
theorem dX3_throughChoice_0 : decode cX3_throughChoice 0 = .ok (.aload_n 0, 1) := dk_42 (dk_at dksX3_throughChoice_0 0 rfl rfl)
theorem dX3_throughChoice_1 : decode cX3_throughChoice 1 = .ok (.getfield 63, 3) := dk_180 0 63 (dk_at dksX3_throughChoice_0 1 rfl rfl)
theorem dX3_throughChoice_4 : decode cX3_throughChoice 4 = .ok (.aload_n 0, 1) := dk_42 (dk_at dksX3_throughChoice_0 4 rfl rfl)
theorem dX3_throughChoice_5 : decode cX3_throughChoice 5 = .ok (.getfield 228, 3) := dk_180 0 228 (dk_at dksX3_throughChoice_0 5 rfl rfl)
theorem dX3_throughChoice_8 : decode cX3_throughChoice 8 = .ok (.iaload, 1) := dk_46 (dk_at dksX3_throughChoice_0 8 rfl rfl)
theorem dX3_throughChoice_9 : decode cX3_throughChoice 9 = .ok (.istore_n 3, 1) := dk_62 (dk_at dksX3_throughChoice_0 9 rfl rfl)
theorem dX3_throughChoice_10 : decode cX3_throughChoice 10 = .ok (.iload_n 3, 1) := dk_29 (dk_at dksX3_throughChoice_0 10 rfl rfl)
theorem dX3_throughChoice_11 : decode cX3_throughChoice 11 = .ok (.ifCond .ne 12, 3) := dk_154 0 12 (dk_at dksX3_throughChoice_0 11 rfl rfl)
theorem dX3_throughChoice_14 : decode cX3_throughChoice 14 = .ok (.aload_n 0, 1) := dk_42 (dk_at dksX3_throughChoice_0 14 rfl rfl)
theorem dX3_throughChoice_15 : decode cX3_throughChoice 15 = .ok (.iload_n 1, 1) := dk_27 (dk_at dksX3_throughChoice_0 15 rfl rfl)
theorem dX3_throughChoice_16 : decode cX3_throughChoice 16 = .ok (.iload_n 2, 1) := dk_28 (dk_at dksX3_throughChoice_0 16 rfl rfl)
theorem dX3_throughChoice_17 : decode cX3_throughChoice 17 = .ok (.invokevirtual 313, 3) := dk_182 1 57 (dk_at dksX3_throughChoice_0 17 rfl rfl)
theorem dX3_throughChoice_20 : decode cX3_throughChoice 20 = .ok (.goto 21, 3) := dk_167 0 21 (dk_at dksX3_throughChoice_0 20 rfl rfl)
theorem dX3_throughChoice_23 : decode cX3_throughChoice 23 = .ok (.aload_n 0, 1) := dk_42 (dk_at dksX3_throughChoice_0 23 rfl rfl)
theorem dX3_throughChoice_24 : decode cX3_throughChoice 24 = .ok (.getfield 66, 3) := dk_180 0 66 (dk_at dksX3_throughChoice_1 0 rfl rfl)
theorem dX3_throughChoice_27 : decode cX3_throughChoice 27 = .ok (.aload_n 0, 1) := dk_42 (dk_at dksX3_throughChoice_1 3 rfl rfl)
theorem dX3_throughChoice_28 : decode cX3_throughChoice 28 = .ok (.getfield 228, 3) := dk_180 0 228 (dk_at dksX3_throughChoice_1 4 rfl rfl)
theorem dX3_throughChoice_31 : decode cX3_throughChoice 31 = .ok (.iaload, 1) := dk_46 (dk_at dksX3_throughChoice_1 7 rfl rfl)
theorem dX3_throughChoice_32 : decode cX3_throughChoice 32 = .ok (.ifCond .eq 9, 3) := dk_153 0 9 (dk_at dksX3_throughChoice_1 8 rfl rfl)
theorem dX3_throughChoice_35 : decode cX3_throughChoice 35 = .ok (.aload_n 0, 1) := dk_42 (dk_at dksX3_throughChoice_1 11 rfl rfl)
theorem dX3_throughChoice_36 : decode cX3_throughChoice 36 = .ok (.iload_n 2, 1) := dk_28 (dk_at dksX3_throughChoice_1 12 rfl rfl)
theorem dX3_throughChoice_37 : decode cX3_throughChoice 37 = .ok (.iconst 0, 1) := dk_3 (dk_at dksX3_throughChoice_1 13 rfl rfl)
theorem dX3_throughChoice_38 : decode cX3_throughChoice 38 = .ok (.invokevirtual 324, 3) := dk_182 1 68 (dk_at dksX3_throughChoice_1 14 rfl rfl)
theorem dX3_throughChoice_41 : decode cX3_throughChoice 41 = .ok (.iload_n 3, 1) := dk_29 (dk_at dksX3_throughChoice_1 17 rfl rfl)
theorem dX3_throughChoice_42 : decode cX3_throughChoice 42 = .ok (.iconst 2, 1) := dk_5 (dk_at dksX3_throughChoice_1 18 rfl rfl)
theorem dX3_throughChoice_43 : decode cX3_throughChoice 43 = .ok (.if_icmp .ne 10, 3) := dk_160 0 10 (dk_at dksX3_throughChoice_1 19 rfl rfl)
theorem dX3_throughChoice_46 : decode cX3_throughChoice 46 = .ok (.aload_n 0, 1) := dk_42 (dk_at dksX3_throughChoice_1 22 rfl rfl)
theorem dX3_throughChoice_47 : decode cX3_throughChoice 47 = .ok (.iload_n 1, 1) := dk_27 (dk_at dksX3_throughChoice_1 23 rfl rfl)
theorem dX3_throughChoice_48 : decode cX3_throughChoice 48 = .ok (.iload_n 2, 1) := dk_28 (dk_at dksX3_throughChoice_2 0 rfl rfl)
theorem dX3_throughChoice_49 : decode cX3_throughChoice 49 = .ok (.invokevirtual 321, 3) := dk_182 1 65 (dk_at dksX3_throughChoice_2 1 rfl rfl)
theorem dX3_throughChoice_52 : decode cX3_throughChoice 52 = .ok (.return_, 1) := dk_177 (dk_at dksX3_throughChoice_2 4 rfl rfl)
theorem dX3_throughChoice_53 : decode cX3_throughChoice 53 = .ok (.aload_n 0, 1) := dk_42 (dk_at dksX3_throughChoice_2 5 rfl rfl)
theorem dX3_throughChoice_54 : decode cX3_throughChoice 54 = .ok (.getfield 41, 3) := dk_180 0 41 (dk_at dksX3_throughChoice_2 6 rfl rfl)
theorem dX3_throughChoice_57 : decode cX3_throughChoice 57 = .ok (.iload_n 1, 1) := dk_27 (dk_at dksX3_throughChoice_2 9 rfl rfl)
theorem dX3_throughChoice_58 : decode cX3_throughChoice 58 = .ok (.iaload, 1) := dk_46 (dk_at dksX3_throughChoice_2 10 rfl rfl)
theorem dX3_throughChoice_59 : decode cX3_throughChoice 59 = .ok (.ifCond .ne 7, 3) := dk_154 0 7 (dk_at dksX3_throughChoice_2 11 rfl rfl)
theorem dX3_throughChoice_62 : decode cX3_throughChoice 62 = .ok (.iconst 1, 1) := dk_4 (dk_at dksX3_throughChoice_2 14 rfl rfl)
theorem dX3_throughChoice_63 : decode cX3_throughChoice 63 = .ok (.goto 12, 3) := dk_167 0 12 (dk_at dksX3_throughChoice_2 15 rfl rfl)
theorem dX3_throughChoice_66 : decode cX3_throughChoice 66 = .ok (.aload_n 0, 1) := dk_42 (dk_at dksX3_throughChoice_2 18 rfl rfl)
theorem dX3_throughChoice_67 : decode cX3_throughChoice 67 = .ok (.getfield 41, 3) := dk_180 0 41 (dk_at dksX3_throughChoice_2 19 rfl rfl)
theorem dX3_throughChoice_70 : decode cX3_throughChoice 70 = .ok (.iload_n 1, 1) := dk_27 (dk_at dksX3_throughChoice_2 22 rfl rfl)
theorem dX3_throughChoice_71 : decode cX3_throughChoice 71 = .ok (.iaload, 1) := dk_46 (dk_at dksX3_throughChoice_2 23 rfl rfl)
theorem dX3_throughChoice_72 : decode cX3_throughChoice 72 = .ok (.invokestatic 107, 3) := dk_184 0 107 (dk_at dksX3_throughChoice_3 0 rfl rfl)
theorem dX3_throughChoice_75 : decode cX3_throughChoice 75 = .ok (.istore 4, 2) := dk_54 4 (dk_at dksX3_throughChoice_3 3 rfl rfl)
theorem dX3_throughChoice_77 : decode cX3_throughChoice 77 = .ok (.aload_n 0, 1) := dk_42 (dk_at dksX3_throughChoice_3 5 rfl rfl)
theorem dX3_throughChoice_78 : decode cX3_throughChoice 78 = .ok (.getfield 97, 3) := dk_180 0 97 (dk_at dksX3_throughChoice_3 6 rfl rfl)
theorem dX3_throughChoice_81 : decode cX3_throughChoice 81 = .ok (.bipush 12, 2) := dk_16 12 (dk_at dksX3_throughChoice_3 9 rfl rfl)
theorem dX3_throughChoice_83 : decode cX3_throughChoice 83 = .ok (.iload_n 2, 1) := dk_28 (dk_at dksX3_throughChoice_3 11 rfl rfl)
theorem dX3_throughChoice_84 : decode cX3_throughChoice 84 = .ok (.imul, 1) := dk_104 (dk_at dksX3_throughChoice_3 12 rfl rfl)
theorem dX3_throughChoice_85 : decode cX3_throughChoice 85 = .ok (.aload_n 0, 1) := dk_42 (dk_at dksX3_throughChoice_3 13 rfl rfl)
theorem dX3_throughChoice_86 : decode cX3_throughChoice 86 = .ok (.getfield 38, 3) := dk_180 0 38 (dk_at dksX3_throughChoice_3 14 rfl rfl)
theorem dX3_throughChoice_89 : decode cX3_throughChoice 89 = .ok (.iload_n 1, 1) := dk_27 (dk_at dksX3_throughChoice_3 17 rfl rfl)
theorem dX3_throughChoice_90 : decode cX3_throughChoice 90 = .ok (.iaload, 1) := dk_46 (dk_at dksX3_throughChoice_3 18 rfl rfl)
theorem dX3_throughChoice_91 : decode cX3_throughChoice 91 = .ok (.iadd, 1) := dk_96 (dk_at dksX3_throughChoice_3 19 rfl rfl)
theorem dX3_throughChoice_92 : decode cX3_throughChoice 92 = .ok (.iaload, 1) := dk_46 (dk_at dksX3_throughChoice_3 20 rfl rfl)
theorem dX3_throughChoice_93 : decode cX3_throughChoice 93 = .ok (.iload_n 3, 1) := dk_29 (dk_at dksX3_throughChoice_3 21 rfl rfl)
theorem dX3_throughChoice_94 : decode cX3_throughChoice 94 = .ok (.ifCond .ne 8, 3) := dk_154 0 8 (dk_at dksX3_throughChoice_4 0 rfl rfl)
theorem dX3_throughChoice_97 : decode cX3_throughChoice 97 = .ok (.iload 4, 2) := dk_21 4 (dk_at dksX3_throughChoice_4 3 rfl rfl)
theorem dX3_throughChoice_99 : decode cX3_throughChoice 99 = .ok (.goto 7, 3) := dk_167 0 7 (dk_at dksX3_throughChoice_4 5 rfl rfl)
theorem dX3_throughChoice_102 : decode cX3_throughChoice 102 = .ok (.iload 4, 2) := dk_21 4 (dk_at dksX3_throughChoice_4 8 rfl rfl)
theorem dX3_throughChoice_104 : decode cX3_throughChoice 104 = .ok (.iconst (-1), 1) := dk_2 (dk_at dksX3_throughChoice_4 10 rfl rfl)
theorem dX3_throughChoice_105 : decode cX3_throughChoice 105 = .ok (.ixor, 1) := dk_130 (dk_at dksX3_throughChoice_4 11 rfl rfl)
theorem dX3_throughChoice_106 : decode cX3_throughChoice 106 = .ok (.iand, 1) := dk_126 (dk_at dksX3_throughChoice_4 12 rfl rfl)
theorem dX3_throughChoice_107 : decode cX3_throughChoice 107 = .ok (.istore 5, 2) := dk_54 5 (dk_at dksX3_throughChoice_4 13 rfl rfl)
theorem dX3_throughChoice_109 : decode cX3_throughChoice 109 = .ok (.aload_n 0, 1) := dk_42 (dk_at dksX3_throughChoice_4 15 rfl rfl)
theorem dX3_throughChoice_110 : decode cX3_throughChoice 110 = .ok (.getfield 66, 3) := dk_180 0 66 (dk_at dksX3_throughChoice_4 16 rfl rfl)
theorem dX3_throughChoice_113 : decode cX3_throughChoice 113 = .ok (.aload_n 0, 1) := dk_42 (dk_at dksX3_throughChoice_4 19 rfl rfl)
theorem dX3_throughChoice_114 : decode cX3_throughChoice 114 = .ok (.getfield 228, 3) := dk_180 0 228 (dk_at dksX3_throughChoice_4 20 rfl rfl)
theorem dX3_throughChoice_117 : decode cX3_throughChoice 117 = .ok (.iload 5, 2) := dk_21 5 (dk_at dksX3_throughChoice_5 0 rfl rfl)
theorem dX3_throughChoice_119 : decode cX3_throughChoice 119 = .ok (.iastore, 1) := dk_79 (dk_at dksX3_throughChoice_5 2 rfl rfl)
theorem dX3_throughChoice_120 : decode cX3_throughChoice 120 = .ok (.aload_n 0, 1) := dk_42 (dk_at dksX3_throughChoice_5 3 rfl rfl)
theorem dX3_throughChoice_121 : decode cX3_throughChoice 121 = .ok (.getfield 63, 3) := dk_180 0 63 (dk_at dksX3_throughChoice_5 4 rfl rfl)
theorem dX3_throughChoice_124 : decode cX3_throughChoice 124 = .ok (.aload_n 0, 1) := dk_42 (dk_at dksX3_throughChoice_5 7 rfl rfl)
theorem dX3_throughChoice_125 : decode cX3_throughChoice 125 = .ok (.getfield 228, 3) := dk_180 0 228 (dk_at dksX3_throughChoice_5 8 rfl rfl)
theorem dX3_throughChoice_128 : decode cX3_throughChoice 128 = .ok (.iload_n 3, 1) := dk_29 (dk_at dksX3_throughChoice_5 11 rfl rfl)
theorem dX3_throughChoice_129 : decode cX3_throughChoice 129 = .ok (.iconst 1, 1) := dk_4 (dk_at dksX3_throughChoice_5 12 rfl rfl)
theorem dX3_throughChoice_130 : decode cX3_throughChoice 130 = .ok (.iadd, 1) := dk_96 (dk_at dksX3_throughChoice_5 13 rfl rfl)
theorem dX3_throughChoice_131 : decode cX3_throughChoice 131 = .ok (.iastore, 1) := dk_79 (dk_at dksX3_throughChoice_5 14 rfl rfl)
theorem dX3_throughChoice_132 : decode cX3_throughChoice 132 = .ok (.iload 5, 2) := dk_21 5 (dk_at dksX3_throughChoice_5 15 rfl rfl)
theorem dX3_throughChoice_134 : decode cX3_throughChoice 134 = .ok (.ifCond .eq 72, 3) := dk_153 0 72 (dk_at dksX3_throughChoice_5 17 rfl rfl)
theorem dX3_throughChoice_137 : decode cX3_throughChoice 137 = .ok (.aload_n 0, 1) := dk_42 (dk_at dksX3_throughChoice_5 20 rfl rfl)
theorem dX3_throughChoice_138 : decode cX3_throughChoice 138 = .ok (.getfield 97, 3) := dk_180 0 97 (dk_at dksX3_throughChoice_5 21 rfl rfl)
theorem dX3_throughChoice_141 : decode cX3_throughChoice 141 = .ok (.bipush 12, 2) := dk_16 12 (dk_at dksX3_throughChoice_6 0 rfl rfl)
theorem dX3_throughChoice_143 : decode cX3_throughChoice 143 = .ok (.iload_n 2, 1) := dk_28 (dk_at dksX3_throughChoice_6 2 rfl rfl)
theorem dX3_throughChoice_144 : decode cX3_throughChoice 144 = .ok (.imul, 1) := dk_104 (dk_at dksX3_throughChoice_6 3 rfl rfl)
theorem dX3_throughChoice_145 : decode cX3_throughChoice 145 = .ok (.aload_n 0, 1) := dk_42 (dk_at dksX3_throughChoice_6 4 rfl rfl)
theorem dX3_throughChoice_146 : decode cX3_throughChoice 146 = .ok (.getfield 97, 3) := dk_180 0 97 (dk_at dksX3_throughChoice_6 5 rfl rfl)
theorem dX3_throughChoice_149 : decode cX3_throughChoice 149 = .ok (.bipush 12, 2) := dk_16 12 (dk_at dksX3_throughChoice_6 8 rfl rfl)
theorem dX3_throughChoice_151 : decode cX3_throughChoice 151 = .ok (.iload_n 2, 1) := dk_28 (dk_at dksX3_throughChoice_6 10 rfl rfl)
theorem dX3_throughChoice_152 : decode cX3_throughChoice 152 = .ok (.imul, 1) := dk_104 (dk_at dksX3_throughChoice_6 11 rfl rfl)
theorem dX3_throughChoice_153 : decode cX3_throughChoice 153 = .ok (.bipush 12, 2) := dk_16 12 (dk_at dksX3_throughChoice_6 12 rfl rfl)
theorem dX3_throughChoice_155 : decode cX3_throughChoice 155 = .ok (.iadd, 1) := dk_96 (dk_at dksX3_throughChoice_6 14 rfl rfl)
theorem dX3_throughChoice_156 : decode cX3_throughChoice 156 = .ok (.invokestatic 316, 3) := dk_184 1 60 (dk_at dksX3_throughChoice_6 15 rfl rfl)
theorem dX3_throughChoice_159 : decode cX3_throughChoice 159 = .ok (.aload_n 0, 1) := dk_42 (dk_at dksX3_throughChoice_6 18 rfl rfl)
theorem dX3_throughChoice_160 : decode cX3_throughChoice 160 = .ok (.getfield 97, 3) := dk_180 0 97 (dk_at dksX3_throughChoice_6 19 rfl rfl)
theorem dX3_throughChoice_163 : decode cX3_throughChoice 163 = .ok (.bipush 12, 2) := dk_16 12 (dk_at dksX3_throughChoice_6 22 rfl rfl)
theorem dX3_throughChoice_165 : decode cX3_throughChoice 165 = .ok (.iload_n 2, 1) := dk_28 (dk_at dksX3_throughChoice_7 0 rfl rfl)
theorem dX3_throughChoice_166 : decode cX3_throughChoice 166 = .ok (.imul, 1) := dk_104 (dk_at dksX3_throughChoice_7 1 rfl rfl)
theorem dX3_throughChoice_167 : decode cX3_throughChoice 167 = .ok (.bipush 12, 2) := dk_16 12 (dk_at dksX3_throughChoice_7 2 rfl rfl)
theorem dX3_throughChoice_169 : decode cX3_throughChoice 169 = .ok (.iadd, 1) := dk_96 (dk_at dksX3_throughChoice_7 4 rfl rfl)
theorem dX3_throughChoice_170 : decode cX3_throughChoice 170 = .ok (.aload_n 0, 1) := dk_42 (dk_at dksX3_throughChoice_7 5 rfl rfl)
theorem dX3_throughChoice_171 : decode cX3_throughChoice 171 = .ok (.getfield 38, 3) := dk_180 0 38 (dk_at dksX3_throughChoice_7 6 rfl rfl)
theorem dX3_throughChoice_174 : decode cX3_throughChoice 174 = .ok (.iload_n 1, 1) := dk_27 (dk_at dksX3_throughChoice_7 9 rfl rfl)
theorem dX3_throughChoice_175 : decode cX3_throughChoice 175 = .ok (.iaload, 1) := dk_46 (dk_at dksX3_throughChoice_7 10 rfl rfl)
theorem dX3_throughChoice_176 : decode cX3_throughChoice 176 = .ok (.iadd, 1) := dk_96 (dk_at dksX3_throughChoice_7 11 rfl rfl)
theorem dX3_throughChoice_177 : decode cX3_throughChoice 177 = .ok (.iload 5, 2) := dk_21 5 (dk_at dksX3_throughChoice_7 12 rfl rfl)
theorem dX3_throughChoice_179 : decode cX3_throughChoice 179 = .ok (.iastore, 1) := dk_79 (dk_at dksX3_throughChoice_7 14 rfl rfl)
theorem dX3_throughChoice_180 : decode cX3_throughChoice 180 = .ok (.aload_n 0, 1) := dk_42 (dk_at dksX3_throughChoice_7 15 rfl rfl)
theorem dX3_throughChoice_181 : decode cX3_throughChoice 181 = .ok (.iload_n 3, 1) := dk_29 (dk_at dksX3_throughChoice_7 16 rfl rfl)
theorem dX3_throughChoice_182 : decode cX3_throughChoice 182 = .ok (.iconst 1, 1) := dk_4 (dk_at dksX3_throughChoice_7 17 rfl rfl)
theorem dX3_throughChoice_183 : decode cX3_throughChoice 183 = .ok (.iadd, 1) := dk_96 (dk_at dksX3_throughChoice_7 18 rfl rfl)
theorem dX3_throughChoice_184 : decode cX3_throughChoice 184 = .ok (.iload_n 3, 1) := dk_29 (dk_at dksX3_throughChoice_7 19 rfl rfl)
theorem dX3_throughChoice_185 : decode cX3_throughChoice 185 = .ok (.ifCond .ne 12, 3) := dk_154 0 12 (dk_at dksX3_throughChoice_7 20 rfl rfl)
theorem dX3_throughChoice_188 : decode cX3_throughChoice 188 = .ok (.aload_n 0, 1) := dk_42 (dk_at dksX3_throughChoice_7 23 rfl rfl)
theorem dX3_throughChoice_189 : decode cX3_throughChoice 189 = .ok (.getfield 44, 3) := dk_180 0 44 (dk_at dksX3_throughChoice_8 0 rfl rfl)
theorem dX3_throughChoice_192 : decode cX3_throughChoice 192 = .ok (.iload_n 1, 1) := dk_27 (dk_at dksX3_throughChoice_8 3 rfl rfl)
theorem dX3_throughChoice_193 : decode cX3_throughChoice 193 = .ok (.iaload, 1) := dk_46 (dk_at dksX3_throughChoice_8 4 rfl rfl)
theorem dX3_throughChoice_194 : decode cX3_throughChoice 194 = .ok (.goto 9, 3) := dk_167 0 9 (dk_at dksX3_throughChoice_8 5 rfl rfl)
theorem dX3_throughChoice_197 : decode cX3_throughChoice 197 = .ok (.aload_n 0, 1) := dk_42 (dk_at dksX3_throughChoice_8 8 rfl rfl)
theorem dX3_throughChoice_198 : decode cX3_throughChoice 198 = .ok (.getfield 47, 3) := dk_180 0 47 (dk_at dksX3_throughChoice_8 9 rfl rfl)
theorem dX3_throughChoice_201 : decode cX3_throughChoice 201 = .ok (.iload_n 1, 1) := dk_27 (dk_at dksX3_throughChoice_8 12 rfl rfl)
theorem dX3_throughChoice_202 : decode cX3_throughChoice 202 = .ok (.iaload, 1) := dk_46 (dk_at dksX3_throughChoice_8 13 rfl rfl)
theorem dX3_throughChoice_203 : decode cX3_throughChoice 203 = .ok (.invokevirtual 244, 3) := dk_182 0 244 (dk_at dksX3_throughChoice_8 14 rfl rfl)
theorem dX3_throughChoice_206 : decode cX3_throughChoice 206 = .ok (.return_, 1) := dk_177 (dk_at dksX3_throughChoice_8 17 rfl rfl)
abbrev cX3_throughGuard : ByteArray := prog_15_method_75_code
def yX3_throughGuard : MethodName := ⟨RX3, "throughGuard", "(II)V"⟩
def dkwX3_throughGuard_16 : List UInt8 := [42, 180, 0, 47, 27, 46, 182, 0, 244, 177]
abbrev dktX3_throughGuard_16 : List UInt8 := dkwX3_throughGuard_16 ++ []
def dkwX3_throughGuard_15 : List UInt8 := [16, 12, 42, 180, 0, 66, 42, 180, 0, 228, 46, 104, 96, 42, 180, 0, 97, 21, 4, 184, 1, 60, 42, 6]
abbrev dktX3_throughGuard_15 : List UInt8 := dkwX3_throughGuard_15 ++ dktX3_throughGuard_16
def dkwX3_throughGuard_14 : List UInt8 := [180, 0, 228, 46, 16, 9, 160, 0, 12, 42, 27, 28, 182, 1, 65, 167, 0, 41, 42, 180, 0, 94, 29]
abbrev dktX3_throughGuard_14 : List UInt8 := dkwX3_throughGuard_14 ++ dktX3_throughGuard_15
def dkwX3_throughGuard_13 : List UInt8 := [154, 0, 19, 42, 180, 0, 66, 42, 180, 0, 228, 92, 46, 4, 96, 79, 167, 255, 207, 42, 180, 0, 66, 42]
abbrev dktX3_throughGuard_13 : List UInt8 := dkwX3_throughGuard_13 ++ dktX3_throughGuard_14
def dkwX3_throughGuard_12 : List UInt8 := [162, 0, 41, 42, 180, 0, 94, 29, 16, 12, 42, 180, 0, 66, 42, 180, 0, 228, 46, 104, 96, 46]
abbrev dktX3_throughGuard_12 : List UInt8 := dkwX3_throughGuard_12 ++ dktX3_throughGuard_13
def dkwX3_throughGuard_11 : List UInt8 := [132, 6, 1, 167, 255, 225, 42, 27, 28, 182, 1, 65, 177, 42, 180, 0, 66, 42, 180, 0, 228, 46, 16, 9]
abbrev dktX3_throughGuard_11 : List UInt8 := dkwX3_throughGuard_11 ++ dktX3_throughGuard_12
def dkwX3_throughGuard_10 : List UInt8 := [162, 0, 30, 42, 180, 0, 91, 29, 21, 6, 96, 92, 46, 42, 180, 0, 94, 29, 21, 6, 96, 46, 128, 79]
abbrev dktX3_throughGuard_10 : List UInt8 := dkwX3_throughGuard_10 ++ dktX3_throughGuard_11
def dkwX3_throughGuard_9 : List UInt8 := [180, 0, 228, 92, 46, 4, 96, 79, 42, 180, 0, 47, 27, 46, 156, 0, 47, 3, 54, 6, 21, 6, 16, 108]
abbrev dktX3_throughGuard_9 : List UInt8 := dkwX3_throughGuard_9 ++ dktX3_throughGuard_10
def dkwX3_throughGuard_8 : List UInt8 := [160, 0, 31, 42, 27, 28, 42, 180, 0, 66, 42, 180, 0, 228, 46, 182, 1, 74, 42, 180, 0, 66, 42]
abbrev dktX3_throughGuard_8 : List UInt8 := dkwX3_throughGuard_8 ++ dktX3_throughGuard_9
def dkwX3_throughGuard_7 : List UInt8 := [180, 0, 94, 29, 16, 12, 21, 6, 104, 96, 184, 1, 19, 132, 6, 1, 167, 255, 218, 21, 5, 6]
abbrev dktX3_throughGuard_7 : List UInt8 := dkwX3_throughGuard_7 ++ dktX3_throughGuard_8
def dkwX3_throughGuard_6 : List UInt8 := [21, 6, 16, 9, 162, 0, 37, 42, 180, 0, 91, 29, 16, 108, 96, 16, 12, 21, 6, 104, 96, 42]
abbrev dktX3_throughGuard_6 : List UInt8 := dkwX3_throughGuard_6 ++ dktX3_throughGuard_7
def dkwX3_throughGuard_5 : List UInt8 := [42, 180, 0, 97, 21, 4, 42, 180, 0, 94, 29, 184, 1, 19, 21, 5, 5, 160, 0, 47, 3, 54, 6]
abbrev dktX3_throughGuard_5 : List UInt8 := dkwX3_throughGuard_5 ++ dktX3_throughGuard_6
def dkwX3_throughGuard_4 : List UInt8 := [153, 0, 24, 42, 180, 0, 44, 27, 46, 155, 0, 15, 42, 5, 42, 180, 0, 44, 27, 46, 182, 0, 244, 177]
abbrev dktX3_throughGuard_4 : List UInt8 := dkwX3_throughGuard_4 ++ dktX3_throughGuard_5
def dkwX3_throughGuard_3 : List UInt8 := [182, 0, 244, 177, 21, 5, 4, 160, 0, 54, 42, 27, 28, 182, 1, 71, 42, 180, 0, 97, 21, 4, 46]
abbrev dktX3_throughGuard_3 : List UInt8 := dkwX3_throughGuard_3 ++ dktX3_throughGuard_4
def dkwX3_throughGuard_2 : List UInt8 := [180, 0, 97, 16, 12, 28, 104, 42, 180, 0, 97, 21, 4, 184, 1, 60, 42, 4, 42, 180, 0, 38, 27, 46]
abbrev dktX3_throughGuard_2 : List UInt8 := dkwX3_throughGuard_2 ++ dktX3_throughGuard_3
def dkwX3_throughGuard_1 : List UInt8 := [54, 5, 21, 5, 154, 0, 48, 42, 27, 28, 182, 1, 57, 42, 180, 0, 94, 29, 16, 108, 184, 1, 53, 42]
abbrev dktX3_throughGuard_1 : List UInt8 := dkwX3_throughGuard_1 ++ dktX3_throughGuard_2
def dkwX3_throughGuard_0 : List UInt8 := [16, 108, 28, 104, 62, 16, 12, 28, 104, 16, 12, 96, 54, 4, 42, 180, 0, 63, 42, 180, 0, 228, 46]
abbrev dktX3_throughGuard_0 : List UInt8 := dkwX3_throughGuard_0 ++ dktX3_throughGuard_1
theorem dksX3_throughGuard_0 : cX3_throughGuard.data.toList.drop 0 = dktX3_throughGuard_0 := by decide +kernel
theorem dksX3_throughGuard_1 : cX3_throughGuard.data.toList.drop 23 = dktX3_throughGuard_1 := dk_seg dksX3_throughGuard_0 23 rfl rfl
theorem dksX3_throughGuard_2 : cX3_throughGuard.data.toList.drop 47 = dktX3_throughGuard_2 := dk_seg dksX3_throughGuard_1 24 rfl rfl
theorem dksX3_throughGuard_3 : cX3_throughGuard.data.toList.drop 71 = dktX3_throughGuard_3 := dk_seg dksX3_throughGuard_2 24 rfl rfl
theorem dksX3_throughGuard_4 : cX3_throughGuard.data.toList.drop 94 = dktX3_throughGuard_4 := dk_seg dksX3_throughGuard_3 23 rfl rfl
theorem dksX3_throughGuard_5 : cX3_throughGuard.data.toList.drop 118 = dktX3_throughGuard_5 := dk_seg dksX3_throughGuard_4 24 rfl rfl
theorem dksX3_throughGuard_6 : cX3_throughGuard.data.toList.drop 141 = dktX3_throughGuard_6 := dk_seg dksX3_throughGuard_5 23 rfl rfl
theorem dksX3_throughGuard_7 : cX3_throughGuard.data.toList.drop 163 = dktX3_throughGuard_7 := dk_seg dksX3_throughGuard_6 22 rfl rfl
theorem dksX3_throughGuard_8 : cX3_throughGuard.data.toList.drop 185 = dktX3_throughGuard_8 := dk_seg dksX3_throughGuard_7 22 rfl rfl
theorem dksX3_throughGuard_9 : cX3_throughGuard.data.toList.drop 208 = dktX3_throughGuard_9 := dk_seg dksX3_throughGuard_8 23 rfl rfl
theorem dksX3_throughGuard_10 : cX3_throughGuard.data.toList.drop 232 = dktX3_throughGuard_10 := dk_seg dksX3_throughGuard_9 24 rfl rfl
theorem dksX3_throughGuard_11 : cX3_throughGuard.data.toList.drop 256 = dktX3_throughGuard_11 := dk_seg dksX3_throughGuard_10 24 rfl rfl
theorem dksX3_throughGuard_12 : cX3_throughGuard.data.toList.drop 280 = dktX3_throughGuard_12 := dk_seg dksX3_throughGuard_11 24 rfl rfl
theorem dksX3_throughGuard_13 : cX3_throughGuard.data.toList.drop 302 = dktX3_throughGuard_13 := dk_seg dksX3_throughGuard_12 22 rfl rfl
theorem dksX3_throughGuard_14 : cX3_throughGuard.data.toList.drop 326 = dktX3_throughGuard_14 := dk_seg dksX3_throughGuard_13 24 rfl rfl
theorem dksX3_throughGuard_15 : cX3_throughGuard.data.toList.drop 349 = dktX3_throughGuard_15 := dk_seg dksX3_throughGuard_14 23 rfl rfl
theorem dksX3_throughGuard_16 : cX3_throughGuard.data.toList.drop 373 = dktX3_throughGuard_16 := dk_seg dksX3_throughGuard_15 24 rfl rfl
theorem dX3_throughGuard_0 : decode cX3_throughGuard 0 = .ok (.bipush 108, 2) := dk_16 108 (dk_at dksX3_throughGuard_0 0 rfl rfl)
theorem dX3_throughGuard_2 : decode cX3_throughGuard 2 = .ok (.iload_n 2, 1) := dk_28 (dk_at dksX3_throughGuard_0 2 rfl rfl)
theorem dX3_throughGuard_3 : decode cX3_throughGuard 3 = .ok (.imul, 1) := dk_104 (dk_at dksX3_throughGuard_0 3 rfl rfl)
theorem dX3_throughGuard_4 : decode cX3_throughGuard 4 = .ok (.istore_n 3, 1) := dk_62 (dk_at dksX3_throughGuard_0 4 rfl rfl)
theorem dX3_throughGuard_5 : decode cX3_throughGuard 5 = .ok (.bipush 12, 2) := dk_16 12 (dk_at dksX3_throughGuard_0 5 rfl rfl)
theorem dX3_throughGuard_7 : decode cX3_throughGuard 7 = .ok (.iload_n 2, 1) := dk_28 (dk_at dksX3_throughGuard_0 7 rfl rfl)
theorem dX3_throughGuard_8 : decode cX3_throughGuard 8 = .ok (.imul, 1) := dk_104 (dk_at dksX3_throughGuard_0 8 rfl rfl)
theorem dX3_throughGuard_9 : decode cX3_throughGuard 9 = .ok (.bipush 12, 2) := dk_16 12 (dk_at dksX3_throughGuard_0 9 rfl rfl)
theorem dX3_throughGuard_11 : decode cX3_throughGuard 11 = .ok (.iadd, 1) := dk_96 (dk_at dksX3_throughGuard_0 11 rfl rfl)
theorem dX3_throughGuard_12 : decode cX3_throughGuard 12 = .ok (.istore 4, 2) := dk_54 4 (dk_at dksX3_throughGuard_0 12 rfl rfl)
theorem dX3_throughGuard_14 : decode cX3_throughGuard 14 = .ok (.aload_n 0, 1) := dk_42 (dk_at dksX3_throughGuard_0 14 rfl rfl)
theorem dX3_throughGuard_15 : decode cX3_throughGuard 15 = .ok (.getfield 63, 3) := dk_180 0 63 (dk_at dksX3_throughGuard_0 15 rfl rfl)
theorem dX3_throughGuard_18 : decode cX3_throughGuard 18 = .ok (.aload_n 0, 1) := dk_42 (dk_at dksX3_throughGuard_0 18 rfl rfl)
theorem dX3_throughGuard_19 : decode cX3_throughGuard 19 = .ok (.getfield 228, 3) := dk_180 0 228 (dk_at dksX3_throughGuard_0 19 rfl rfl)
theorem dX3_throughGuard_22 : decode cX3_throughGuard 22 = .ok (.iaload, 1) := dk_46 (dk_at dksX3_throughGuard_0 22 rfl rfl)
theorem dX3_throughGuard_23 : decode cX3_throughGuard 23 = .ok (.istore 5, 2) := dk_54 5 (dk_at dksX3_throughGuard_1 0 rfl rfl)
theorem dX3_throughGuard_25 : decode cX3_throughGuard 25 = .ok (.iload 5, 2) := dk_21 5 (dk_at dksX3_throughGuard_1 2 rfl rfl)
theorem dX3_throughGuard_27 : decode cX3_throughGuard 27 = .ok (.ifCond .ne 48, 3) := dk_154 0 48 (dk_at dksX3_throughGuard_1 4 rfl rfl)
theorem dX3_throughGuard_30 : decode cX3_throughGuard 30 = .ok (.aload_n 0, 1) := dk_42 (dk_at dksX3_throughGuard_1 7 rfl rfl)
theorem dX3_throughGuard_31 : decode cX3_throughGuard 31 = .ok (.iload_n 1, 1) := dk_27 (dk_at dksX3_throughGuard_1 8 rfl rfl)
theorem dX3_throughGuard_32 : decode cX3_throughGuard 32 = .ok (.iload_n 2, 1) := dk_28 (dk_at dksX3_throughGuard_1 9 rfl rfl)
theorem dX3_throughGuard_33 : decode cX3_throughGuard 33 = .ok (.invokevirtual 313, 3) := dk_182 1 57 (dk_at dksX3_throughGuard_1 10 rfl rfl)
theorem dX3_throughGuard_36 : decode cX3_throughGuard 36 = .ok (.aload_n 0, 1) := dk_42 (dk_at dksX3_throughGuard_1 13 rfl rfl)
theorem dX3_throughGuard_37 : decode cX3_throughGuard 37 = .ok (.getfield 94, 3) := dk_180 0 94 (dk_at dksX3_throughGuard_1 14 rfl rfl)
theorem dX3_throughGuard_40 : decode cX3_throughGuard 40 = .ok (.iload_n 3, 1) := dk_29 (dk_at dksX3_throughGuard_1 17 rfl rfl)
theorem dX3_throughGuard_41 : decode cX3_throughGuard 41 = .ok (.bipush 108, 2) := dk_16 108 (dk_at dksX3_throughGuard_1 18 rfl rfl)
theorem dX3_throughGuard_43 : decode cX3_throughGuard 43 = .ok (.invokestatic 309, 3) := dk_184 1 53 (dk_at dksX3_throughGuard_1 20 rfl rfl)
theorem dX3_throughGuard_46 : decode cX3_throughGuard 46 = .ok (.aload_n 0, 1) := dk_42 (dk_at dksX3_throughGuard_1 23 rfl rfl)
theorem dX3_throughGuard_47 : decode cX3_throughGuard 47 = .ok (.getfield 97, 3) := dk_180 0 97 (dk_at dksX3_throughGuard_2 0 rfl rfl)
theorem dX3_throughGuard_50 : decode cX3_throughGuard 50 = .ok (.bipush 12, 2) := dk_16 12 (dk_at dksX3_throughGuard_2 3 rfl rfl)
theorem dX3_throughGuard_52 : decode cX3_throughGuard 52 = .ok (.iload_n 2, 1) := dk_28 (dk_at dksX3_throughGuard_2 5 rfl rfl)
theorem dX3_throughGuard_53 : decode cX3_throughGuard 53 = .ok (.imul, 1) := dk_104 (dk_at dksX3_throughGuard_2 6 rfl rfl)
theorem dX3_throughGuard_54 : decode cX3_throughGuard 54 = .ok (.aload_n 0, 1) := dk_42 (dk_at dksX3_throughGuard_2 7 rfl rfl)
theorem dX3_throughGuard_55 : decode cX3_throughGuard 55 = .ok (.getfield 97, 3) := dk_180 0 97 (dk_at dksX3_throughGuard_2 8 rfl rfl)
theorem dX3_throughGuard_58 : decode cX3_throughGuard 58 = .ok (.iload 4, 2) := dk_21 4 (dk_at dksX3_throughGuard_2 11 rfl rfl)
theorem dX3_throughGuard_60 : decode cX3_throughGuard 60 = .ok (.invokestatic 316, 3) := dk_184 1 60 (dk_at dksX3_throughGuard_2 13 rfl rfl)
theorem dX3_throughGuard_63 : decode cX3_throughGuard 63 = .ok (.aload_n 0, 1) := dk_42 (dk_at dksX3_throughGuard_2 16 rfl rfl)
theorem dX3_throughGuard_64 : decode cX3_throughGuard 64 = .ok (.iconst 1, 1) := dk_4 (dk_at dksX3_throughGuard_2 17 rfl rfl)
theorem dX3_throughGuard_65 : decode cX3_throughGuard 65 = .ok (.aload_n 0, 1) := dk_42 (dk_at dksX3_throughGuard_2 18 rfl rfl)
theorem dX3_throughGuard_66 : decode cX3_throughGuard 66 = .ok (.getfield 38, 3) := dk_180 0 38 (dk_at dksX3_throughGuard_2 19 rfl rfl)
theorem dX3_throughGuard_69 : decode cX3_throughGuard 69 = .ok (.iload_n 1, 1) := dk_27 (dk_at dksX3_throughGuard_2 22 rfl rfl)
theorem dX3_throughGuard_70 : decode cX3_throughGuard 70 = .ok (.iaload, 1) := dk_46 (dk_at dksX3_throughGuard_2 23 rfl rfl)
theorem dX3_throughGuard_71 : decode cX3_throughGuard 71 = .ok (.invokevirtual 244, 3) := dk_182 0 244 (dk_at dksX3_throughGuard_3 0 rfl rfl)
theorem dX3_throughGuard_74 : decode cX3_throughGuard 74 = .ok (.return_, 1) := dk_177 (dk_at dksX3_throughGuard_3 3 rfl rfl)
theorem dX3_throughGuard_75 : decode cX3_throughGuard 75 = .ok (.iload 5, 2) := dk_21 5 (dk_at dksX3_throughGuard_3 4 rfl rfl)
theorem dX3_throughGuard_77 : decode cX3_throughGuard 77 = .ok (.iconst 1, 1) := dk_4 (dk_at dksX3_throughGuard_3 6 rfl rfl)
theorem dX3_throughGuard_78 : decode cX3_throughGuard 78 = .ok (.if_icmp .ne 54, 3) := dk_160 0 54 (dk_at dksX3_throughGuard_3 7 rfl rfl)
theorem dX3_throughGuard_81 : decode cX3_throughGuard 81 = .ok (.aload_n 0, 1) := dk_42 (dk_at dksX3_throughGuard_3 10 rfl rfl)
theorem dX3_throughGuard_82 : decode cX3_throughGuard 82 = .ok (.iload_n 1, 1) := dk_27 (dk_at dksX3_throughGuard_3 11 rfl rfl)
theorem dX3_throughGuard_83 : decode cX3_throughGuard 83 = .ok (.iload_n 2, 1) := dk_28 (dk_at dksX3_throughGuard_3 12 rfl rfl)
theorem dX3_throughGuard_84 : decode cX3_throughGuard 84 = .ok (.invokevirtual 327, 3) := dk_182 1 71 (dk_at dksX3_throughGuard_3 13 rfl rfl)
theorem dX3_throughGuard_87 : decode cX3_throughGuard 87 = .ok (.aload_n 0, 1) := dk_42 (dk_at dksX3_throughGuard_3 16 rfl rfl)
theorem dX3_throughGuard_88 : decode cX3_throughGuard 88 = .ok (.getfield 97, 3) := dk_180 0 97 (dk_at dksX3_throughGuard_3 17 rfl rfl)
theorem dX3_throughGuard_91 : decode cX3_throughGuard 91 = .ok (.iload 4, 2) := dk_21 4 (dk_at dksX3_throughGuard_3 20 rfl rfl)
theorem dX3_throughGuard_93 : decode cX3_throughGuard 93 = .ok (.iaload, 1) := dk_46 (dk_at dksX3_throughGuard_3 22 rfl rfl)
theorem dX3_throughGuard_94 : decode cX3_throughGuard 94 = .ok (.ifCond .eq 24, 3) := dk_153 0 24 (dk_at dksX3_throughGuard_4 0 rfl rfl)
theorem dX3_throughGuard_97 : decode cX3_throughGuard 97 = .ok (.aload_n 0, 1) := dk_42 (dk_at dksX3_throughGuard_4 3 rfl rfl)
theorem dX3_throughGuard_98 : decode cX3_throughGuard 98 = .ok (.getfield 44, 3) := dk_180 0 44 (dk_at dksX3_throughGuard_4 4 rfl rfl)
theorem dX3_throughGuard_101 : decode cX3_throughGuard 101 = .ok (.iload_n 1, 1) := dk_27 (dk_at dksX3_throughGuard_4 7 rfl rfl)
theorem dX3_throughGuard_102 : decode cX3_throughGuard 102 = .ok (.iaload, 1) := dk_46 (dk_at dksX3_throughGuard_4 8 rfl rfl)
theorem dX3_throughGuard_103 : decode cX3_throughGuard 103 = .ok (.ifCond .lt 15, 3) := dk_155 0 15 (dk_at dksX3_throughGuard_4 9 rfl rfl)
theorem dX3_throughGuard_106 : decode cX3_throughGuard 106 = .ok (.aload_n 0, 1) := dk_42 (dk_at dksX3_throughGuard_4 12 rfl rfl)
theorem dX3_throughGuard_107 : decode cX3_throughGuard 107 = .ok (.iconst 2, 1) := dk_5 (dk_at dksX3_throughGuard_4 13 rfl rfl)
theorem dX3_throughGuard_108 : decode cX3_throughGuard 108 = .ok (.aload_n 0, 1) := dk_42 (dk_at dksX3_throughGuard_4 14 rfl rfl)
theorem dX3_throughGuard_109 : decode cX3_throughGuard 109 = .ok (.getfield 44, 3) := dk_180 0 44 (dk_at dksX3_throughGuard_4 15 rfl rfl)
theorem dX3_throughGuard_112 : decode cX3_throughGuard 112 = .ok (.iload_n 1, 1) := dk_27 (dk_at dksX3_throughGuard_4 18 rfl rfl)
theorem dX3_throughGuard_113 : decode cX3_throughGuard 113 = .ok (.iaload, 1) := dk_46 (dk_at dksX3_throughGuard_4 19 rfl rfl)
theorem dX3_throughGuard_114 : decode cX3_throughGuard 114 = .ok (.invokevirtual 244, 3) := dk_182 0 244 (dk_at dksX3_throughGuard_4 20 rfl rfl)
theorem dX3_throughGuard_117 : decode cX3_throughGuard 117 = .ok (.return_, 1) := dk_177 (dk_at dksX3_throughGuard_4 23 rfl rfl)
theorem dX3_throughGuard_118 : decode cX3_throughGuard 118 = .ok (.aload_n 0, 1) := dk_42 (dk_at dksX3_throughGuard_5 0 rfl rfl)
theorem dX3_throughGuard_119 : decode cX3_throughGuard 119 = .ok (.getfield 97, 3) := dk_180 0 97 (dk_at dksX3_throughGuard_5 1 rfl rfl)
theorem dX3_throughGuard_122 : decode cX3_throughGuard 122 = .ok (.iload 4, 2) := dk_21 4 (dk_at dksX3_throughGuard_5 4 rfl rfl)
theorem dX3_throughGuard_124 : decode cX3_throughGuard 124 = .ok (.aload_n 0, 1) := dk_42 (dk_at dksX3_throughGuard_5 6 rfl rfl)
theorem dX3_throughGuard_125 : decode cX3_throughGuard 125 = .ok (.getfield 94, 3) := dk_180 0 94 (dk_at dksX3_throughGuard_5 7 rfl rfl)
theorem dX3_throughGuard_128 : decode cX3_throughGuard 128 = .ok (.iload_n 3, 1) := dk_29 (dk_at dksX3_throughGuard_5 10 rfl rfl)
theorem dX3_throughGuard_129 : decode cX3_throughGuard 129 = .ok (.invokestatic 275, 3) := dk_184 1 19 (dk_at dksX3_throughGuard_5 11 rfl rfl)
theorem dX3_throughGuard_132 : decode cX3_throughGuard 132 = .ok (.iload 5, 2) := dk_21 5 (dk_at dksX3_throughGuard_5 14 rfl rfl)
theorem dX3_throughGuard_134 : decode cX3_throughGuard 134 = .ok (.iconst 2, 1) := dk_5 (dk_at dksX3_throughGuard_5 16 rfl rfl)
theorem dX3_throughGuard_135 : decode cX3_throughGuard 135 = .ok (.if_icmp .ne 47, 3) := dk_160 0 47 (dk_at dksX3_throughGuard_5 17 rfl rfl)
theorem dX3_throughGuard_138 : decode cX3_throughGuard 138 = .ok (.iconst 0, 1) := dk_3 (dk_at dksX3_throughGuard_5 20 rfl rfl)
theorem dX3_throughGuard_139 : decode cX3_throughGuard 139 = .ok (.istore 6, 2) := dk_54 6 (dk_at dksX3_throughGuard_5 21 rfl rfl)
theorem dX3_throughGuard_141 : decode cX3_throughGuard 141 = .ok (.iload 6, 2) := dk_21 6 (dk_at dksX3_throughGuard_6 0 rfl rfl)
theorem dX3_throughGuard_143 : decode cX3_throughGuard 143 = .ok (.bipush 9, 2) := dk_16 9 (dk_at dksX3_throughGuard_6 2 rfl rfl)
theorem dX3_throughGuard_145 : decode cX3_throughGuard 145 = .ok (.if_icmp .ge 37, 3) := dk_162 0 37 (dk_at dksX3_throughGuard_6 4 rfl rfl)
theorem dX3_throughGuard_148 : decode cX3_throughGuard 148 = .ok (.aload_n 0, 1) := dk_42 (dk_at dksX3_throughGuard_6 7 rfl rfl)
theorem dX3_throughGuard_149 : decode cX3_throughGuard 149 = .ok (.getfield 91, 3) := dk_180 0 91 (dk_at dksX3_throughGuard_6 8 rfl rfl)
theorem dX3_throughGuard_152 : decode cX3_throughGuard 152 = .ok (.iload_n 3, 1) := dk_29 (dk_at dksX3_throughGuard_6 11 rfl rfl)
theorem dX3_throughGuard_153 : decode cX3_throughGuard 153 = .ok (.bipush 108, 2) := dk_16 108 (dk_at dksX3_throughGuard_6 12 rfl rfl)
theorem dX3_throughGuard_155 : decode cX3_throughGuard 155 = .ok (.iadd, 1) := dk_96 (dk_at dksX3_throughGuard_6 14 rfl rfl)
theorem dX3_throughGuard_156 : decode cX3_throughGuard 156 = .ok (.bipush 12, 2) := dk_16 12 (dk_at dksX3_throughGuard_6 15 rfl rfl)
theorem dX3_throughGuard_158 : decode cX3_throughGuard 158 = .ok (.iload 6, 2) := dk_21 6 (dk_at dksX3_throughGuard_6 17 rfl rfl)
theorem dX3_throughGuard_160 : decode cX3_throughGuard 160 = .ok (.imul, 1) := dk_104 (dk_at dksX3_throughGuard_6 19 rfl rfl)
theorem dX3_throughGuard_161 : decode cX3_throughGuard 161 = .ok (.iadd, 1) := dk_96 (dk_at dksX3_throughGuard_6 20 rfl rfl)
theorem dX3_throughGuard_162 : decode cX3_throughGuard 162 = .ok (.aload_n 0, 1) := dk_42 (dk_at dksX3_throughGuard_6 21 rfl rfl)
theorem dX3_throughGuard_163 : decode cX3_throughGuard 163 = .ok (.getfield 94, 3) := dk_180 0 94 (dk_at dksX3_throughGuard_7 0 rfl rfl)
theorem dX3_throughGuard_166 : decode cX3_throughGuard 166 = .ok (.iload_n 3, 1) := dk_29 (dk_at dksX3_throughGuard_7 3 rfl rfl)
theorem dX3_throughGuard_167 : decode cX3_throughGuard 167 = .ok (.bipush 12, 2) := dk_16 12 (dk_at dksX3_throughGuard_7 4 rfl rfl)
theorem dX3_throughGuard_169 : decode cX3_throughGuard 169 = .ok (.iload 6, 2) := dk_21 6 (dk_at dksX3_throughGuard_7 6 rfl rfl)
theorem dX3_throughGuard_171 : decode cX3_throughGuard 171 = .ok (.imul, 1) := dk_104 (dk_at dksX3_throughGuard_7 8 rfl rfl)
theorem dX3_throughGuard_172 : decode cX3_throughGuard 172 = .ok (.iadd, 1) := dk_96 (dk_at dksX3_throughGuard_7 9 rfl rfl)
theorem dX3_throughGuard_173 : decode cX3_throughGuard 173 = .ok (.invokestatic 275, 3) := dk_184 1 19 (dk_at dksX3_throughGuard_7 10 rfl rfl)
theorem dX3_throughGuard_176 : decode cX3_throughGuard 176 = .ok (.iinc 6 1, 3) := dk_132 6 1 (dk_at dksX3_throughGuard_7 13 rfl rfl)
theorem dX3_throughGuard_179 : decode cX3_throughGuard 179 = .ok (.goto (-38), 3) := dk_167 255 218 (dk_at dksX3_throughGuard_7 16 rfl rfl)
theorem dX3_throughGuard_182 : decode cX3_throughGuard 182 = .ok (.iload 5, 2) := dk_21 5 (dk_at dksX3_throughGuard_7 19 rfl rfl)
theorem dX3_throughGuard_184 : decode cX3_throughGuard 184 = .ok (.iconst 3, 1) := dk_6 (dk_at dksX3_throughGuard_7 21 rfl rfl)
theorem dX3_throughGuard_185 : decode cX3_throughGuard 185 = .ok (.if_icmp .ne 31, 3) := dk_160 0 31 (dk_at dksX3_throughGuard_8 0 rfl rfl)
theorem dX3_throughGuard_188 : decode cX3_throughGuard 188 = .ok (.aload_n 0, 1) := dk_42 (dk_at dksX3_throughGuard_8 3 rfl rfl)
theorem dX3_throughGuard_189 : decode cX3_throughGuard 189 = .ok (.iload_n 1, 1) := dk_27 (dk_at dksX3_throughGuard_8 4 rfl rfl)
theorem dX3_throughGuard_190 : decode cX3_throughGuard 190 = .ok (.iload_n 2, 1) := dk_28 (dk_at dksX3_throughGuard_8 5 rfl rfl)
theorem dX3_throughGuard_191 : decode cX3_throughGuard 191 = .ok (.aload_n 0, 1) := dk_42 (dk_at dksX3_throughGuard_8 6 rfl rfl)
theorem dX3_throughGuard_192 : decode cX3_throughGuard 192 = .ok (.getfield 66, 3) := dk_180 0 66 (dk_at dksX3_throughGuard_8 7 rfl rfl)
theorem dX3_throughGuard_195 : decode cX3_throughGuard 195 = .ok (.aload_n 0, 1) := dk_42 (dk_at dksX3_throughGuard_8 10 rfl rfl)
theorem dX3_throughGuard_196 : decode cX3_throughGuard 196 = .ok (.getfield 228, 3) := dk_180 0 228 (dk_at dksX3_throughGuard_8 11 rfl rfl)
theorem dX3_throughGuard_199 : decode cX3_throughGuard 199 = .ok (.iaload, 1) := dk_46 (dk_at dksX3_throughGuard_8 14 rfl rfl)
theorem dX3_throughGuard_200 : decode cX3_throughGuard 200 = .ok (.invokevirtual 330, 3) := dk_182 1 74 (dk_at dksX3_throughGuard_8 15 rfl rfl)
theorem dX3_throughGuard_203 : decode cX3_throughGuard 203 = .ok (.aload_n 0, 1) := dk_42 (dk_at dksX3_throughGuard_8 18 rfl rfl)
theorem dX3_throughGuard_204 : decode cX3_throughGuard 204 = .ok (.getfield 66, 3) := dk_180 0 66 (dk_at dksX3_throughGuard_8 19 rfl rfl)
theorem dX3_throughGuard_207 : decode cX3_throughGuard 207 = .ok (.aload_n 0, 1) := dk_42 (dk_at dksX3_throughGuard_8 22 rfl rfl)
theorem dX3_throughGuard_208 : decode cX3_throughGuard 208 = .ok (.getfield 228, 3) := dk_180 0 228 (dk_at dksX3_throughGuard_9 0 rfl rfl)
theorem dX3_throughGuard_211 : decode cX3_throughGuard 211 = .ok (.dup2, 1) := dk_92 (dk_at dksX3_throughGuard_9 3 rfl rfl)
theorem dX3_throughGuard_212 : decode cX3_throughGuard 212 = .ok (.iaload, 1) := dk_46 (dk_at dksX3_throughGuard_9 4 rfl rfl)
theorem dX3_throughGuard_213 : decode cX3_throughGuard 213 = .ok (.iconst 1, 1) := dk_4 (dk_at dksX3_throughGuard_9 5 rfl rfl)
theorem dX3_throughGuard_214 : decode cX3_throughGuard 214 = .ok (.iadd, 1) := dk_96 (dk_at dksX3_throughGuard_9 6 rfl rfl)
theorem dX3_throughGuard_215 : decode cX3_throughGuard 215 = .ok (.iastore, 1) := dk_79 (dk_at dksX3_throughGuard_9 7 rfl rfl)
theorem dX3_throughGuard_216 : decode cX3_throughGuard 216 = .ok (.aload_n 0, 1) := dk_42 (dk_at dksX3_throughGuard_9 8 rfl rfl)
theorem dX3_throughGuard_217 : decode cX3_throughGuard 217 = .ok (.getfield 47, 3) := dk_180 0 47 (dk_at dksX3_throughGuard_9 9 rfl rfl)
theorem dX3_throughGuard_220 : decode cX3_throughGuard 220 = .ok (.iload_n 1, 1) := dk_27 (dk_at dksX3_throughGuard_9 12 rfl rfl)
theorem dX3_throughGuard_221 : decode cX3_throughGuard 221 = .ok (.iaload, 1) := dk_46 (dk_at dksX3_throughGuard_9 13 rfl rfl)
theorem dX3_throughGuard_222 : decode cX3_throughGuard 222 = .ok (.ifCond .ge 47, 3) := dk_156 0 47 (dk_at dksX3_throughGuard_9 14 rfl rfl)
theorem dX3_throughGuard_225 : decode cX3_throughGuard 225 = .ok (.iconst 0, 1) := dk_3 (dk_at dksX3_throughGuard_9 17 rfl rfl)
theorem dX3_throughGuard_226 : decode cX3_throughGuard 226 = .ok (.istore 6, 2) := dk_54 6 (dk_at dksX3_throughGuard_9 18 rfl rfl)
theorem dX3_throughGuard_228 : decode cX3_throughGuard 228 = .ok (.iload 6, 2) := dk_21 6 (dk_at dksX3_throughGuard_9 20 rfl rfl)
theorem dX3_throughGuard_230 : decode cX3_throughGuard 230 = .ok (.bipush 108, 2) := dk_16 108 (dk_at dksX3_throughGuard_9 22 rfl rfl)
theorem dX3_throughGuard_232 : decode cX3_throughGuard 232 = .ok (.if_icmp .ge 30, 3) := dk_162 0 30 (dk_at dksX3_throughGuard_10 0 rfl rfl)
theorem dX3_throughGuard_235 : decode cX3_throughGuard 235 = .ok (.aload_n 0, 1) := dk_42 (dk_at dksX3_throughGuard_10 3 rfl rfl)
theorem dX3_throughGuard_236 : decode cX3_throughGuard 236 = .ok (.getfield 91, 3) := dk_180 0 91 (dk_at dksX3_throughGuard_10 4 rfl rfl)
theorem dX3_throughGuard_239 : decode cX3_throughGuard 239 = .ok (.iload_n 3, 1) := dk_29 (dk_at dksX3_throughGuard_10 7 rfl rfl)
theorem dX3_throughGuard_240 : decode cX3_throughGuard 240 = .ok (.iload 6, 2) := dk_21 6 (dk_at dksX3_throughGuard_10 8 rfl rfl)
theorem dX3_throughGuard_242 : decode cX3_throughGuard 242 = .ok (.iadd, 1) := dk_96 (dk_at dksX3_throughGuard_10 10 rfl rfl)
theorem dX3_throughGuard_243 : decode cX3_throughGuard 243 = .ok (.dup2, 1) := dk_92 (dk_at dksX3_throughGuard_10 11 rfl rfl)
theorem dX3_throughGuard_244 : decode cX3_throughGuard 244 = .ok (.iaload, 1) := dk_46 (dk_at dksX3_throughGuard_10 12 rfl rfl)
theorem dX3_throughGuard_245 : decode cX3_throughGuard 245 = .ok (.aload_n 0, 1) := dk_42 (dk_at dksX3_throughGuard_10 13 rfl rfl)
theorem dX3_throughGuard_246 : decode cX3_throughGuard 246 = .ok (.getfield 94, 3) := dk_180 0 94 (dk_at dksX3_throughGuard_10 14 rfl rfl)
theorem dX3_throughGuard_249 : decode cX3_throughGuard 249 = .ok (.iload_n 3, 1) := dk_29 (dk_at dksX3_throughGuard_10 17 rfl rfl)
theorem dX3_throughGuard_250 : decode cX3_throughGuard 250 = .ok (.iload 6, 2) := dk_21 6 (dk_at dksX3_throughGuard_10 18 rfl rfl)
theorem dX3_throughGuard_252 : decode cX3_throughGuard 252 = .ok (.iadd, 1) := dk_96 (dk_at dksX3_throughGuard_10 20 rfl rfl)
theorem dX3_throughGuard_253 : decode cX3_throughGuard 253 = .ok (.iaload, 1) := dk_46 (dk_at dksX3_throughGuard_10 21 rfl rfl)
theorem dX3_throughGuard_254 : decode cX3_throughGuard 254 = .ok (.ior, 1) := dk_128 (dk_at dksX3_throughGuard_10 22 rfl rfl)
theorem dX3_throughGuard_255 : decode cX3_throughGuard 255 = .ok (.iastore, 1) := dk_79 (dk_at dksX3_throughGuard_10 23 rfl rfl)
theorem dX3_throughGuard_256 : decode cX3_throughGuard 256 = .ok (.iinc 6 1, 3) := dk_132 6 1 (dk_at dksX3_throughGuard_11 0 rfl rfl)
theorem dX3_throughGuard_259 : decode cX3_throughGuard 259 = .ok (.goto (-31), 3) := dk_167 255 225 (dk_at dksX3_throughGuard_11 3 rfl rfl)
theorem dX3_throughGuard_262 : decode cX3_throughGuard 262 = .ok (.aload_n 0, 1) := dk_42 (dk_at dksX3_throughGuard_11 6 rfl rfl)
theorem dX3_throughGuard_263 : decode cX3_throughGuard 263 = .ok (.iload_n 1, 1) := dk_27 (dk_at dksX3_throughGuard_11 7 rfl rfl)
theorem dX3_throughGuard_264 : decode cX3_throughGuard 264 = .ok (.iload_n 2, 1) := dk_28 (dk_at dksX3_throughGuard_11 8 rfl rfl)
theorem dX3_throughGuard_265 : decode cX3_throughGuard 265 = .ok (.invokevirtual 321, 3) := dk_182 1 65 (dk_at dksX3_throughGuard_11 9 rfl rfl)
theorem dX3_throughGuard_268 : decode cX3_throughGuard 268 = .ok (.return_, 1) := dk_177 (dk_at dksX3_throughGuard_11 12 rfl rfl)
theorem dX3_throughGuard_269 : decode cX3_throughGuard 269 = .ok (.aload_n 0, 1) := dk_42 (dk_at dksX3_throughGuard_11 13 rfl rfl)
theorem dX3_throughGuard_270 : decode cX3_throughGuard 270 = .ok (.getfield 66, 3) := dk_180 0 66 (dk_at dksX3_throughGuard_11 14 rfl rfl)
theorem dX3_throughGuard_273 : decode cX3_throughGuard 273 = .ok (.aload_n 0, 1) := dk_42 (dk_at dksX3_throughGuard_11 17 rfl rfl)
theorem dX3_throughGuard_274 : decode cX3_throughGuard 274 = .ok (.getfield 228, 3) := dk_180 0 228 (dk_at dksX3_throughGuard_11 18 rfl rfl)
theorem dX3_throughGuard_277 : decode cX3_throughGuard 277 = .ok (.iaload, 1) := dk_46 (dk_at dksX3_throughGuard_11 21 rfl rfl)
theorem dX3_throughGuard_278 : decode cX3_throughGuard 278 = .ok (.bipush 9, 2) := dk_16 9 (dk_at dksX3_throughGuard_11 22 rfl rfl)
theorem dX3_throughGuard_280 : decode cX3_throughGuard 280 = .ok (.if_icmp .ge 41, 3) := dk_162 0 41 (dk_at dksX3_throughGuard_12 0 rfl rfl)
theorem dX3_throughGuard_283 : decode cX3_throughGuard 283 = .ok (.aload_n 0, 1) := dk_42 (dk_at dksX3_throughGuard_12 3 rfl rfl)
theorem dX3_throughGuard_284 : decode cX3_throughGuard 284 = .ok (.getfield 94, 3) := dk_180 0 94 (dk_at dksX3_throughGuard_12 4 rfl rfl)
theorem dX3_throughGuard_287 : decode cX3_throughGuard 287 = .ok (.iload_n 3, 1) := dk_29 (dk_at dksX3_throughGuard_12 7 rfl rfl)
theorem dX3_throughGuard_288 : decode cX3_throughGuard 288 = .ok (.bipush 12, 2) := dk_16 12 (dk_at dksX3_throughGuard_12 8 rfl rfl)
theorem dX3_throughGuard_290 : decode cX3_throughGuard 290 = .ok (.aload_n 0, 1) := dk_42 (dk_at dksX3_throughGuard_12 10 rfl rfl)
theorem dX3_throughGuard_291 : decode cX3_throughGuard 291 = .ok (.getfield 66, 3) := dk_180 0 66 (dk_at dksX3_throughGuard_12 11 rfl rfl)
theorem dX3_throughGuard_294 : decode cX3_throughGuard 294 = .ok (.aload_n 0, 1) := dk_42 (dk_at dksX3_throughGuard_12 14 rfl rfl)
theorem dX3_throughGuard_295 : decode cX3_throughGuard 295 = .ok (.getfield 228, 3) := dk_180 0 228 (dk_at dksX3_throughGuard_12 15 rfl rfl)
theorem dX3_throughGuard_298 : decode cX3_throughGuard 298 = .ok (.iaload, 1) := dk_46 (dk_at dksX3_throughGuard_12 18 rfl rfl)
theorem dX3_throughGuard_299 : decode cX3_throughGuard 299 = .ok (.imul, 1) := dk_104 (dk_at dksX3_throughGuard_12 19 rfl rfl)
theorem dX3_throughGuard_300 : decode cX3_throughGuard 300 = .ok (.iadd, 1) := dk_96 (dk_at dksX3_throughGuard_12 20 rfl rfl)
theorem dX3_throughGuard_301 : decode cX3_throughGuard 301 = .ok (.iaload, 1) := dk_46 (dk_at dksX3_throughGuard_12 21 rfl rfl)
theorem dX3_throughGuard_302 : decode cX3_throughGuard 302 = .ok (.ifCond .ne 19, 3) := dk_154 0 19 (dk_at dksX3_throughGuard_13 0 rfl rfl)
theorem dX3_throughGuard_305 : decode cX3_throughGuard 305 = .ok (.aload_n 0, 1) := dk_42 (dk_at dksX3_throughGuard_13 3 rfl rfl)
theorem dX3_throughGuard_306 : decode cX3_throughGuard 306 = .ok (.getfield 66, 3) := dk_180 0 66 (dk_at dksX3_throughGuard_13 4 rfl rfl)
theorem dX3_throughGuard_309 : decode cX3_throughGuard 309 = .ok (.aload_n 0, 1) := dk_42 (dk_at dksX3_throughGuard_13 7 rfl rfl)
theorem dX3_throughGuard_310 : decode cX3_throughGuard 310 = .ok (.getfield 228, 3) := dk_180 0 228 (dk_at dksX3_throughGuard_13 8 rfl rfl)
theorem dX3_throughGuard_313 : decode cX3_throughGuard 313 = .ok (.dup2, 1) := dk_92 (dk_at dksX3_throughGuard_13 11 rfl rfl)
theorem dX3_throughGuard_314 : decode cX3_throughGuard 314 = .ok (.iaload, 1) := dk_46 (dk_at dksX3_throughGuard_13 12 rfl rfl)
theorem dX3_throughGuard_315 : decode cX3_throughGuard 315 = .ok (.iconst 1, 1) := dk_4 (dk_at dksX3_throughGuard_13 13 rfl rfl)
theorem dX3_throughGuard_316 : decode cX3_throughGuard 316 = .ok (.iadd, 1) := dk_96 (dk_at dksX3_throughGuard_13 14 rfl rfl)
theorem dX3_throughGuard_317 : decode cX3_throughGuard 317 = .ok (.iastore, 1) := dk_79 (dk_at dksX3_throughGuard_13 15 rfl rfl)
theorem dX3_throughGuard_318 : decode cX3_throughGuard 318 = .ok (.goto (-49), 3) := dk_167 255 207 (dk_at dksX3_throughGuard_13 16 rfl rfl)
theorem dX3_throughGuard_321 : decode cX3_throughGuard 321 = .ok (.aload_n 0, 1) := dk_42 (dk_at dksX3_throughGuard_13 19 rfl rfl)
theorem dX3_throughGuard_322 : decode cX3_throughGuard 322 = .ok (.getfield 66, 3) := dk_180 0 66 (dk_at dksX3_throughGuard_13 20 rfl rfl)
theorem dX3_throughGuard_325 : decode cX3_throughGuard 325 = .ok (.aload_n 0, 1) := dk_42 (dk_at dksX3_throughGuard_13 23 rfl rfl)
theorem dX3_throughGuard_326 : decode cX3_throughGuard 326 = .ok (.getfield 228, 3) := dk_180 0 228 (dk_at dksX3_throughGuard_14 0 rfl rfl)
theorem dX3_throughGuard_329 : decode cX3_throughGuard 329 = .ok (.iaload, 1) := dk_46 (dk_at dksX3_throughGuard_14 3 rfl rfl)
theorem dX3_throughGuard_330 : decode cX3_throughGuard 330 = .ok (.bipush 9, 2) := dk_16 9 (dk_at dksX3_throughGuard_14 4 rfl rfl)
theorem dX3_throughGuard_332 : decode cX3_throughGuard 332 = .ok (.if_icmp .ne 12, 3) := dk_160 0 12 (dk_at dksX3_throughGuard_14 6 rfl rfl)
theorem dX3_throughGuard_335 : decode cX3_throughGuard 335 = .ok (.aload_n 0, 1) := dk_42 (dk_at dksX3_throughGuard_14 9 rfl rfl)
theorem dX3_throughGuard_336 : decode cX3_throughGuard 336 = .ok (.iload_n 1, 1) := dk_27 (dk_at dksX3_throughGuard_14 10 rfl rfl)
theorem dX3_throughGuard_337 : decode cX3_throughGuard 337 = .ok (.iload_n 2, 1) := dk_28 (dk_at dksX3_throughGuard_14 11 rfl rfl)
theorem dX3_throughGuard_338 : decode cX3_throughGuard 338 = .ok (.invokevirtual 321, 3) := dk_182 1 65 (dk_at dksX3_throughGuard_14 12 rfl rfl)
theorem dX3_throughGuard_341 : decode cX3_throughGuard 341 = .ok (.goto 41, 3) := dk_167 0 41 (dk_at dksX3_throughGuard_14 15 rfl rfl)
theorem dX3_throughGuard_344 : decode cX3_throughGuard 344 = .ok (.aload_n 0, 1) := dk_42 (dk_at dksX3_throughGuard_14 18 rfl rfl)
theorem dX3_throughGuard_345 : decode cX3_throughGuard 345 = .ok (.getfield 94, 3) := dk_180 0 94 (dk_at dksX3_throughGuard_14 19 rfl rfl)
theorem dX3_throughGuard_348 : decode cX3_throughGuard 348 = .ok (.iload_n 3, 1) := dk_29 (dk_at dksX3_throughGuard_14 22 rfl rfl)
theorem dX3_throughGuard_349 : decode cX3_throughGuard 349 = .ok (.bipush 12, 2) := dk_16 12 (dk_at dksX3_throughGuard_15 0 rfl rfl)
theorem dX3_throughGuard_351 : decode cX3_throughGuard 351 = .ok (.aload_n 0, 1) := dk_42 (dk_at dksX3_throughGuard_15 2 rfl rfl)
theorem dX3_throughGuard_352 : decode cX3_throughGuard 352 = .ok (.getfield 66, 3) := dk_180 0 66 (dk_at dksX3_throughGuard_15 3 rfl rfl)
theorem dX3_throughGuard_355 : decode cX3_throughGuard 355 = .ok (.aload_n 0, 1) := dk_42 (dk_at dksX3_throughGuard_15 6 rfl rfl)
theorem dX3_throughGuard_356 : decode cX3_throughGuard 356 = .ok (.getfield 228, 3) := dk_180 0 228 (dk_at dksX3_throughGuard_15 7 rfl rfl)
theorem dX3_throughGuard_359 : decode cX3_throughGuard 359 = .ok (.iaload, 1) := dk_46 (dk_at dksX3_throughGuard_15 10 rfl rfl)
theorem dX3_throughGuard_360 : decode cX3_throughGuard 360 = .ok (.imul, 1) := dk_104 (dk_at dksX3_throughGuard_15 11 rfl rfl)
theorem dX3_throughGuard_361 : decode cX3_throughGuard 361 = .ok (.iadd, 1) := dk_96 (dk_at dksX3_throughGuard_15 12 rfl rfl)
theorem dX3_throughGuard_362 : decode cX3_throughGuard 362 = .ok (.aload_n 0, 1) := dk_42 (dk_at dksX3_throughGuard_15 13 rfl rfl)
theorem dX3_throughGuard_363 : decode cX3_throughGuard 363 = .ok (.getfield 97, 3) := dk_180 0 97 (dk_at dksX3_throughGuard_15 14 rfl rfl)
theorem dX3_throughGuard_366 : decode cX3_throughGuard 366 = .ok (.iload 4, 2) := dk_21 4 (dk_at dksX3_throughGuard_15 17 rfl rfl)
theorem dX3_throughGuard_368 : decode cX3_throughGuard 368 = .ok (.invokestatic 316, 3) := dk_184 1 60 (dk_at dksX3_throughGuard_15 19 rfl rfl)
theorem dX3_throughGuard_371 : decode cX3_throughGuard 371 = .ok (.aload_n 0, 1) := dk_42 (dk_at dksX3_throughGuard_15 22 rfl rfl)
theorem dX3_throughGuard_372 : decode cX3_throughGuard 372 = .ok (.iconst 3, 1) := dk_6 (dk_at dksX3_throughGuard_15 23 rfl rfl)
theorem dX3_throughGuard_373 : decode cX3_throughGuard 373 = .ok (.aload_n 0, 1) := dk_42 (dk_at dksX3_throughGuard_16 0 rfl rfl)
theorem dX3_throughGuard_374 : decode cX3_throughGuard 374 = .ok (.getfield 47, 3) := dk_180 0 47 (dk_at dksX3_throughGuard_16 1 rfl rfl)
theorem dX3_throughGuard_377 : decode cX3_throughGuard 377 = .ok (.iload_n 1, 1) := dk_27 (dk_at dksX3_throughGuard_16 4 rfl rfl)
theorem dX3_throughGuard_378 : decode cX3_throughGuard 378 = .ok (.iaload, 1) := dk_46 (dk_at dksX3_throughGuard_16 5 rfl rfl)
theorem dX3_throughGuard_379 : decode cX3_throughGuard 379 = .ok (.invokevirtual 244, 3) := dk_182 0 244 (dk_at dksX3_throughGuard_16 6 rfl rfl)
theorem dX3_throughGuard_382 : decode cX3_throughGuard 382 = .ok (.return_, 1) := dk_177 (dk_at dksX3_throughGuard_16 9 rfl rfl)
abbrev cX3_part : ByteArray := prog_15_method_73_code
def yX3_part : MethodName := ⟨RX3, "part", "(II)V"⟩
def dkwX3_part_5 : List UInt8 := [42, 180, 0, 94, 16, 108, 28, 104, 16, 12, 21, 4, 104, 96, 184, 1, 19, 132, 4, 1, 167, 255, 143, 177]
abbrev dktX3_part_5 : List UInt8 := dkwX3_part_5 ++ []
def dkwX3_part_4 : List UInt8 := [16, 12, 28, 104, 16, 12, 96, 184, 1, 19, 167, 0, 31, 42, 180, 0, 91, 29, 16, 12, 21, 4, 104, 96]
abbrev dktX3_part_4 : List UInt8 := dkwX3_part_4 ++ dktX3_part_5
def dkwX3_part_3 : List UInt8 := [21, 4, 122, 4, 126, 4, 160, 0, 31, 42, 180, 0, 91, 29, 16, 12, 21, 4, 104, 96, 42, 180, 0, 97]
abbrev dktX3_part_3 : List UInt8 := dkwX3_part_3 ++ dktX3_part_4
def dkwX3_part_2 : List UInt8 := [21, 4, 104, 96, 46, 153, 0, 10, 4, 21, 4, 120, 167, 0, 4, 3, 128, 79, 42, 180, 0, 41, 27, 46]
abbrev dktX3_part_2 : List UInt8 := dkwX3_part_2 ++ dktX3_part_3
def dkwX3_part_1 : List UInt8 := [3, 54, 4, 21, 4, 16, 9, 162, 0, 112, 42, 180, 0, 85, 27, 92, 46, 42, 180, 0, 91, 29, 16, 12]
abbrev dktX3_part_1 : List UInt8 := dkwX3_part_1 ++ dktX3_part_2
def dkwX3_part_0 : List UInt8 := [16, 108, 28, 104, 16, 108, 96, 62, 42, 180, 0, 97, 16, 12, 28, 104, 16, 12, 96, 16, 12, 184, 1, 53]
abbrev dktX3_part_0 : List UInt8 := dkwX3_part_0 ++ dktX3_part_1
theorem dksX3_part_0 : cX3_part.data.toList.drop 0 = dktX3_part_0 := by decide +kernel
theorem dksX3_part_1 : cX3_part.data.toList.drop 24 = dktX3_part_1 := dk_seg dksX3_part_0 24 rfl rfl
theorem dksX3_part_2 : cX3_part.data.toList.drop 48 = dktX3_part_2 := dk_seg dksX3_part_1 24 rfl rfl
theorem dksX3_part_3 : cX3_part.data.toList.drop 72 = dktX3_part_3 := dk_seg dksX3_part_2 24 rfl rfl
theorem dksX3_part_4 : cX3_part.data.toList.drop 96 = dktX3_part_4 := dk_seg dksX3_part_3 24 rfl rfl
theorem dksX3_part_5 : cX3_part.data.toList.drop 120 = dktX3_part_5 := dk_seg dksX3_part_4 24 rfl rfl
theorem dX3_part_0 : decode cX3_part 0 = .ok (.bipush 108, 2) := dk_16 108 (dk_at dksX3_part_0 0 rfl rfl)
theorem dX3_part_2 : decode cX3_part 2 = .ok (.iload_n 2, 1) := dk_28 (dk_at dksX3_part_0 2 rfl rfl)
theorem dX3_part_3 : decode cX3_part 3 = .ok (.imul, 1) := dk_104 (dk_at dksX3_part_0 3 rfl rfl)
theorem dX3_part_4 : decode cX3_part 4 = .ok (.bipush 108, 2) := dk_16 108 (dk_at dksX3_part_0 4 rfl rfl)
theorem dX3_part_6 : decode cX3_part 6 = .ok (.iadd, 1) := dk_96 (dk_at dksX3_part_0 6 rfl rfl)
theorem dX3_part_7 : decode cX3_part 7 = .ok (.istore_n 3, 1) := dk_62 (dk_at dksX3_part_0 7 rfl rfl)
theorem dX3_part_8 : decode cX3_part 8 = .ok (.aload_n 0, 1) := dk_42 (dk_at dksX3_part_0 8 rfl rfl)
theorem dX3_part_9 : decode cX3_part 9 = .ok (.getfield 97, 3) := dk_180 0 97 (dk_at dksX3_part_0 9 rfl rfl)
theorem dX3_part_12 : decode cX3_part 12 = .ok (.bipush 12, 2) := dk_16 12 (dk_at dksX3_part_0 12 rfl rfl)
theorem dX3_part_14 : decode cX3_part 14 = .ok (.iload_n 2, 1) := dk_28 (dk_at dksX3_part_0 14 rfl rfl)
theorem dX3_part_15 : decode cX3_part 15 = .ok (.imul, 1) := dk_104 (dk_at dksX3_part_0 15 rfl rfl)
theorem dX3_part_16 : decode cX3_part 16 = .ok (.bipush 12, 2) := dk_16 12 (dk_at dksX3_part_0 16 rfl rfl)
theorem dX3_part_18 : decode cX3_part 18 = .ok (.iadd, 1) := dk_96 (dk_at dksX3_part_0 18 rfl rfl)
theorem dX3_part_19 : decode cX3_part 19 = .ok (.bipush 12, 2) := dk_16 12 (dk_at dksX3_part_0 19 rfl rfl)
theorem dX3_part_21 : decode cX3_part 21 = .ok (.invokestatic 309, 3) := dk_184 1 53 (dk_at dksX3_part_0 21 rfl rfl)
theorem dX3_part_24 : decode cX3_part 24 = .ok (.iconst 0, 1) := dk_3 (dk_at dksX3_part_1 0 rfl rfl)
theorem dX3_part_25 : decode cX3_part 25 = .ok (.istore 4, 2) := dk_54 4 (dk_at dksX3_part_1 1 rfl rfl)
theorem dX3_part_27 : decode cX3_part 27 = .ok (.iload 4, 2) := dk_21 4 (dk_at dksX3_part_1 3 rfl rfl)
theorem dX3_part_29 : decode cX3_part 29 = .ok (.bipush 9, 2) := dk_16 9 (dk_at dksX3_part_1 5 rfl rfl)
theorem dX3_part_31 : decode cX3_part 31 = .ok (.if_icmp .ge 112, 3) := dk_162 0 112 (dk_at dksX3_part_1 7 rfl rfl)
theorem dX3_part_34 : decode cX3_part 34 = .ok (.aload_n 0, 1) := dk_42 (dk_at dksX3_part_1 10 rfl rfl)
theorem dX3_part_35 : decode cX3_part 35 = .ok (.getfield 85, 3) := dk_180 0 85 (dk_at dksX3_part_1 11 rfl rfl)
theorem dX3_part_38 : decode cX3_part 38 = .ok (.iload_n 1, 1) := dk_27 (dk_at dksX3_part_1 14 rfl rfl)
theorem dX3_part_39 : decode cX3_part 39 = .ok (.dup2, 1) := dk_92 (dk_at dksX3_part_1 15 rfl rfl)
theorem dX3_part_40 : decode cX3_part 40 = .ok (.iaload, 1) := dk_46 (dk_at dksX3_part_1 16 rfl rfl)
theorem dX3_part_41 : decode cX3_part 41 = .ok (.aload_n 0, 1) := dk_42 (dk_at dksX3_part_1 17 rfl rfl)
theorem dX3_part_42 : decode cX3_part 42 = .ok (.getfield 91, 3) := dk_180 0 91 (dk_at dksX3_part_1 18 rfl rfl)
theorem dX3_part_45 : decode cX3_part 45 = .ok (.iload_n 3, 1) := dk_29 (dk_at dksX3_part_1 21 rfl rfl)
theorem dX3_part_46 : decode cX3_part 46 = .ok (.bipush 12, 2) := dk_16 12 (dk_at dksX3_part_1 22 rfl rfl)
theorem dX3_part_48 : decode cX3_part 48 = .ok (.iload 4, 2) := dk_21 4 (dk_at dksX3_part_2 0 rfl rfl)
theorem dX3_part_50 : decode cX3_part 50 = .ok (.imul, 1) := dk_104 (dk_at dksX3_part_2 2 rfl rfl)
theorem dX3_part_51 : decode cX3_part 51 = .ok (.iadd, 1) := dk_96 (dk_at dksX3_part_2 3 rfl rfl)
theorem dX3_part_52 : decode cX3_part 52 = .ok (.iaload, 1) := dk_46 (dk_at dksX3_part_2 4 rfl rfl)
theorem dX3_part_53 : decode cX3_part 53 = .ok (.ifCond .eq 10, 3) := dk_153 0 10 (dk_at dksX3_part_2 5 rfl rfl)
theorem dX3_part_56 : decode cX3_part 56 = .ok (.iconst 1, 1) := dk_4 (dk_at dksX3_part_2 8 rfl rfl)
theorem dX3_part_57 : decode cX3_part 57 = .ok (.iload 4, 2) := dk_21 4 (dk_at dksX3_part_2 9 rfl rfl)
theorem dX3_part_59 : decode cX3_part 59 = .ok (.ishl, 1) := dk_120 (dk_at dksX3_part_2 11 rfl rfl)
theorem dX3_part_60 : decode cX3_part 60 = .ok (.goto 4, 3) := dk_167 0 4 (dk_at dksX3_part_2 12 rfl rfl)
theorem dX3_part_63 : decode cX3_part 63 = .ok (.iconst 0, 1) := dk_3 (dk_at dksX3_part_2 15 rfl rfl)
theorem dX3_part_64 : decode cX3_part 64 = .ok (.ior, 1) := dk_128 (dk_at dksX3_part_2 16 rfl rfl)
theorem dX3_part_65 : decode cX3_part 65 = .ok (.iastore, 1) := dk_79 (dk_at dksX3_part_2 17 rfl rfl)
theorem dX3_part_66 : decode cX3_part 66 = .ok (.aload_n 0, 1) := dk_42 (dk_at dksX3_part_2 18 rfl rfl)
theorem dX3_part_67 : decode cX3_part 67 = .ok (.getfield 41, 3) := dk_180 0 41 (dk_at dksX3_part_2 19 rfl rfl)
theorem dX3_part_70 : decode cX3_part 70 = .ok (.iload_n 1, 1) := dk_27 (dk_at dksX3_part_2 22 rfl rfl)
theorem dX3_part_71 : decode cX3_part 71 = .ok (.iaload, 1) := dk_46 (dk_at dksX3_part_2 23 rfl rfl)
theorem dX3_part_72 : decode cX3_part 72 = .ok (.iload 4, 2) := dk_21 4 (dk_at dksX3_part_3 0 rfl rfl)
theorem dX3_part_74 : decode cX3_part 74 = .ok (.ishr, 1) := dk_122 (dk_at dksX3_part_3 2 rfl rfl)
theorem dX3_part_75 : decode cX3_part 75 = .ok (.iconst 1, 1) := dk_4 (dk_at dksX3_part_3 3 rfl rfl)
theorem dX3_part_76 : decode cX3_part 76 = .ok (.iand, 1) := dk_126 (dk_at dksX3_part_3 4 rfl rfl)
theorem dX3_part_77 : decode cX3_part 77 = .ok (.iconst 1, 1) := dk_4 (dk_at dksX3_part_3 5 rfl rfl)
theorem dX3_part_78 : decode cX3_part 78 = .ok (.if_icmp .ne 31, 3) := dk_160 0 31 (dk_at dksX3_part_3 6 rfl rfl)
theorem dX3_part_81 : decode cX3_part 81 = .ok (.aload_n 0, 1) := dk_42 (dk_at dksX3_part_3 9 rfl rfl)
theorem dX3_part_82 : decode cX3_part 82 = .ok (.getfield 91, 3) := dk_180 0 91 (dk_at dksX3_part_3 10 rfl rfl)
theorem dX3_part_85 : decode cX3_part 85 = .ok (.iload_n 3, 1) := dk_29 (dk_at dksX3_part_3 13 rfl rfl)
theorem dX3_part_86 : decode cX3_part 86 = .ok (.bipush 12, 2) := dk_16 12 (dk_at dksX3_part_3 14 rfl rfl)
theorem dX3_part_88 : decode cX3_part 88 = .ok (.iload 4, 2) := dk_21 4 (dk_at dksX3_part_3 16 rfl rfl)
theorem dX3_part_90 : decode cX3_part 90 = .ok (.imul, 1) := dk_104 (dk_at dksX3_part_3 18 rfl rfl)
theorem dX3_part_91 : decode cX3_part 91 = .ok (.iadd, 1) := dk_96 (dk_at dksX3_part_3 19 rfl rfl)
theorem dX3_part_92 : decode cX3_part 92 = .ok (.aload_n 0, 1) := dk_42 (dk_at dksX3_part_3 20 rfl rfl)
theorem dX3_part_93 : decode cX3_part 93 = .ok (.getfield 97, 3) := dk_180 0 97 (dk_at dksX3_part_3 21 rfl rfl)
theorem dX3_part_96 : decode cX3_part 96 = .ok (.bipush 12, 2) := dk_16 12 (dk_at dksX3_part_4 0 rfl rfl)
theorem dX3_part_98 : decode cX3_part 98 = .ok (.iload_n 2, 1) := dk_28 (dk_at dksX3_part_4 2 rfl rfl)
theorem dX3_part_99 : decode cX3_part 99 = .ok (.imul, 1) := dk_104 (dk_at dksX3_part_4 3 rfl rfl)
theorem dX3_part_100 : decode cX3_part 100 = .ok (.bipush 12, 2) := dk_16 12 (dk_at dksX3_part_4 4 rfl rfl)
theorem dX3_part_102 : decode cX3_part 102 = .ok (.iadd, 1) := dk_96 (dk_at dksX3_part_4 6 rfl rfl)
theorem dX3_part_103 : decode cX3_part 103 = .ok (.invokestatic 275, 3) := dk_184 1 19 (dk_at dksX3_part_4 7 rfl rfl)
theorem dX3_part_106 : decode cX3_part 106 = .ok (.goto 31, 3) := dk_167 0 31 (dk_at dksX3_part_4 10 rfl rfl)
theorem dX3_part_109 : decode cX3_part 109 = .ok (.aload_n 0, 1) := dk_42 (dk_at dksX3_part_4 13 rfl rfl)
theorem dX3_part_110 : decode cX3_part 110 = .ok (.getfield 91, 3) := dk_180 0 91 (dk_at dksX3_part_4 14 rfl rfl)
theorem dX3_part_113 : decode cX3_part 113 = .ok (.iload_n 3, 1) := dk_29 (dk_at dksX3_part_4 17 rfl rfl)
theorem dX3_part_114 : decode cX3_part 114 = .ok (.bipush 12, 2) := dk_16 12 (dk_at dksX3_part_4 18 rfl rfl)
theorem dX3_part_116 : decode cX3_part 116 = .ok (.iload 4, 2) := dk_21 4 (dk_at dksX3_part_4 20 rfl rfl)
theorem dX3_part_118 : decode cX3_part 118 = .ok (.imul, 1) := dk_104 (dk_at dksX3_part_4 22 rfl rfl)
theorem dX3_part_119 : decode cX3_part 119 = .ok (.iadd, 1) := dk_96 (dk_at dksX3_part_4 23 rfl rfl)
theorem dX3_part_120 : decode cX3_part 120 = .ok (.aload_n 0, 1) := dk_42 (dk_at dksX3_part_5 0 rfl rfl)
theorem dX3_part_121 : decode cX3_part 121 = .ok (.getfield 94, 3) := dk_180 0 94 (dk_at dksX3_part_5 1 rfl rfl)
theorem dX3_part_124 : decode cX3_part 124 = .ok (.bipush 108, 2) := dk_16 108 (dk_at dksX3_part_5 4 rfl rfl)
theorem dX3_part_126 : decode cX3_part 126 = .ok (.iload_n 2, 1) := dk_28 (dk_at dksX3_part_5 6 rfl rfl)
theorem dX3_part_127 : decode cX3_part 127 = .ok (.imul, 1) := dk_104 (dk_at dksX3_part_5 7 rfl rfl)
theorem dX3_part_128 : decode cX3_part 128 = .ok (.bipush 12, 2) := dk_16 12 (dk_at dksX3_part_5 8 rfl rfl)
theorem dX3_part_130 : decode cX3_part 130 = .ok (.iload 4, 2) := dk_21 4 (dk_at dksX3_part_5 10 rfl rfl)
theorem dX3_part_132 : decode cX3_part 132 = .ok (.imul, 1) := dk_104 (dk_at dksX3_part_5 12 rfl rfl)
theorem dX3_part_133 : decode cX3_part 133 = .ok (.iadd, 1) := dk_96 (dk_at dksX3_part_5 13 rfl rfl)
theorem dX3_part_134 : decode cX3_part 134 = .ok (.invokestatic 275, 3) := dk_184 1 19 (dk_at dksX3_part_5 14 rfl rfl)
theorem dX3_part_137 : decode cX3_part 137 = .ok (.iinc 4 1, 3) := dk_132 4 1 (dk_at dksX3_part_5 17 rfl rfl)
theorem dX3_part_140 : decode cX3_part 140 = .ok (.goto (-113), 3) := dk_167 255 143 (dk_at dksX3_part_5 20 rfl rfl)
theorem dX3_part_143 : decode cX3_part 143 = .ok (.return_, 1) := dk_177 (dk_at dksX3_part_5 23 rfl rfl)
abbrev cX3_last : ByteArray := prog_15_method_74_code
def yX3_last : MethodName := ⟨RX3, "last", "(III)V"⟩
def dkwX3_last_4 : List UInt8 := [153, 0, 13, 29, 158, 0, 9, 4, 29, 120, 167, 0, 4, 3, 128, 79, 177]
abbrev dktX3_last_4 : List UInt8 := dkwX3_last_4 ++ []
def dkwX3_last_3 : List UInt8 := [167, 0, 4, 3, 128, 54, 5, 132, 6, 1, 167, 255, 220, 42, 180, 0, 88, 27, 92, 46, 21, 5]
abbrev dktX3_last_3 : List UInt8 := dkwX3_last_3 ++ dktX3_last_4
def dkwX3_last_2 : List UInt8 := [162, 0, 35, 21, 5, 42, 180, 0, 91, 21, 4, 16, 12, 21, 6, 104, 96, 46, 153, 0, 7, 4]
abbrev dktX3_last_2 : List UInt8 := dkwX3_last_2 ++ dktX3_last_3
def dkwX3_last_1 : List UInt8 := [16, 12, 29, 104, 96, 184, 1, 19, 42, 28, 4, 182, 1, 68, 3, 54, 5, 4, 54, 6, 21, 6, 16, 9]
abbrev dktX3_last_1 : List UInt8 := dkwX3_last_1 ++ dktX3_last_2
def dkwX3_last_0 : List UInt8 := [16, 108, 28, 104, 16, 108, 96, 54, 4, 42, 180, 0, 91, 21, 4, 42, 180, 0, 91, 16, 108, 28, 104]
abbrev dktX3_last_0 : List UInt8 := dkwX3_last_0 ++ dktX3_last_1
theorem dksX3_last_0 : cX3_last.data.toList.drop 0 = dktX3_last_0 := by decide +kernel
theorem dksX3_last_1 : cX3_last.data.toList.drop 23 = dktX3_last_1 := dk_seg dksX3_last_0 23 rfl rfl
theorem dksX3_last_2 : cX3_last.data.toList.drop 47 = dktX3_last_2 := dk_seg dksX3_last_1 24 rfl rfl
theorem dksX3_last_3 : cX3_last.data.toList.drop 69 = dktX3_last_3 := dk_seg dksX3_last_2 22 rfl rfl
theorem dksX3_last_4 : cX3_last.data.toList.drop 91 = dktX3_last_4 := dk_seg dksX3_last_3 22 rfl rfl
theorem dX3_last_0 : decode cX3_last 0 = .ok (.bipush 108, 2) := dk_16 108 (dk_at dksX3_last_0 0 rfl rfl)
theorem dX3_last_2 : decode cX3_last 2 = .ok (.iload_n 2, 1) := dk_28 (dk_at dksX3_last_0 2 rfl rfl)
theorem dX3_last_3 : decode cX3_last 3 = .ok (.imul, 1) := dk_104 (dk_at dksX3_last_0 3 rfl rfl)
theorem dX3_last_4 : decode cX3_last 4 = .ok (.bipush 108, 2) := dk_16 108 (dk_at dksX3_last_0 4 rfl rfl)
theorem dX3_last_6 : decode cX3_last 6 = .ok (.iadd, 1) := dk_96 (dk_at dksX3_last_0 6 rfl rfl)
theorem dX3_last_7 : decode cX3_last 7 = .ok (.istore 4, 2) := dk_54 4 (dk_at dksX3_last_0 7 rfl rfl)
theorem dX3_last_9 : decode cX3_last 9 = .ok (.aload_n 0, 1) := dk_42 (dk_at dksX3_last_0 9 rfl rfl)
theorem dX3_last_10 : decode cX3_last 10 = .ok (.getfield 91, 3) := dk_180 0 91 (dk_at dksX3_last_0 10 rfl rfl)
theorem dX3_last_13 : decode cX3_last 13 = .ok (.iload 4, 2) := dk_21 4 (dk_at dksX3_last_0 13 rfl rfl)
theorem dX3_last_15 : decode cX3_last 15 = .ok (.aload_n 0, 1) := dk_42 (dk_at dksX3_last_0 15 rfl rfl)
theorem dX3_last_16 : decode cX3_last 16 = .ok (.getfield 91, 3) := dk_180 0 91 (dk_at dksX3_last_0 16 rfl rfl)
theorem dX3_last_19 : decode cX3_last 19 = .ok (.bipush 108, 2) := dk_16 108 (dk_at dksX3_last_0 19 rfl rfl)
theorem dX3_last_21 : decode cX3_last 21 = .ok (.iload_n 2, 1) := dk_28 (dk_at dksX3_last_0 21 rfl rfl)
theorem dX3_last_22 : decode cX3_last 22 = .ok (.imul, 1) := dk_104 (dk_at dksX3_last_0 22 rfl rfl)
theorem dX3_last_23 : decode cX3_last 23 = .ok (.bipush 12, 2) := dk_16 12 (dk_at dksX3_last_1 0 rfl rfl)
theorem dX3_last_25 : decode cX3_last 25 = .ok (.iload_n 3, 1) := dk_29 (dk_at dksX3_last_1 2 rfl rfl)
theorem dX3_last_26 : decode cX3_last 26 = .ok (.imul, 1) := dk_104 (dk_at dksX3_last_1 3 rfl rfl)
theorem dX3_last_27 : decode cX3_last 27 = .ok (.iadd, 1) := dk_96 (dk_at dksX3_last_1 4 rfl rfl)
theorem dX3_last_28 : decode cX3_last 28 = .ok (.invokestatic 275, 3) := dk_184 1 19 (dk_at dksX3_last_1 5 rfl rfl)
theorem dX3_last_31 : decode cX3_last 31 = .ok (.aload_n 0, 1) := dk_42 (dk_at dksX3_last_1 8 rfl rfl)
theorem dX3_last_32 : decode cX3_last 32 = .ok (.iload_n 2, 1) := dk_28 (dk_at dksX3_last_1 9 rfl rfl)
theorem dX3_last_33 : decode cX3_last 33 = .ok (.iconst 1, 1) := dk_4 (dk_at dksX3_last_1 10 rfl rfl)
theorem dX3_last_34 : decode cX3_last 34 = .ok (.invokevirtual 324, 3) := dk_182 1 68 (dk_at dksX3_last_1 11 rfl rfl)
theorem dX3_last_37 : decode cX3_last 37 = .ok (.iconst 0, 1) := dk_3 (dk_at dksX3_last_1 14 rfl rfl)
theorem dX3_last_38 : decode cX3_last 38 = .ok (.istore 5, 2) := dk_54 5 (dk_at dksX3_last_1 15 rfl rfl)
theorem dX3_last_40 : decode cX3_last 40 = .ok (.iconst 1, 1) := dk_4 (dk_at dksX3_last_1 17 rfl rfl)
theorem dX3_last_41 : decode cX3_last 41 = .ok (.istore 6, 2) := dk_54 6 (dk_at dksX3_last_1 18 rfl rfl)
theorem dX3_last_43 : decode cX3_last 43 = .ok (.iload 6, 2) := dk_21 6 (dk_at dksX3_last_1 20 rfl rfl)
theorem dX3_last_45 : decode cX3_last 45 = .ok (.bipush 9, 2) := dk_16 9 (dk_at dksX3_last_1 22 rfl rfl)
theorem dX3_last_47 : decode cX3_last 47 = .ok (.if_icmp .ge 35, 3) := dk_162 0 35 (dk_at dksX3_last_2 0 rfl rfl)
theorem dX3_last_50 : decode cX3_last 50 = .ok (.iload 5, 2) := dk_21 5 (dk_at dksX3_last_2 3 rfl rfl)
theorem dX3_last_52 : decode cX3_last 52 = .ok (.aload_n 0, 1) := dk_42 (dk_at dksX3_last_2 5 rfl rfl)
theorem dX3_last_53 : decode cX3_last 53 = .ok (.getfield 91, 3) := dk_180 0 91 (dk_at dksX3_last_2 6 rfl rfl)
theorem dX3_last_56 : decode cX3_last 56 = .ok (.iload 4, 2) := dk_21 4 (dk_at dksX3_last_2 9 rfl rfl)
theorem dX3_last_58 : decode cX3_last 58 = .ok (.bipush 12, 2) := dk_16 12 (dk_at dksX3_last_2 11 rfl rfl)
theorem dX3_last_60 : decode cX3_last 60 = .ok (.iload 6, 2) := dk_21 6 (dk_at dksX3_last_2 13 rfl rfl)
theorem dX3_last_62 : decode cX3_last 62 = .ok (.imul, 1) := dk_104 (dk_at dksX3_last_2 15 rfl rfl)
theorem dX3_last_63 : decode cX3_last 63 = .ok (.iadd, 1) := dk_96 (dk_at dksX3_last_2 16 rfl rfl)
theorem dX3_last_64 : decode cX3_last 64 = .ok (.iaload, 1) := dk_46 (dk_at dksX3_last_2 17 rfl rfl)
theorem dX3_last_65 : decode cX3_last 65 = .ok (.ifCond .eq 7, 3) := dk_153 0 7 (dk_at dksX3_last_2 18 rfl rfl)
theorem dX3_last_68 : decode cX3_last 68 = .ok (.iconst 1, 1) := dk_4 (dk_at dksX3_last_2 21 rfl rfl)
theorem dX3_last_69 : decode cX3_last 69 = .ok (.goto 4, 3) := dk_167 0 4 (dk_at dksX3_last_3 0 rfl rfl)
theorem dX3_last_72 : decode cX3_last 72 = .ok (.iconst 0, 1) := dk_3 (dk_at dksX3_last_3 3 rfl rfl)
theorem dX3_last_73 : decode cX3_last 73 = .ok (.ior, 1) := dk_128 (dk_at dksX3_last_3 4 rfl rfl)
theorem dX3_last_74 : decode cX3_last 74 = .ok (.istore 5, 2) := dk_54 5 (dk_at dksX3_last_3 5 rfl rfl)
theorem dX3_last_76 : decode cX3_last 76 = .ok (.iinc 6 1, 3) := dk_132 6 1 (dk_at dksX3_last_3 7 rfl rfl)
theorem dX3_last_79 : decode cX3_last 79 = .ok (.goto (-36), 3) := dk_167 255 220 (dk_at dksX3_last_3 10 rfl rfl)
theorem dX3_last_82 : decode cX3_last 82 = .ok (.aload_n 0, 1) := dk_42 (dk_at dksX3_last_3 13 rfl rfl)
theorem dX3_last_83 : decode cX3_last 83 = .ok (.getfield 88, 3) := dk_180 0 88 (dk_at dksX3_last_3 14 rfl rfl)
theorem dX3_last_86 : decode cX3_last 86 = .ok (.iload_n 1, 1) := dk_27 (dk_at dksX3_last_3 17 rfl rfl)
theorem dX3_last_87 : decode cX3_last 87 = .ok (.dup2, 1) := dk_92 (dk_at dksX3_last_3 18 rfl rfl)
theorem dX3_last_88 : decode cX3_last 88 = .ok (.iaload, 1) := dk_46 (dk_at dksX3_last_3 19 rfl rfl)
theorem dX3_last_89 : decode cX3_last 89 = .ok (.iload 5, 2) := dk_21 5 (dk_at dksX3_last_3 20 rfl rfl)
theorem dX3_last_91 : decode cX3_last 91 = .ok (.ifCond .eq 13, 3) := dk_153 0 13 (dk_at dksX3_last_4 0 rfl rfl)
theorem dX3_last_94 : decode cX3_last 94 = .ok (.iload_n 3, 1) := dk_29 (dk_at dksX3_last_4 3 rfl rfl)
theorem dX3_last_95 : decode cX3_last 95 = .ok (.ifCond .le 9, 3) := dk_158 0 9 (dk_at dksX3_last_4 4 rfl rfl)
theorem dX3_last_98 : decode cX3_last 98 = .ok (.iconst 1, 1) := dk_4 (dk_at dksX3_last_4 7 rfl rfl)
theorem dX3_last_99 : decode cX3_last 99 = .ok (.iload_n 3, 1) := dk_29 (dk_at dksX3_last_4 8 rfl rfl)
theorem dX3_last_100 : decode cX3_last 100 = .ok (.ishl, 1) := dk_120 (dk_at dksX3_last_4 9 rfl rfl)
theorem dX3_last_101 : decode cX3_last 101 = .ok (.goto 4, 3) := dk_167 0 4 (dk_at dksX3_last_4 10 rfl rfl)
theorem dX3_last_104 : decode cX3_last 104 = .ok (.iconst 0, 1) := dk_3 (dk_at dksX3_last_4 13 rfl rfl)
theorem dX3_last_105 : decode cX3_last 105 = .ok (.ior, 1) := dk_128 (dk_at dksX3_last_4 14 rfl rfl)
theorem dX3_last_106 : decode cX3_last 106 = .ok (.iastore, 1) := dk_79 (dk_at dksX3_last_4 15 rfl rfl)
theorem dX3_last_107 : decode cX3_last 107 = .ok (.return_, 1) := dk_177 (dk_at dksX3_last_4 16 rfl rfl)
abbrev cX3_reached : ByteArray := prog_15_method_79_code
def yX3_reached : MethodName := ⟨RX3, "reached", "(I)I"⟩
def dkwX3_reached_1 : List UInt8 := [3, 172]
abbrev dktX3_reached_1 : List UInt8 := dkwX3_reached_1 ++ []
def dkwX3_reached_0 : List UInt8 := [42, 27, 182, 0, 139, 154, 0, 7, 2, 167, 0, 16, 42, 27, 182, 1, 93, 153, 0, 7, 4, 167, 0, 4]
abbrev dktX3_reached_0 : List UInt8 := dkwX3_reached_0 ++ dktX3_reached_1
theorem dksX3_reached_0 : cX3_reached.data.toList.drop 0 = dktX3_reached_0 := by decide +kernel
theorem dksX3_reached_1 : cX3_reached.data.toList.drop 24 = dktX3_reached_1 := dk_seg dksX3_reached_0 24 rfl rfl
theorem dX3_reached_0 : decode cX3_reached 0 = .ok (.aload_n 0, 1) := dk_42 (dk_at dksX3_reached_0 0 rfl rfl)
theorem dX3_reached_1 : decode cX3_reached 1 = .ok (.iload_n 1, 1) := dk_27 (dk_at dksX3_reached_0 1 rfl rfl)
theorem dX3_reached_2 : decode cX3_reached 2 = .ok (.invokevirtual 139, 3) := dk_182 0 139 (dk_at dksX3_reached_0 2 rfl rfl)
theorem dX3_reached_5 : decode cX3_reached 5 = .ok (.ifCond .ne 7, 3) := dk_154 0 7 (dk_at dksX3_reached_0 5 rfl rfl)
theorem dX3_reached_8 : decode cX3_reached 8 = .ok (.iconst (-1), 1) := dk_2 (dk_at dksX3_reached_0 8 rfl rfl)
theorem dX3_reached_9 : decode cX3_reached 9 = .ok (.goto 16, 3) := dk_167 0 16 (dk_at dksX3_reached_0 9 rfl rfl)
theorem dX3_reached_12 : decode cX3_reached 12 = .ok (.aload_n 0, 1) := dk_42 (dk_at dksX3_reached_0 12 rfl rfl)
theorem dX3_reached_13 : decode cX3_reached 13 = .ok (.iload_n 1, 1) := dk_27 (dk_at dksX3_reached_0 13 rfl rfl)
theorem dX3_reached_14 : decode cX3_reached 14 = .ok (.invokevirtual 349, 3) := dk_182 1 93 (dk_at dksX3_reached_0 14 rfl rfl)
theorem dX3_reached_17 : decode cX3_reached 17 = .ok (.ifCond .eq 7, 3) := dk_153 0 7 (dk_at dksX3_reached_0 17 rfl rfl)
theorem dX3_reached_20 : decode cX3_reached 20 = .ok (.iconst 1, 1) := dk_4 (dk_at dksX3_reached_0 20 rfl rfl)
theorem dX3_reached_21 : decode cX3_reached 21 = .ok (.goto 4, 3) := dk_167 0 4 (dk_at dksX3_reached_0 21 rfl rfl)
theorem dX3_reached_24 : decode cX3_reached 24 = .ok (.iconst 0, 1) := dk_3 (dk_at dksX3_reached_1 0 rfl rfl)
theorem dX3_reached_25 : decode cX3_reached 25 = .ok (.ireturn, 1) := dk_172 (dk_at dksX3_reached_1 1 rfl rfl)
abbrev cX3_has : ByteArray := prog_15_method_78_code
def yX3_has : MethodName := ⟨RX3, "has", "(I)Z"⟩
def dkwX3_has_0 : List UInt8 := [42, 180, 0, 142, 153, 0, 16, 42, 180, 0, 76, 27, 51, 153, 0, 7, 4, 167, 0, 4, 3, 172]
abbrev dktX3_has_0 : List UInt8 := dkwX3_has_0 ++ []
theorem dksX3_has_0 : cX3_has.data.toList.drop 0 = dktX3_has_0 := by decide +kernel
theorem dX3_has_0 : decode cX3_has 0 = .ok (.aload_n 0, 1) := dk_42 (dk_at dksX3_has_0 0 rfl rfl)
theorem dX3_has_1 : decode cX3_has 1 = .ok (.getfield 142, 3) := dk_180 0 142 (dk_at dksX3_has_0 1 rfl rfl)
theorem dX3_has_4 : decode cX3_has 4 = .ok (.ifCond .eq 16, 3) := dk_153 0 16 (dk_at dksX3_has_0 4 rfl rfl)
theorem dX3_has_7 : decode cX3_has 7 = .ok (.aload_n 0, 1) := dk_42 (dk_at dksX3_has_0 7 rfl rfl)
theorem dX3_has_8 : decode cX3_has 8 = .ok (.getfield 76, 3) := dk_180 0 76 (dk_at dksX3_has_0 8 rfl rfl)
theorem dX3_has_11 : decode cX3_has 11 = .ok (.iload_n 1, 1) := dk_27 (dk_at dksX3_has_0 11 rfl rfl)
theorem dX3_has_12 : decode cX3_has 12 = .ok (.baload, 1) := dk_51 (dk_at dksX3_has_0 12 rfl rfl)
theorem dX3_has_13 : decode cX3_has 13 = .ok (.ifCond .eq 7, 3) := dk_153 0 7 (dk_at dksX3_has_0 13 rfl rfl)
theorem dX3_has_16 : decode cX3_has 16 = .ok (.iconst 1, 1) := dk_4 (dk_at dksX3_has_0 16 rfl rfl)
theorem dX3_has_17 : decode cX3_has 17 = .ok (.goto 4, 3) := dk_167 0 4 (dk_at dksX3_has_0 17 rfl rfl)
theorem dX3_has_20 : decode cX3_has 20 = .ok (.iconst 0, 1) := dk_3 (dk_at dksX3_has_0 20 rfl rfl)
theorem dX3_has_21 : decode cX3_has 21 = .ok (.ireturn, 1) := dk_172 (dk_at dksX3_has_0 21 rfl rfl)
abbrev cX3_may : ByteArray := prog_15_method_80_code
def yX3_may : MethodName := ⟨RX3, "may", "(I)I"⟩
def dkwX3_may_1 : List UInt8 := [27, 46, 167, 0, 4, 3, 172]
abbrev dktX3_may_1 : List UInt8 := dkwX3_may_1 ++ []
def dkwX3_may_0 : List UInt8 := [42, 27, 182, 0, 139, 154, 0, 7, 2, 167, 0, 21, 42, 27, 182, 1, 93, 153, 0, 12, 42, 180, 0, 79]
abbrev dktX3_may_0 : List UInt8 := dkwX3_may_0 ++ dktX3_may_1
theorem dksX3_may_0 : cX3_may.data.toList.drop 0 = dktX3_may_0 := by decide +kernel
theorem dksX3_may_1 : cX3_may.data.toList.drop 24 = dktX3_may_1 := dk_seg dksX3_may_0 24 rfl rfl
theorem dX3_may_0 : decode cX3_may 0 = .ok (.aload_n 0, 1) := dk_42 (dk_at dksX3_may_0 0 rfl rfl)
theorem dX3_may_1 : decode cX3_may 1 = .ok (.iload_n 1, 1) := dk_27 (dk_at dksX3_may_0 1 rfl rfl)
theorem dX3_may_2 : decode cX3_may 2 = .ok (.invokevirtual 139, 3) := dk_182 0 139 (dk_at dksX3_may_0 2 rfl rfl)
theorem dX3_may_5 : decode cX3_may 5 = .ok (.ifCond .ne 7, 3) := dk_154 0 7 (dk_at dksX3_may_0 5 rfl rfl)
theorem dX3_may_8 : decode cX3_may 8 = .ok (.iconst (-1), 1) := dk_2 (dk_at dksX3_may_0 8 rfl rfl)
theorem dX3_may_9 : decode cX3_may 9 = .ok (.goto 21, 3) := dk_167 0 21 (dk_at dksX3_may_0 9 rfl rfl)
theorem dX3_may_12 : decode cX3_may 12 = .ok (.aload_n 0, 1) := dk_42 (dk_at dksX3_may_0 12 rfl rfl)
theorem dX3_may_13 : decode cX3_may 13 = .ok (.iload_n 1, 1) := dk_27 (dk_at dksX3_may_0 13 rfl rfl)
theorem dX3_may_14 : decode cX3_may 14 = .ok (.invokevirtual 349, 3) := dk_182 1 93 (dk_at dksX3_may_0 14 rfl rfl)
theorem dX3_may_17 : decode cX3_may 17 = .ok (.ifCond .eq 12, 3) := dk_153 0 12 (dk_at dksX3_may_0 17 rfl rfl)
theorem dX3_may_20 : decode cX3_may 20 = .ok (.aload_n 0, 1) := dk_42 (dk_at dksX3_may_0 20 rfl rfl)
theorem dX3_may_21 : decode cX3_may 21 = .ok (.getfield 79, 3) := dk_180 0 79 (dk_at dksX3_may_0 21 rfl rfl)
theorem dX3_may_24 : decode cX3_may 24 = .ok (.iload_n 1, 1) := dk_27 (dk_at dksX3_may_1 0 rfl rfl)
theorem dX3_may_25 : decode cX3_may 25 = .ok (.iaload, 1) := dk_46 (dk_at dksX3_may_1 1 rfl rfl)
theorem dX3_may_26 : decode cX3_may 26 = .ok (.goto 4, 3) := dk_167 0 4 (dk_at dksX3_may_1 2 rfl rfl)
theorem dX3_may_29 : decode cX3_may 29 = .ok (.iconst 0, 1) := dk_3 (dk_at dksX3_may_1 5 rfl rfl)
theorem dX3_may_30 : decode cX3_may 30 = .ok (.ireturn, 1) := dk_172 (dk_at dksX3_may_1 6 rfl rfl)
abbrev cX3_ahead : ByteArray := prog_15_method_81_code
def yX3_ahead : MethodName := ⟨RX3, "ahead", "(II)I"⟩
def dkwX3_ahead_1 : List UInt8 := [153, 0, 17, 42, 180, 0, 82, 16, 12, 27, 104, 28, 96, 46, 167, 0, 4, 3, 172]
abbrev dktX3_ahead_1 : List UInt8 := dkwX3_ahead_1 ++ []
def dkwX3_ahead_0 : List UInt8 := [42, 27, 182, 0, 139, 153, 0, 10, 28, 184, 0, 124, 154, 0, 7, 2, 167, 0, 26, 42, 27, 182, 1, 93]
abbrev dktX3_ahead_0 : List UInt8 := dkwX3_ahead_0 ++ dktX3_ahead_1
theorem dksX3_ahead_0 : cX3_ahead.data.toList.drop 0 = dktX3_ahead_0 := by decide +kernel
theorem dksX3_ahead_1 : cX3_ahead.data.toList.drop 24 = dktX3_ahead_1 := dk_seg dksX3_ahead_0 24 rfl rfl
theorem dX3_ahead_0 : decode cX3_ahead 0 = .ok (.aload_n 0, 1) := dk_42 (dk_at dksX3_ahead_0 0 rfl rfl)
theorem dX3_ahead_1 : decode cX3_ahead 1 = .ok (.iload_n 1, 1) := dk_27 (dk_at dksX3_ahead_0 1 rfl rfl)
theorem dX3_ahead_2 : decode cX3_ahead 2 = .ok (.invokevirtual 139, 3) := dk_182 0 139 (dk_at dksX3_ahead_0 2 rfl rfl)
theorem dX3_ahead_5 : decode cX3_ahead 5 = .ok (.ifCond .eq 10, 3) := dk_153 0 10 (dk_at dksX3_ahead_0 5 rfl rfl)
theorem dX3_ahead_8 : decode cX3_ahead 8 = .ok (.iload_n 2, 1) := dk_28 (dk_at dksX3_ahead_0 8 rfl rfl)
theorem dX3_ahead_9 : decode cX3_ahead 9 = .ok (.invokestatic 124, 3) := dk_184 0 124 (dk_at dksX3_ahead_0 9 rfl rfl)
theorem dX3_ahead_12 : decode cX3_ahead 12 = .ok (.ifCond .ne 7, 3) := dk_154 0 7 (dk_at dksX3_ahead_0 12 rfl rfl)
theorem dX3_ahead_15 : decode cX3_ahead 15 = .ok (.iconst (-1), 1) := dk_2 (dk_at dksX3_ahead_0 15 rfl rfl)
theorem dX3_ahead_16 : decode cX3_ahead 16 = .ok (.goto 26, 3) := dk_167 0 26 (dk_at dksX3_ahead_0 16 rfl rfl)
theorem dX3_ahead_19 : decode cX3_ahead 19 = .ok (.aload_n 0, 1) := dk_42 (dk_at dksX3_ahead_0 19 rfl rfl)
theorem dX3_ahead_20 : decode cX3_ahead 20 = .ok (.iload_n 1, 1) := dk_27 (dk_at dksX3_ahead_0 20 rfl rfl)
theorem dX3_ahead_21 : decode cX3_ahead 21 = .ok (.invokevirtual 349, 3) := dk_182 1 93 (dk_at dksX3_ahead_0 21 rfl rfl)
theorem dX3_ahead_24 : decode cX3_ahead 24 = .ok (.ifCond .eq 17, 3) := dk_153 0 17 (dk_at dksX3_ahead_1 0 rfl rfl)
theorem dX3_ahead_27 : decode cX3_ahead 27 = .ok (.aload_n 0, 1) := dk_42 (dk_at dksX3_ahead_1 3 rfl rfl)
theorem dX3_ahead_28 : decode cX3_ahead 28 = .ok (.getfield 82, 3) := dk_180 0 82 (dk_at dksX3_ahead_1 4 rfl rfl)
theorem dX3_ahead_31 : decode cX3_ahead 31 = .ok (.bipush 12, 2) := dk_16 12 (dk_at dksX3_ahead_1 7 rfl rfl)
theorem dX3_ahead_33 : decode cX3_ahead 33 = .ok (.iload_n 1, 1) := dk_27 (dk_at dksX3_ahead_1 9 rfl rfl)
theorem dX3_ahead_34 : decode cX3_ahead 34 = .ok (.imul, 1) := dk_104 (dk_at dksX3_ahead_1 10 rfl rfl)
theorem dX3_ahead_35 : decode cX3_ahead 35 = .ok (.iload_n 2, 1) := dk_28 (dk_at dksX3_ahead_1 11 rfl rfl)
theorem dX3_ahead_36 : decode cX3_ahead 36 = .ok (.iadd, 1) := dk_96 (dk_at dksX3_ahead_1 12 rfl rfl)
theorem dX3_ahead_37 : decode cX3_ahead 37 = .ok (.iaload, 1) := dk_46 (dk_at dksX3_ahead_1 13 rfl rfl)
theorem dX3_ahead_38 : decode cX3_ahead 38 = .ok (.goto 4, 3) := dk_167 0 4 (dk_at dksX3_ahead_1 14 rfl rfl)
theorem dX3_ahead_41 : decode cX3_ahead 41 = .ok (.iconst 0, 1) := dk_3 (dk_at dksX3_ahead_1 17 rfl rfl)
theorem dX3_ahead_42 : decode cX3_ahead 42 = .ok (.ireturn, 1) := dk_172 (dk_at dksX3_ahead_1 18 rfl rfl)
abbrev cX3_guarded : ByteArray := prog_15_method_82_code
def yX3_guarded : MethodName := ⟨RX3, "guarded", "(II)I"⟩
def dkwX3_guarded_2 : List UInt8 := [180, 0, 41, 27, 46, 42, 180, 0, 85, 27, 46, 2, 130, 126, 167, 0, 9, 42, 180, 0, 88, 27, 46, 172]
abbrev dktX3_guarded_2 : List UInt8 := dkwX3_guarded_2 ++ []
def dkwX3_guarded_1 : List UInt8 := [154, 0, 5, 2, 172, 42, 27, 182, 1, 93, 154, 0, 7, 3, 167, 0, 31, 28, 154, 0, 21, 42]
abbrev dktX3_guarded_1 : List UInt8 := dkwX3_guarded_1 ++ dktX3_guarded_2
def dkwX3_guarded_0 : List UInt8 := [42, 27, 182, 0, 139, 153, 0, 22, 42, 180, 0, 32, 27, 46, 6, 160, 0, 12, 28, 3, 4, 184, 0, 103]
abbrev dktX3_guarded_0 : List UInt8 := dkwX3_guarded_0 ++ dktX3_guarded_1
theorem dksX3_guarded_0 : cX3_guarded.data.toList.drop 0 = dktX3_guarded_0 := by decide +kernel
theorem dksX3_guarded_1 : cX3_guarded.data.toList.drop 24 = dktX3_guarded_1 := dk_seg dksX3_guarded_0 24 rfl rfl
theorem dksX3_guarded_2 : cX3_guarded.data.toList.drop 46 = dktX3_guarded_2 := dk_seg dksX3_guarded_1 22 rfl rfl
theorem dX3_guarded_0 : decode cX3_guarded 0 = .ok (.aload_n 0, 1) := dk_42 (dk_at dksX3_guarded_0 0 rfl rfl)
theorem dX3_guarded_1 : decode cX3_guarded 1 = .ok (.iload_n 1, 1) := dk_27 (dk_at dksX3_guarded_0 1 rfl rfl)
theorem dX3_guarded_2 : decode cX3_guarded 2 = .ok (.invokevirtual 139, 3) := dk_182 0 139 (dk_at dksX3_guarded_0 2 rfl rfl)
theorem dX3_guarded_5 : decode cX3_guarded 5 = .ok (.ifCond .eq 22, 3) := dk_153 0 22 (dk_at dksX3_guarded_0 5 rfl rfl)
theorem dX3_guarded_8 : decode cX3_guarded 8 = .ok (.aload_n 0, 1) := dk_42 (dk_at dksX3_guarded_0 8 rfl rfl)
theorem dX3_guarded_9 : decode cX3_guarded 9 = .ok (.getfield 32, 3) := dk_180 0 32 (dk_at dksX3_guarded_0 9 rfl rfl)
theorem dX3_guarded_12 : decode cX3_guarded 12 = .ok (.iload_n 1, 1) := dk_27 (dk_at dksX3_guarded_0 12 rfl rfl)
theorem dX3_guarded_13 : decode cX3_guarded 13 = .ok (.iaload, 1) := dk_46 (dk_at dksX3_guarded_0 13 rfl rfl)
theorem dX3_guarded_14 : decode cX3_guarded 14 = .ok (.iconst 3, 1) := dk_6 (dk_at dksX3_guarded_0 14 rfl rfl)
theorem dX3_guarded_15 : decode cX3_guarded 15 = .ok (.if_icmp .ne 12, 3) := dk_160 0 12 (dk_at dksX3_guarded_0 15 rfl rfl)
theorem dX3_guarded_18 : decode cX3_guarded 18 = .ok (.iload_n 2, 1) := dk_28 (dk_at dksX3_guarded_0 18 rfl rfl)
theorem dX3_guarded_19 : decode cX3_guarded 19 = .ok (.iconst 0, 1) := dk_3 (dk_at dksX3_guarded_0 19 rfl rfl)
theorem dX3_guarded_20 : decode cX3_guarded 20 = .ok (.iconst 1, 1) := dk_4 (dk_at dksX3_guarded_0 20 rfl rfl)
theorem dX3_guarded_21 : decode cX3_guarded 21 = .ok (.invokestatic 103, 3) := dk_184 0 103 (dk_at dksX3_guarded_0 21 rfl rfl)
theorem dX3_guarded_24 : decode cX3_guarded 24 = .ok (.ifCond .ne 5, 3) := dk_154 0 5 (dk_at dksX3_guarded_1 0 rfl rfl)
theorem dX3_guarded_27 : decode cX3_guarded 27 = .ok (.iconst (-1), 1) := dk_2 (dk_at dksX3_guarded_1 3 rfl rfl)
theorem dX3_guarded_28 : decode cX3_guarded 28 = .ok (.ireturn, 1) := dk_172 (dk_at dksX3_guarded_1 4 rfl rfl)
theorem dX3_guarded_29 : decode cX3_guarded 29 = .ok (.aload_n 0, 1) := dk_42 (dk_at dksX3_guarded_1 5 rfl rfl)
theorem dX3_guarded_30 : decode cX3_guarded 30 = .ok (.iload_n 1, 1) := dk_27 (dk_at dksX3_guarded_1 6 rfl rfl)
theorem dX3_guarded_31 : decode cX3_guarded 31 = .ok (.invokevirtual 349, 3) := dk_182 1 93 (dk_at dksX3_guarded_1 7 rfl rfl)
theorem dX3_guarded_34 : decode cX3_guarded 34 = .ok (.ifCond .ne 7, 3) := dk_154 0 7 (dk_at dksX3_guarded_1 10 rfl rfl)
theorem dX3_guarded_37 : decode cX3_guarded 37 = .ok (.iconst 0, 1) := dk_3 (dk_at dksX3_guarded_1 13 rfl rfl)
theorem dX3_guarded_38 : decode cX3_guarded 38 = .ok (.goto 31, 3) := dk_167 0 31 (dk_at dksX3_guarded_1 14 rfl rfl)
theorem dX3_guarded_41 : decode cX3_guarded 41 = .ok (.iload_n 2, 1) := dk_28 (dk_at dksX3_guarded_1 17 rfl rfl)
theorem dX3_guarded_42 : decode cX3_guarded 42 = .ok (.ifCond .ne 21, 3) := dk_154 0 21 (dk_at dksX3_guarded_1 18 rfl rfl)
theorem dX3_guarded_45 : decode cX3_guarded 45 = .ok (.aload_n 0, 1) := dk_42 (dk_at dksX3_guarded_1 21 rfl rfl)
theorem dX3_guarded_46 : decode cX3_guarded 46 = .ok (.getfield 41, 3) := dk_180 0 41 (dk_at dksX3_guarded_2 0 rfl rfl)
theorem dX3_guarded_49 : decode cX3_guarded 49 = .ok (.iload_n 1, 1) := dk_27 (dk_at dksX3_guarded_2 3 rfl rfl)
theorem dX3_guarded_50 : decode cX3_guarded 50 = .ok (.iaload, 1) := dk_46 (dk_at dksX3_guarded_2 4 rfl rfl)
theorem dX3_guarded_51 : decode cX3_guarded 51 = .ok (.aload_n 0, 1) := dk_42 (dk_at dksX3_guarded_2 5 rfl rfl)
theorem dX3_guarded_52 : decode cX3_guarded 52 = .ok (.getfield 85, 3) := dk_180 0 85 (dk_at dksX3_guarded_2 6 rfl rfl)
theorem dX3_guarded_55 : decode cX3_guarded 55 = .ok (.iload_n 1, 1) := dk_27 (dk_at dksX3_guarded_2 9 rfl rfl)
theorem dX3_guarded_56 : decode cX3_guarded 56 = .ok (.iaload, 1) := dk_46 (dk_at dksX3_guarded_2 10 rfl rfl)
theorem dX3_guarded_57 : decode cX3_guarded 57 = .ok (.iconst (-1), 1) := dk_2 (dk_at dksX3_guarded_2 11 rfl rfl)
theorem dX3_guarded_58 : decode cX3_guarded 58 = .ok (.ixor, 1) := dk_130 (dk_at dksX3_guarded_2 12 rfl rfl)
theorem dX3_guarded_59 : decode cX3_guarded 59 = .ok (.iand, 1) := dk_126 (dk_at dksX3_guarded_2 13 rfl rfl)
theorem dX3_guarded_60 : decode cX3_guarded 60 = .ok (.goto 9, 3) := dk_167 0 9 (dk_at dksX3_guarded_2 14 rfl rfl)
theorem dX3_guarded_63 : decode cX3_guarded 63 = .ok (.aload_n 0, 1) := dk_42 (dk_at dksX3_guarded_2 17 rfl rfl)
theorem dX3_guarded_64 : decode cX3_guarded 64 = .ok (.getfield 88, 3) := dk_180 0 88 (dk_at dksX3_guarded_2 18 rfl rfl)
theorem dX3_guarded_67 : decode cX3_guarded 67 = .ok (.iload_n 1, 1) := dk_27 (dk_at dksX3_guarded_2 21 rfl rfl)
theorem dX3_guarded_68 : decode cX3_guarded 68 = .ok (.iaload, 1) := dk_46 (dk_at dksX3_guarded_2 22 rfl rfl)
theorem dX3_guarded_69 : decode cX3_guarded 69 = .ok (.ireturn, 1) := dk_172 (dk_at dksX3_guarded_2 23 rfl rfl)
theorem q97 : (Jvm.Cond.initialized "ThrowReportsModel") ∈ lw_all := lw_g (lw_at lw_m1 4 rfl) rfl
theorem q933 : (Jvm.Cond.instantiable "ThrowReportsModel" (40 : Nat)) ∈ lw_all := lw_g (lw_at lw_m4 120 rfl) rfl
theorem q935 : (Jvm.Cond.instanceMethod ({ cls := "ThrowReportsModel", name := "<init>", desc := "()V" } : Jvm.MethodName)) ∈ lw_all := lw_g (lw_at lw_m4 122 rfl) rfl
theorem q936 : (Jvm.Cond.code ({ cls := "ThrowReportsModel", name := "<init>", desc := "()V" } : Jvm.MethodName) prog_15_method_1_code (1 : Nat) (Option.none : Option Jvm.ClassFile.FieldType)) ∈ lw_all := lw_g (lw_at lw_m4 123 rfl) rfl
theorem q937 : (Jvm.Cond.methodLink "ThrowReportsModel" (1 : Nat) ({ cls := "java/lang/Object", name := "<init>", desc := "()V" } : Jvm.MethodName)) ∈ lw_all := lw_g (lw_at lw_m4 124 rfl) rfl
theorem q938 : (Jvm.Cond.fieldLink "ThrowReportsModel" (111 : Nat) "ThrowReportsModel" "things" "I") ∈ lw_all := lw_g (lw_at lw_m4 125 rfl) rfl
theorem q939 : (Jvm.Cond.fieldLink "ThrowReportsModel" (114 : Nat) "ThrowReportsModel" "items" "I") ∈ lw_all := lw_g (lw_at lw_m4 126 rfl) rfl
theorem q940 : (Jvm.Cond.fieldLink "ThrowReportsModel" (7 : Nat) "ThrowReportsModel" "kind" "[I") ∈ lw_all := lw_g (lw_at lw_m4 127 rfl) rfl
theorem q941 : (Jvm.Cond.fieldLink "ThrowReportsModel" (13 : Nat) "ThrowReportsModel" "begin" "[I") ∈ lw_all := lw_g (lw_at lw_m4 128 rfl) rfl
theorem q942 : (Jvm.Cond.fieldLink "ThrowReportsModel" (16 : Nat) "ThrowReportsModel" "length" "[I") ∈ lw_all := lw_g (lw_at lw_m4 129 rfl) rfl
theorem q943 : (Jvm.Cond.fieldLink "ThrowReportsModel" (19 : Nat) "ThrowReportsModel" "number" "[I") ∈ lw_all := lw_g (lw_at lw_m4 130 rfl) rfl
theorem q944 : (Jvm.Cond.fieldLink "ThrowReportsModel" (22 : Nat) "ThrowReportsModel" "item" "[J") ∈ lw_all := lw_g (lw_at lw_m4 131 rfl) rfl
theorem q945 : (Jvm.Cond.fieldLink "ThrowReportsModel" (26 : Nat) "ThrowReportsModel" "slots" "[I") ∈ lw_all := lw_g (lw_at lw_m4 132 rfl) rfl
theorem q946 : (Jvm.Cond.fieldLink "ThrowReportsModel" (29 : Nat) "ThrowReportsModel" "registers" "[J") ∈ lw_all := lw_g (lw_at lw_m4 133 rfl) rfl
theorem q947 : (Jvm.Cond.fieldLink "ThrowReportsModel" (121 : Nat) "ThrowReportsModel" "nodes" "I") ∈ lw_all := lw_g (lw_at lw_m4 134 rfl) rfl
theorem q948 : (Jvm.Cond.fieldLink "ThrowReportsModel" (32 : Nat) "ThrowReportsModel" "sort" "[I") ∈ lw_all := lw_g (lw_at lw_m4 135 rfl) rfl
theorem q949 : (Jvm.Cond.fieldLink "ThrowReportsModel" (35 : Nat) "ThrowReportsModel" "op" "[I") ∈ lw_all := lw_g (lw_at lw_m4 136 rfl) rfl
theorem q950 : (Jvm.Cond.fieldLink "ThrowReportsModel" (38 : Nat) "ThrowReportsModel" "na" "[I") ∈ lw_all := lw_g (lw_at lw_m4 137 rfl) rfl
theorem q951 : (Jvm.Cond.fieldLink "ThrowReportsModel" (41 : Nat) "ThrowReportsModel" "nb" "[I") ∈ lw_all := lw_g (lw_at lw_m4 138 rfl) rfl
theorem q952 : (Jvm.Cond.fieldLink "ThrowReportsModel" (44 : Nat) "ThrowReportsModel" "nc" "[I") ∈ lw_all := lw_g (lw_at lw_m4 139 rfl) rfl
theorem q953 : (Jvm.Cond.fieldLink "ThrowReportsModel" (47 : Nat) "ThrowReportsModel" "nd" "[I") ∈ lw_all := lw_g (lw_at lw_m4 140 rfl) rfl
theorem q954 : (Jvm.Cond.fieldLink "ThrowReportsModel" (50 : Nat) "ThrowReportsModel" "cost" "[I") ∈ lw_all := lw_g (lw_at lw_m4 141 rfl) rfl
theorem q955 : (Jvm.Cond.fieldLink "ThrowReportsModel" (235 : Nat) "ThrowReportsModel" "begun" "I") ∈ lw_all := lw_g (lw_at lw_m4 142 rfl) rfl
theorem q956 : (Jvm.Cond.fieldLink "ThrowReportsModel" (241 : Nat) "ThrowReportsModel" "failed" "I") ∈ lw_all := lw_g (lw_at lw_m4 143 rfl) rfl
theorem q957 : (Jvm.Cond.fieldLink "ThrowReportsModel" (177 : Nat) "ThrowReportsModel" "came" "I") ∈ lw_all := lw_g (lw_at lw_m4 144 rfl) rfl
theorem q958 : (Jvm.Cond.fieldLink "ThrowReportsModel" (251 : Nat) "ThrowReportsModel" "lasts" "I") ∈ lw_all := lw_g (lw_at lw_m4 145 rfl) rfl
theorem q959 : (Jvm.Cond.fieldLink "ThrowReportsModel" (248 : Nat) "ThrowReportsModel" "losts" "I") ∈ lw_all := lw_g (lw_at lw_m4 146 rfl) rfl
theorem q960 : (Jvm.Cond.fieldLink "ThrowReportsModel" (53 : Nat) "ThrowReportsModel" "latest" "I") ∈ lw_all := lw_g (lw_at lw_m4 147 rfl) rfl
theorem q961 : (Jvm.Cond.fieldLink "ThrowReportsModel" (57 : Nat) "ThrowReportsModel" "middle" "[J") ∈ lw_all := lw_g (lw_at lw_m4 148 rfl) rfl
theorem q962 : (Jvm.Cond.fieldLink "ThrowReportsModel" (60 : Nat) "ThrowReportsModel" "stack" "[I") ∈ lw_all := lw_g (lw_at lw_m4 149 rfl) rfl
theorem q963 : (Jvm.Cond.fieldLink "ThrowReportsModel" (63 : Nat) "ThrowReportsModel" "phase" "[I") ∈ lw_all := lw_g (lw_at lw_m4 150 rfl) rfl
theorem q964 : (Jvm.Cond.fieldLink "ThrowReportsModel" (66 : Nat) "ThrowReportsModel" "held" "[I") ∈ lw_all := lw_g (lw_at lw_m4 151 rfl) rfl
theorem q965 : (Jvm.Cond.fieldLink "ThrowReportsModel" (228 : Nat) "ThrowReportsModel" "top" "I") ∈ lw_all := lw_g (lw_at lw_m4 152 rfl) rfl
theorem q966 : (Jvm.Cond.fieldLink "ThrowReportsModel" (142 : Nat) "ThrowReportsModel" "reports" "Z") ∈ lw_all := lw_g (lw_at lw_m4 153 rfl) rfl
theorem q967 : (Jvm.Cond.fieldLink "ThrowReportsModel" (69 : Nat) "ThrowReportsModel" "start" "[I") ∈ lw_all := lw_g (lw_at lw_m4 154 rfl) rfl
theorem q968 : (Jvm.Cond.fieldLink "ThrowReportsModel" (72 : Nat) "ThrowReportsModel" "startTold" "[Z") ∈ lw_all := lw_g (lw_at lw_m4 155 rfl) rfl
theorem q969 : (Jvm.Cond.fieldLink "ThrowReportsModel" (76 : Nat) "ThrowReportsModel" "reached" "[Z") ∈ lw_all := lw_g (lw_at lw_m4 156 rfl) rfl
theorem q970 : (Jvm.Cond.fieldLink "ThrowReportsModel" (79 : Nat) "ThrowReportsModel" "mays" "[I") ∈ lw_all := lw_g (lw_at lw_m4 157 rfl) rfl
theorem q971 : (Jvm.Cond.fieldLink "ThrowReportsModel" (82 : Nat) "ThrowReportsModel" "aheads" "[I") ∈ lw_all := lw_g (lw_at lw_m4 158 rfl) rfl
theorem q972 : (Jvm.Cond.fieldLink "ThrowReportsModel" (85 : Nat) "ThrowReportsModel" "bodies" "[I") ∈ lw_all := lw_g (lw_at lw_m4 159 rfl) rfl
theorem q973 : (Jvm.Cond.fieldLink "ThrowReportsModel" (88 : Nat) "ThrowReportsModel" "lost" "[I") ∈ lw_all := lw_g (lw_at lw_m4 160 rfl) rfl
theorem q974 : (Jvm.Cond.fieldLink "ThrowReportsModel" (91 : Nat) "ThrowReportsModel" "outs" "[I") ∈ lw_all := lw_g (lw_at lw_m4 161 rfl) rfl
theorem q975 : (Jvm.Cond.fieldLink "ThrowReportsModel" (94 : Nat) "ThrowReportsModel" "ways" "[I") ∈ lw_all := lw_g (lw_at lw_m4 162 rfl) rfl
theorem q976 : (Jvm.Cond.fieldLink "ThrowReportsModel" (97 : Nat) "ThrowReportsModel" "ins" "[I") ∈ lw_all := lw_g (lw_at lw_m4 163 rfl) rfl
theorem q977 : (Jvm.Cond.fieldLink "ThrowReportsModel" (100 : Nat) "ThrowReportsModel" "now" "[I") ∈ lw_all := lw_g (lw_at lw_m4 164 rfl) rfl
theorem q978 : (Jvm.Cond.lays "ThrowReportsModel" "ThrowReportsModel" "things" "I") ∈ lw_all := lw_g (lw_at lw_m4 165 rfl) rfl
theorem q979 : (Jvm.Cond.soleField "ThrowReportsModel" "things") ∈ lw_all := lw_g (lw_at lw_m4 166 rfl) rfl
theorem q980 : (Jvm.Cond.lays "ThrowReportsModel" "ThrowReportsModel" "items" "I") ∈ lw_all := lw_g (lw_at lw_m4 167 rfl) rfl
theorem q981 : (Jvm.Cond.soleField "ThrowReportsModel" "items") ∈ lw_all := lw_g (lw_at lw_m4 168 rfl) rfl
theorem q982 : (Jvm.Cond.laysFinal "ThrowReportsModel" "ThrowReportsModel" "kind" "[I") ∈ lw_all := lw_g (lw_at lw_m4 169 rfl) rfl
theorem q983 : (Jvm.Cond.soleField "ThrowReportsModel" "kind") ∈ lw_all := lw_g (lw_at lw_m4 170 rfl) rfl
theorem q984 : (Jvm.Cond.laysFinal "ThrowReportsModel" "ThrowReportsModel" "begin" "[I") ∈ lw_all := lw_g (lw_at lw_m4 171 rfl) rfl
theorem q985 : (Jvm.Cond.soleField "ThrowReportsModel" "begin") ∈ lw_all := lw_g (lw_at lw_m4 172 rfl) rfl
theorem q986 : (Jvm.Cond.laysFinal "ThrowReportsModel" "ThrowReportsModel" "length" "[I") ∈ lw_all := lw_g (lw_at lw_m4 173 rfl) rfl
theorem q987 : (Jvm.Cond.soleField "ThrowReportsModel" "length") ∈ lw_all := lw_g (lw_at lw_m4 174 rfl) rfl
theorem q988 : (Jvm.Cond.laysFinal "ThrowReportsModel" "ThrowReportsModel" "number" "[I") ∈ lw_all := lw_g (lw_at lw_m4 175 rfl) rfl
theorem q989 : (Jvm.Cond.soleField "ThrowReportsModel" "number") ∈ lw_all := lw_g (lw_at lw_m4 176 rfl) rfl
theorem q990 : (Jvm.Cond.laysFinal "ThrowReportsModel" "ThrowReportsModel" "item" "[J") ∈ lw_all := lw_g (lw_at lw_m4 177 rfl) rfl
theorem q991 : (Jvm.Cond.soleField "ThrowReportsModel" "item") ∈ lw_all := lw_g (lw_at lw_m4 178 rfl) rfl
theorem q992 : (Jvm.Cond.laysFinal "ThrowReportsModel" "ThrowReportsModel" "slots" "[I") ∈ lw_all := lw_g (lw_at lw_m4 179 rfl) rfl
theorem q993 : (Jvm.Cond.soleField "ThrowReportsModel" "slots") ∈ lw_all := lw_g (lw_at lw_m4 180 rfl) rfl
theorem q994 : (Jvm.Cond.laysFinal "ThrowReportsModel" "ThrowReportsModel" "registers" "[J") ∈ lw_all := lw_g (lw_at lw_m4 181 rfl) rfl
theorem q995 : (Jvm.Cond.soleField "ThrowReportsModel" "registers") ∈ lw_all := lw_g (lw_at lw_m4 182 rfl) rfl
theorem q996 : (Jvm.Cond.lays "ThrowReportsModel" "ThrowReportsModel" "nodes" "I") ∈ lw_all := lw_g (lw_at lw_m4 183 rfl) rfl
theorem q997 : (Jvm.Cond.soleField "ThrowReportsModel" "nodes") ∈ lw_all := lw_g (lw_at lw_m4 184 rfl) rfl
theorem q998 : (Jvm.Cond.laysFinal "ThrowReportsModel" "ThrowReportsModel" "sort" "[I") ∈ lw_all := lw_g (lw_at lw_m4 185 rfl) rfl
theorem q999 : (Jvm.Cond.soleField "ThrowReportsModel" "sort") ∈ lw_all := lw_g (lw_at lw_m4 186 rfl) rfl
theorem q1000 : (Jvm.Cond.laysFinal "ThrowReportsModel" "ThrowReportsModel" "op" "[I") ∈ lw_all := lw_g (lw_at lw_m4 187 rfl) rfl
theorem q1001 : (Jvm.Cond.soleField "ThrowReportsModel" "op") ∈ lw_all := lw_g (lw_at lw_m4 188 rfl) rfl
theorem q1002 : (Jvm.Cond.laysFinal "ThrowReportsModel" "ThrowReportsModel" "na" "[I") ∈ lw_all := lw_g (lw_at lw_m4 189 rfl) rfl
theorem q1003 : (Jvm.Cond.soleField "ThrowReportsModel" "na") ∈ lw_all := lw_g (lw_at lw_m4 190 rfl) rfl
theorem q1004 : (Jvm.Cond.laysFinal "ThrowReportsModel" "ThrowReportsModel" "nb" "[I") ∈ lw_all := lw_g (lw_at lw_m4 191 rfl) rfl
theorem q1005 : (Jvm.Cond.soleField "ThrowReportsModel" "nb") ∈ lw_all := lw_g (lw_at lw_m4 192 rfl) rfl
theorem q1006 : (Jvm.Cond.laysFinal "ThrowReportsModel" "ThrowReportsModel" "nc" "[I") ∈ lw_all := lw_g (lw_at lw_m4 193 rfl) rfl
theorem q1007 : (Jvm.Cond.soleField "ThrowReportsModel" "nc") ∈ lw_all := lw_g (lw_at lw_m4 194 rfl) rfl
theorem q1008 : (Jvm.Cond.laysFinal "ThrowReportsModel" "ThrowReportsModel" "nd" "[I") ∈ lw_all := lw_g (lw_at lw_m4 195 rfl) rfl
theorem q1009 : (Jvm.Cond.soleField "ThrowReportsModel" "nd") ∈ lw_all := lw_g (lw_at lw_m4 196 rfl) rfl
theorem q1010 : (Jvm.Cond.laysFinal "ThrowReportsModel" "ThrowReportsModel" "cost" "[I") ∈ lw_all := lw_g (lw_at lw_m4 197 rfl) rfl
theorem q1011 : (Jvm.Cond.soleField "ThrowReportsModel" "cost") ∈ lw_all := lw_g (lw_at lw_m4 198 rfl) rfl
theorem q1012 : (Jvm.Cond.lays "ThrowReportsModel" "ThrowReportsModel" "begun" "I") ∈ lw_all := lw_g (lw_at lw_m4 199 rfl) rfl
theorem q1013 : (Jvm.Cond.soleField "ThrowReportsModel" "begun") ∈ lw_all := lw_g (lw_at lw_m4 200 rfl) rfl
theorem q1014 : (Jvm.Cond.lays "ThrowReportsModel" "ThrowReportsModel" "failed" "I") ∈ lw_all := lw_g (lw_at lw_m4 201 rfl) rfl
theorem q1015 : (Jvm.Cond.soleField "ThrowReportsModel" "failed") ∈ lw_all := lw_g (lw_at lw_m4 202 rfl) rfl
theorem q1016 : (Jvm.Cond.lays "ThrowReportsModel" "ThrowReportsModel" "came" "I") ∈ lw_all := lw_g (lw_at lw_m4 203 rfl) rfl
theorem q1017 : (Jvm.Cond.soleField "ThrowReportsModel" "came") ∈ lw_all := lw_g (lw_at lw_m4 204 rfl) rfl
theorem q1018 : (Jvm.Cond.lays "ThrowReportsModel" "ThrowReportsModel" "lasts" "I") ∈ lw_all := lw_g (lw_at lw_m4 205 rfl) rfl
theorem q1019 : (Jvm.Cond.soleField "ThrowReportsModel" "lasts") ∈ lw_all := lw_g (lw_at lw_m4 206 rfl) rfl
theorem q1020 : (Jvm.Cond.lays "ThrowReportsModel" "ThrowReportsModel" "losts" "I") ∈ lw_all := lw_g (lw_at lw_m4 207 rfl) rfl
theorem q1021 : (Jvm.Cond.soleField "ThrowReportsModel" "losts") ∈ lw_all := lw_g (lw_at lw_m4 208 rfl) rfl
theorem q1022 : (Jvm.Cond.lays "ThrowReportsModel" "ThrowReportsModel" "latest" "I") ∈ lw_all := lw_g (lw_at lw_m4 209 rfl) rfl
theorem q1023 : (Jvm.Cond.soleField "ThrowReportsModel" "latest") ∈ lw_all := lw_g (lw_at lw_m4 210 rfl) rfl
theorem q1024 : (Jvm.Cond.laysFinal "ThrowReportsModel" "ThrowReportsModel" "middle" "[J") ∈ lw_all := lw_g (lw_at lw_m4 211 rfl) rfl
theorem q1025 : (Jvm.Cond.soleField "ThrowReportsModel" "middle") ∈ lw_all := lw_g (lw_at lw_m4 212 rfl) rfl
theorem q1026 : (Jvm.Cond.laysFinal "ThrowReportsModel" "ThrowReportsModel" "stack" "[I") ∈ lw_all := lw_g (lw_at lw_m4 213 rfl) rfl
theorem q1027 : (Jvm.Cond.soleField "ThrowReportsModel" "stack") ∈ lw_all := lw_g (lw_at lw_m4 214 rfl) rfl
theorem q1028 : (Jvm.Cond.laysFinal "ThrowReportsModel" "ThrowReportsModel" "phase" "[I") ∈ lw_all := lw_g (lw_at lw_m4 215 rfl) rfl
theorem q1029 : (Jvm.Cond.soleField "ThrowReportsModel" "phase") ∈ lw_all := lw_g (lw_at lw_m4 216 rfl) rfl
theorem q1030 : (Jvm.Cond.laysFinal "ThrowReportsModel" "ThrowReportsModel" "held" "[I") ∈ lw_all := lw_g (lw_at lw_m4 217 rfl) rfl
theorem q1031 : (Jvm.Cond.soleField "ThrowReportsModel" "held") ∈ lw_all := lw_g (lw_at lw_m4 218 rfl) rfl
theorem q1032 : (Jvm.Cond.lays "ThrowReportsModel" "ThrowReportsModel" "top" "I") ∈ lw_all := lw_g (lw_at lw_m4 219 rfl) rfl
theorem q1033 : (Jvm.Cond.soleField "ThrowReportsModel" "top") ∈ lw_all := lw_g (lw_at lw_m4 220 rfl) rfl
theorem q1034 : (Jvm.Cond.lays "ThrowReportsModel" "ThrowReportsModel" "reports" "Z") ∈ lw_all := lw_g (lw_at lw_m4 221 rfl) rfl
theorem q1035 : (Jvm.Cond.soleField "ThrowReportsModel" "reports") ∈ lw_all := lw_g (lw_at lw_m4 222 rfl) rfl
theorem q1036 : (Jvm.Cond.laysFinal "ThrowReportsModel" "ThrowReportsModel" "start" "[I") ∈ lw_all := lw_g (lw_at lw_m4 223 rfl) rfl
theorem q1037 : (Jvm.Cond.soleField "ThrowReportsModel" "start") ∈ lw_all := lw_g (lw_at lw_m4 224 rfl) rfl
theorem q1038 : (Jvm.Cond.laysFinal "ThrowReportsModel" "ThrowReportsModel" "startTold" "[Z") ∈ lw_all := lw_g (lw_at lw_m4 225 rfl) rfl
theorem q1039 : (Jvm.Cond.soleField "ThrowReportsModel" "startTold") ∈ lw_all := lw_g (lw_at lw_m4 226 rfl) rfl
theorem q1040 : (Jvm.Cond.laysFinal "ThrowReportsModel" "ThrowReportsModel" "reached" "[Z") ∈ lw_all := lw_g (lw_at lw_m4 227 rfl) rfl
theorem q1041 : (Jvm.Cond.soleField "ThrowReportsModel" "reached") ∈ lw_all := lw_g (lw_at lw_m4 228 rfl) rfl
theorem q1042 : (Jvm.Cond.laysFinal "ThrowReportsModel" "ThrowReportsModel" "mays" "[I") ∈ lw_all := lw_g (lw_at lw_m4 229 rfl) rfl
theorem q1043 : (Jvm.Cond.soleField "ThrowReportsModel" "mays") ∈ lw_all := lw_g (lw_at lw_m4 230 rfl) rfl
theorem q1044 : (Jvm.Cond.laysFinal "ThrowReportsModel" "ThrowReportsModel" "aheads" "[I") ∈ lw_all := lw_g (lw_at lw_m4 231 rfl) rfl
theorem q1045 : (Jvm.Cond.soleField "ThrowReportsModel" "aheads") ∈ lw_all := lw_g (lw_at lw_m4 232 rfl) rfl
theorem q1046 : (Jvm.Cond.laysFinal "ThrowReportsModel" "ThrowReportsModel" "bodies" "[I") ∈ lw_all := lw_g (lw_at lw_m4 233 rfl) rfl
theorem q1047 : (Jvm.Cond.soleField "ThrowReportsModel" "bodies") ∈ lw_all := lw_g (lw_at lw_m4 234 rfl) rfl
theorem q1048 : (Jvm.Cond.laysFinal "ThrowReportsModel" "ThrowReportsModel" "lost" "[I") ∈ lw_all := lw_g (lw_at lw_m4 235 rfl) rfl
theorem q1049 : (Jvm.Cond.soleField "ThrowReportsModel" "lost") ∈ lw_all := lw_g (lw_at lw_m4 236 rfl) rfl
theorem q1050 : (Jvm.Cond.laysFinal "ThrowReportsModel" "ThrowReportsModel" "outs" "[I") ∈ lw_all := lw_g (lw_at lw_m4 237 rfl) rfl
theorem q1051 : (Jvm.Cond.soleField "ThrowReportsModel" "outs") ∈ lw_all := lw_g (lw_at lw_m4 238 rfl) rfl
theorem q1052 : (Jvm.Cond.laysFinal "ThrowReportsModel" "ThrowReportsModel" "ways" "[I") ∈ lw_all := lw_g (lw_at lw_m4 239 rfl) rfl
theorem q1053 : (Jvm.Cond.soleField "ThrowReportsModel" "ways") ∈ lw_all := lw_g (lw_at lw_m5 0 rfl) rfl
theorem q1054 : (Jvm.Cond.laysFinal "ThrowReportsModel" "ThrowReportsModel" "ins" "[I") ∈ lw_all := lw_g (lw_at lw_m5 1 rfl) rfl
theorem q1055 : (Jvm.Cond.soleField "ThrowReportsModel" "ins") ∈ lw_all := lw_g (lw_at lw_m5 2 rfl) rfl
theorem q1056 : (Jvm.Cond.laysFinal "ThrowReportsModel" "ThrowReportsModel" "now" "[I") ∈ lw_all := lw_g (lw_at lw_m5 3 rfl) rfl
theorem q1057 : (Jvm.Cond.soleField "ThrowReportsModel" "now") ∈ lw_all := lw_g (lw_at lw_m5 4 rfl) rfl
theorem q1058 : (Jvm.Cond.superclass "ThrowReportsModel" "java/lang/Object") ∈ lw_all := lw_g (lw_at lw_m5 5 rfl) rfl
theorem q1061 : (Jvm.Cond.instanceMethod ({ cls := "ThrowReportsModel", name := "act", desc := "(IIIII)I" } : Jvm.MethodName)) ∈ lw_all := lw_g (lw_at lw_m5 8 rfl) rfl
theorem q1062 : (Jvm.Cond.selects "ThrowReportsModel" ({ cls := "ThrowReportsModel", name := "act", desc := "(IIIII)I" } : Jvm.MethodName) ({ cls := "ThrowReportsModel", name := "act", desc := "(IIIII)I" } : Jvm.MethodName)) ∈ lw_all := lw_g (lw_at lw_m5 9 rfl) rfl
theorem q1063 : (Jvm.Cond.code ({ cls := "ThrowReportsModel", name := "act", desc := "(IIIII)I" } : Jvm.MethodName) prog_15_method_12_code (6 : Nat) (Option.some Jvm.ClassFile.FieldType.int)) ∈ lw_all := lw_g (lw_at lw_m5 10 rfl) rfl
theorem q1064 : (Jvm.Cond.methodLink "ThrowReportsModel" (131 : Nat) ({ cls := "ThrowReportsModel", name := "isAct", desc := "(IIIII)Z" } : Jvm.MethodName)) ∈ lw_all := lw_g (lw_at lw_m5 11 rfl) rfl
theorem q1065 : (Jvm.Cond.static ({ cls := "ThrowReportsModel", name := "isAct", desc := "(IIIII)Z" } : Jvm.MethodName)) ∈ lw_all := lw_g (lw_at lw_m5 12 rfl) rfl
theorem q1066 : (Jvm.Cond.code ({ cls := "ThrowReportsModel", name := "isAct", desc := "(IIIII)Z" } : Jvm.MethodName) prog_15_method_11_code (5 : Nat) (Option.some Jvm.ClassFile.FieldType.boolean)) ∈ lw_all := lw_g (lw_at lw_m5 13 rfl) rfl
theorem q1067 : (Jvm.Cond.methodLink "ThrowReportsModel" (124 : Nat) ({ cls := "ThrowReportsModel", name := "isSlot", desc := "(I)Z" } : Jvm.MethodName)) ∈ lw_all := lw_g (lw_at lw_m5 14 rfl) rfl
theorem q1068 : (Jvm.Cond.static ({ cls := "ThrowReportsModel", name := "isSlot", desc := "(I)Z" } : Jvm.MethodName)) ∈ lw_all := lw_g (lw_at lw_m5 15 rfl) rfl
theorem q1069 : (Jvm.Cond.code ({ cls := "ThrowReportsModel", name := "isSlot", desc := "(I)Z" } : Jvm.MethodName) prog_15_method_3_code (1 : Nat) (Option.some Jvm.ClassFile.FieldType.boolean)) ∈ lw_all := lw_g (lw_at lw_m5 16 rfl) rfl
theorem q1070 : (Jvm.Cond.methodLink "ThrowReportsModel" (103 : Nat) ({ cls := "ThrowReportsModel", name := "in", desc := "(III)Z" } : Jvm.MethodName)) ∈ lw_all := lw_g (lw_at lw_m5 17 rfl) rfl
theorem q1071 : (Jvm.Cond.static ({ cls := "ThrowReportsModel", name := "in", desc := "(III)Z" } : Jvm.MethodName)) ∈ lw_all := lw_g (lw_at lw_m5 18 rfl) rfl
theorem q1072 : (Jvm.Cond.code ({ cls := "ThrowReportsModel", name := "in", desc := "(III)Z" } : Jvm.MethodName) prog_15_method_2_code (3 : Nat) (Option.some Jvm.ClassFile.FieldType.boolean)) ∈ lw_all := lw_g (lw_at lw_m5 19 rfl) rfl
theorem q1073 : (Jvm.Cond.methodLink "ThrowReportsModel" (128 : Nat) ({ cls := "ThrowReportsModel", name := "isRegister", desc := "(I)Z" } : Jvm.MethodName)) ∈ lw_all := lw_g (lw_at lw_m5 20 rfl) rfl
theorem q1074 : (Jvm.Cond.static ({ cls := "ThrowReportsModel", name := "isRegister", desc := "(I)Z" } : Jvm.MethodName)) ∈ lw_all := lw_g (lw_at lw_m5 21 rfl) rfl
theorem q1075 : (Jvm.Cond.code ({ cls := "ThrowReportsModel", name := "isRegister", desc := "(I)Z" } : Jvm.MethodName) prog_15_method_4_code (1 : Nat) (Option.some Jvm.ClassFile.FieldType.boolean)) ∈ lw_all := lw_g (lw_at lw_m5 22 rfl) rfl
theorem q1076 : (Jvm.Cond.methodLink "ThrowReportsModel" (135 : Nat) ({ cls := "ThrowReportsModel", name := "node", desc := "(IIIIIII)I" } : Jvm.MethodName)) ∈ lw_all := lw_g (lw_at lw_m5 23 rfl) rfl
theorem q1077 : (Jvm.Cond.privateMethod ({ cls := "ThrowReportsModel", name := "node", desc := "(IIIIIII)I" } : Jvm.MethodName)) ∈ lw_tbl := lw_at lw_m5 24 rfl
theorem q1078 : (Jvm.Cond.instanceMethod ({ cls := "ThrowReportsModel", name := "node", desc := "(IIIIIII)I" } : Jvm.MethodName)) ∈ lw_all := lw_g (lw_at lw_m5 25 rfl) rfl
theorem q1079 : (Jvm.Cond.code ({ cls := "ThrowReportsModel", name := "node", desc := "(IIIIIII)I" } : Jvm.MethodName) prog_15_method_10_code (8 : Nat) (Option.some Jvm.ClassFile.FieldType.int)) ∈ lw_all := lw_g (lw_at lw_m5 26 rfl) rfl
theorem q1081 : (Jvm.Cond.instanceMethod ({ cls := "ThrowReportsModel", name := "both", desc := "(II)I" } : Jvm.MethodName)) ∈ lw_all := lw_g (lw_at lw_m5 28 rfl) rfl
theorem q1082 : (Jvm.Cond.selects "ThrowReportsModel" ({ cls := "ThrowReportsModel", name := "both", desc := "(II)I" } : Jvm.MethodName) ({ cls := "ThrowReportsModel", name := "both", desc := "(II)I" } : Jvm.MethodName)) ∈ lw_all := lw_g (lw_at lw_m5 29 rfl) rfl
theorem q1083 : (Jvm.Cond.code ({ cls := "ThrowReportsModel", name := "both", desc := "(II)I" } : Jvm.MethodName) prog_15_method_13_code (3 : Nat) (Option.some Jvm.ClassFile.FieldType.int)) ∈ lw_all := lw_g (lw_at lw_m5 30 rfl) rfl
theorem q1084 : (Jvm.Cond.methodLink "ThrowReportsModel" (139 : Nat) ({ cls := "ThrowReportsModel", name := "isNode", desc := "(I)Z" } : Jvm.MethodName)) ∈ lw_all := lw_g (lw_at lw_m5 31 rfl) rfl
theorem q1085 : (Jvm.Cond.privateMethod ({ cls := "ThrowReportsModel", name := "isNode", desc := "(I)Z" } : Jvm.MethodName)) ∈ lw_tbl := lw_at lw_m5 32 rfl
theorem q1086 : (Jvm.Cond.instanceMethod ({ cls := "ThrowReportsModel", name := "isNode", desc := "(I)Z" } : Jvm.MethodName)) ∈ lw_all := lw_g (lw_at lw_m5 33 rfl) rfl
theorem q1087 : (Jvm.Cond.code ({ cls := "ThrowReportsModel", name := "isNode", desc := "(I)Z" } : Jvm.MethodName) prog_15_method_9_code (2 : Nat) (Option.some Jvm.ClassFile.FieldType.boolean)) ∈ lw_all := lw_g (lw_at lw_m5 34 rfl) rfl
theorem q1089 : (Jvm.Cond.instanceMethod ({ cls := "ThrowReportsModel", name := "choice", desc := "(IIII)I" } : Jvm.MethodName)) ∈ lw_all := lw_g (lw_at lw_m5 36 rfl) rfl
theorem q1090 : (Jvm.Cond.selects "ThrowReportsModel" ({ cls := "ThrowReportsModel", name := "choice", desc := "(IIII)I" } : Jvm.MethodName) ({ cls := "ThrowReportsModel", name := "choice", desc := "(IIII)I" } : Jvm.MethodName)) ∈ lw_all := lw_g (lw_at lw_m5 37 rfl) rfl
theorem q1091 : (Jvm.Cond.code ({ cls := "ThrowReportsModel", name := "choice", desc := "(IIII)I" } : Jvm.MethodName) prog_15_method_14_code (6 : Nat) (Option.some Jvm.ClassFile.FieldType.int)) ∈ lw_all := lw_g (lw_at lw_m5 38 rfl) rfl
theorem q1093 : (Jvm.Cond.instanceMethod ({ cls := "ThrowReportsModel", name := "guard", desc := "(IIII)I" } : Jvm.MethodName)) ∈ lw_all := lw_g (lw_at lw_m5 40 rfl) rfl
theorem q1094 : (Jvm.Cond.selects "ThrowReportsModel" ({ cls := "ThrowReportsModel", name := "guard", desc := "(IIII)I" } : Jvm.MethodName) ({ cls := "ThrowReportsModel", name := "guard", desc := "(IIII)I" } : Jvm.MethodName)) ∈ lw_all := lw_g (lw_at lw_m5 41 rfl) rfl
theorem q1095 : (Jvm.Cond.code ({ cls := "ThrowReportsModel", name := "guard", desc := "(IIII)I" } : Jvm.MethodName) prog_15_method_15_code (7 : Nat) (Option.some Jvm.ClassFile.FieldType.int)) ∈ lw_all := lw_g (lw_at lw_m5 42 rfl) rfl
theorem q1097 : (Jvm.Cond.instanceMethod ({ cls := "ThrowReportsModel", name := "forget", desc := "()I" } : Jvm.MethodName)) ∈ lw_all := lw_g (lw_at lw_m5 44 rfl) rfl
theorem q1098 : (Jvm.Cond.selects "ThrowReportsModel" ({ cls := "ThrowReportsModel", name := "forget", desc := "()I" } : Jvm.MethodName) ({ cls := "ThrowReportsModel", name := "forget", desc := "()I" } : Jvm.MethodName)) ∈ lw_all := lw_g (lw_at lw_m5 45 rfl) rfl
theorem q1099 : (Jvm.Cond.code ({ cls := "ThrowReportsModel", name := "forget", desc := "()I" } : Jvm.MethodName) prog_15_method_16_code (2 : Nat) (Option.some Jvm.ClassFile.FieldType.int)) ∈ lw_all := lw_g (lw_at lw_m5 46 rfl) rfl
theorem q1101 : (Jvm.Cond.instanceMethod ({ cls := "ThrowReportsModel", name := "run", desc := "(I)I" } : Jvm.MethodName)) ∈ lw_all := lw_g (lw_at lw_m5 48 rfl) rfl
theorem q1102 : (Jvm.Cond.selects "ThrowReportsModel" ({ cls := "ThrowReportsModel", name := "run", desc := "(I)I" } : Jvm.MethodName) ({ cls := "ThrowReportsModel", name := "run", desc := "(I)I" } : Jvm.MethodName)) ∈ lw_all := lw_g (lw_at lw_m5 49 rfl) rfl
theorem q1103 : (Jvm.Cond.code ({ cls := "ThrowReportsModel", name := "run", desc := "(I)I" } : Jvm.MethodName) prog_15_method_42_code (2 : Nat) (Option.some Jvm.ClassFile.FieldType.int)) ∈ lw_all := lw_g (lw_at lw_m5 50 rfl) rfl
theorem q1104 : (Jvm.Cond.methodLink "ThrowReportsModel" (263 : Nat) ({ cls := "ThrowReportsModel", name := "goes", desc := "(I)I" } : Jvm.MethodName)) ∈ lw_all := lw_g (lw_at lw_m5 51 rfl) rfl
theorem q1105 : (Jvm.Cond.privateMethod ({ cls := "ThrowReportsModel", name := "goes", desc := "(I)I" } : Jvm.MethodName)) ∈ lw_tbl := lw_at lw_m5 52 rfl
theorem q1106 : (Jvm.Cond.instanceMethod ({ cls := "ThrowReportsModel", name := "goes", desc := "(I)I" } : Jvm.MethodName)) ∈ lw_all := lw_g (lw_at lw_m5 53 rfl) rfl
theorem q1107 : (Jvm.Cond.code ({ cls := "ThrowReportsModel", name := "goes", desc := "(I)I" } : Jvm.MethodName) prog_15_method_41_code (4 : Nat) (Option.some Jvm.ClassFile.FieldType.int)) ∈ lw_all := lw_g (lw_at lw_m5 54 rfl) rfl
theorem q1108 : (Jvm.Cond.methodLink "ThrowReportsModel" (231 : Nat) ({ cls := "ThrowReportsModel", name := "push", desc := "(I)V" } : Jvm.MethodName)) ∈ lw_all := lw_g (lw_at lw_m5 55 rfl) rfl
theorem q1109 : (Jvm.Cond.privateMethod ({ cls := "ThrowReportsModel", name := "push", desc := "(I)V" } : Jvm.MethodName)) ∈ lw_tbl := lw_at lw_m5 56 rfl
theorem q1110 : (Jvm.Cond.instanceMethod ({ cls := "ThrowReportsModel", name := "push", desc := "(I)V" } : Jvm.MethodName)) ∈ lw_all := lw_g (lw_at lw_m5 57 rfl) rfl
theorem q1111 : (Jvm.Cond.code ({ cls := "ThrowReportsModel", name := "push", desc := "(I)V" } : Jvm.MethodName) prog_15_method_36_code (2 : Nat) (Option.none : Option Jvm.ClassFile.FieldType)) ∈ lw_all := lw_g (lw_at lw_m5 58 rfl) rfl
theorem q1112 : (Jvm.Cond.methodLink "ThrowReportsModel" (254 : Nat) ({ cls := "ThrowReportsModel", name := "ofAct", desc := "(I)I" } : Jvm.MethodName)) ∈ lw_all := lw_g (lw_at lw_m5 59 rfl) rfl
theorem q1113 : (Jvm.Cond.privateMethod ({ cls := "ThrowReportsModel", name := "ofAct", desc := "(I)I" } : Jvm.MethodName)) ∈ lw_tbl := lw_at lw_m5 60 rfl
theorem q1114 : (Jvm.Cond.instanceMethod ({ cls := "ThrowReportsModel", name := "ofAct", desc := "(I)I" } : Jvm.MethodName)) ∈ lw_all := lw_g (lw_at lw_m5 61 rfl) rfl
theorem q1115 : (Jvm.Cond.code ({ cls := "ThrowReportsModel", name := "ofAct", desc := "(I)I" } : Jvm.MethodName) prog_15_method_38_code (3 : Nat) (Option.some Jvm.ClassFile.FieldType.int)) ∈ lw_all := lw_g (lw_at lw_m5 62 rfl) rfl
theorem q1116 : (Jvm.Cond.methodLink "ThrowReportsModel" (238 : Nat) ({ cls := "ThrowReportsModel", name := "done", desc := "(I)I" } : Jvm.MethodName)) ∈ lw_all := lw_g (lw_at lw_m5 63 rfl) rfl
theorem q1117 : (Jvm.Cond.privateMethod ({ cls := "ThrowReportsModel", name := "done", desc := "(I)I" } : Jvm.MethodName)) ∈ lw_tbl := lw_at lw_m5 64 rfl
theorem q1118 : (Jvm.Cond.instanceMethod ({ cls := "ThrowReportsModel", name := "done", desc := "(I)I" } : Jvm.MethodName)) ∈ lw_all := lw_g (lw_at lw_m5 65 rfl) rfl
theorem q1119 : (Jvm.Cond.code ({ cls := "ThrowReportsModel", name := "done", desc := "(I)I" } : Jvm.MethodName) prog_15_method_35_code (6 : Nat) (Option.some Jvm.ClassFile.FieldType.int)) ∈ lw_all := lw_g (lw_at lw_m5 66 rfl) rfl
theorem q1120 : (Jvm.Cond.methodLink "ThrowReportsModel" (186 : Nat) ({ cls := "ThrowReportsModel", name := "make", desc := "(III)I" } : Jvm.MethodName)) ∈ lw_all := lw_g (lw_at lw_m5 67 rfl) rfl
theorem q1121 : (Jvm.Cond.privateMethod ({ cls := "ThrowReportsModel", name := "make", desc := "(III)I" } : Jvm.MethodName)) ∈ lw_tbl := lw_at lw_m5 68 rfl
theorem q1122 : (Jvm.Cond.instanceMethod ({ cls := "ThrowReportsModel", name := "make", desc := "(III)I" } : Jvm.MethodName)) ∈ lw_all := lw_g (lw_at lw_m5 69 rfl) rfl
theorem q1123 : (Jvm.Cond.code ({ cls := "ThrowReportsModel", name := "make", desc := "(III)I" } : Jvm.MethodName) prog_15_method_20_code (4 : Nat) (Option.some Jvm.ClassFile.FieldType.int)) ∈ lw_all := lw_g (lw_at lw_m5 70 rfl) rfl
theorem q1124 : (Jvm.Cond.methodLink "ThrowReportsModel" (157 : Nat) ({ cls := "ThrowReportsModel", name := "fits", desc := "(JJ)Z" } : Jvm.MethodName)) ∈ lw_all := lw_g (lw_at lw_m5 71 rfl) rfl
theorem q1125 : (Jvm.Cond.privateMethod ({ cls := "ThrowReportsModel", name := "fits", desc := "(JJ)Z" } : Jvm.MethodName)) ∈ lw_tbl := lw_at lw_m5 72 rfl
theorem q1126 : (Jvm.Cond.instanceMethod ({ cls := "ThrowReportsModel", name := "fits", desc := "(JJ)Z" } : Jvm.MethodName)) ∈ lw_all := lw_g (lw_at lw_m5 73 rfl) rfl
theorem q1127 : (Jvm.Cond.code ({ cls := "ThrowReportsModel", name := "fits", desc := "(JJ)Z" } : Jvm.MethodName) prog_15_method_8_code (5 : Nat) (Option.some Jvm.ClassFile.FieldType.boolean)) ∈ lw_all := lw_g (lw_at lw_m5 74 rfl) rfl
theorem q1128 : (Jvm.Cond.constantLong "ThrowReportsModel" (117 : Nat) (200 : Int64)) ∈ lw_all := lw_g (lw_at lw_m5 75 rfl) rfl
theorem q1129 : (Jvm.Cond.constantLong "ThrowReportsModel" (119 : Nat) (3000 : Int64)) ∈ lw_all := lw_g (lw_at lw_m5 76 rfl) rfl
theorem q1130 : (Jvm.Cond.methodLink "ThrowReportsModel" (161 : Nat) ({ cls := "ThrowReportsModel", name := "fresh", desc := "(II)I" } : Jvm.MethodName)) ∈ lw_all := lw_g (lw_at lw_m5 77 rfl) rfl
theorem q1131 : (Jvm.Cond.privateMethod ({ cls := "ThrowReportsModel", name := "fresh", desc := "(II)I" } : Jvm.MethodName)) ∈ lw_tbl := lw_at lw_m5 78 rfl
theorem q1132 : (Jvm.Cond.instanceMethod ({ cls := "ThrowReportsModel", name := "fresh", desc := "(II)I" } : Jvm.MethodName)) ∈ lw_all := lw_g (lw_at lw_m5 79 rfl) rfl
theorem q1133 : (Jvm.Cond.code ({ cls := "ThrowReportsModel", name := "fresh", desc := "(II)I" } : Jvm.MethodName) prog_15_method_7_code (4 : Nat) (Option.some Jvm.ClassFile.FieldType.int)) ∈ lw_all := lw_g (lw_at lw_m5 80 rfl) rfl
theorem q1134 : (Jvm.Cond.methodLink "ThrowReportsModel" (189 : Nat) ({ cls := "ThrowReportsModel", name := "deep", desc := "(III)I" } : Jvm.MethodName)) ∈ lw_all := lw_g (lw_at lw_m5 81 rfl) rfl
theorem q1135 : (Jvm.Cond.privateMethod ({ cls := "ThrowReportsModel", name := "deep", desc := "(III)I" } : Jvm.MethodName)) ∈ lw_tbl := lw_at lw_m5 82 rfl
theorem q1136 : (Jvm.Cond.instanceMethod ({ cls := "ThrowReportsModel", name := "deep", desc := "(III)I" } : Jvm.MethodName)) ∈ lw_all := lw_g (lw_at lw_m5 83 rfl) rfl
theorem q1137 : (Jvm.Cond.code ({ cls := "ThrowReportsModel", name := "deep", desc := "(III)I" } : Jvm.MethodName) prog_15_method_21_code (6 : Nat) (Option.some Jvm.ClassFile.FieldType.int)) ∈ lw_all := lw_g (lw_at lw_m5 84 rfl) rfl
theorem q1138 : (Jvm.Cond.methodLink "ThrowReportsModel" (192 : Nat) ({ cls := "ThrowReportsModel", name := "figure", desc := "(III)I" } : Jvm.MethodName)) ∈ lw_all := lw_g (lw_at lw_m5 85 rfl) rfl
theorem q1139 : (Jvm.Cond.privateMethod ({ cls := "ThrowReportsModel", name := "figure", desc := "(III)I" } : Jvm.MethodName)) ∈ lw_tbl := lw_at lw_m5 86 rfl
theorem q1140 : (Jvm.Cond.instanceMethod ({ cls := "ThrowReportsModel", name := "figure", desc := "(III)I" } : Jvm.MethodName)) ∈ lw_all := lw_g (lw_at lw_m5 87 rfl) rfl
theorem q1141 : (Jvm.Cond.code ({ cls := "ThrowReportsModel", name := "figure", desc := "(III)I" } : Jvm.MethodName) prog_15_method_22_code (4 : Nat) (Option.some Jvm.ClassFile.FieldType.int)) ∈ lw_all := lw_g (lw_at lw_m5 88 rfl) rfl
theorem q1142 : (Jvm.Cond.methodLink "ThrowReportsModel" (195 : Nat) ({ cls := "ThrowReportsModel", name := "move", desc := "(III)I" } : Jvm.MethodName)) ∈ lw_all := lw_g (lw_at lw_m5 89 rfl) rfl
theorem q1143 : (Jvm.Cond.privateMethod ({ cls := "ThrowReportsModel", name := "move", desc := "(III)I" } : Jvm.MethodName)) ∈ lw_tbl := lw_at lw_m5 90 rfl
theorem q1144 : (Jvm.Cond.instanceMethod ({ cls := "ThrowReportsModel", name := "move", desc := "(III)I" } : Jvm.MethodName)) ∈ lw_all := lw_g (lw_at lw_m5 91 rfl) rfl
theorem q1145 : (Jvm.Cond.code ({ cls := "ThrowReportsModel", name := "move", desc := "(III)I" } : Jvm.MethodName) prog_15_method_34_code (5 : Nat) (Option.some Jvm.ClassFile.FieldType.int)) ∈ lw_all := lw_g (lw_at lw_m5 92 rfl) rfl
theorem q1146 : (Jvm.Cond.methodLink "ThrowReportsModel" (150 : Nat) ({ cls := "ThrowReportsModel", name := "as", desc := "(II)I" } : Jvm.MethodName)) ∈ lw_all := lw_g (lw_at lw_m5 93 rfl) rfl
theorem q1147 : (Jvm.Cond.privateMethod ({ cls := "ThrowReportsModel", name := "as", desc := "(II)I" } : Jvm.MethodName)) ∈ lw_tbl := lw_at lw_m5 94 rfl
theorem q1148 : (Jvm.Cond.instanceMethod ({ cls := "ThrowReportsModel", name := "as", desc := "(II)I" } : Jvm.MethodName)) ∈ lw_all := lw_g (lw_at lw_m5 95 rfl) rfl
theorem q1149 : (Jvm.Cond.code ({ cls := "ThrowReportsModel", name := "as", desc := "(II)I" } : Jvm.MethodName) prog_15_method_17_code (3 : Nat) (Option.some Jvm.ClassFile.FieldType.int)) ∈ lw_all := lw_g (lw_at lw_m5 96 rfl) rfl
theorem q1150 : (Jvm.Cond.methodLink "ThrowReportsModel" (146 : Nat) ({ cls := "ThrowReportsModel", name := "is", desc := "(II)Z" } : Jvm.MethodName)) ∈ lw_all := lw_g (lw_at lw_m5 97 rfl) rfl
theorem q1151 : (Jvm.Cond.privateMethod ({ cls := "ThrowReportsModel", name := "is", desc := "(II)Z" } : Jvm.MethodName)) ∈ lw_tbl := lw_at lw_m5 98 rfl
theorem q1152 : (Jvm.Cond.instanceMethod ({ cls := "ThrowReportsModel", name := "is", desc := "(II)Z" } : Jvm.MethodName)) ∈ lw_all := lw_g (lw_at lw_m5 99 rfl) rfl
theorem q1153 : (Jvm.Cond.code ({ cls := "ThrowReportsModel", name := "is", desc := "(II)Z" } : Jvm.MethodName) prog_15_method_6_code (3 : Nat) (Option.some Jvm.ClassFile.FieldType.boolean)) ∈ lw_all := lw_g (lw_at lw_m5 100 rfl) rfl
theorem q1154 : (Jvm.Cond.methodLink "ThrowReportsModel" (107 : Nat) ({ cls := "ThrowReportsModel", name := "mask", desc := "(I)I" } : Jvm.MethodName)) ∈ lw_all := lw_g (lw_at lw_m5 101 rfl) rfl
theorem q1155 : (Jvm.Cond.static ({ cls := "ThrowReportsModel", name := "mask", desc := "(I)I" } : Jvm.MethodName)) ∈ lw_all := lw_g (lw_at lw_m5 102 rfl) rfl
theorem q1156 : (Jvm.Cond.code ({ cls := "ThrowReportsModel", name := "mask", desc := "(I)I" } : Jvm.MethodName) prog_15_method_5_code (1 : Nat) (Option.some Jvm.ClassFile.FieldType.int)) ∈ lw_all := lw_g (lw_at lw_m5 103 rfl) rfl
theorem q1157 : (Jvm.Cond.methodLink "ThrowReportsModel" (198 : Nat) ({ cls := "ThrowReportsModel", name := "get", desc := "(IIII)I" } : Jvm.MethodName)) ∈ lw_all := lw_g (lw_at lw_m5 104 rfl) rfl
theorem q1158 : (Jvm.Cond.privateMethod ({ cls := "ThrowReportsModel", name := "get", desc := "(IIII)I" } : Jvm.MethodName)) ∈ lw_tbl := lw_at lw_m5 105 rfl
theorem q1159 : (Jvm.Cond.instanceMethod ({ cls := "ThrowReportsModel", name := "get", desc := "(IIII)I" } : Jvm.MethodName)) ∈ lw_all := lw_g (lw_at lw_m5 106 rfl) rfl
theorem q1160 : (Jvm.Cond.code ({ cls := "ThrowReportsModel", name := "get", desc := "(IIII)I" } : Jvm.MethodName) prog_15_method_29_code (6 : Nat) (Option.some Jvm.ClassFile.FieldType.int)) ∈ lw_all := lw_g (lw_at lw_m5 107 rfl) rfl
theorem q1161 : (Jvm.Cond.methodLink "ThrowReportsModel" (170 : Nat) ({ cls := "ThrowReportsModel", name := "itemOf", desc := "(III)I" } : Jvm.MethodName)) ∈ lw_all := lw_g (lw_at lw_m5 108 rfl) rfl
theorem q1162 : (Jvm.Cond.privateMethod ({ cls := "ThrowReportsModel", name := "itemOf", desc := "(III)I" } : Jvm.MethodName)) ∈ lw_tbl := lw_at lw_m5 109 rfl
theorem q1163 : (Jvm.Cond.instanceMethod ({ cls := "ThrowReportsModel", name := "itemOf", desc := "(III)I" } : Jvm.MethodName)) ∈ lw_all := lw_g (lw_at lw_m5 110 rfl) rfl
theorem q1164 : (Jvm.Cond.code ({ cls := "ThrowReportsModel", name := "itemOf", desc := "(III)I" } : Jvm.MethodName) prog_15_method_19_code (5 : Nat) (Option.some Jvm.ClassFile.FieldType.int)) ∈ lw_all := lw_g (lw_at lw_m5 111 rfl) rfl
theorem q1165 : (Jvm.Cond.methodLink "ThrowReportsModel" (154 : Nat) ({ cls := "ThrowReportsModel", name := "row", desc := "(II)I" } : Jvm.MethodName)) ∈ lw_all := lw_g (lw_at lw_m5 112 rfl) rfl
theorem q1166 : (Jvm.Cond.privateMethod ({ cls := "ThrowReportsModel", name := "row", desc := "(II)I" } : Jvm.MethodName)) ∈ lw_tbl := lw_at lw_m5 113 rfl
theorem q1167 : (Jvm.Cond.instanceMethod ({ cls := "ThrowReportsModel", name := "row", desc := "(II)I" } : Jvm.MethodName)) ∈ lw_all := lw_g (lw_at lw_m5 114 rfl) rfl
theorem q1168 : (Jvm.Cond.code ({ cls := "ThrowReportsModel", name := "row", desc := "(II)I" } : Jvm.MethodName) prog_15_method_18_code (3 : Nat) (Option.some Jvm.ClassFile.FieldType.int)) ∈ lw_all := lw_g (lw_at lw_m5 115 rfl) rfl
theorem q1169 : (Jvm.Cond.methodLink "ThrowReportsModel" (202 : Nat) ({ cls := "ThrowReportsModel", name := "set", desc := "(IIII)I" } : Jvm.MethodName)) ∈ lw_all := lw_g (lw_at lw_m5 116 rfl) rfl
theorem q1170 : (Jvm.Cond.privateMethod ({ cls := "ThrowReportsModel", name := "set", desc := "(IIII)I" } : Jvm.MethodName)) ∈ lw_tbl := lw_at lw_m5 117 rfl
theorem q1171 : (Jvm.Cond.instanceMethod ({ cls := "ThrowReportsModel", name := "set", desc := "(IIII)I" } : Jvm.MethodName)) ∈ lw_all := lw_g (lw_at lw_m5 118 rfl) rfl
theorem q1172 : (Jvm.Cond.code ({ cls := "ThrowReportsModel", name := "set", desc := "(IIII)I" } : Jvm.MethodName) prog_15_method_30_code (6 : Nat) (Option.some Jvm.ClassFile.FieldType.int)) ∈ lw_all := lw_g (lw_at lw_m5 119 rfl) rfl
theorem q1173 : (Jvm.Cond.methodLink "ThrowReportsModel" (182 : Nat) ({ cls := "ThrowReportsModel", name := "told", desc := "(IJ)J" } : Jvm.MethodName)) ∈ lw_all := lw_g (lw_at lw_m5 120 rfl) rfl
theorem q1174 : (Jvm.Cond.static ({ cls := "ThrowReportsModel", name := "told", desc := "(IJ)J" } : Jvm.MethodName)) ∈ lw_all := lw_g (lw_at lw_m5 121 rfl) rfl
theorem q1175 : (Jvm.Cond.code ({ cls := "ThrowReportsModel", name := "told", desc := "(IJ)J" } : Jvm.MethodName) prog_15_method_23_code (4 : Nat) (Option.some Jvm.ClassFile.FieldType.long)) ∈ lw_all := lw_g (lw_at lw_m5 122 rfl) rfl
theorem q1176 : (Jvm.Cond.constantLong "ThrowReportsModel" (164 : Nat) (2047 : Int64)) ∈ lw_all := lw_g (lw_at lw_m5 123 rfl) rfl
theorem q1177 : (Jvm.Cond.constantLong "ThrowReportsModel" (166 : Nat) (4503599627370495 : Int64)) ∈ lw_all := lw_g (lw_at lw_m5 124 rfl) rfl
theorem q1178 : (Jvm.Cond.constantLong "ThrowReportsModel" (168 : Nat) (9221120237041090560 : Int64)) ∈ lw_all := lw_g (lw_at lw_m5 125 rfl) rfl
theorem q1179 : (Jvm.Cond.methodLink "ThrowReportsModel" (205 : Nat) ({ cls := "ThrowReportsModel", name := "take", desc := "(IIII)I" } : Jvm.MethodName)) ∈ lw_all := lw_g (lw_at lw_m5 126 rfl) rfl
theorem q1180 : (Jvm.Cond.privateMethod ({ cls := "ThrowReportsModel", name := "take", desc := "(IIII)I" } : Jvm.MethodName)) ∈ lw_tbl := lw_at lw_m5 127 rfl
theorem q1181 : (Jvm.Cond.instanceMethod ({ cls := "ThrowReportsModel", name := "take", desc := "(IIII)I" } : Jvm.MethodName)) ∈ lw_all := lw_g (lw_at lw_m5 128 rfl) rfl
theorem q1182 : (Jvm.Cond.code ({ cls := "ThrowReportsModel", name := "take", desc := "(IIII)I" } : Jvm.MethodName) prog_15_method_31_code (6 : Nat) (Option.some Jvm.ClassFile.FieldType.int)) ∈ lw_all := lw_g (lw_at lw_m5 129 rfl) rfl
theorem q1183 : (Jvm.Cond.methodLink "ThrowReportsModel" (208 : Nat) ({ cls := "ThrowReportsModel", name := "lay", desc := "(IIII)I" } : Jvm.MethodName)) ∈ lw_all := lw_g (lw_at lw_m5 130 rfl) rfl
theorem q1184 : (Jvm.Cond.privateMethod ({ cls := "ThrowReportsModel", name := "lay", desc := "(IIII)I" } : Jvm.MethodName)) ∈ lw_tbl := lw_at lw_m5 131 rfl
theorem q1185 : (Jvm.Cond.instanceMethod ({ cls := "ThrowReportsModel", name := "lay", desc := "(IIII)I" } : Jvm.MethodName)) ∈ lw_all := lw_g (lw_at lw_m5 132 rfl) rfl
theorem q1186 : (Jvm.Cond.code ({ cls := "ThrowReportsModel", name := "lay", desc := "(IIII)I" } : Jvm.MethodName) prog_15_method_24_code (6 : Nat) (Option.some Jvm.ClassFile.FieldType.int)) ∈ lw_all := lw_g (lw_at lw_m5 133 rfl) rfl
theorem q1187 : (Jvm.Cond.methodLink "ThrowReportsModel" (211 : Nat) ({ cls := "ThrowReportsModel", name := "measure", desc := "(III)I" } : Jvm.MethodName)) ∈ lw_all := lw_g (lw_at lw_m5 134 rfl) rfl
theorem q1188 : (Jvm.Cond.privateMethod ({ cls := "ThrowReportsModel", name := "measure", desc := "(III)I" } : Jvm.MethodName)) ∈ lw_tbl := lw_at lw_m5 135 rfl
theorem q1189 : (Jvm.Cond.instanceMethod ({ cls := "ThrowReportsModel", name := "measure", desc := "(III)I" } : Jvm.MethodName)) ∈ lw_all := lw_g (lw_at lw_m5 136 rfl) rfl
theorem q1190 : (Jvm.Cond.code ({ cls := "ThrowReportsModel", name := "measure", desc := "(III)I" } : Jvm.MethodName) prog_15_method_33_code (5 : Nat) (Option.some Jvm.ClassFile.FieldType.int)) ∈ lw_all := lw_g (lw_at lw_m5 137 rfl) rfl
theorem q1191 : (Jvm.Cond.methodLink "ThrowReportsModel" (214 : Nat) ({ cls := "ThrowReportsModel", name := "cloned", desc := "(II)I" } : Jvm.MethodName)) ∈ lw_all := lw_g (lw_at lw_m5 138 rfl) rfl
theorem q1192 : (Jvm.Cond.privateMethod ({ cls := "ThrowReportsModel", name := "cloned", desc := "(II)I" } : Jvm.MethodName)) ∈ lw_tbl := lw_at lw_m5 139 rfl
theorem q1193 : (Jvm.Cond.instanceMethod ({ cls := "ThrowReportsModel", name := "cloned", desc := "(II)I" } : Jvm.MethodName)) ∈ lw_all := lw_g (lw_at lw_m5 140 rfl) rfl
theorem q1194 : (Jvm.Cond.code ({ cls := "ThrowReportsModel", name := "cloned", desc := "(II)I" } : Jvm.MethodName) prog_15_method_32_code (7 : Nat) (Option.some Jvm.ClassFile.FieldType.int)) ∈ lw_all := lw_g (lw_at lw_m5 141 rfl) rfl
theorem q1195 : (Jvm.Cond.methodLink "ThrowReportsModel" (217 : Nat) ({ cls := "ThrowReportsModel", name := "tell", desc := "(II)I" } : Jvm.MethodName)) ∈ lw_all := lw_g (lw_at lw_m5 142 rfl) rfl
theorem q1196 : (Jvm.Cond.privateMethod ({ cls := "ThrowReportsModel", name := "tell", desc := "(II)I" } : Jvm.MethodName)) ∈ lw_tbl := lw_at lw_m5 143 rfl
theorem q1197 : (Jvm.Cond.instanceMethod ({ cls := "ThrowReportsModel", name := "tell", desc := "(II)I" } : Jvm.MethodName)) ∈ lw_all := lw_g (lw_at lw_m5 144 rfl) rfl
theorem q1198 : (Jvm.Cond.code ({ cls := "ThrowReportsModel", name := "tell", desc := "(II)I" } : Jvm.MethodName) prog_15_method_28_code (5 : Nat) (Option.some Jvm.ClassFile.FieldType.int)) ∈ lw_all := lw_g (lw_at lw_m5 145 rfl) rfl
theorem q1199 : (Jvm.Cond.methodLink "ThrowReportsModel" (220 : Nat) ({ cls := "ThrowReportsModel", name := "copy", desc := "(IIIII)I" } : Jvm.MethodName)) ∈ lw_all := lw_g (lw_at lw_m5 146 rfl) rfl
theorem q1200 : (Jvm.Cond.privateMethod ({ cls := "ThrowReportsModel", name := "copy", desc := "(IIIII)I" } : Jvm.MethodName)) ∈ lw_tbl := lw_at lw_m5 147 rfl
theorem q1201 : (Jvm.Cond.instanceMethod ({ cls := "ThrowReportsModel", name := "copy", desc := "(IIIII)I" } : Jvm.MethodName)) ∈ lw_all := lw_g (lw_at lw_m5 148 rfl) rfl
theorem q1202 : (Jvm.Cond.code ({ cls := "ThrowReportsModel", name := "copy", desc := "(IIIII)I" } : Jvm.MethodName) prog_15_method_26_code (10 : Nat) (Option.some Jvm.ClassFile.FieldType.int)) ∈ lw_all := lw_g (lw_at lw_m5 149 rfl) rfl
theorem q1203 : (Jvm.Cond.methodLink "ThrowReportsModel" (174 : Nat) ({ cls := "ThrowReportsModel", name := "meet", desc := "(II)Z" } : Jvm.MethodName)) ∈ lw_all := lw_g (lw_at lw_m5 150 rfl) rfl
theorem q1204 : (Jvm.Cond.static ({ cls := "ThrowReportsModel", name := "meet", desc := "(II)Z" } : Jvm.MethodName)) ∈ lw_all := lw_g (lw_at lw_m5 151 rfl) rfl
theorem q1205 : (Jvm.Cond.code ({ cls := "ThrowReportsModel", name := "meet", desc := "(II)Z" } : Jvm.MethodName) prog_15_method_25_code (2 : Nat) (Option.some Jvm.ClassFile.FieldType.boolean)) ∈ lw_all := lw_g (lw_at lw_m5 152 rfl) rfl
theorem q1206 : (Jvm.Cond.methodLink "ThrowReportsModel" (224 : Nat) ({ cls := "ThrowReportsModel", name := "divide", desc := "(IIIZ)I" } : Jvm.MethodName)) ∈ lw_all := lw_g (lw_at lw_m5 153 rfl) rfl
theorem q1207 : (Jvm.Cond.privateMethod ({ cls := "ThrowReportsModel", name := "divide", desc := "(IIIZ)I" } : Jvm.MethodName)) ∈ lw_tbl := lw_at lw_m5 154 rfl
theorem q1208 : (Jvm.Cond.instanceMethod ({ cls := "ThrowReportsModel", name := "divide", desc := "(IIIZ)I" } : Jvm.MethodName)) ∈ lw_all := lw_g (lw_at lw_m5 155 rfl) rfl
theorem q1209 : (Jvm.Cond.code ({ cls := "ThrowReportsModel", name := "divide", desc := "(IIIZ)I" } : Jvm.MethodName) prog_15_method_27_code (7 : Nat) (Option.some Jvm.ClassFile.FieldType.int)) ∈ lw_all := lw_g (lw_at lw_m5 156 rfl) rfl
theorem q1210 : (Jvm.Cond.constantLong "ThrowReportsModel" (180 : Nat) (-1 : Int64)) ∈ lw_all := lw_g (lw_at lw_m5 157 rfl) rfl
theorem q1211 : (Jvm.Cond.methodLink "ThrowReportsModel" (257 : Nat) ({ cls := "ThrowReportsModel", name := "ofGuard", desc := "(II)I" } : Jvm.MethodName)) ∈ lw_all := lw_g (lw_at lw_m5 158 rfl) rfl
theorem q1212 : (Jvm.Cond.privateMethod ({ cls := "ThrowReportsModel", name := "ofGuard", desc := "(II)I" } : Jvm.MethodName)) ∈ lw_tbl := lw_at lw_m5 159 rfl
theorem q1213 : (Jvm.Cond.instanceMethod ({ cls := "ThrowReportsModel", name := "ofGuard", desc := "(II)I" } : Jvm.MethodName)) ∈ lw_all := lw_g (lw_at lw_m5 160 rfl) rfl
theorem q1214 : (Jvm.Cond.code ({ cls := "ThrowReportsModel", name := "ofGuard", desc := "(II)I" } : Jvm.MethodName) prog_15_method_39_code (6 : Nat) (Option.some Jvm.ClassFile.FieldType.int)) ∈ lw_all := lw_g (lw_at lw_m5 161 rfl) rfl
theorem q1215 : (Jvm.Cond.methodLink "ThrowReportsModel" (244 : Nat) ({ cls := "ThrowReportsModel", name := "step", desc := "(II)V" } : Jvm.MethodName)) ∈ lw_all := lw_g (lw_at lw_m5 162 rfl) rfl
theorem q1216 : (Jvm.Cond.privateMethod ({ cls := "ThrowReportsModel", name := "step", desc := "(II)V" } : Jvm.MethodName)) ∈ lw_tbl := lw_at lw_m5 163 rfl
theorem q1217 : (Jvm.Cond.instanceMethod ({ cls := "ThrowReportsModel", name := "step", desc := "(II)V" } : Jvm.MethodName)) ∈ lw_all := lw_g (lw_at lw_m5 164 rfl) rfl
theorem q1218 : (Jvm.Cond.code ({ cls := "ThrowReportsModel", name := "step", desc := "(II)V" } : Jvm.MethodName) prog_15_method_37_code (3 : Nat) (Option.none : Option Jvm.ClassFile.FieldType)) ∈ lw_all := lw_g (lw_at lw_m5 165 rfl) rfl
theorem q1219 : (Jvm.Cond.methodLink "ThrowReportsModel" (260 : Nat) ({ cls := "ThrowReportsModel", name := "ofOther", desc := "(II)I" } : Jvm.MethodName)) ∈ lw_all := lw_g (lw_at lw_m5 166 rfl) rfl
theorem q1220 : (Jvm.Cond.privateMethod ({ cls := "ThrowReportsModel", name := "ofOther", desc := "(II)I" } : Jvm.MethodName)) ∈ lw_tbl := lw_at lw_m5 167 rfl
theorem q1221 : (Jvm.Cond.instanceMethod ({ cls := "ThrowReportsModel", name := "ofOther", desc := "(II)I" } : Jvm.MethodName)) ∈ lw_all := lw_g (lw_at lw_m5 168 rfl) rfl
theorem q1222 : (Jvm.Cond.code ({ cls := "ThrowReportsModel", name := "ofOther", desc := "(II)I" } : Jvm.MethodName) prog_15_method_40_code (6 : Nat) (Option.some Jvm.ClassFile.FieldType.int)) ∈ lw_all := lw_g (lw_at lw_m5 169 rfl) rfl
theorem q1224 : (Jvm.Cond.instanceMethod ({ cls := "ThrowReportsModel", name := "ran", desc := "(I)I" } : Jvm.MethodName)) ∈ lw_all := lw_g (lw_at lw_m5 171 rfl) rfl
theorem q1225 : (Jvm.Cond.selects "ThrowReportsModel" ({ cls := "ThrowReportsModel", name := "ran", desc := "(I)I" } : Jvm.MethodName) ({ cls := "ThrowReportsModel", name := "ran", desc := "(I)I" } : Jvm.MethodName)) ∈ lw_all := lw_g (lw_at lw_m5 172 rfl) rfl
theorem q1226 : (Jvm.Cond.code ({ cls := "ThrowReportsModel", name := "ran", desc := "(I)I" } : Jvm.MethodName) prog_15_method_43_code (2 : Nat) (Option.some Jvm.ClassFile.FieldType.int)) ∈ lw_all := lw_g (lw_at lw_m5 173 rfl) rfl
theorem q1228 : (Jvm.Cond.instanceMethod ({ cls := "ThrowReportsModel", name := "clear", desc := "()I" } : Jvm.MethodName)) ∈ lw_all := lw_g (lw_at lw_m5 175 rfl) rfl
theorem q1229 : (Jvm.Cond.selects "ThrowReportsModel" ({ cls := "ThrowReportsModel", name := "clear", desc := "()I" } : Jvm.MethodName) ({ cls := "ThrowReportsModel", name := "clear", desc := "()I" } : Jvm.MethodName)) ∈ lw_all := lw_g (lw_at lw_m5 176 rfl) rfl
theorem q1230 : (Jvm.Cond.code ({ cls := "ThrowReportsModel", name := "clear", desc := "()I" } : Jvm.MethodName) prog_15_method_44_code (3 : Nat) (Option.some Jvm.ClassFile.FieldType.int)) ∈ lw_all := lw_g (lw_at lw_m5 177 rfl) rfl
theorem q1232 : (Jvm.Cond.instanceMethod ({ cls := "ThrowReportsModel", name := "count", desc := "(I)I" } : Jvm.MethodName)) ∈ lw_all := lw_g (lw_at lw_m5 179 rfl) rfl
theorem q1233 : (Jvm.Cond.selects "ThrowReportsModel" ({ cls := "ThrowReportsModel", name := "count", desc := "(I)I" } : Jvm.MethodName) ({ cls := "ThrowReportsModel", name := "count", desc := "(I)I" } : Jvm.MethodName)) ∈ lw_all := lw_g (lw_at lw_m5 180 rfl) rfl
theorem q1234 : (Jvm.Cond.code ({ cls := "ThrowReportsModel", name := "count", desc := "(I)I" } : Jvm.MethodName) prog_15_method_45_code (2 : Nat) (Option.some Jvm.ClassFile.FieldType.int)) ∈ lw_all := lw_g (lw_at lw_m5 181 rfl) rfl
theorem q1236 : (Jvm.Cond.instanceMethod ({ cls := "ThrowReportsModel", name := "slot", desc := "(II)I" } : Jvm.MethodName)) ∈ lw_all := lw_g (lw_at lw_m5 183 rfl) rfl
theorem q1237 : (Jvm.Cond.selects "ThrowReportsModel" ({ cls := "ThrowReportsModel", name := "slot", desc := "(II)I" } : Jvm.MethodName) ({ cls := "ThrowReportsModel", name := "slot", desc := "(II)I" } : Jvm.MethodName)) ∈ lw_all := lw_g (lw_at lw_m5 184 rfl) rfl
theorem q1238 : (Jvm.Cond.code ({ cls := "ThrowReportsModel", name := "slot", desc := "(II)I" } : Jvm.MethodName) prog_15_method_46_code (4 : Nat) (Option.some Jvm.ClassFile.FieldType.int)) ∈ lw_all := lw_g (lw_at lw_m5 185 rfl) rfl
theorem q1240 : (Jvm.Cond.instanceMethod ({ cls := "ThrowReportsModel", name := "item", desc := "(II)J" } : Jvm.MethodName)) ∈ lw_all := lw_g (lw_at lw_m5 187 rfl) rfl
theorem q1241 : (Jvm.Cond.selects "ThrowReportsModel" ({ cls := "ThrowReportsModel", name := "item", desc := "(II)J" } : Jvm.MethodName) ({ cls := "ThrowReportsModel", name := "item", desc := "(II)J" } : Jvm.MethodName)) ∈ lw_all := lw_g (lw_at lw_m5 188 rfl) rfl
theorem q1242 : (Jvm.Cond.code ({ cls := "ThrowReportsModel", name := "item", desc := "(II)J" } : Jvm.MethodName) prog_15_method_47_code (4 : Nat) (Option.some Jvm.ClassFile.FieldType.long)) ∈ lw_all := lw_g (lw_at lw_m5 189 rfl) rfl
theorem q1244 : (Jvm.Cond.instanceMethod ({ cls := "ThrowReportsModel", name := "register", desc := "(I)J" } : Jvm.MethodName)) ∈ lw_all := lw_g (lw_at lw_m5 191 rfl) rfl
theorem q1245 : (Jvm.Cond.selects "ThrowReportsModel" ({ cls := "ThrowReportsModel", name := "register", desc := "(I)J" } : Jvm.MethodName) ({ cls := "ThrowReportsModel", name := "register", desc := "(I)J" } : Jvm.MethodName)) ∈ lw_all := lw_g (lw_at lw_m5 192 rfl) rfl
theorem q1246 : (Jvm.Cond.code ({ cls := "ThrowReportsModel", name := "register", desc := "(I)J" } : Jvm.MethodName) prog_15_method_48_code (2 : Nat) (Option.some Jvm.ClassFile.FieldType.long)) ∈ lw_all := lw_g (lw_at lw_m5 193 rfl) rfl
theorem q1248 : (Jvm.Cond.instanceMethod ({ cls := "ThrowReportsModel", name := "alike", desc := "(II)I" } : Jvm.MethodName)) ∈ lw_all := lw_g (lw_at lw_m5 195 rfl) rfl
theorem q1249 : (Jvm.Cond.selects "ThrowReportsModel" ({ cls := "ThrowReportsModel", name := "alike", desc := "(II)I" } : Jvm.MethodName) ({ cls := "ThrowReportsModel", name := "alike", desc := "(II)I" } : Jvm.MethodName)) ∈ lw_all := lw_g (lw_at lw_m5 196 rfl) rfl
theorem q1250 : (Jvm.Cond.code ({ cls := "ThrowReportsModel", name := "alike", desc := "(II)I" } : Jvm.MethodName) prog_15_method_51_code (5 : Nat) (Option.some Jvm.ClassFile.FieldType.int)) ∈ lw_all := lw_g (lw_at lw_m5 197 rfl) rfl
theorem q1251 : (Jvm.Cond.methodLink "ThrowReportsModel" (269 : Nat) ({ cls := "ThrowReportsModel", name := "twins", desc := "(II)Z" } : Jvm.MethodName)) ∈ lw_all := lw_g (lw_at lw_m5 198 rfl) rfl
theorem q1252 : (Jvm.Cond.privateMethod ({ cls := "ThrowReportsModel", name := "twins", desc := "(II)Z" } : Jvm.MethodName)) ∈ lw_tbl := lw_at lw_m5 199 rfl
theorem q1253 : (Jvm.Cond.instanceMethod ({ cls := "ThrowReportsModel", name := "twins", desc := "(II)Z" } : Jvm.MethodName)) ∈ lw_all := lw_g (lw_at lw_m5 200 rfl) rfl
theorem q1254 : (Jvm.Cond.code ({ cls := "ThrowReportsModel", name := "twins", desc := "(II)Z" } : Jvm.MethodName) prog_15_method_50_code (7 : Nat) (Option.some Jvm.ClassFile.FieldType.boolean)) ∈ lw_all := lw_g (lw_at lw_m5 201 rfl) rfl
theorem q1255 : (Jvm.Cond.methodLink "ThrowReportsModel" (266 : Nat) ({ cls := "ThrowReportsModel", name := "plainTwins", desc := "(II)Z" } : Jvm.MethodName)) ∈ lw_all := lw_g (lw_at lw_m5 202 rfl) rfl
theorem q1256 : (Jvm.Cond.privateMethod ({ cls := "ThrowReportsModel", name := "plainTwins", desc := "(II)Z" } : Jvm.MethodName)) ∈ lw_tbl := lw_at lw_m5 203 rfl
theorem q1257 : (Jvm.Cond.instanceMethod ({ cls := "ThrowReportsModel", name := "plainTwins", desc := "(II)Z" } : Jvm.MethodName)) ∈ lw_all := lw_g (lw_at lw_m5 204 rfl) rfl
theorem q1258 : (Jvm.Cond.code ({ cls := "ThrowReportsModel", name := "plainTwins", desc := "(II)Z" } : Jvm.MethodName) prog_15_method_49_code (5 : Nat) (Option.some Jvm.ClassFile.FieldType.boolean)) ∈ lw_all := lw_g (lw_at lw_m5 205 rfl) rfl
theorem q1260 : (Jvm.Cond.instanceMethod ({ cls := "ThrowReportsModel", name := "given", desc := "(II)I" } : Jvm.MethodName)) ∈ lw_all := lw_g (lw_at lw_m5 207 rfl) rfl
theorem q1261 : (Jvm.Cond.selects "ThrowReportsModel" ({ cls := "ThrowReportsModel", name := "given", desc := "(II)I" } : Jvm.MethodName) ({ cls := "ThrowReportsModel", name := "given", desc := "(II)I" } : Jvm.MethodName)) ∈ lw_all := lw_g (lw_at lw_m5 208 rfl) rfl
theorem q1262 : (Jvm.Cond.code ({ cls := "ThrowReportsModel", name := "given", desc := "(II)I" } : Jvm.MethodName) prog_15_method_53_code (4 : Nat) (Option.some Jvm.ClassFile.FieldType.int)) ∈ lw_all := lw_g (lw_at lw_m5 209 rfl) rfl
theorem q1263 : (Jvm.Cond.methodLink "ThrowReportsModel" (272 : Nat) ({ cls := "ThrowReportsModel", name := "startOf", desc := "(I)I" } : Jvm.MethodName)) ∈ lw_all := lw_g (lw_at lw_m5 210 rfl) rfl
theorem q1264 : (Jvm.Cond.privateMethod ({ cls := "ThrowReportsModel", name := "startOf", desc := "(I)I" } : Jvm.MethodName)) ∈ lw_tbl := lw_at lw_m5 211 rfl
theorem q1265 : (Jvm.Cond.instanceMethod ({ cls := "ThrowReportsModel", name := "startOf", desc := "(I)I" } : Jvm.MethodName)) ∈ lw_all := lw_g (lw_at lw_m5 212 rfl) rfl
theorem q1266 : (Jvm.Cond.code ({ cls := "ThrowReportsModel", name := "startOf", desc := "(I)I" } : Jvm.MethodName) prog_15_method_52_code (2 : Nat) (Option.some Jvm.ClassFile.FieldType.int)) ∈ lw_all := lw_g (lw_at lw_m5 213 rfl) rfl
theorem q1268 : (Jvm.Cond.instanceMethod ({ cls := "ThrowReportsModel", name := "report", desc := "(I)I" } : Jvm.MethodName)) ∈ lw_all := lw_g (lw_at lw_m5 215 rfl) rfl
theorem q1269 : (Jvm.Cond.selects "ThrowReportsModel" ({ cls := "ThrowReportsModel", name := "report", desc := "(I)I" } : Jvm.MethodName) ({ cls := "ThrowReportsModel", name := "report", desc := "(I)I" } : Jvm.MethodName)) ∈ lw_all := lw_g (lw_at lw_m5 216 rfl) rfl
theorem q1270 : (Jvm.Cond.code ({ cls := "ThrowReportsModel", name := "report", desc := "(I)I" } : Jvm.MethodName) prog_15_method_77_code (3 : Nat) (Option.some Jvm.ClassFile.FieldType.int)) ∈ lw_all := lw_g (lw_at lw_m5 217 rfl) rfl
theorem q1271 : (Jvm.Cond.methodLink "ThrowReportsModel" (309 : Nat) ({ cls := "ThrowReportsModel", name := "wipe", desc := "([III)V" } : Jvm.MethodName)) ∈ lw_all := lw_g (lw_at lw_m5 218 rfl) rfl
theorem q1272 : (Jvm.Cond.static ({ cls := "ThrowReportsModel", name := "wipe", desc := "([III)V" } : Jvm.MethodName)) ∈ lw_all := lw_g (lw_at lw_m5 219 rfl) rfl
theorem q1273 : (Jvm.Cond.code ({ cls := "ThrowReportsModel", name := "wipe", desc := "([III)V" } : Jvm.MethodName) prog_15_method_56_code (4 : Nat) (Option.none : Option Jvm.ClassFile.FieldType)) ∈ lw_all := lw_g (lw_at lw_m5 220 rfl) rfl
theorem q1274 : (Jvm.Cond.methodLink "ThrowReportsModel" (346 : Nat) ({ cls := "ThrowReportsModel", name := "through", desc := "(I)V" } : Jvm.MethodName)) ∈ lw_all := lw_g (lw_at lw_m5 221 rfl) rfl
theorem q1275 : (Jvm.Cond.privateMethod ({ cls := "ThrowReportsModel", name := "through", desc := "(I)V" } : Jvm.MethodName)) ∈ lw_tbl := lw_at lw_m5 222 rfl
theorem q1276 : (Jvm.Cond.instanceMethod ({ cls := "ThrowReportsModel", name := "through", desc := "(I)V" } : Jvm.MethodName)) ∈ lw_all := lw_g (lw_at lw_m5 223 rfl) rfl
theorem q1277 : (Jvm.Cond.code ({ cls := "ThrowReportsModel", name := "through", desc := "(I)V" } : Jvm.MethodName) prog_15_method_76_code (3 : Nat) (Option.none : Option Jvm.ClassFile.FieldType)) ∈ lw_all := lw_g (lw_at lw_m5 224 rfl) rfl
theorem q1278 : (Jvm.Cond.methodLink "ThrowReportsModel" (334 : Nat) ({ cls := "ThrowReportsModel", name := "throughAct", desc := "(II)V" } : Jvm.MethodName)) ∈ lw_all := lw_g (lw_at lw_m5 225 rfl) rfl
theorem q1279 : (Jvm.Cond.privateMethod ({ cls := "ThrowReportsModel", name := "throughAct", desc := "(II)V" } : Jvm.MethodName)) ∈ lw_tbl := lw_at lw_m5 226 rfl
theorem q1280 : (Jvm.Cond.instanceMethod ({ cls := "ThrowReportsModel", name := "throughAct", desc := "(II)V" } : Jvm.MethodName)) ∈ lw_all := lw_g (lw_at lw_m5 227 rfl) rfl
theorem q1281 : (Jvm.Cond.code ({ cls := "ThrowReportsModel", name := "throughAct", desc := "(II)V" } : Jvm.MethodName) prog_15_method_70_code (3 : Nat) (Option.none : Option Jvm.ClassFile.FieldType)) ∈ lw_all := lw_g (lw_at lw_m5 228 rfl) rfl
theorem q1282 : (Jvm.Cond.methodLink "ThrowReportsModel" (313 : Nat) ({ cls := "ThrowReportsModel", name := "enter", desc := "(II)V" } : Jvm.MethodName)) ∈ lw_all := lw_g (lw_at lw_m5 229 rfl) rfl
theorem q1283 : (Jvm.Cond.privateMethod ({ cls := "ThrowReportsModel", name := "enter", desc := "(II)V" } : Jvm.MethodName)) ∈ lw_tbl := lw_at lw_m5 230 rfl
theorem q1284 : (Jvm.Cond.instanceMethod ({ cls := "ThrowReportsModel", name := "enter", desc := "(II)V" } : Jvm.MethodName)) ∈ lw_all := lw_g (lw_at lw_m5 231 rfl) rfl
theorem q1285 : (Jvm.Cond.code ({ cls := "ThrowReportsModel", name := "enter", desc := "(II)V" } : Jvm.MethodName) prog_15_method_68_code (3 : Nat) (Option.none : Option Jvm.ClassFile.FieldType)) ∈ lw_all := lw_g (lw_at lw_m5 232 rfl) rfl
theorem q1286 : (Jvm.Cond.methodLink "ThrowReportsModel" (275 : Nat) ({ cls := "ThrowReportsModel", name := "join", desc := "([II[II)V" } : Jvm.MethodName)) ∈ lw_all := lw_g (lw_at lw_m5 233 rfl) rfl
theorem q1287 : (Jvm.Cond.static ({ cls := "ThrowReportsModel", name := "join", desc := "([II[II)V" } : Jvm.MethodName)) ∈ lw_all := lw_g (lw_at lw_m5 234 rfl) rfl
theorem q1288 : (Jvm.Cond.code ({ cls := "ThrowReportsModel", name := "join", desc := "([II[II)V" } : Jvm.MethodName) prog_15_method_54_code (5 : Nat) (Option.none : Option Jvm.ClassFile.FieldType)) ∈ lw_all := lw_g (lw_at lw_m5 235 rfl) rfl
theorem q1289 : (Jvm.Cond.methodLink "ThrowReportsModel" (316 : Nat) ({ cls := "ThrowReportsModel", name := "lay", desc := "([II[II)V" } : Jvm.MethodName)) ∈ lw_all := lw_g (lw_at lw_m5 236 rfl) rfl
theorem q1290 : (Jvm.Cond.static ({ cls := "ThrowReportsModel", name := "lay", desc := "([II[II)V" } : Jvm.MethodName)) ∈ lw_all := lw_g (lw_at lw_m5 237 rfl) rfl
theorem q1291 : (Jvm.Cond.code ({ cls := "ThrowReportsModel", name := "lay", desc := "([II[II)V" } : Jvm.MethodName) prog_15_method_55_code (5 : Nat) (Option.none : Option Jvm.ClassFile.FieldType)) ∈ lw_all := lw_g (lw_at lw_m5 238 rfl) rfl
theorem q1292 : (Jvm.Cond.methodLink "ThrowReportsModel" (318 : Nat) ({ cls := "ThrowReportsModel", name := "mayAct", desc := "(II)Z" } : Jvm.MethodName)) ∈ lw_all := lw_g (lw_at lw_m5 239 rfl) rfl
theorem q1293 : (Jvm.Cond.privateMethod ({ cls := "ThrowReportsModel", name := "mayAct", desc := "(II)Z" } : Jvm.MethodName)) ∈ lw_tbl := lw_at lw_m6 0 rfl
theorem q1294 : (Jvm.Cond.instanceMethod ({ cls := "ThrowReportsModel", name := "mayAct", desc := "(II)Z" } : Jvm.MethodName)) ∈ lw_all := lw_g (lw_at lw_m6 1 rfl) rfl
theorem q1295 : (Jvm.Cond.code ({ cls := "ThrowReportsModel", name := "mayAct", desc := "(II)Z" } : Jvm.MethodName) prog_15_method_66_code (7 : Nat) (Option.some Jvm.ClassFile.FieldType.boolean)) ∈ lw_all := lw_g (lw_at lw_m6 2 rfl) rfl
theorem q1296 : (Jvm.Cond.methodLink "ThrowReportsModel" (295 : Nat) ({ cls := "ThrowReportsModel", name := "mayNew", desc := "(IZII)Z" } : Jvm.MethodName)) ∈ lw_all := lw_g (lw_at lw_m6 3 rfl) rfl
theorem q1297 : (Jvm.Cond.privateMethod ({ cls := "ThrowReportsModel", name := "mayNew", desc := "(IZII)Z" } : Jvm.MethodName)) ∈ lw_tbl := lw_at lw_m6 4 rfl
theorem q1298 : (Jvm.Cond.instanceMethod ({ cls := "ThrowReportsModel", name := "mayNew", desc := "(IZII)Z" } : Jvm.MethodName)) ∈ lw_all := lw_g (lw_at lw_m6 5 rfl) rfl
theorem q1299 : (Jvm.Cond.code ({ cls := "ThrowReportsModel", name := "mayNew", desc := "(IZII)Z" } : Jvm.MethodName) prog_15_method_61_code (5 : Nat) (Option.some Jvm.ClassFile.FieldType.boolean)) ∈ lw_all := lw_g (lw_at lw_m6 6 rfl) rfl
theorem q1300 : (Jvm.Cond.methodLink "ThrowReportsModel" (279 : Nat) ({ cls := "ThrowReportsModel", name := "mayFail", desc := "(IIII)V" } : Jvm.MethodName)) ∈ lw_all := lw_g (lw_at lw_m6 7 rfl) rfl
theorem q1301 : (Jvm.Cond.privateMethod ({ cls := "ThrowReportsModel", name := "mayFail", desc := "(IIII)V" } : Jvm.MethodName)) ∈ lw_tbl := lw_at lw_m6 8 rfl
theorem q1302 : (Jvm.Cond.instanceMethod ({ cls := "ThrowReportsModel", name := "mayFail", desc := "(IIII)V" } : Jvm.MethodName)) ∈ lw_all := lw_g (lw_at lw_m6 9 rfl) rfl
theorem q1303 : (Jvm.Cond.code ({ cls := "ThrowReportsModel", name := "mayFail", desc := "(IIII)V" } : Jvm.MethodName) prog_15_method_57_code (6 : Nat) (Option.none : Option Jvm.ClassFile.FieldType)) ∈ lw_all := lw_g (lw_at lw_m6 10 rfl) rfl
theorem q1304 : (Jvm.Cond.methodLink "ThrowReportsModel" (283 : Nat) ({ cls := "ThrowReportsModel", name := "mayAs", desc := "(III)Z" } : Jvm.MethodName)) ∈ lw_all := lw_g (lw_at lw_m6 11 rfl) rfl
theorem q1305 : (Jvm.Cond.privateMethod ({ cls := "ThrowReportsModel", name := "mayAs", desc := "(III)Z" } : Jvm.MethodName)) ∈ lw_tbl := lw_at lw_m6 12 rfl
theorem q1306 : (Jvm.Cond.instanceMethod ({ cls := "ThrowReportsModel", name := "mayAs", desc := "(III)Z" } : Jvm.MethodName)) ∈ lw_all := lw_g (lw_at lw_m6 13 rfl) rfl
theorem q1307 : (Jvm.Cond.code ({ cls := "ThrowReportsModel", name := "mayAs", desc := "(III)Z" } : Jvm.MethodName) prog_15_method_58_code (5 : Nat) (Option.some Jvm.ClassFile.FieldType.boolean)) ∈ lw_all := lw_g (lw_at lw_m6 14 rfl) rfl
theorem q1308 : (Jvm.Cond.methodLink "ThrowReportsModel" (292 : Nat) ({ cls := "ThrowReportsModel", name := "mayItem", desc := "(III)Z" } : Jvm.MethodName)) ∈ lw_all := lw_g (lw_at lw_m6 15 rfl) rfl
theorem q1309 : (Jvm.Cond.privateMethod ({ cls := "ThrowReportsModel", name := "mayItem", desc := "(III)Z" } : Jvm.MethodName)) ∈ lw_tbl := lw_at lw_m6 16 rfl
theorem q1310 : (Jvm.Cond.instanceMethod ({ cls := "ThrowReportsModel", name := "mayItem", desc := "(III)Z" } : Jvm.MethodName)) ∈ lw_all := lw_g (lw_at lw_m6 17 rfl) rfl
theorem q1311 : (Jvm.Cond.code ({ cls := "ThrowReportsModel", name := "mayItem", desc := "(III)Z" } : Jvm.MethodName) prog_15_method_60_code (5 : Nat) (Option.some Jvm.ClassFile.FieldType.boolean)) ∈ lw_all := lw_g (lw_at lw_m6 18 rfl) rfl
theorem q1312 : (Jvm.Cond.methodLink "ThrowReportsModel" (286 : Nat) ({ cls := "ThrowReportsModel", name := "mayRow", desc := "(II)Z" } : Jvm.MethodName)) ∈ lw_all := lw_g (lw_at lw_m6 19 rfl) rfl
theorem q1313 : (Jvm.Cond.privateMethod ({ cls := "ThrowReportsModel", name := "mayRow", desc := "(II)Z" } : Jvm.MethodName)) ∈ lw_tbl := lw_at lw_m6 20 rfl
theorem q1314 : (Jvm.Cond.instanceMethod ({ cls := "ThrowReportsModel", name := "mayRow", desc := "(II)Z" } : Jvm.MethodName)) ∈ lw_all := lw_g (lw_at lw_m6 21 rfl) rfl
theorem q1315 : (Jvm.Cond.code ({ cls := "ThrowReportsModel", name := "mayRow", desc := "(II)Z" } : Jvm.MethodName) prog_15_method_59_code (3 : Nat) (Option.some Jvm.ClassFile.FieldType.boolean)) ∈ lw_all := lw_g (lw_at lw_m6 22 rfl) rfl
theorem q1316 : (Jvm.Cond.methodLink "ThrowReportsModel" (299 : Nat) ({ cls := "ThrowReportsModel", name := "mayTake", desc := "(IIII)Z" } : Jvm.MethodName)) ∈ lw_all := lw_g (lw_at lw_m6 23 rfl) rfl
theorem q1317 : (Jvm.Cond.privateMethod ({ cls := "ThrowReportsModel", name := "mayTake", desc := "(IIII)Z" } : Jvm.MethodName)) ∈ lw_tbl := lw_at lw_m6 24 rfl
theorem q1318 : (Jvm.Cond.instanceMethod ({ cls := "ThrowReportsModel", name := "mayTake", desc := "(IIII)Z" } : Jvm.MethodName)) ∈ lw_all := lw_g (lw_at lw_m6 25 rfl) rfl
theorem q1319 : (Jvm.Cond.code ({ cls := "ThrowReportsModel", name := "mayTake", desc := "(IIII)Z" } : Jvm.MethodName) prog_15_method_65_code (7 : Nat) (Option.some Jvm.ClassFile.FieldType.boolean)) ∈ lw_all := lw_g (lw_at lw_m6 26 rfl) rfl
theorem q1320 : (Jvm.Cond.methodLink "ThrowReportsModel" (303 : Nat) ({ cls := "ThrowReportsModel", name := "mayLay", desc := "(IIII)Z" } : Jvm.MethodName)) ∈ lw_all := lw_g (lw_at lw_m6 27 rfl) rfl
theorem q1321 : (Jvm.Cond.privateMethod ({ cls := "ThrowReportsModel", name := "mayLay", desc := "(IIII)Z" } : Jvm.MethodName)) ∈ lw_tbl := lw_at lw_m6 28 rfl
theorem q1322 : (Jvm.Cond.instanceMethod ({ cls := "ThrowReportsModel", name := "mayLay", desc := "(IIII)Z" } : Jvm.MethodName)) ∈ lw_all := lw_g (lw_at lw_m6 29 rfl) rfl
theorem q1323 : (Jvm.Cond.code ({ cls := "ThrowReportsModel", name := "mayLay", desc := "(IIII)Z" } : Jvm.MethodName) prog_15_method_62_code (7 : Nat) (Option.some Jvm.ClassFile.FieldType.boolean)) ∈ lw_all := lw_g (lw_at lw_m6 30 rfl) rfl
theorem q1324 : (Jvm.Cond.methodLink "ThrowReportsModel" (306 : Nat) ({ cls := "ThrowReportsModel", name := "mayCopy", desc := "(III)Z" } : Jvm.MethodName)) ∈ lw_all := lw_g (lw_at lw_m6 31 rfl) rfl
theorem q1325 : (Jvm.Cond.privateMethod ({ cls := "ThrowReportsModel", name := "mayCopy", desc := "(III)Z" } : Jvm.MethodName)) ∈ lw_tbl := lw_at lw_m6 32 rfl
theorem q1326 : (Jvm.Cond.instanceMethod ({ cls := "ThrowReportsModel", name := "mayCopy", desc := "(III)Z" } : Jvm.MethodName)) ∈ lw_all := lw_g (lw_at lw_m6 33 rfl) rfl
theorem q1327 : (Jvm.Cond.code ({ cls := "ThrowReportsModel", name := "mayCopy", desc := "(III)Z" } : Jvm.MethodName) prog_15_method_64_code (9 : Nat) (Option.some Jvm.ClassFile.FieldType.boolean)) ∈ lw_all := lw_g (lw_at lw_m6 34 rfl) rfl
theorem q1328 : (Jvm.Cond.methodLink "ThrowReportsModel" (289 : Nat) ({ cls := "ThrowReportsModel", name := "partly", desc := "(II)Z" } : Jvm.MethodName)) ∈ lw_all := lw_g (lw_at lw_m6 35 rfl) rfl
theorem q1329 : (Jvm.Cond.static ({ cls := "ThrowReportsModel", name := "partly", desc := "(II)Z" } : Jvm.MethodName)) ∈ lw_all := lw_g (lw_at lw_m6 36 rfl) rfl
theorem q1330 : (Jvm.Cond.code ({ cls := "ThrowReportsModel", name := "partly", desc := "(II)Z" } : Jvm.MethodName) prog_15_method_63_code (2 : Nat) (Option.some Jvm.ClassFile.FieldType.boolean)) ∈ lw_all := lw_g (lw_at lw_m6 37 rfl) rfl
theorem q1331 : (Jvm.Cond.methodLink "ThrowReportsModel" (321 : Nat) ({ cls := "ThrowReportsModel", name := "leave", desc := "(II)V" } : Jvm.MethodName)) ∈ lw_all := lw_g (lw_at lw_m6 38 rfl) rfl
theorem q1332 : (Jvm.Cond.privateMethod ({ cls := "ThrowReportsModel", name := "leave", desc := "(II)V" } : Jvm.MethodName)) ∈ lw_tbl := lw_at lw_m6 39 rfl
theorem q1333 : (Jvm.Cond.instanceMethod ({ cls := "ThrowReportsModel", name := "leave", desc := "(II)V" } : Jvm.MethodName)) ∈ lw_all := lw_g (lw_at lw_m6 40 rfl) rfl
theorem q1334 : (Jvm.Cond.code ({ cls := "ThrowReportsModel", name := "leave", desc := "(II)V" } : Jvm.MethodName) prog_15_method_69_code (4 : Nat) (Option.none : Option Jvm.ClassFile.FieldType)) ∈ lw_all := lw_g (lw_at lw_m6 41 rfl) rfl
theorem q1335 : (Jvm.Cond.methodLink "ThrowReportsModel" (337 : Nat) ({ cls := "ThrowReportsModel", name := "throughBoth", desc := "(II)V" } : Jvm.MethodName)) ∈ lw_all := lw_g (lw_at lw_m6 42 rfl) rfl
theorem q1336 : (Jvm.Cond.privateMethod ({ cls := "ThrowReportsModel", name := "throughBoth", desc := "(II)V" } : Jvm.MethodName)) ∈ lw_tbl := lw_at lw_m6 43 rfl
theorem q1337 : (Jvm.Cond.instanceMethod ({ cls := "ThrowReportsModel", name := "throughBoth", desc := "(II)V" } : Jvm.MethodName)) ∈ lw_all := lw_g (lw_at lw_m6 44 rfl) rfl
theorem q1338 : (Jvm.Cond.code ({ cls := "ThrowReportsModel", name := "throughBoth", desc := "(II)V" } : Jvm.MethodName) prog_15_method_71_code (5 : Nat) (Option.none : Option Jvm.ClassFile.FieldType)) ∈ lw_all := lw_g (lw_at lw_m6 45 rfl) rfl
theorem q1339 : (Jvm.Cond.methodLink "ThrowReportsModel" (324 : Nat) ({ cls := "ThrowReportsModel", name := "put", desc := "(II)V" } : Jvm.MethodName)) ∈ lw_all := lw_g (lw_at lw_m6 46 rfl) rfl
theorem q1340 : (Jvm.Cond.privateMethod ({ cls := "ThrowReportsModel", name := "put", desc := "(II)V" } : Jvm.MethodName)) ∈ lw_tbl := lw_at lw_m6 47 rfl
theorem q1341 : (Jvm.Cond.instanceMethod ({ cls := "ThrowReportsModel", name := "put", desc := "(II)V" } : Jvm.MethodName)) ∈ lw_all := lw_g (lw_at lw_m6 48 rfl) rfl
theorem q1342 : (Jvm.Cond.code ({ cls := "ThrowReportsModel", name := "put", desc := "(II)V" } : Jvm.MethodName) prog_15_method_67_code (4 : Nat) (Option.none : Option Jvm.ClassFile.FieldType)) ∈ lw_all := lw_g (lw_at lw_m6 49 rfl) rfl
theorem q1343 : (Jvm.Cond.methodLink "ThrowReportsModel" (340 : Nat) ({ cls := "ThrowReportsModel", name := "throughChoice", desc := "(II)V" } : Jvm.MethodName)) ∈ lw_all := lw_g (lw_at lw_m6 50 rfl) rfl
theorem q1344 : (Jvm.Cond.privateMethod ({ cls := "ThrowReportsModel", name := "throughChoice", desc := "(II)V" } : Jvm.MethodName)) ∈ lw_tbl := lw_at lw_m6 51 rfl
theorem q1345 : (Jvm.Cond.instanceMethod ({ cls := "ThrowReportsModel", name := "throughChoice", desc := "(II)V" } : Jvm.MethodName)) ∈ lw_all := lw_g (lw_at lw_m6 52 rfl) rfl
theorem q1346 : (Jvm.Cond.code ({ cls := "ThrowReportsModel", name := "throughChoice", desc := "(II)V" } : Jvm.MethodName) prog_15_method_72_code (6 : Nat) (Option.none : Option Jvm.ClassFile.FieldType)) ∈ lw_all := lw_g (lw_at lw_m6 53 rfl) rfl
theorem q1347 : (Jvm.Cond.methodLink "ThrowReportsModel" (343 : Nat) ({ cls := "ThrowReportsModel", name := "throughGuard", desc := "(II)V" } : Jvm.MethodName)) ∈ lw_all := lw_g (lw_at lw_m6 54 rfl) rfl
theorem q1348 : (Jvm.Cond.privateMethod ({ cls := "ThrowReportsModel", name := "throughGuard", desc := "(II)V" } : Jvm.MethodName)) ∈ lw_tbl := lw_at lw_m6 55 rfl
theorem q1349 : (Jvm.Cond.instanceMethod ({ cls := "ThrowReportsModel", name := "throughGuard", desc := "(II)V" } : Jvm.MethodName)) ∈ lw_all := lw_g (lw_at lw_m6 56 rfl) rfl
theorem q1350 : (Jvm.Cond.code ({ cls := "ThrowReportsModel", name := "throughGuard", desc := "(II)V" } : Jvm.MethodName) prog_15_method_75_code (7 : Nat) (Option.none : Option Jvm.ClassFile.FieldType)) ∈ lw_all := lw_g (lw_at lw_m6 57 rfl) rfl
theorem q1351 : (Jvm.Cond.methodLink "ThrowReportsModel" (327 : Nat) ({ cls := "ThrowReportsModel", name := "part", desc := "(II)V" } : Jvm.MethodName)) ∈ lw_all := lw_g (lw_at lw_m6 58 rfl) rfl
theorem q1352 : (Jvm.Cond.privateMethod ({ cls := "ThrowReportsModel", name := "part", desc := "(II)V" } : Jvm.MethodName)) ∈ lw_tbl := lw_at lw_m6 59 rfl
theorem q1353 : (Jvm.Cond.instanceMethod ({ cls := "ThrowReportsModel", name := "part", desc := "(II)V" } : Jvm.MethodName)) ∈ lw_all := lw_g (lw_at lw_m6 60 rfl) rfl
theorem q1354 : (Jvm.Cond.code ({ cls := "ThrowReportsModel", name := "part", desc := "(II)V" } : Jvm.MethodName) prog_15_method_73_code (5 : Nat) (Option.none : Option Jvm.ClassFile.FieldType)) ∈ lw_all := lw_g (lw_at lw_m6 61 rfl) rfl
theorem q1355 : (Jvm.Cond.methodLink "ThrowReportsModel" (330 : Nat) ({ cls := "ThrowReportsModel", name := "last", desc := "(III)V" } : Jvm.MethodName)) ∈ lw_all := lw_g (lw_at lw_m6 62 rfl) rfl
theorem q1356 : (Jvm.Cond.privateMethod ({ cls := "ThrowReportsModel", name := "last", desc := "(III)V" } : Jvm.MethodName)) ∈ lw_tbl := lw_at lw_m6 63 rfl
theorem q1357 : (Jvm.Cond.instanceMethod ({ cls := "ThrowReportsModel", name := "last", desc := "(III)V" } : Jvm.MethodName)) ∈ lw_all := lw_g (lw_at lw_m6 64 rfl) rfl
theorem q1358 : (Jvm.Cond.code ({ cls := "ThrowReportsModel", name := "last", desc := "(III)V" } : Jvm.MethodName) prog_15_method_74_code (7 : Nat) (Option.none : Option Jvm.ClassFile.FieldType)) ∈ lw_all := lw_g (lw_at lw_m6 65 rfl) rfl
theorem q1360 : (Jvm.Cond.instanceMethod ({ cls := "ThrowReportsModel", name := "reached", desc := "(I)I" } : Jvm.MethodName)) ∈ lw_all := lw_g (lw_at lw_m6 67 rfl) rfl
theorem q1361 : (Jvm.Cond.selects "ThrowReportsModel" ({ cls := "ThrowReportsModel", name := "reached", desc := "(I)I" } : Jvm.MethodName) ({ cls := "ThrowReportsModel", name := "reached", desc := "(I)I" } : Jvm.MethodName)) ∈ lw_all := lw_g (lw_at lw_m6 68 rfl) rfl
theorem q1362 : (Jvm.Cond.code ({ cls := "ThrowReportsModel", name := "reached", desc := "(I)I" } : Jvm.MethodName) prog_15_method_79_code (2 : Nat) (Option.some Jvm.ClassFile.FieldType.int)) ∈ lw_all := lw_g (lw_at lw_m6 69 rfl) rfl
theorem q1363 : (Jvm.Cond.methodLink "ThrowReportsModel" (349 : Nat) ({ cls := "ThrowReportsModel", name := "has", desc := "(I)Z" } : Jvm.MethodName)) ∈ lw_all := lw_g (lw_at lw_m6 70 rfl) rfl
theorem q1364 : (Jvm.Cond.privateMethod ({ cls := "ThrowReportsModel", name := "has", desc := "(I)Z" } : Jvm.MethodName)) ∈ lw_tbl := lw_at lw_m6 71 rfl
theorem q1365 : (Jvm.Cond.instanceMethod ({ cls := "ThrowReportsModel", name := "has", desc := "(I)Z" } : Jvm.MethodName)) ∈ lw_all := lw_g (lw_at lw_m6 72 rfl) rfl
theorem q1366 : (Jvm.Cond.code ({ cls := "ThrowReportsModel", name := "has", desc := "(I)Z" } : Jvm.MethodName) prog_15_method_78_code (2 : Nat) (Option.some Jvm.ClassFile.FieldType.boolean)) ∈ lw_all := lw_g (lw_at lw_m6 73 rfl) rfl
theorem q1368 : (Jvm.Cond.instanceMethod ({ cls := "ThrowReportsModel", name := "may", desc := "(I)I" } : Jvm.MethodName)) ∈ lw_all := lw_g (lw_at lw_m6 75 rfl) rfl
theorem q1369 : (Jvm.Cond.selects "ThrowReportsModel" ({ cls := "ThrowReportsModel", name := "may", desc := "(I)I" } : Jvm.MethodName) ({ cls := "ThrowReportsModel", name := "may", desc := "(I)I" } : Jvm.MethodName)) ∈ lw_all := lw_g (lw_at lw_m6 76 rfl) rfl
theorem q1370 : (Jvm.Cond.code ({ cls := "ThrowReportsModel", name := "may", desc := "(I)I" } : Jvm.MethodName) prog_15_method_80_code (2 : Nat) (Option.some Jvm.ClassFile.FieldType.int)) ∈ lw_all := lw_g (lw_at lw_m6 77 rfl) rfl
theorem q1372 : (Jvm.Cond.instanceMethod ({ cls := "ThrowReportsModel", name := "ahead", desc := "(II)I" } : Jvm.MethodName)) ∈ lw_all := lw_g (lw_at lw_m6 79 rfl) rfl
theorem q1373 : (Jvm.Cond.selects "ThrowReportsModel" ({ cls := "ThrowReportsModel", name := "ahead", desc := "(II)I" } : Jvm.MethodName) ({ cls := "ThrowReportsModel", name := "ahead", desc := "(II)I" } : Jvm.MethodName)) ∈ lw_all := lw_g (lw_at lw_m6 80 rfl) rfl
theorem q1374 : (Jvm.Cond.code ({ cls := "ThrowReportsModel", name := "ahead", desc := "(II)I" } : Jvm.MethodName) prog_15_method_81_code (3 : Nat) (Option.some Jvm.ClassFile.FieldType.int)) ∈ lw_all := lw_g (lw_at lw_m6 81 rfl) rfl
theorem q1376 : (Jvm.Cond.instanceMethod ({ cls := "ThrowReportsModel", name := "guarded", desc := "(II)I" } : Jvm.MethodName)) ∈ lw_all := lw_g (lw_at lw_m6 83 rfl) rfl
theorem q1377 : (Jvm.Cond.selects "ThrowReportsModel" ({ cls := "ThrowReportsModel", name := "guarded", desc := "(II)I" } : Jvm.MethodName) ({ cls := "ThrowReportsModel", name := "guarded", desc := "(II)I" } : Jvm.MethodName)) ∈ lw_all := lw_g (lw_at lw_m6 84 rfl) rfl
theorem q1378 : (Jvm.Cond.code ({ cls := "ThrowReportsModel", name := "guarded", desc := "(II)I" } : Jvm.MethodName) prog_15_method_82_code (3 : Nat) (Option.some Jvm.ClassFile.FieldType.int)) ∈ lw_all := lw_g (lw_at lw_m6 85 rfl) rfl
theorem in_X3 : ∀ w ∈ wsX30, w ∈ lw_all := lw_in wsX30 [978, 980, 982, 984, 986, 988, 990, 992, 994, 996, 998, 1000, 1002, 1004, 1006, 1008, 1010, 1012, 1014, 1016, 1018, 1020, 1022, 1024, 1026, 1028, 1030, 1032, 1034, 1036, 1038, 1040, 1042, 1044, 1046, 1048, 1050, 1052, 1054, 1056] (by decide +kernel) (by decide +kernel)
