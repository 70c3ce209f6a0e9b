/-! Dialectdepot -/
set_option maxRecDepth 100000
def RX1 : String := "Dialectdepot"
def TX1 : u_T := fun k => match k with
  | 0 => ("Dialectdepot", "raises", "LDialectdepot$Change;", true)
  | 1 => ("Dialectdepot", "lowers", "LDialectdepot$Change;", true)
  | 2 => ("Dialectdepot", "tells", "LDialectdepot$Change;", true)
  | 3 => ("Dialectdepot", "hears", "LDialectdepot$Change;", true)
  | 4 => ("Dialectdepot", "fades", "LDialectdepot$Change;", true)
  | 5 => ("Dialectdepot", "weights", "[LDialectdepot$Weight;", true)
  | 6 => ("Dialectdepot", "names", "Ljava/util/List;", true)
  | 7 => ("Dialectdepot", "usages", "Ljava/util/List;", true)
  | 8 => ("Dialectdepot", "carriers", "Ljava/util/List;", true)
  | 9 => ("Dialectdepot", "parcels", "Ljava/util/List;", true)
  | 10 => ("Dialectdepot", "events", "Ljava/util/List;", true)
  | 11 => ("Dialectdepot", "attempts", "Ljava/util/List;", true)
  | 12 => ("Dialectdepot", "tape", "Ljava/lang/StringBuilder;", true)
  | 13 => ("Dialectdepot", "streets", "I", false)
  | 14 => ("Dialectdepot", "day", "I", false)
  | 15 => ("Dialectdepot", "givenUp", "I", false)
  | 16 => ("Dialectdepot", "known", "I", false)
  | _ => ("Dialectdepot", "delivered", "I", false)
def tyX1 : Nat → FieldType := fun k => match k with
  | 0 => .object "Dialectdepot$Change"
  | 1 => .object "Dialectdepot$Change"
  | 2 => .object "Dialectdepot$Change"
  | 3 => .object "Dialectdepot$Change"
  | 4 => .object "Dialectdepot$Change"
  | 5 => .array (.object "Dialectdepot$Weight")
  | 6 => .object "java/util/List"
  | 7 => .object "java/util/List"
  | 8 => .object "java/util/List"
  | 9 => .object "java/util/List"
  | 10 => .object "java/util/List"
  | 11 => .object "java/util/List"
  | 12 => .object "java/lang/StringBuilder"
  | 13 => .int
  | 14 => .int
  | 15 => .int
  | 16 => .int
  | _ => .int
abbrev wsX10 : List Cond := u_ws RX1 TX1 18
set_option maxRecDepth 100000 in
theorem nmX1 : ∀ a, a < 18 → ∀ b, b < 18 → a ≠ b → (TX1 a).2.1 ≠ (TX1 b).2.1 := by decide +kernel
set_option maxRecDepth 100000 in
theorem tyX1_ok : ∀ k, k < 18 → parseFieldDescriptor (TX1 k).2.2.1 = some (tyX1 k) := by decide +kernel
abbrev cX1_init : ByteArray := prog_1_method_1_code
def yX1_init : MethodName := ⟨RX1, "<init>", "()V"⟩
def dkwX1_init_7 : List UInt8 := [181, 0, 66, 42, 187, 0, 69, 89, 183, 0, 71, 181, 0, 72, 177]
abbrev dktX1_init_7 : List UInt8 := dkwX1_init_7 ++ []
def dkwX1_init_6 : List UInt8 := [181, 0, 60, 42, 187, 0, 47, 89, 183, 0, 49, 181, 0, 63, 42, 187, 0, 47, 89, 183, 0, 49]
abbrev dktX1_init_6 : List UInt8 := dkwX1_init_6 ++ dktX1_init_7
def dkwX1_init_5 : List UInt8 := [181, 0, 54, 42, 187, 0, 47, 89, 183, 0, 49, 181, 0, 57, 42, 187, 0, 47, 89, 183, 0, 49]
abbrev dktX1_init_5 : List UInt8 := dkwX1_init_5 ++ dktX1_init_6
def dkwX1_init_4 : List UInt8 := [181, 0, 43, 42, 187, 0, 47, 89, 183, 0, 49, 181, 0, 50, 42, 187, 0, 47, 89, 183, 0, 49]
abbrev dktX1_init_4 : List UInt8 := dkwX1_init_4 ++ dktX1_init_5
def dkwX1_init_3 : List UInt8 := [186, 0, 38, 0, 0, 83, 89, 5, 42, 186, 0, 39, 0, 0, 83, 89, 6, 186, 0, 40, 0, 0, 83]
abbrev dktX1_init_3 : List UInt8 := dkwX1_init_3 ++ dktX1_init_4
def dkwX1_init_2 : List UInt8 := [181, 0, 30, 42, 7, 189, 0, 33, 89, 3, 42, 186, 0, 35, 0, 0, 83, 89, 4, 42]
abbrev dktX1_init_2 : List UInt8 := dkwX1_init_2 ++ dktX1_init_3
def dkwX1_init_1 : List UInt8 := [186, 0, 21, 0, 0, 181, 0, 22, 42, 186, 0, 25, 0, 0, 181, 0, 26, 42, 186, 0, 29, 0, 0]
abbrev dktX1_init_1 : List UInt8 := dkwX1_init_1 ++ dktX1_init_2
def dkwX1_init_0 : List UInt8 := [42, 183, 0, 3, 42, 186, 0, 9, 0, 0, 181, 0, 13, 42, 186, 0, 17, 0, 0, 181, 0, 18, 42]
abbrev dktX1_init_0 : List UInt8 := dkwX1_init_0 ++ dktX1_init_1
theorem dksX1_init_0 : cX1_init.data.toList.drop 0 = dktX1_init_0 := by decide +kernel
theorem dksX1_init_1 : cX1_init.data.toList.drop 23 = dktX1_init_1 := dk_seg dksX1_init_0 23 rfl rfl
theorem dksX1_init_2 : cX1_init.data.toList.drop 46 = dktX1_init_2 := dk_seg dksX1_init_1 23 rfl rfl
theorem dksX1_init_3 : cX1_init.data.toList.drop 66 = dktX1_init_3 := dk_seg dksX1_init_2 20 rfl rfl
theorem dksX1_init_4 : cX1_init.data.toList.drop 89 = dktX1_init_4 := dk_seg dksX1_init_3 23 rfl rfl
theorem dksX1_init_5 : cX1_init.data.toList.drop 111 = dktX1_init_5 := dk_seg dksX1_init_4 22 rfl rfl
theorem dksX1_init_6 : cX1_init.data.toList.drop 133 = dktX1_init_6 := dk_seg dksX1_init_5 22 rfl rfl
theorem dksX1_init_7 : cX1_init.data.toList.drop 155 = dktX1_init_7 := dk_seg dksX1_init_6 22 rfl rfl
theorem dX1_init_0 : decode cX1_init 0 = .ok (.aload_n 0, 1) := dk_42 (dk_at dksX1_init_0 0 rfl rfl)
theorem dX1_init_1 : decode cX1_init 1 = .ok (.invokespecial 3, 3) := dk_183 0 3 (dk_at dksX1_init_0 1 rfl rfl)
theorem dX1_init_4 : decode cX1_init 4 = .ok (.aload_n 0, 1) := dk_42 (dk_at dksX1_init_0 4 rfl rfl)
theorem dX1_init_5 : decode cX1_init 5 = .ok (.invokedynamic 9, 5) := by decide +kernel
theorem dX1_init_10 : decode cX1_init 10 = .ok (.putfield 13, 3) := dk_181 0 13 (dk_at dksX1_init_0 10 rfl rfl)
theorem dX1_init_13 : decode cX1_init 13 = .ok (.aload_n 0, 1) := dk_42 (dk_at dksX1_init_0 13 rfl rfl)
theorem dX1_init_14 : decode cX1_init 14 = .ok (.invokedynamic 17, 5) := by decide +kernel
theorem dX1_init_19 : decode cX1_init 19 = .ok (.putfield 18, 3) := dk_181 0 18 (dk_at dksX1_init_0 19 rfl rfl)
theorem dX1_init_22 : decode cX1_init 22 = .ok (.aload_n 0, 1) := dk_42 (dk_at dksX1_init_0 22 rfl rfl)
theorem dX1_init_23 : decode cX1_init 23 = .ok (.invokedynamic 21, 5) := by decide +kernel
theorem dX1_init_28 : decode cX1_init 28 = .ok (.putfield 22, 3) := dk_181 0 22 (dk_at dksX1_init_1 5 rfl rfl)
theorem dX1_init_31 : decode cX1_init 31 = .ok (.aload_n 0, 1) := dk_42 (dk_at dksX1_init_1 8 rfl rfl)
theorem dX1_init_32 : decode cX1_init 32 = .ok (.invokedynamic 25, 5) := by decide +kernel
theorem dX1_init_37 : decode cX1_init 37 = .ok (.putfield 26, 3) := dk_181 0 26 (dk_at dksX1_init_1 14 rfl rfl)
theorem dX1_init_40 : decode cX1_init 40 = .ok (.aload_n 0, 1) := dk_42 (dk_at dksX1_init_1 17 rfl rfl)
theorem dX1_init_41 : decode cX1_init 41 = .ok (.invokedynamic 29, 5) := by decide +kernel
theorem dX1_init_46 : decode cX1_init 46 = .ok (.putfield 30, 3) := dk_181 0 30 (dk_at dksX1_init_2 0 rfl rfl)
theorem dX1_init_49 : decode cX1_init 49 = .ok (.aload_n 0, 1) := dk_42 (dk_at dksX1_init_2 3 rfl rfl)
theorem dX1_init_50 : decode cX1_init 50 = .ok (.iconst 4, 1) := dk_7 (dk_at dksX1_init_2 4 rfl rfl)
theorem dX1_init_51 : decode cX1_init 51 = .ok (.anewarray 33, 3) := dk_189 0 33 (dk_at dksX1_init_2 5 rfl rfl)
theorem dX1_init_54 : decode cX1_init 54 = .ok (.dup, 1) := dk_89 (dk_at dksX1_init_2 8 rfl rfl)
theorem dX1_init_55 : decode cX1_init 55 = .ok (.iconst 0, 1) := dk_3 (dk_at dksX1_init_2 9 rfl rfl)
theorem dX1_init_56 : decode cX1_init 56 = .ok (.aload_n 0, 1) := dk_42 (dk_at dksX1_init_2 10 rfl rfl)
theorem dX1_init_57 : decode cX1_init 57 = .ok (.invokedynamic 35, 5) := by decide +kernel
theorem dX1_init_62 : decode cX1_init 62 = .ok (.aastore, 1) := dk_83 (dk_at dksX1_init_2 16 rfl rfl)
theorem dX1_init_63 : decode cX1_init 63 = .ok (.dup, 1) := dk_89 (dk_at dksX1_init_2 17 rfl rfl)
theorem dX1_init_64 : decode cX1_init 64 = .ok (.iconst 1, 1) := dk_4 (dk_at dksX1_init_2 18 rfl rfl)
theorem dX1_init_65 : decode cX1_init 65 = .ok (.aload_n 0, 1) := dk_42 (dk_at dksX1_init_2 19 rfl rfl)
theorem dX1_init_66 : decode cX1_init 66 = .ok (.invokedynamic 38, 5) := by decide +kernel
theorem dX1_init_71 : decode cX1_init 71 = .ok (.aastore, 1) := dk_83 (dk_at dksX1_init_3 5 rfl rfl)
theorem dX1_init_72 : decode cX1_init 72 = .ok (.dup, 1) := dk_89 (dk_at dksX1_init_3 6 rfl rfl)
theorem dX1_init_73 : decode cX1_init 73 = .ok (.iconst 2, 1) := dk_5 (dk_at dksX1_init_3 7 rfl rfl)
theorem dX1_init_74 : decode cX1_init 74 = .ok (.aload_n 0, 1) := dk_42 (dk_at dksX1_init_3 8 rfl rfl)
theorem dX1_init_75 : decode cX1_init 75 = .ok (.invokedynamic 39, 5) := by decide +kernel
theorem dX1_init_80 : decode cX1_init 80 = .ok (.aastore, 1) := dk_83 (dk_at dksX1_init_3 14 rfl rfl)
theorem dX1_init_81 : decode cX1_init 81 = .ok (.dup, 1) := dk_89 (dk_at dksX1_init_3 15 rfl rfl)
theorem dX1_init_82 : decode cX1_init 82 = .ok (.iconst 3, 1) := dk_6 (dk_at dksX1_init_3 16 rfl rfl)
theorem dX1_init_83 : decode cX1_init 83 = .ok (.invokedynamic 40, 5) := by decide +kernel
theorem dX1_init_88 : decode cX1_init 88 = .ok (.aastore, 1) := dk_83 (dk_at dksX1_init_3 22 rfl rfl)
theorem dX1_init_89 : decode cX1_init 89 = .ok (.putfield 43, 3) := dk_181 0 43 (dk_at dksX1_init_4 0 rfl rfl)
theorem dX1_init_92 : decode cX1_init 92 = .ok (.aload_n 0, 1) := dk_42 (dk_at dksX1_init_4 3 rfl rfl)
theorem dX1_init_93 : decode cX1_init 93 = .ok (.new 47, 3) := dk_187 0 47 (dk_at dksX1_init_4 4 rfl rfl)
theorem dX1_init_96 : decode cX1_init 96 = .ok (.dup, 1) := dk_89 (dk_at dksX1_init_4 7 rfl rfl)
theorem dX1_init_97 : decode cX1_init 97 = .ok (.invokespecial 49, 3) := dk_183 0 49 (dk_at dksX1_init_4 8 rfl rfl)
theorem dX1_init_100 : decode cX1_init 100 = .ok (.putfield 50, 3) := dk_181 0 50 (dk_at dksX1_init_4 11 rfl rfl)
theorem dX1_init_103 : decode cX1_init 103 = .ok (.aload_n 0, 1) := dk_42 (dk_at dksX1_init_4 14 rfl rfl)
theorem dX1_init_104 : decode cX1_init 104 = .ok (.new 47, 3) := dk_187 0 47 (dk_at dksX1_init_4 15 rfl rfl)
theorem dX1_init_107 : decode cX1_init 107 = .ok (.dup, 1) := dk_89 (dk_at dksX1_init_4 18 rfl rfl)
theorem dX1_init_108 : decode cX1_init 108 = .ok (.invokespecial 49, 3) := dk_183 0 49 (dk_at dksX1_init_4 19 rfl rfl)
theorem dX1_init_111 : decode cX1_init 111 = .ok (.putfield 54, 3) := dk_181 0 54 (dk_at dksX1_init_5 0 rfl rfl)
theorem dX1_init_114 : decode cX1_init 114 = .ok (.aload_n 0, 1) := dk_42 (dk_at dksX1_init_5 3 rfl rfl)
theorem dX1_init_115 : decode cX1_init 115 = .ok (.new 47, 3) := dk_187 0 47 (dk_at dksX1_init_5 4 rfl rfl)
theorem dX1_init_118 : decode cX1_init 118 = .ok (.dup, 1) := dk_89 (dk_at dksX1_init_5 7 rfl rfl)
theorem dX1_init_119 : decode cX1_init 119 = .ok (.invokespecial 49, 3) := dk_183 0 49 (dk_at dksX1_init_5 8 rfl rfl)
theorem dX1_init_122 : decode cX1_init 122 = .ok (.putfield 57, 3) := dk_181 0 57 (dk_at dksX1_init_5 11 rfl rfl)
theorem dX1_init_125 : decode cX1_init 125 = .ok (.aload_n 0, 1) := dk_42 (dk_at dksX1_init_5 14 rfl rfl)
theorem dX1_init_126 : decode cX1_init 126 = .ok (.new 47, 3) := dk_187 0 47 (dk_at dksX1_init_5 15 rfl rfl)
theorem dX1_init_129 : decode cX1_init 129 = .ok (.dup, 1) := dk_89 (dk_at dksX1_init_5 18 rfl rfl)
theorem dX1_init_130 : decode cX1_init 130 = .ok (.invokespecial 49, 3) := dk_183 0 49 (dk_at dksX1_init_5 19 rfl rfl)
theorem dX1_init_133 : decode cX1_init 133 = .ok (.putfield 60, 3) := dk_181 0 60 (dk_at dksX1_init_6 0 rfl rfl)
theorem dX1_init_136 : decode cX1_init 136 = .ok (.aload_n 0, 1) := dk_42 (dk_at dksX1_init_6 3 rfl rfl)
theorem dX1_init_137 : decode cX1_init 137 = .ok (.new 47, 3) := dk_187 0 47 (dk_at dksX1_init_6 4 rfl rfl)
theorem dX1_init_140 : decode cX1_init 140 = .ok (.dup, 1) := dk_89 (dk_at dksX1_init_6 7 rfl rfl)
theorem dX1_init_141 : decode cX1_init 141 = .ok (.invokespecial 49, 3) := dk_183 0 49 (dk_at dksX1_init_6 8 rfl rfl)
theorem dX1_init_144 : decode cX1_init 144 = .ok (.putfield 63, 3) := dk_181 0 63 (dk_at dksX1_init_6 11 rfl rfl)
theorem dX1_init_147 : decode cX1_init 147 = .ok (.aload_n 0, 1) := dk_42 (dk_at dksX1_init_6 14 rfl rfl)
theorem dX1_init_148 : decode cX1_init 148 = .ok (.new 47, 3) := dk_187 0 47 (dk_at dksX1_init_6 15 rfl rfl)
theorem dX1_init_151 : decode cX1_init 151 = .ok (.dup, 1) := dk_89 (dk_at dksX1_init_6 18 rfl rfl)
theorem dX1_init_152 : decode cX1_init 152 = .ok (.invokespecial 49, 3) := dk_183 0 49 (dk_at dksX1_init_6 19 rfl rfl)
theorem dX1_init_155 : decode cX1_init 155 = .ok (.putfield 66, 3) := dk_181 0 66 (dk_at dksX1_init_7 0 rfl rfl)
theorem dX1_init_158 : decode cX1_init 158 = .ok (.aload_n 0, 1) := dk_42 (dk_at dksX1_init_7 3 rfl rfl)
theorem dX1_init_159 : decode cX1_init 159 = .ok (.new 69, 3) := dk_187 0 69 (dk_at dksX1_init_7 4 rfl rfl)
theorem dX1_init_162 : decode cX1_init 162 = .ok (.dup, 1) := dk_89 (dk_at dksX1_init_7 7 rfl rfl)
theorem dX1_init_163 : decode cX1_init 163 = .ok (.invokespecial 71, 3) := dk_183 0 71 (dk_at dksX1_init_7 8 rfl rfl)
theorem dX1_init_166 : decode cX1_init 166 = .ok (.putfield 72, 3) := dk_181 0 72 (dk_at dksX1_init_7 11 rfl rfl)
theorem dX1_init_169 : decode cX1_init 169 = .ok (.return_, 1) := dk_177 (dk_at dksX1_init_7 14 rfl rfl)
abbrev cX1_lambda_new_0 : ByteArray := prog_1_method_85_code
def yX1_lambda_new_0 : MethodName := ⟨RX1, "lambda$new$0", "(I)I"⟩
def dkwX1_lambda_new_0_0 : List UInt8 := [26, 4, 96, 184, 2, 35, 172]
abbrev dktX1_lambda_new_0_0 : List UInt8 := dkwX1_lambda_new_0_0 ++ []
theorem dksX1_lambda_new_0_0 : cX1_lambda_new_0.data.toList.drop 0 = dktX1_lambda_new_0_0 := by decide +kernel
theorem dX1_lambda_new_0_0 : decode cX1_lambda_new_0 0 = .ok (.iload_n 0, 1) := dk_26 (dk_at dksX1_lambda_new_0_0 0 rfl rfl)
theorem dX1_lambda_new_0_1 : decode cX1_lambda_new_0 1 = .ok (.iconst 1, 1) := dk_4 (dk_at dksX1_lambda_new_0_0 1 rfl rfl)
theorem dX1_lambda_new_0_2 : decode cX1_lambda_new_0 2 = .ok (.iadd, 1) := dk_96 (dk_at dksX1_lambda_new_0_0 2 rfl rfl)
theorem dX1_lambda_new_0_3 : decode cX1_lambda_new_0 3 = .ok (.invokestatic 547, 3) := dk_184 2 35 (dk_at dksX1_lambda_new_0_0 3 rfl rfl)
theorem dX1_lambda_new_0_6 : decode cX1_lambda_new_0 6 = .ok (.ireturn, 1) := dk_172 (dk_at dksX1_lambda_new_0_0 6 rfl rfl)
abbrev cX1_lambda_new_1 : ByteArray := prog_1_method_84_code
def yX1_lambda_new_1 : MethodName := ⟨RX1, "lambda$new$1", "(I)I"⟩
def dkwX1_lambda_new_1_0 : List UInt8 := [26, 5, 100, 184, 2, 35, 172]
abbrev dktX1_lambda_new_1_0 : List UInt8 := dkwX1_lambda_new_1_0 ++ []
theorem dksX1_lambda_new_1_0 : cX1_lambda_new_1.data.toList.drop 0 = dktX1_lambda_new_1_0 := by decide +kernel
theorem dX1_lambda_new_1_0 : decode cX1_lambda_new_1 0 = .ok (.iload_n 0, 1) := dk_26 (dk_at dksX1_lambda_new_1_0 0 rfl rfl)
theorem dX1_lambda_new_1_1 : decode cX1_lambda_new_1 1 = .ok (.iconst 2, 1) := dk_5 (dk_at dksX1_lambda_new_1_0 1 rfl rfl)
theorem dX1_lambda_new_1_2 : decode cX1_lambda_new_1 2 = .ok (.isub, 1) := dk_100 (dk_at dksX1_lambda_new_1_0 2 rfl rfl)
theorem dX1_lambda_new_1_3 : decode cX1_lambda_new_1 3 = .ok (.invokestatic 547, 3) := dk_184 2 35 (dk_at dksX1_lambda_new_1_0 3 rfl rfl)
theorem dX1_lambda_new_1_6 : decode cX1_lambda_new_1 6 = .ok (.ireturn, 1) := dk_172 (dk_at dksX1_lambda_new_1_0 6 rfl rfl)
abbrev cX1_lambda_new_2 : ByteArray := prog_1_method_83_code
def yX1_lambda_new_2 : MethodName := ⟨RX1, "lambda$new$2", "(I)I"⟩
def dkwX1_lambda_new_2_0 : List UInt8 := [26, 6, 96, 184, 2, 35, 172]
abbrev dktX1_lambda_new_2_0 : List UInt8 := dkwX1_lambda_new_2_0 ++ []
theorem dksX1_lambda_new_2_0 : cX1_lambda_new_2.data.toList.drop 0 = dktX1_lambda_new_2_0 := by decide +kernel
theorem dX1_lambda_new_2_0 : decode cX1_lambda_new_2 0 = .ok (.iload_n 0, 1) := dk_26 (dk_at dksX1_lambda_new_2_0 0 rfl rfl)
theorem dX1_lambda_new_2_1 : decode cX1_lambda_new_2 1 = .ok (.iconst 3, 1) := dk_6 (dk_at dksX1_lambda_new_2_0 1 rfl rfl)
theorem dX1_lambda_new_2_2 : decode cX1_lambda_new_2 2 = .ok (.iadd, 1) := dk_96 (dk_at dksX1_lambda_new_2_0 2 rfl rfl)
theorem dX1_lambda_new_2_3 : decode cX1_lambda_new_2 3 = .ok (.invokestatic 547, 3) := dk_184 2 35 (dk_at dksX1_lambda_new_2_0 3 rfl rfl)
theorem dX1_lambda_new_2_6 : decode cX1_lambda_new_2 6 = .ok (.ireturn, 1) := dk_172 (dk_at dksX1_lambda_new_2_0 6 rfl rfl)
abbrev cX1_lambda_new_3 : ByteArray := prog_1_method_82_code
def yX1_lambda_new_3 : MethodName := ⟨RX1, "lambda$new$3", "(I)I"⟩
def dkwX1_lambda_new_3_0 : List UInt8 := [26, 6, 162, 0, 9, 26, 4, 96, 167, 0, 4, 26, 172]
abbrev dktX1_lambda_new_3_0 : List UInt8 := dkwX1_lambda_new_3_0 ++ []
theorem dksX1_lambda_new_3_0 : cX1_lambda_new_3.data.toList.drop 0 = dktX1_lambda_new_3_0 := by decide +kernel
theorem dX1_lambda_new_3_0 : decode cX1_lambda_new_3 0 = .ok (.iload_n 0, 1) := dk_26 (dk_at dksX1_lambda_new_3_0 0 rfl rfl)
theorem dX1_lambda_new_3_1 : decode cX1_lambda_new_3 1 = .ok (.iconst 3, 1) := dk_6 (dk_at dksX1_lambda_new_3_0 1 rfl rfl)
theorem dX1_lambda_new_3_2 : decode cX1_lambda_new_3 2 = .ok (.if_icmp .ge 9, 3) := dk_162 0 9 (dk_at dksX1_lambda_new_3_0 2 rfl rfl)
theorem dX1_lambda_new_3_5 : decode cX1_lambda_new_3 5 = .ok (.iload_n 0, 1) := dk_26 (dk_at dksX1_lambda_new_3_0 5 rfl rfl)
theorem dX1_lambda_new_3_6 : decode cX1_lambda_new_3 6 = .ok (.iconst 1, 1) := dk_4 (dk_at dksX1_lambda_new_3_0 6 rfl rfl)
theorem dX1_lambda_new_3_7 : decode cX1_lambda_new_3 7 = .ok (.iadd, 1) := dk_96 (dk_at dksX1_lambda_new_3_0 7 rfl rfl)
theorem dX1_lambda_new_3_8 : decode cX1_lambda_new_3 8 = .ok (.goto 4, 3) := dk_167 0 4 (dk_at dksX1_lambda_new_3_0 8 rfl rfl)
theorem dX1_lambda_new_3_11 : decode cX1_lambda_new_3 11 = .ok (.iload_n 0, 1) := dk_26 (dk_at dksX1_lambda_new_3_0 11 rfl rfl)
theorem dX1_lambda_new_3_12 : decode cX1_lambda_new_3 12 = .ok (.ireturn, 1) := dk_172 (dk_at dksX1_lambda_new_3_0 12 rfl rfl)
abbrev cX1_lambda_new_4 : ByteArray := prog_1_method_81_code
def yX1_lambda_new_4 : MethodName := ⟨RX1, "lambda$new$4", "(I)I"⟩
def dkwX1_lambda_new_4_0 : List UInt8 := [26, 26, 184, 2, 32, 100, 172]
abbrev dktX1_lambda_new_4_0 : List UInt8 := dkwX1_lambda_new_4_0 ++ []
theorem dksX1_lambda_new_4_0 : cX1_lambda_new_4.data.toList.drop 0 = dktX1_lambda_new_4_0 := by decide +kernel
theorem dX1_lambda_new_4_0 : decode cX1_lambda_new_4 0 = .ok (.iload_n 0, 1) := dk_26 (dk_at dksX1_lambda_new_4_0 0 rfl rfl)
theorem dX1_lambda_new_4_1 : decode cX1_lambda_new_4 1 = .ok (.iload_n 0, 1) := dk_26 (dk_at dksX1_lambda_new_4_0 1 rfl rfl)
theorem dX1_lambda_new_4_2 : decode cX1_lambda_new_4 2 = .ok (.invokestatic 544, 3) := dk_184 2 32 (dk_at dksX1_lambda_new_4_0 2 rfl rfl)
theorem dX1_lambda_new_4_5 : decode cX1_lambda_new_4 5 = .ok (.isub, 1) := dk_100 (dk_at dksX1_lambda_new_4_0 5 rfl rfl)
theorem dX1_lambda_new_4_6 : decode cX1_lambda_new_4 6 = .ok (.ireturn, 1) := dk_172 (dk_at dksX1_lambda_new_4_0 6 rfl rfl)
abbrev cX1_lambda_new_5 : ByteArray := prog_1_method_80_code
def yX1_lambda_new_5 : MethodName := ⟨RX1, "lambda$new$5", "(LDialectdepot$Parcel;LDialectdepot$Carrier;I)I"⟩
def dkwX1_lambda_new_5_0 : List UInt8 := [42, 43, 29, 182, 2, 28, 172]
abbrev dktX1_lambda_new_5_0 : List UInt8 := dkwX1_lambda_new_5_0 ++ []
theorem dksX1_lambda_new_5_0 : cX1_lambda_new_5.data.toList.drop 0 = dktX1_lambda_new_5_0 := by decide +kernel
theorem dX1_lambda_new_5_0 : decode cX1_lambda_new_5 0 = .ok (.aload_n 0, 1) := dk_42 (dk_at dksX1_lambda_new_5_0 0 rfl rfl)
theorem dX1_lambda_new_5_1 : decode cX1_lambda_new_5 1 = .ok (.aload_n 1, 1) := dk_43 (dk_at dksX1_lambda_new_5_0 1 rfl rfl)
theorem dX1_lambda_new_5_2 : decode cX1_lambda_new_5 2 = .ok (.iload_n 3, 1) := dk_29 (dk_at dksX1_lambda_new_5_0 2 rfl rfl)
theorem dX1_lambda_new_5_3 : decode cX1_lambda_new_5 3 = .ok (.invokevirtual 540, 3) := dk_182 2 28 (dk_at dksX1_lambda_new_5_0 3 rfl rfl)
theorem dX1_lambda_new_5_6 : decode cX1_lambda_new_5 6 = .ok (.ireturn, 1) := dk_172 (dk_at dksX1_lambda_new_5_0 6 rfl rfl)
abbrev cX1_usageWeight : ByteArray := prog_1_method_40_code
def yX1_usageWeight : MethodName := ⟨RX1, "usageWeight", "(LDialectdepot$Parcel;I)I"⟩
def dkwX1_usageWeight_7 : List UInt8 := [132, 6, 1, 167, 255, 218, 132, 4, 1, 167, 255, 93, 29, 172]
abbrev dktX1_usageWeight_7 : List UInt8 := dkwX1_usageWeight_7 ++ []
def dkwX1_usageWeight_6 : List UInt8 := [159, 0, 19, 42, 21, 6, 21, 5, 28, 182, 1, 108, 153, 0, 7, 4, 167, 0, 4, 3, 96, 62]
abbrev dktX1_usageWeight_6 : List UInt8 := dkwX1_usageWeight_6 ++ dktX1_usageWeight_7
def dkwX1_usageWeight_5 : List UInt8 := [167, 0, 4, 3, 96, 62, 3, 54, 6, 21, 6, 7, 162, 0, 38, 29, 21, 6, 43, 180, 1, 96]
abbrev dktX1_usageWeight_5 : List UInt8 := dkwX1_usageWeight_5 ++ dktX1_usageWeight_6
def dkwX1_usageWeight_4 : List UInt8 := [153, 0, 8, 16, 6, 167, 0, 22, 42, 43, 180, 1, 96, 21, 5, 28, 182, 1, 108, 153, 0, 7, 6]
abbrev dktX1_usageWeight_4 : List UInt8 := dkwX1_usageWeight_4 ++ dktX1_usageWeight_5
def dkwX1_usageWeight_3 : List UInt8 := [160, 0, 8, 16, 12, 167, 0, 4, 3, 96, 62, 167, 0, 85, 29, 42, 21, 5, 43, 28, 182, 1, 104]
abbrev dktX1_usageWeight_3 : List UInt8 := dkwX1_usageWeight_3 ++ dktX1_usageWeight_4
def dkwX1_usageWeight_2 : List UInt8 := [159, 0, 36, 29, 42, 180, 0, 50, 21, 5, 185, 0, 99, 2, 0, 192, 0, 113, 180, 1, 93, 28]
abbrev dktX1_usageWeight_2 : List UInt8 := dkwX1_usageWeight_2 ++ dktX1_usageWeight_3
def dkwX1_usageWeight_1 : List UInt8 := [21, 4, 46, 54, 5, 42, 180, 0, 50, 21, 5, 185, 0, 99, 2, 0, 192, 0, 113, 180, 1, 93, 2]
abbrev dktX1_usageWeight_1 : List UInt8 := dkwX1_usageWeight_1 ++ dktX1_usageWeight_2
def dkwX1_usageWeight_0 : List UInt8 := [3, 62, 3, 54, 4, 21, 4, 43, 180, 1, 82, 180, 1, 32, 162, 0, 157, 43, 180, 1, 82, 180, 1, 25]
abbrev dktX1_usageWeight_0 : List UInt8 := dkwX1_usageWeight_0 ++ dktX1_usageWeight_1
theorem dksX1_usageWeight_0 : cX1_usageWeight.data.toList.drop 0 = dktX1_usageWeight_0 := by decide +kernel
theorem dksX1_usageWeight_1 : cX1_usageWeight.data.toList.drop 24 = dktX1_usageWeight_1 := dk_seg dksX1_usageWeight_0 24 rfl rfl
theorem dksX1_usageWeight_2 : cX1_usageWeight.data.toList.drop 47 = dktX1_usageWeight_2 := dk_seg dksX1_usageWeight_1 23 rfl rfl
theorem dksX1_usageWeight_3 : cX1_usageWeight.data.toList.drop 69 = dktX1_usageWeight_3 := dk_seg dksX1_usageWeight_2 22 rfl rfl
theorem dksX1_usageWeight_4 : cX1_usageWeight.data.toList.drop 92 = dktX1_usageWeight_4 := dk_seg dksX1_usageWeight_3 23 rfl rfl
theorem dksX1_usageWeight_5 : cX1_usageWeight.data.toList.drop 115 = dktX1_usageWeight_5 := dk_seg dksX1_usageWeight_4 23 rfl rfl
theorem dksX1_usageWeight_6 : cX1_usageWeight.data.toList.drop 137 = dktX1_usageWeight_6 := dk_seg dksX1_usageWeight_5 22 rfl rfl
theorem dksX1_usageWeight_7 : cX1_usageWeight.data.toList.drop 159 = dktX1_usageWeight_7 := dk_seg dksX1_usageWeight_6 22 rfl rfl
theorem dX1_usageWeight_0 : decode cX1_usageWeight 0 = .ok (.iconst 0, 1) := dk_3 (dk_at dksX1_usageWeight_0 0 rfl rfl)
theorem dX1_usageWeight_1 : decode cX1_usageWeight 1 = .ok (.istore_n 3, 1) := dk_62 (dk_at dksX1_usageWeight_0 1 rfl rfl)
theorem dX1_usageWeight_2 : decode cX1_usageWeight 2 = .ok (.iconst 0, 1) := dk_3 (dk_at dksX1_usageWeight_0 2 rfl rfl)
theorem dX1_usageWeight_3 : decode cX1_usageWeight 3 = .ok (.istore 4, 2) := dk_54 4 (dk_at dksX1_usageWeight_0 3 rfl rfl)
theorem dX1_usageWeight_5 : decode cX1_usageWeight 5 = .ok (.iload 4, 2) := dk_21 4 (dk_at dksX1_usageWeight_0 5 rfl rfl)
theorem dX1_usageWeight_7 : decode cX1_usageWeight 7 = .ok (.aload_n 1, 1) := dk_43 (dk_at dksX1_usageWeight_0 7 rfl rfl)
theorem dX1_usageWeight_8 : decode cX1_usageWeight 8 = .ok (.getfield 338, 3) := dk_180 1 82 (dk_at dksX1_usageWeight_0 8 rfl rfl)
theorem dX1_usageWeight_11 : decode cX1_usageWeight 11 = .ok (.getfield 288, 3) := dk_180 1 32 (dk_at dksX1_usageWeight_0 11 rfl rfl)
theorem dX1_usageWeight_14 : decode cX1_usageWeight 14 = .ok (.if_icmp .ge 157, 3) := dk_162 0 157 (dk_at dksX1_usageWeight_0 14 rfl rfl)
theorem dX1_usageWeight_17 : decode cX1_usageWeight 17 = .ok (.aload_n 1, 1) := dk_43 (dk_at dksX1_usageWeight_0 17 rfl rfl)
theorem dX1_usageWeight_18 : decode cX1_usageWeight 18 = .ok (.getfield 338, 3) := dk_180 1 82 (dk_at dksX1_usageWeight_0 18 rfl rfl)
theorem dX1_usageWeight_21 : decode cX1_usageWeight 21 = .ok (.getfield 281, 3) := dk_180 1 25 (dk_at dksX1_usageWeight_0 21 rfl rfl)
theorem dX1_usageWeight_24 : decode cX1_usageWeight 24 = .ok (.iload 4, 2) := dk_21 4 (dk_at dksX1_usageWeight_1 0 rfl rfl)
theorem dX1_usageWeight_26 : decode cX1_usageWeight 26 = .ok (.iaload, 1) := dk_46 (dk_at dksX1_usageWeight_1 2 rfl rfl)
theorem dX1_usageWeight_27 : decode cX1_usageWeight 27 = .ok (.istore 5, 2) := dk_54 5 (dk_at dksX1_usageWeight_1 3 rfl rfl)
theorem dX1_usageWeight_29 : decode cX1_usageWeight 29 = .ok (.aload_n 0, 1) := dk_42 (dk_at dksX1_usageWeight_1 5 rfl rfl)
theorem dX1_usageWeight_30 : decode cX1_usageWeight 30 = .ok (.getfield 50, 3) := dk_180 0 50 (dk_at dksX1_usageWeight_1 6 rfl rfl)
theorem dX1_usageWeight_33 : decode cX1_usageWeight 33 = .ok (.iload 5, 2) := dk_21 5 (dk_at dksX1_usageWeight_1 9 rfl rfl)
theorem dX1_usageWeight_35 : decode cX1_usageWeight 35 = .ok (.invokeinterface 99 2, 5) := by decide +kernel
theorem dX1_usageWeight_40 : decode cX1_usageWeight 40 = .ok (.checkcast 113, 3) := dk_192 0 113 (dk_at dksX1_usageWeight_1 16 rfl rfl)
theorem dX1_usageWeight_43 : decode cX1_usageWeight 43 = .ok (.getfield 349, 3) := dk_180 1 93 (dk_at dksX1_usageWeight_1 19 rfl rfl)
theorem dX1_usageWeight_46 : decode cX1_usageWeight 46 = .ok (.iconst (-1), 1) := dk_2 (dk_at dksX1_usageWeight_1 22 rfl rfl)
theorem dX1_usageWeight_47 : decode cX1_usageWeight 47 = .ok (.if_icmp .eq 36, 3) := dk_159 0 36 (dk_at dksX1_usageWeight_2 0 rfl rfl)
theorem dX1_usageWeight_50 : decode cX1_usageWeight 50 = .ok (.iload_n 3, 1) := dk_29 (dk_at dksX1_usageWeight_2 3 rfl rfl)
theorem dX1_usageWeight_51 : decode cX1_usageWeight 51 = .ok (.aload_n 0, 1) := dk_42 (dk_at dksX1_usageWeight_2 4 rfl rfl)
theorem dX1_usageWeight_52 : decode cX1_usageWeight 52 = .ok (.getfield 50, 3) := dk_180 0 50 (dk_at dksX1_usageWeight_2 5 rfl rfl)
theorem dX1_usageWeight_55 : decode cX1_usageWeight 55 = .ok (.iload 5, 2) := dk_21 5 (dk_at dksX1_usageWeight_2 8 rfl rfl)
theorem dX1_usageWeight_57 : decode cX1_usageWeight 57 = .ok (.invokeinterface 99 2, 5) := by decide +kernel
theorem dX1_usageWeight_62 : decode cX1_usageWeight 62 = .ok (.checkcast 113, 3) := dk_192 0 113 (dk_at dksX1_usageWeight_2 15 rfl rfl)
theorem dX1_usageWeight_65 : decode cX1_usageWeight 65 = .ok (.getfield 349, 3) := dk_180 1 93 (dk_at dksX1_usageWeight_2 18 rfl rfl)
theorem dX1_usageWeight_68 : decode cX1_usageWeight 68 = .ok (.iload_n 2, 1) := dk_28 (dk_at dksX1_usageWeight_2 21 rfl rfl)
theorem dX1_usageWeight_69 : decode cX1_usageWeight 69 = .ok (.if_icmp .ne 8, 3) := dk_160 0 8 (dk_at dksX1_usageWeight_3 0 rfl rfl)
theorem dX1_usageWeight_72 : decode cX1_usageWeight 72 = .ok (.bipush 12, 2) := dk_16 12 (dk_at dksX1_usageWeight_3 3 rfl rfl)
theorem dX1_usageWeight_74 : decode cX1_usageWeight 74 = .ok (.goto 4, 3) := dk_167 0 4 (dk_at dksX1_usageWeight_3 5 rfl rfl)
theorem dX1_usageWeight_77 : decode cX1_usageWeight 77 = .ok (.iconst 0, 1) := dk_3 (dk_at dksX1_usageWeight_3 8 rfl rfl)
theorem dX1_usageWeight_78 : decode cX1_usageWeight 78 = .ok (.iadd, 1) := dk_96 (dk_at dksX1_usageWeight_3 9 rfl rfl)
theorem dX1_usageWeight_79 : decode cX1_usageWeight 79 = .ok (.istore_n 3, 1) := dk_62 (dk_at dksX1_usageWeight_3 10 rfl rfl)
theorem dX1_usageWeight_80 : decode cX1_usageWeight 80 = .ok (.goto 85, 3) := dk_167 0 85 (dk_at dksX1_usageWeight_3 11 rfl rfl)
theorem dX1_usageWeight_83 : decode cX1_usageWeight 83 = .ok (.iload_n 3, 1) := dk_29 (dk_at dksX1_usageWeight_3 14 rfl rfl)
theorem dX1_usageWeight_84 : decode cX1_usageWeight 84 = .ok (.aload_n 0, 1) := dk_42 (dk_at dksX1_usageWeight_3 15 rfl rfl)
theorem dX1_usageWeight_85 : decode cX1_usageWeight 85 = .ok (.iload 5, 2) := dk_21 5 (dk_at dksX1_usageWeight_3 16 rfl rfl)
theorem dX1_usageWeight_87 : decode cX1_usageWeight 87 = .ok (.aload_n 1, 1) := dk_43 (dk_at dksX1_usageWeight_3 18 rfl rfl)
theorem dX1_usageWeight_88 : decode cX1_usageWeight 88 = .ok (.iload_n 2, 1) := dk_28 (dk_at dksX1_usageWeight_3 19 rfl rfl)
theorem dX1_usageWeight_89 : decode cX1_usageWeight 89 = .ok (.invokevirtual 360, 3) := dk_182 1 104 (dk_at dksX1_usageWeight_3 20 rfl rfl)
theorem dX1_usageWeight_92 : decode cX1_usageWeight 92 = .ok (.ifCond .eq 8, 3) := dk_153 0 8 (dk_at dksX1_usageWeight_4 0 rfl rfl)
theorem dX1_usageWeight_95 : decode cX1_usageWeight 95 = .ok (.bipush 6, 2) := dk_16 6 (dk_at dksX1_usageWeight_4 3 rfl rfl)
theorem dX1_usageWeight_97 : decode cX1_usageWeight 97 = .ok (.goto 22, 3) := dk_167 0 22 (dk_at dksX1_usageWeight_4 5 rfl rfl)
theorem dX1_usageWeight_100 : decode cX1_usageWeight 100 = .ok (.aload_n 0, 1) := dk_42 (dk_at dksX1_usageWeight_4 8 rfl rfl)
theorem dX1_usageWeight_101 : decode cX1_usageWeight 101 = .ok (.aload_n 1, 1) := dk_43 (dk_at dksX1_usageWeight_4 9 rfl rfl)
theorem dX1_usageWeight_102 : decode cX1_usageWeight 102 = .ok (.getfield 352, 3) := dk_180 1 96 (dk_at dksX1_usageWeight_4 10 rfl rfl)
theorem dX1_usageWeight_105 : decode cX1_usageWeight 105 = .ok (.iload 5, 2) := dk_21 5 (dk_at dksX1_usageWeight_4 13 rfl rfl)
theorem dX1_usageWeight_107 : decode cX1_usageWeight 107 = .ok (.iload_n 2, 1) := dk_28 (dk_at dksX1_usageWeight_4 15 rfl rfl)
theorem dX1_usageWeight_108 : decode cX1_usageWeight 108 = .ok (.invokevirtual 364, 3) := dk_182 1 108 (dk_at dksX1_usageWeight_4 16 rfl rfl)
theorem dX1_usageWeight_111 : decode cX1_usageWeight 111 = .ok (.ifCond .eq 7, 3) := dk_153 0 7 (dk_at dksX1_usageWeight_4 19 rfl rfl)
theorem dX1_usageWeight_114 : decode cX1_usageWeight 114 = .ok (.iconst 3, 1) := dk_6 (dk_at dksX1_usageWeight_4 22 rfl rfl)
theorem dX1_usageWeight_115 : decode cX1_usageWeight 115 = .ok (.goto 4, 3) := dk_167 0 4 (dk_at dksX1_usageWeight_5 0 rfl rfl)
theorem dX1_usageWeight_118 : decode cX1_usageWeight 118 = .ok (.iconst 0, 1) := dk_3 (dk_at dksX1_usageWeight_5 3 rfl rfl)
theorem dX1_usageWeight_119 : decode cX1_usageWeight 119 = .ok (.iadd, 1) := dk_96 (dk_at dksX1_usageWeight_5 4 rfl rfl)
theorem dX1_usageWeight_120 : decode cX1_usageWeight 120 = .ok (.istore_n 3, 1) := dk_62 (dk_at dksX1_usageWeight_5 5 rfl rfl)
theorem dX1_usageWeight_121 : decode cX1_usageWeight 121 = .ok (.iconst 0, 1) := dk_3 (dk_at dksX1_usageWeight_5 6 rfl rfl)
theorem dX1_usageWeight_122 : decode cX1_usageWeight 122 = .ok (.istore 6, 2) := dk_54 6 (dk_at dksX1_usageWeight_5 7 rfl rfl)
theorem dX1_usageWeight_124 : decode cX1_usageWeight 124 = .ok (.iload 6, 2) := dk_21 6 (dk_at dksX1_usageWeight_5 9 rfl rfl)
theorem dX1_usageWeight_126 : decode cX1_usageWeight 126 = .ok (.iconst 4, 1) := dk_7 (dk_at dksX1_usageWeight_5 11 rfl rfl)
theorem dX1_usageWeight_127 : decode cX1_usageWeight 127 = .ok (.if_icmp .ge 38, 3) := dk_162 0 38 (dk_at dksX1_usageWeight_5 12 rfl rfl)
theorem dX1_usageWeight_130 : decode cX1_usageWeight 130 = .ok (.iload_n 3, 1) := dk_29 (dk_at dksX1_usageWeight_5 15 rfl rfl)
theorem dX1_usageWeight_131 : decode cX1_usageWeight 131 = .ok (.iload 6, 2) := dk_21 6 (dk_at dksX1_usageWeight_5 16 rfl rfl)
theorem dX1_usageWeight_133 : decode cX1_usageWeight 133 = .ok (.aload_n 1, 1) := dk_43 (dk_at dksX1_usageWeight_5 18 rfl rfl)
theorem dX1_usageWeight_134 : decode cX1_usageWeight 134 = .ok (.getfield 352, 3) := dk_180 1 96 (dk_at dksX1_usageWeight_5 19 rfl rfl)
theorem dX1_usageWeight_137 : decode cX1_usageWeight 137 = .ok (.if_icmp .eq 19, 3) := dk_159 0 19 (dk_at dksX1_usageWeight_6 0 rfl rfl)
theorem dX1_usageWeight_140 : decode cX1_usageWeight 140 = .ok (.aload_n 0, 1) := dk_42 (dk_at dksX1_usageWeight_6 3 rfl rfl)
theorem dX1_usageWeight_141 : decode cX1_usageWeight 141 = .ok (.iload 6, 2) := dk_21 6 (dk_at dksX1_usageWeight_6 4 rfl rfl)
theorem dX1_usageWeight_143 : decode cX1_usageWeight 143 = .ok (.iload 5, 2) := dk_21 5 (dk_at dksX1_usageWeight_6 6 rfl rfl)
theorem dX1_usageWeight_145 : decode cX1_usageWeight 145 = .ok (.iload_n 2, 1) := dk_28 (dk_at dksX1_usageWeight_6 8 rfl rfl)
theorem dX1_usageWeight_146 : decode cX1_usageWeight 146 = .ok (.invokevirtual 364, 3) := dk_182 1 108 (dk_at dksX1_usageWeight_6 9 rfl rfl)
theorem dX1_usageWeight_149 : decode cX1_usageWeight 149 = .ok (.ifCond .eq 7, 3) := dk_153 0 7 (dk_at dksX1_usageWeight_6 12 rfl rfl)
theorem dX1_usageWeight_152 : decode cX1_usageWeight 152 = .ok (.iconst 1, 1) := dk_4 (dk_at dksX1_usageWeight_6 15 rfl rfl)
theorem dX1_usageWeight_153 : decode cX1_usageWeight 153 = .ok (.goto 4, 3) := dk_167 0 4 (dk_at dksX1_usageWeight_6 16 rfl rfl)
theorem dX1_usageWeight_156 : decode cX1_usageWeight 156 = .ok (.iconst 0, 1) := dk_3 (dk_at dksX1_usageWeight_6 19 rfl rfl)
theorem dX1_usageWeight_157 : decode cX1_usageWeight 157 = .ok (.iadd, 1) := dk_96 (dk_at dksX1_usageWeight_6 20 rfl rfl)
theorem dX1_usageWeight_158 : decode cX1_usageWeight 158 = .ok (.istore_n 3, 1) := dk_62 (dk_at dksX1_usageWeight_6 21 rfl rfl)
theorem dX1_usageWeight_159 : decode cX1_usageWeight 159 = .ok (.iinc 6 1, 3) := dk_132 6 1 (dk_at dksX1_usageWeight_7 0 rfl rfl)
theorem dX1_usageWeight_162 : decode cX1_usageWeight 162 = .ok (.goto (-38), 3) := dk_167 255 218 (dk_at dksX1_usageWeight_7 3 rfl rfl)
theorem dX1_usageWeight_165 : decode cX1_usageWeight 165 = .ok (.iinc 4 1, 3) := dk_132 4 1 (dk_at dksX1_usageWeight_7 6 rfl rfl)
theorem dX1_usageWeight_168 : decode cX1_usageWeight 168 = .ok (.goto (-163), 3) := dk_167 255 93 (dk_at dksX1_usageWeight_7 9 rfl rfl)
theorem dX1_usageWeight_171 : decode cX1_usageWeight 171 = .ok (.iload_n 3, 1) := dk_29 (dk_at dksX1_usageWeight_7 12 rfl rfl)
theorem dX1_usageWeight_172 : decode cX1_usageWeight 172 = .ok (.ireturn, 1) := dk_172 (dk_at dksX1_usageWeight_7 13 rfl rfl)
abbrev cX1_means : ByteArray := prog_1_method_38_code
def yX1_means : MethodName := ⟨RX1, "means", "(ILDialectdepot$Parcel;I)Z"⟩
def dkwX1_means_5 : List UInt8 := [54, 4, 132, 5, 1, 167, 255, 185, 21, 4, 172]
abbrev dktX1_means_5 : List UInt8 := dkwX1_means_5 ++ []
def dkwX1_means_4 : List UInt8 := [29, 182, 1, 98, 153, 0, 19, 25, 6, 44, 180, 1, 101, 182, 0, 186, 153, 0, 7, 4, 167, 0, 4, 3]
abbrev dktX1_means_4 : List UInt8 := dkwX1_means_4 ++ dktX1_means_5
def dkwX1_means_3 : List UInt8 := [21, 5, 185, 0, 99, 2, 0, 192, 0, 169, 58, 6, 21, 4, 154, 0, 29, 25, 6, 44, 180, 1, 96, 27]
abbrev dktX1_means_3 : List UInt8 := dkwX1_means_3 ++ dktX1_means_4
def dkwX1_means_2 : List UInt8 := [54, 4, 3, 54, 5, 21, 5, 42, 180, 0, 54, 185, 0, 85, 1, 0, 162, 0, 63, 42, 180, 0, 54]
abbrev dktX1_means_2 : List UInt8 := dkwX1_means_2 ++ dktX1_means_3
def dkwX1_means_1 : List UInt8 := [27, 185, 0, 99, 2, 0, 192, 0, 113, 180, 1, 93, 29, 160, 0, 7, 4, 167, 0, 4, 3, 172, 3]
abbrev dktX1_means_1 : List UInt8 := dkwX1_means_1 ++ dktX1_means_2
def dkwX1_means_0 : List UInt8 := [42, 180, 0, 50, 27, 185, 0, 99, 2, 0, 192, 0, 113, 180, 1, 93, 2, 159, 0, 29, 42, 180, 0, 50]
abbrev dktX1_means_0 : List UInt8 := dkwX1_means_0 ++ dktX1_means_1
theorem dksX1_means_0 : cX1_means.data.toList.drop 0 = dktX1_means_0 := by decide +kernel
theorem dksX1_means_1 : cX1_means.data.toList.drop 24 = dktX1_means_1 := dk_seg dksX1_means_0 24 rfl rfl
theorem dksX1_means_2 : cX1_means.data.toList.drop 47 = dktX1_means_2 := dk_seg dksX1_means_1 23 rfl rfl
theorem dksX1_means_3 : cX1_means.data.toList.drop 70 = dktX1_means_3 := dk_seg dksX1_means_2 23 rfl rfl
theorem dksX1_means_4 : cX1_means.data.toList.drop 94 = dktX1_means_4 := dk_seg dksX1_means_3 24 rfl rfl
theorem dksX1_means_5 : cX1_means.data.toList.drop 118 = dktX1_means_5 := dk_seg dksX1_means_4 24 rfl rfl
theorem dX1_means_0 : decode cX1_means 0 = .ok (.aload_n 0, 1) := dk_42 (dk_at dksX1_means_0 0 rfl rfl)
theorem dX1_means_1 : decode cX1_means 1 = .ok (.getfield 50, 3) := dk_180 0 50 (dk_at dksX1_means_0 1 rfl rfl)
theorem dX1_means_4 : decode cX1_means 4 = .ok (.iload_n 1, 1) := dk_27 (dk_at dksX1_means_0 4 rfl rfl)
theorem dX1_means_5 : decode cX1_means 5 = .ok (.invokeinterface 99 2, 5) := by decide +kernel
theorem dX1_means_10 : decode cX1_means 10 = .ok (.checkcast 113, 3) := dk_192 0 113 (dk_at dksX1_means_0 10 rfl rfl)
theorem dX1_means_13 : decode cX1_means 13 = .ok (.getfield 349, 3) := dk_180 1 93 (dk_at dksX1_means_0 13 rfl rfl)
theorem dX1_means_16 : decode cX1_means 16 = .ok (.iconst (-1), 1) := dk_2 (dk_at dksX1_means_0 16 rfl rfl)
theorem dX1_means_17 : decode cX1_means 17 = .ok (.if_icmp .eq 29, 3) := dk_159 0 29 (dk_at dksX1_means_0 17 rfl rfl)
theorem dX1_means_20 : decode cX1_means 20 = .ok (.aload_n 0, 1) := dk_42 (dk_at dksX1_means_0 20 rfl rfl)
theorem dX1_means_21 : decode cX1_means 21 = .ok (.getfield 50, 3) := dk_180 0 50 (dk_at dksX1_means_0 21 rfl rfl)
theorem dX1_means_24 : decode cX1_means 24 = .ok (.iload_n 1, 1) := dk_27 (dk_at dksX1_means_1 0 rfl rfl)
theorem dX1_means_25 : decode cX1_means 25 = .ok (.invokeinterface 99 2, 5) := by decide +kernel
theorem dX1_means_30 : decode cX1_means 30 = .ok (.checkcast 113, 3) := dk_192 0 113 (dk_at dksX1_means_1 6 rfl rfl)
theorem dX1_means_33 : decode cX1_means 33 = .ok (.getfield 349, 3) := dk_180 1 93 (dk_at dksX1_means_1 9 rfl rfl)
theorem dX1_means_36 : decode cX1_means 36 = .ok (.iload_n 3, 1) := dk_29 (dk_at dksX1_means_1 12 rfl rfl)
theorem dX1_means_37 : decode cX1_means 37 = .ok (.if_icmp .ne 7, 3) := dk_160 0 7 (dk_at dksX1_means_1 13 rfl rfl)
theorem dX1_means_40 : decode cX1_means 40 = .ok (.iconst 1, 1) := dk_4 (dk_at dksX1_means_1 16 rfl rfl)
theorem dX1_means_41 : decode cX1_means 41 = .ok (.goto 4, 3) := dk_167 0 4 (dk_at dksX1_means_1 17 rfl rfl)
theorem dX1_means_44 : decode cX1_means 44 = .ok (.iconst 0, 1) := dk_3 (dk_at dksX1_means_1 20 rfl rfl)
theorem dX1_means_45 : decode cX1_means 45 = .ok (.ireturn, 1) := dk_172 (dk_at dksX1_means_1 21 rfl rfl)
theorem dX1_means_46 : decode cX1_means 46 = .ok (.iconst 0, 1) := dk_3 (dk_at dksX1_means_1 22 rfl rfl)
theorem dX1_means_47 : decode cX1_means 47 = .ok (.istore 4, 2) := dk_54 4 (dk_at dksX1_means_2 0 rfl rfl)
theorem dX1_means_49 : decode cX1_means 49 = .ok (.iconst 0, 1) := dk_3 (dk_at dksX1_means_2 2 rfl rfl)
theorem dX1_means_50 : decode cX1_means 50 = .ok (.istore 5, 2) := dk_54 5 (dk_at dksX1_means_2 3 rfl rfl)
theorem dX1_means_52 : decode cX1_means 52 = .ok (.iload 5, 2) := dk_21 5 (dk_at dksX1_means_2 5 rfl rfl)
theorem dX1_means_54 : decode cX1_means 54 = .ok (.aload_n 0, 1) := dk_42 (dk_at dksX1_means_2 7 rfl rfl)
theorem dX1_means_55 : decode cX1_means 55 = .ok (.getfield 54, 3) := dk_180 0 54 (dk_at dksX1_means_2 8 rfl rfl)
theorem dX1_means_58 : decode cX1_means 58 = .ok (.invokeinterface 85 1, 5) := by decide +kernel
theorem dX1_means_63 : decode cX1_means 63 = .ok (.if_icmp .ge 63, 3) := dk_162 0 63 (dk_at dksX1_means_2 16 rfl rfl)
theorem dX1_means_66 : decode cX1_means 66 = .ok (.aload_n 0, 1) := dk_42 (dk_at dksX1_means_2 19 rfl rfl)
theorem dX1_means_67 : decode cX1_means 67 = .ok (.getfield 54, 3) := dk_180 0 54 (dk_at dksX1_means_2 20 rfl rfl)
theorem dX1_means_70 : decode cX1_means 70 = .ok (.iload 5, 2) := dk_21 5 (dk_at dksX1_means_3 0 rfl rfl)
theorem dX1_means_72 : decode cX1_means 72 = .ok (.invokeinterface 99 2, 5) := by decide +kernel
theorem dX1_means_77 : decode cX1_means 77 = .ok (.checkcast 169, 3) := dk_192 0 169 (dk_at dksX1_means_3 7 rfl rfl)
theorem dX1_means_80 : decode cX1_means 80 = .ok (.astore 6, 2) := dk_58 6 (dk_at dksX1_means_3 10 rfl rfl)
theorem dX1_means_82 : decode cX1_means 82 = .ok (.iload 4, 2) := dk_21 4 (dk_at dksX1_means_3 12 rfl rfl)
theorem dX1_means_84 : decode cX1_means 84 = .ok (.ifCond .ne 29, 3) := dk_154 0 29 (dk_at dksX1_means_3 14 rfl rfl)
theorem dX1_means_87 : decode cX1_means 87 = .ok (.aload 6, 2) := dk_25 6 (dk_at dksX1_means_3 17 rfl rfl)
theorem dX1_means_89 : decode cX1_means 89 = .ok (.aload_n 2, 1) := dk_44 (dk_at dksX1_means_3 19 rfl rfl)
theorem dX1_means_90 : decode cX1_means 90 = .ok (.getfield 352, 3) := dk_180 1 96 (dk_at dksX1_means_3 20 rfl rfl)
theorem dX1_means_93 : decode cX1_means 93 = .ok (.iload_n 1, 1) := dk_27 (dk_at dksX1_means_3 23 rfl rfl)
theorem dX1_means_94 : decode cX1_means 94 = .ok (.iload_n 3, 1) := dk_29 (dk_at dksX1_means_4 0 rfl rfl)
theorem dX1_means_95 : decode cX1_means 95 = .ok (.invokevirtual 354, 3) := dk_182 1 98 (dk_at dksX1_means_4 1 rfl rfl)
theorem dX1_means_98 : decode cX1_means 98 = .ok (.ifCond .eq 19, 3) := dk_153 0 19 (dk_at dksX1_means_4 4 rfl rfl)
theorem dX1_means_101 : decode cX1_means 101 = .ok (.aload 6, 2) := dk_25 6 (dk_at dksX1_means_4 7 rfl rfl)
theorem dX1_means_103 : decode cX1_means 103 = .ok (.aload_n 2, 1) := dk_44 (dk_at dksX1_means_4 9 rfl rfl)
theorem dX1_means_104 : decode cX1_means 104 = .ok (.getfield 357, 3) := dk_180 1 101 (dk_at dksX1_means_4 10 rfl rfl)
theorem dX1_means_107 : decode cX1_means 107 = .ok (.invokevirtual 186, 3) := dk_182 0 186 (dk_at dksX1_means_4 13 rfl rfl)
theorem dX1_means_110 : decode cX1_means 110 = .ok (.ifCond .eq 7, 3) := dk_153 0 7 (dk_at dksX1_means_4 16 rfl rfl)
theorem dX1_means_113 : decode cX1_means 113 = .ok (.iconst 1, 1) := dk_4 (dk_at dksX1_means_4 19 rfl rfl)
theorem dX1_means_114 : decode cX1_means 114 = .ok (.goto 4, 3) := dk_167 0 4 (dk_at dksX1_means_4 20 rfl rfl)
theorem dX1_means_117 : decode cX1_means 117 = .ok (.iconst 0, 1) := dk_3 (dk_at dksX1_means_4 23 rfl rfl)
theorem dX1_means_118 : decode cX1_means 118 = .ok (.istore 4, 2) := dk_54 4 (dk_at dksX1_means_5 0 rfl rfl)
theorem dX1_means_120 : decode cX1_means 120 = .ok (.iinc 5 1, 3) := dk_132 5 1 (dk_at dksX1_means_5 2 rfl rfl)
theorem dX1_means_123 : decode cX1_means 123 = .ok (.goto (-71), 3) := dk_167 255 185 (dk_at dksX1_means_5 5 rfl rfl)
theorem dX1_means_126 : decode cX1_means 126 = .ok (.iload 4, 2) := dk_21 4 (dk_at dksX1_means_5 8 rfl rfl)
theorem dX1_means_128 : decode cX1_means 128 = .ok (.ireturn, 1) := dk_172 (dk_at dksX1_means_5 10 rfl rfl)
abbrev cX1_uses : ByteArray := prog_1_method_39_code
def yX1_uses : MethodName := ⟨RX1, "uses", "(III)Z"⟩
def dkwX1_uses_2 : List UInt8 := [153, 0, 7, 4, 167, 0, 4, 3, 54, 4, 132, 5, 1, 167, 255, 204, 21, 4, 172]
abbrev dktX1_uses_2 : List UInt8 := dkwX1_uses_2 ++ []
def dkwX1_uses_1 : List UInt8 := [154, 0, 26, 42, 180, 0, 54, 21, 5, 185, 0, 99, 2, 0, 192, 0, 169, 27, 28, 29, 182, 1, 98]
abbrev dktX1_uses_1 : List UInt8 := dkwX1_uses_1 ++ dktX1_uses_2
def dkwX1_uses_0 : List UInt8 := [3, 54, 4, 3, 54, 5, 21, 5, 42, 180, 0, 54, 185, 0, 85, 1, 0, 162, 0, 44, 21, 4]
abbrev dktX1_uses_0 : List UInt8 := dkwX1_uses_0 ++ dktX1_uses_1
theorem dksX1_uses_0 : cX1_uses.data.toList.drop 0 = dktX1_uses_0 := by decide +kernel
theorem dksX1_uses_1 : cX1_uses.data.toList.drop 22 = dktX1_uses_1 := dk_seg dksX1_uses_0 22 rfl rfl
theorem dksX1_uses_2 : cX1_uses.data.toList.drop 45 = dktX1_uses_2 := dk_seg dksX1_uses_1 23 rfl rfl
theorem dX1_uses_0 : decode cX1_uses 0 = .ok (.iconst 0, 1) := dk_3 (dk_at dksX1_uses_0 0 rfl rfl)
theorem dX1_uses_1 : decode cX1_uses 1 = .ok (.istore 4, 2) := dk_54 4 (dk_at dksX1_uses_0 1 rfl rfl)
theorem dX1_uses_3 : decode cX1_uses 3 = .ok (.iconst 0, 1) := dk_3 (dk_at dksX1_uses_0 3 rfl rfl)
theorem dX1_uses_4 : decode cX1_uses 4 = .ok (.istore 5, 2) := dk_54 5 (dk_at dksX1_uses_0 4 rfl rfl)
theorem dX1_uses_6 : decode cX1_uses 6 = .ok (.iload 5, 2) := dk_21 5 (dk_at dksX1_uses_0 6 rfl rfl)
theorem dX1_uses_8 : decode cX1_uses 8 = .ok (.aload_n 0, 1) := dk_42 (dk_at dksX1_uses_0 8 rfl rfl)
theorem dX1_uses_9 : decode cX1_uses 9 = .ok (.getfield 54, 3) := dk_180 0 54 (dk_at dksX1_uses_0 9 rfl rfl)
theorem dX1_uses_12 : decode cX1_uses 12 = .ok (.invokeinterface 85 1, 5) := by decide +kernel
theorem dX1_uses_17 : decode cX1_uses 17 = .ok (.if_icmp .ge 44, 3) := dk_162 0 44 (dk_at dksX1_uses_0 17 rfl rfl)
theorem dX1_uses_20 : decode cX1_uses 20 = .ok (.iload 4, 2) := dk_21 4 (dk_at dksX1_uses_0 20 rfl rfl)
theorem dX1_uses_22 : decode cX1_uses 22 = .ok (.ifCond .ne 26, 3) := dk_154 0 26 (dk_at dksX1_uses_1 0 rfl rfl)
theorem dX1_uses_25 : decode cX1_uses 25 = .ok (.aload_n 0, 1) := dk_42 (dk_at dksX1_uses_1 3 rfl rfl)
theorem dX1_uses_26 : decode cX1_uses 26 = .ok (.getfield 54, 3) := dk_180 0 54 (dk_at dksX1_uses_1 4 rfl rfl)
theorem dX1_uses_29 : decode cX1_uses 29 = .ok (.iload 5, 2) := dk_21 5 (dk_at dksX1_uses_1 7 rfl rfl)
theorem dX1_uses_31 : decode cX1_uses 31 = .ok (.invokeinterface 99 2, 5) := by decide +kernel
theorem dX1_uses_36 : decode cX1_uses 36 = .ok (.checkcast 169, 3) := dk_192 0 169 (dk_at dksX1_uses_1 14 rfl rfl)
theorem dX1_uses_39 : decode cX1_uses 39 = .ok (.iload_n 1, 1) := dk_27 (dk_at dksX1_uses_1 17 rfl rfl)
theorem dX1_uses_40 : decode cX1_uses 40 = .ok (.iload_n 2, 1) := dk_28 (dk_at dksX1_uses_1 18 rfl rfl)
theorem dX1_uses_41 : decode cX1_uses 41 = .ok (.iload_n 3, 1) := dk_29 (dk_at dksX1_uses_1 19 rfl rfl)
theorem dX1_uses_42 : decode cX1_uses 42 = .ok (.invokevirtual 354, 3) := dk_182 1 98 (dk_at dksX1_uses_1 20 rfl rfl)
theorem dX1_uses_45 : decode cX1_uses 45 = .ok (.ifCond .eq 7, 3) := dk_153 0 7 (dk_at dksX1_uses_2 0 rfl rfl)
theorem dX1_uses_48 : decode cX1_uses 48 = .ok (.iconst 1, 1) := dk_4 (dk_at dksX1_uses_2 3 rfl rfl)
theorem dX1_uses_49 : decode cX1_uses 49 = .ok (.goto 4, 3) := dk_167 0 4 (dk_at dksX1_uses_2 4 rfl rfl)
theorem dX1_uses_52 : decode cX1_uses 52 = .ok (.iconst 0, 1) := dk_3 (dk_at dksX1_uses_2 7 rfl rfl)
theorem dX1_uses_53 : decode cX1_uses 53 = .ok (.istore 4, 2) := dk_54 4 (dk_at dksX1_uses_2 8 rfl rfl)
theorem dX1_uses_55 : decode cX1_uses 55 = .ok (.iinc 5 1, 3) := dk_132 5 1 (dk_at dksX1_uses_2 10 rfl rfl)
theorem dX1_uses_58 : decode cX1_uses 58 = .ok (.goto (-52), 3) := dk_167 255 204 (dk_at dksX1_uses_2 13 rfl rfl)
theorem dX1_uses_61 : decode cX1_uses 61 = .ok (.iload 4, 2) := dk_21 4 (dk_at dksX1_uses_2 16 rfl rfl)
theorem dX1_uses_63 : decode cX1_uses 63 = .ok (.ireturn, 1) := dk_172 (dk_at dksX1_uses_2 18 rfl rfl)
abbrev cX1_lambda_new_6 : ByteArray := prog_1_method_79_code
def yX1_lambda_new_6 : MethodName := ⟨RX1, "lambda$new$6", "(LDialectdepot$Parcel;LDialectdepot$Carrier;I)I"⟩
def dkwX1_lambda_new_6_0 : List UInt8 := [5, 42, 43, 44, 29, 182, 2, 24, 104, 172]
abbrev dktX1_lambda_new_6_0 : List UInt8 := dkwX1_lambda_new_6_0 ++ []
theorem dksX1_lambda_new_6_0 : cX1_lambda_new_6.data.toList.drop 0 = dktX1_lambda_new_6_0 := by decide +kernel
theorem dX1_lambda_new_6_0 : decode cX1_lambda_new_6 0 = .ok (.iconst 2, 1) := dk_5 (dk_at dksX1_lambda_new_6_0 0 rfl rfl)
theorem dX1_lambda_new_6_1 : decode cX1_lambda_new_6 1 = .ok (.aload_n 0, 1) := dk_42 (dk_at dksX1_lambda_new_6_0 1 rfl rfl)
theorem dX1_lambda_new_6_2 : decode cX1_lambda_new_6 2 = .ok (.aload_n 1, 1) := dk_43 (dk_at dksX1_lambda_new_6_0 2 rfl rfl)
theorem dX1_lambda_new_6_3 : decode cX1_lambda_new_6 3 = .ok (.aload_n 2, 1) := dk_44 (dk_at dksX1_lambda_new_6_0 3 rfl rfl)
theorem dX1_lambda_new_6_4 : decode cX1_lambda_new_6 4 = .ok (.iload_n 3, 1) := dk_29 (dk_at dksX1_lambda_new_6_0 4 rfl rfl)
theorem dX1_lambda_new_6_5 : decode cX1_lambda_new_6 5 = .ok (.invokevirtual 536, 3) := dk_182 2 24 (dk_at dksX1_lambda_new_6_0 5 rfl rfl)
theorem dX1_lambda_new_6_8 : decode cX1_lambda_new_6 8 = .ok (.imul, 1) := dk_104 (dk_at dksX1_lambda_new_6_0 8 rfl rfl)
theorem dX1_lambda_new_6_9 : decode cX1_lambda_new_6 9 = .ok (.ireturn, 1) := dk_172 (dk_at dksX1_lambda_new_6_0 9 rfl rfl)
abbrev cX1_lessonsOf : ByteArray := prog_1_method_41_code
def yX1_lessonsOf : MethodName := ⟨RX1, "lessonsOf", "(LDialectdepot$Parcel;LDialectdepot$Carrier;I)I"⟩
def dkwX1_lessonsOf_2 : List UInt8 := [132, 5, 1, 167, 255, 213, 21, 4, 172]
abbrev dktX1_lessonsOf_2 : List UInt8 := dkwX1_lessonsOf_2 ++ []
def dkwX1_lessonsOf_1 : List UInt8 := [43, 180, 1, 82, 180, 1, 25, 21, 5, 46, 43, 180, 1, 96, 29, 184, 0, 214, 46, 96, 54, 4]
abbrev dktX1_lessonsOf_1 : List UInt8 := dkwX1_lessonsOf_1 ++ dktX1_lessonsOf_2
def dkwX1_lessonsOf_0 : List UInt8 := [3, 54, 4, 3, 54, 5, 21, 5, 43, 180, 1, 82, 180, 1, 32, 162, 0, 37, 21, 4, 44, 180, 0, 210]
abbrev dktX1_lessonsOf_0 : List UInt8 := dkwX1_lessonsOf_0 ++ dktX1_lessonsOf_1
theorem dksX1_lessonsOf_0 : cX1_lessonsOf.data.toList.drop 0 = dktX1_lessonsOf_0 := by decide +kernel
theorem dksX1_lessonsOf_1 : cX1_lessonsOf.data.toList.drop 24 = dktX1_lessonsOf_1 := dk_seg dksX1_lessonsOf_0 24 rfl rfl
theorem dksX1_lessonsOf_2 : cX1_lessonsOf.data.toList.drop 46 = dktX1_lessonsOf_2 := dk_seg dksX1_lessonsOf_1 22 rfl rfl
theorem dX1_lessonsOf_0 : decode cX1_lessonsOf 0 = .ok (.iconst 0, 1) := dk_3 (dk_at dksX1_lessonsOf_0 0 rfl rfl)
theorem dX1_lessonsOf_1 : decode cX1_lessonsOf 1 = .ok (.istore 4, 2) := dk_54 4 (dk_at dksX1_lessonsOf_0 1 rfl rfl)
theorem dX1_lessonsOf_3 : decode cX1_lessonsOf 3 = .ok (.iconst 0, 1) := dk_3 (dk_at dksX1_lessonsOf_0 3 rfl rfl)
theorem dX1_lessonsOf_4 : decode cX1_lessonsOf 4 = .ok (.istore 5, 2) := dk_54 5 (dk_at dksX1_lessonsOf_0 4 rfl rfl)
theorem dX1_lessonsOf_6 : decode cX1_lessonsOf 6 = .ok (.iload 5, 2) := dk_21 5 (dk_at dksX1_lessonsOf_0 6 rfl rfl)
theorem dX1_lessonsOf_8 : decode cX1_lessonsOf 8 = .ok (.aload_n 1, 1) := dk_43 (dk_at dksX1_lessonsOf_0 8 rfl rfl)
theorem dX1_lessonsOf_9 : decode cX1_lessonsOf 9 = .ok (.getfield 338, 3) := dk_180 1 82 (dk_at dksX1_lessonsOf_0 9 rfl rfl)
theorem dX1_lessonsOf_12 : decode cX1_lessonsOf 12 = .ok (.getfield 288, 3) := dk_180 1 32 (dk_at dksX1_lessonsOf_0 12 rfl rfl)
theorem dX1_lessonsOf_15 : decode cX1_lessonsOf 15 = .ok (.if_icmp .ge 37, 3) := dk_162 0 37 (dk_at dksX1_lessonsOf_0 15 rfl rfl)
theorem dX1_lessonsOf_18 : decode cX1_lessonsOf 18 = .ok (.iload 4, 2) := dk_21 4 (dk_at dksX1_lessonsOf_0 18 rfl rfl)
theorem dX1_lessonsOf_20 : decode cX1_lessonsOf 20 = .ok (.aload_n 2, 1) := dk_44 (dk_at dksX1_lessonsOf_0 20 rfl rfl)
theorem dX1_lessonsOf_21 : decode cX1_lessonsOf 21 = .ok (.getfield 210, 3) := dk_180 0 210 (dk_at dksX1_lessonsOf_0 21 rfl rfl)
theorem dX1_lessonsOf_24 : decode cX1_lessonsOf 24 = .ok (.aload_n 1, 1) := dk_43 (dk_at dksX1_lessonsOf_1 0 rfl rfl)
theorem dX1_lessonsOf_25 : decode cX1_lessonsOf 25 = .ok (.getfield 338, 3) := dk_180 1 82 (dk_at dksX1_lessonsOf_1 1 rfl rfl)
theorem dX1_lessonsOf_28 : decode cX1_lessonsOf 28 = .ok (.getfield 281, 3) := dk_180 1 25 (dk_at dksX1_lessonsOf_1 4 rfl rfl)
theorem dX1_lessonsOf_31 : decode cX1_lessonsOf 31 = .ok (.iload 5, 2) := dk_21 5 (dk_at dksX1_lessonsOf_1 7 rfl rfl)
theorem dX1_lessonsOf_33 : decode cX1_lessonsOf 33 = .ok (.iaload, 1) := dk_46 (dk_at dksX1_lessonsOf_1 9 rfl rfl)
theorem dX1_lessonsOf_34 : decode cX1_lessonsOf 34 = .ok (.aload_n 1, 1) := dk_43 (dk_at dksX1_lessonsOf_1 10 rfl rfl)
theorem dX1_lessonsOf_35 : decode cX1_lessonsOf 35 = .ok (.getfield 352, 3) := dk_180 1 96 (dk_at dksX1_lessonsOf_1 11 rfl rfl)
theorem dX1_lessonsOf_38 : decode cX1_lessonsOf 38 = .ok (.iload_n 3, 1) := dk_29 (dk_at dksX1_lessonsOf_1 14 rfl rfl)
theorem dX1_lessonsOf_39 : decode cX1_lessonsOf 39 = .ok (.invokestatic 214, 3) := dk_184 0 214 (dk_at dksX1_lessonsOf_1 15 rfl rfl)
theorem dX1_lessonsOf_42 : decode cX1_lessonsOf 42 = .ok (.iaload, 1) := dk_46 (dk_at dksX1_lessonsOf_1 18 rfl rfl)
theorem dX1_lessonsOf_43 : decode cX1_lessonsOf 43 = .ok (.iadd, 1) := dk_96 (dk_at dksX1_lessonsOf_1 19 rfl rfl)
theorem dX1_lessonsOf_44 : decode cX1_lessonsOf 44 = .ok (.istore 4, 2) := dk_54 4 (dk_at dksX1_lessonsOf_1 20 rfl rfl)
theorem dX1_lessonsOf_46 : decode cX1_lessonsOf 46 = .ok (.iinc 5 1, 3) := dk_132 5 1 (dk_at dksX1_lessonsOf_2 0 rfl rfl)
theorem dX1_lessonsOf_49 : decode cX1_lessonsOf 49 = .ok (.goto (-43), 3) := dk_167 255 213 (dk_at dksX1_lessonsOf_2 3 rfl rfl)
theorem dX1_lessonsOf_52 : decode cX1_lessonsOf 52 = .ok (.iload 4, 2) := dk_21 4 (dk_at dksX1_lessonsOf_2 6 rfl rfl)
theorem dX1_lessonsOf_54 : decode cX1_lessonsOf 54 = .ok (.ireturn, 1) := dk_172 (dk_at dksX1_lessonsOf_2 8 rfl rfl)
abbrev cX1_place : ByteArray := prog_1_method_2_code
def yX1_place : MethodName := ⟨RX1, "place", "(III)I"⟩
def dkwX1_place_0 : List UInt8 := [16, 8, 7, 26, 104, 27, 96, 104, 28, 96, 172]
abbrev dktX1_place_0 : List UInt8 := dkwX1_place_0 ++ []
theorem dksX1_place_0 : cX1_place.data.toList.drop 0 = dktX1_place_0 := by decide +kernel
theorem dX1_place_0 : decode cX1_place 0 = .ok (.bipush 8, 2) := dk_16 8 (dk_at dksX1_place_0 0 rfl rfl)
theorem dX1_place_2 : decode cX1_place 2 = .ok (.iconst 4, 1) := dk_7 (dk_at dksX1_place_0 2 rfl rfl)
theorem dX1_place_3 : decode cX1_place 3 = .ok (.iload_n 0, 1) := dk_26 (dk_at dksX1_place_0 3 rfl rfl)
theorem dX1_place_4 : decode cX1_place 4 = .ok (.imul, 1) := dk_104 (dk_at dksX1_place_0 4 rfl rfl)
theorem dX1_place_5 : decode cX1_place 5 = .ok (.iload_n 1, 1) := dk_27 (dk_at dksX1_place_0 5 rfl rfl)
theorem dX1_place_6 : decode cX1_place 6 = .ok (.iadd, 1) := dk_96 (dk_at dksX1_place_0 6 rfl rfl)
theorem dX1_place_7 : decode cX1_place 7 = .ok (.imul, 1) := dk_104 (dk_at dksX1_place_0 7 rfl rfl)
theorem dX1_place_8 : decode cX1_place 8 = .ok (.iload_n 2, 1) := dk_28 (dk_at dksX1_place_0 8 rfl rfl)
theorem dX1_place_9 : decode cX1_place 9 = .ok (.iadd, 1) := dk_96 (dk_at dksX1_place_0 9 rfl rfl)
theorem dX1_place_10 : decode cX1_place 10 = .ok (.ireturn, 1) := dk_172 (dk_at dksX1_place_0 10 rfl rfl)
abbrev cX1_lambda_new_7 : ByteArray := prog_1_method_78_code
def yX1_lambda_new_7 : MethodName := ⟨RX1, "lambda$new$7", "(LDialectdepot$Parcel;LDialectdepot$Carrier;I)I"⟩
def dkwX1_lambda_new_7_1 : List UInt8 := [153, 0, 8, 16, 236, 167, 0, 4, 3, 172]
abbrev dktX1_lambda_new_7_1 : List UInt8 := dkwX1_lambda_new_7_1 ++ []
def dkwX1_lambda_new_7_0 : List UInt8 := [43, 180, 1, 82, 180, 1, 45, 2, 159, 0, 24, 42, 43, 180, 1, 82, 180, 1, 45, 43, 29, 182, 1, 104]
abbrev dktX1_lambda_new_7_0 : List UInt8 := dkwX1_lambda_new_7_0 ++ dktX1_lambda_new_7_1
theorem dksX1_lambda_new_7_0 : cX1_lambda_new_7.data.toList.drop 0 = dktX1_lambda_new_7_0 := by decide +kernel
theorem dksX1_lambda_new_7_1 : cX1_lambda_new_7.data.toList.drop 24 = dktX1_lambda_new_7_1 := dk_seg dksX1_lambda_new_7_0 24 rfl rfl
theorem dX1_lambda_new_7_0 : decode cX1_lambda_new_7 0 = .ok (.aload_n 1, 1) := dk_43 (dk_at dksX1_lambda_new_7_0 0 rfl rfl)
theorem dX1_lambda_new_7_1 : decode cX1_lambda_new_7 1 = .ok (.getfield 338, 3) := dk_180 1 82 (dk_at dksX1_lambda_new_7_0 1 rfl rfl)
theorem dX1_lambda_new_7_4 : decode cX1_lambda_new_7 4 = .ok (.getfield 301, 3) := dk_180 1 45 (dk_at dksX1_lambda_new_7_0 4 rfl rfl)
theorem dX1_lambda_new_7_7 : decode cX1_lambda_new_7 7 = .ok (.iconst (-1), 1) := dk_2 (dk_at dksX1_lambda_new_7_0 7 rfl rfl)
theorem dX1_lambda_new_7_8 : decode cX1_lambda_new_7 8 = .ok (.if_icmp .eq 24, 3) := dk_159 0 24 (dk_at dksX1_lambda_new_7_0 8 rfl rfl)
theorem dX1_lambda_new_7_11 : decode cX1_lambda_new_7 11 = .ok (.aload_n 0, 1) := dk_42 (dk_at dksX1_lambda_new_7_0 11 rfl rfl)
theorem dX1_lambda_new_7_12 : decode cX1_lambda_new_7 12 = .ok (.aload_n 1, 1) := dk_43 (dk_at dksX1_lambda_new_7_0 12 rfl rfl)
theorem dX1_lambda_new_7_13 : decode cX1_lambda_new_7 13 = .ok (.getfield 338, 3) := dk_180 1 82 (dk_at dksX1_lambda_new_7_0 13 rfl rfl)
theorem dX1_lambda_new_7_16 : decode cX1_lambda_new_7 16 = .ok (.getfield 301, 3) := dk_180 1 45 (dk_at dksX1_lambda_new_7_0 16 rfl rfl)
theorem dX1_lambda_new_7_19 : decode cX1_lambda_new_7 19 = .ok (.aload_n 1, 1) := dk_43 (dk_at dksX1_lambda_new_7_0 19 rfl rfl)
theorem dX1_lambda_new_7_20 : decode cX1_lambda_new_7 20 = .ok (.iload_n 3, 1) := dk_29 (dk_at dksX1_lambda_new_7_0 20 rfl rfl)
theorem dX1_lambda_new_7_21 : decode cX1_lambda_new_7 21 = .ok (.invokevirtual 360, 3) := dk_182 1 104 (dk_at dksX1_lambda_new_7_0 21 rfl rfl)
theorem dX1_lambda_new_7_24 : decode cX1_lambda_new_7 24 = .ok (.ifCond .eq 8, 3) := dk_153 0 8 (dk_at dksX1_lambda_new_7_1 0 rfl rfl)
theorem dX1_lambda_new_7_27 : decode cX1_lambda_new_7 27 = .ok (.bipush (-20), 2) := dk_16 236 (dk_at dksX1_lambda_new_7_1 3 rfl rfl)
theorem dX1_lambda_new_7_29 : decode cX1_lambda_new_7 29 = .ok (.goto 4, 3) := dk_167 0 4 (dk_at dksX1_lambda_new_7_1 5 rfl rfl)
theorem dX1_lambda_new_7_32 : decode cX1_lambda_new_7 32 = .ok (.iconst 0, 1) := dk_3 (dk_at dksX1_lambda_new_7_1 8 rfl rfl)
theorem dX1_lambda_new_7_33 : decode cX1_lambda_new_7 33 = .ok (.ireturn, 1) := dk_172 (dk_at dksX1_lambda_new_7_1 9 rfl rfl)
abbrev cX1_lambda_new_8 : ByteArray := prog_1_method_77_code
def yX1_lambda_new_8 : MethodName := ⟨RX1, "lambda$new$8", "(LDialectdepot$Parcel;LDialectdepot$Carrier;I)I"⟩
def dkwX1_lambda_new_8_0 : List UInt8 := [16, 248, 42, 180, 2, 21, 28, 46, 104, 172]
abbrev dktX1_lambda_new_8_0 : List UInt8 := dkwX1_lambda_new_8_0 ++ []
theorem dksX1_lambda_new_8_0 : cX1_lambda_new_8.data.toList.drop 0 = dktX1_lambda_new_8_0 := by decide +kernel
theorem dX1_lambda_new_8_0 : decode cX1_lambda_new_8 0 = .ok (.bipush (-8), 2) := dk_16 248 (dk_at dksX1_lambda_new_8_0 0 rfl rfl)
theorem dX1_lambda_new_8_2 : decode cX1_lambda_new_8 2 = .ok (.aload_n 0, 1) := dk_42 (dk_at dksX1_lambda_new_8_0 2 rfl rfl)
theorem dX1_lambda_new_8_3 : decode cX1_lambda_new_8 3 = .ok (.getfield 533, 3) := dk_180 2 21 (dk_at dksX1_lambda_new_8_0 3 rfl rfl)
theorem dX1_lambda_new_8_6 : decode cX1_lambda_new_8 6 = .ok (.iload_n 2, 1) := dk_28 (dk_at dksX1_lambda_new_8_0 6 rfl rfl)
theorem dX1_lambda_new_8_7 : decode cX1_lambda_new_8 7 = .ok (.iaload, 1) := dk_46 (dk_at dksX1_lambda_new_8_0 7 rfl rfl)
theorem dX1_lambda_new_8_8 : decode cX1_lambda_new_8 8 = .ok (.imul, 1) := dk_104 (dk_at dksX1_lambda_new_8_0 8 rfl rfl)
theorem dX1_lambda_new_8_9 : decode cX1_lambda_new_8 9 = .ok (.ireturn, 1) := dk_172 (dk_at dksX1_lambda_new_8_0 9 rfl rfl)
abbrev cX1_parcels : ByteArray := prog_1_method_29_code
def yX1_parcels : MethodName := ⟨RX1, "parcels", "()I"⟩
def dkwX1_parcels_0 : List UInt8 := [42, 180, 0, 60, 185, 0, 85, 1, 0, 172]
abbrev dktX1_parcels_0 : List UInt8 := dkwX1_parcels_0 ++ []
theorem dksX1_parcels_0 : cX1_parcels.data.toList.drop 0 = dktX1_parcels_0 := by decide +kernel
theorem dX1_parcels_0 : decode cX1_parcels 0 = .ok (.aload_n 0, 1) := dk_42 (dk_at dksX1_parcels_0 0 rfl rfl)
theorem dX1_parcels_1 : decode cX1_parcels 1 = .ok (.getfield 60, 3) := dk_180 0 60 (dk_at dksX1_parcels_0 1 rfl rfl)
theorem dX1_parcels_4 : decode cX1_parcels 4 = .ok (.invokeinterface 85 1, 5) := by decide +kernel
theorem dX1_parcels_9 : decode cX1_parcels 9 = .ok (.ireturn, 1) := dk_172 (dk_at dksX1_parcels_0 9 rfl rfl)
abbrev cX1_day : ByteArray := prog_1_method_55_code
def yX1_day : MethodName := ⟨RX1, "day", "()I"⟩
theorem dX1_day_0 : decode cX1_day 0 = .ok (.aload_n 0, 1) := by decide +kernel
theorem dX1_day_1 : decode cX1_day 1 = .ok (.getfield 430, 3) := by decide +kernel
theorem dX1_day_4 : decode cX1_day 4 = .ok (.ireturn, 1) := by decide +kernel
abbrev cX1_attempts : ByteArray := prog_1_method_56_code
def yX1_attempts : MethodName := ⟨RX1, "attempts", "()I"⟩
def dkwX1_attempts_0 : List UInt8 := [42, 180, 0, 66, 185, 0, 85, 1, 0, 172]
abbrev dktX1_attempts_0 : List UInt8 := dkwX1_attempts_0 ++ []
theorem dksX1_attempts_0 : cX1_attempts.data.toList.drop 0 = dktX1_attempts_0 := by decide +kernel
theorem dX1_attempts_0 : decode cX1_attempts 0 = .ok (.aload_n 0, 1) := dk_42 (dk_at dksX1_attempts_0 0 rfl rfl)
theorem dX1_attempts_1 : decode cX1_attempts 1 = .ok (.getfield 66, 3) := dk_180 0 66 (dk_at dksX1_attempts_0 1 rfl rfl)
theorem dX1_attempts_4 : decode cX1_attempts 4 = .ok (.invokeinterface 85 1, 5) := by decide +kernel
theorem dX1_attempts_9 : decode cX1_attempts 9 = .ok (.ireturn, 1) := dk_172 (dk_at dksX1_attempts_0 9 rfl rfl)
abbrev cX1_givenUp : ByteArray := prog_1_method_72_code
def yX1_givenUp : MethodName := ⟨RX1, "givenUp", "()I"⟩
theorem dX1_givenUp_0 : decode cX1_givenUp 0 = .ok (.aload_n 0, 1) := by decide +kernel
theorem dX1_givenUp_1 : decode cX1_givenUp 1 = .ok (.getfield 400, 3) := by decide +kernel
theorem dX1_givenUp_4 : decode cX1_givenUp 4 = .ok (.ireturn, 1) := by decide +kernel
abbrev cX1_givenUpThoughKnown : ByteArray := prog_1_method_73_code
def yX1_givenUpThoughKnown : MethodName := ⟨RX1, "givenUpThoughKnown", "()I"⟩
theorem dX1_givenUpThoughKnown_0 : decode cX1_givenUpThoughKnown 0 = .ok (.aload_n 0, 1) := by decide +kernel
theorem dX1_givenUpThoughKnown_1 : decode cX1_givenUpThoughKnown 1 = .ok (.getfield 405, 3) := by decide +kernel
theorem dX1_givenUpThoughKnown_4 : decode cX1_givenUpThoughKnown 4 = .ok (.ireturn, 1) := by decide +kernel
abbrev cX1_errors : ByteArray := prog_1_method_74_code
def yX1_errors : MethodName := ⟨RX1, "errors", "()I"⟩
def dkwX1_errors_8 : List UInt8 := [132, 4, 1, 167, 255, 209, 132, 3, 1, 167, 255, 194, 28, 172]
abbrev dktX1_errors_8 : List UInt8 := dkwX1_errors_8 ++ []
def dkwX1_errors_7 : List UInt8 := [185, 0, 99, 2, 0, 192, 0, 196, 180, 0, 210, 21, 4, 46, 160, 0, 7, 3, 167, 0, 4, 4, 96, 61]
abbrev dktX1_errors_7 : List UInt8 := dkwX1_errors_7 ++ dktX1_errors_8
def dkwX1_errors_6 : List UInt8 := [3, 54, 4, 21, 4, 17, 1, 128, 162, 0, 45, 28, 43, 29, 50, 21, 4, 46, 42, 180, 0, 57, 29]
abbrev dktX1_errors_6 : List UInt8 := dkwX1_errors_6 ++ dktX1_errors_7
def dkwX1_errors_5 : List UInt8 := [167, 0, 8, 42, 43, 182, 1, 229, 132, 2, 1, 167, 255, 147, 3, 61, 3, 62, 29, 43, 190, 162, 0, 62]
abbrev dktX1_errors_5 : List UInt8 := dkwX1_errors_5 ++ dktX1_errors_6
def dkwX1_errors_4 : List UInt8 := [167, 0, 31, 45, 193, 1, 153, 153, 0, 19, 45, 192, 1, 153, 58, 5, 42, 25, 5, 43, 182, 1, 183]
abbrev dktX1_errors_4 : List UInt8 := dkwX1_errors_4 ++ dktX1_errors_5
def dkwX1_errors_3 : List UInt8 := [42, 180, 0, 22, 43, 25, 4, 182, 2, 16, 50, 25, 4, 182, 2, 17, 46, 185, 0, 222, 2, 0, 79]
abbrev dktX1_errors_3 : List UInt8 := dkwX1_errors_3 ++ dktX1_errors_4
def dkwX1_errors_2 : List UInt8 := [193, 0, 227, 153, 0, 47, 45, 192, 0, 227, 58, 4, 43, 25, 4, 182, 2, 16, 50, 25, 4, 182, 2, 17]
abbrev dktX1_errors_2 : List UInt8 := dkwX1_errors_2 ++ dktX1_errors_3
def dkwX1_errors_1 : List UInt8 := [185, 0, 85, 1, 0, 162, 0, 102, 42, 180, 0, 63, 28, 185, 0, 99, 2, 0, 192, 2, 14, 78, 45]
abbrev dktX1_errors_1 : List UInt8 := dkwX1_errors_1 ++ dktX1_errors_2
def dkwX1_errors_0 : List UInt8 := [42, 180, 0, 57, 185, 0, 85, 1, 0, 17, 1, 128, 197, 2, 12, 2, 76, 3, 61, 28, 42, 180, 0, 63]
abbrev dktX1_errors_0 : List UInt8 := dkwX1_errors_0 ++ dktX1_errors_1
theorem dksX1_errors_0 : cX1_errors.data.toList.drop 0 = dktX1_errors_0 := by decide +kernel
theorem dksX1_errors_1 : cX1_errors.data.toList.drop 24 = dktX1_errors_1 := dk_seg dksX1_errors_0 24 rfl rfl
theorem dksX1_errors_2 : cX1_errors.data.toList.drop 47 = dktX1_errors_2 := dk_seg dksX1_errors_1 23 rfl rfl
theorem dksX1_errors_3 : cX1_errors.data.toList.drop 71 = dktX1_errors_3 := dk_seg dksX1_errors_2 24 rfl rfl
theorem dksX1_errors_4 : cX1_errors.data.toList.drop 94 = dktX1_errors_4 := dk_seg dksX1_errors_3 23 rfl rfl
theorem dksX1_errors_5 : cX1_errors.data.toList.drop 117 = dktX1_errors_5 := dk_seg dksX1_errors_4 23 rfl rfl
theorem dksX1_errors_6 : cX1_errors.data.toList.drop 141 = dktX1_errors_6 := dk_seg dksX1_errors_5 24 rfl rfl
theorem dksX1_errors_7 : cX1_errors.data.toList.drop 164 = dktX1_errors_7 := dk_seg dksX1_errors_6 23 rfl rfl
theorem dksX1_errors_8 : cX1_errors.data.toList.drop 188 = dktX1_errors_8 := dk_seg dksX1_errors_7 24 rfl rfl
theorem dX1_errors_0 : decode cX1_errors 0 = .ok (.aload_n 0, 1) := dk_42 (dk_at dksX1_errors_0 0 rfl rfl)
theorem dX1_errors_1 : decode cX1_errors 1 = .ok (.getfield 57, 3) := dk_180 0 57 (dk_at dksX1_errors_0 1 rfl rfl)
theorem dX1_errors_4 : decode cX1_errors 4 = .ok (.invokeinterface 85 1, 5) := by decide +kernel
theorem dX1_errors_9 : decode cX1_errors 9 = .ok (.sipush 384, 3) := dk_17 1 128 (dk_at dksX1_errors_0 9 rfl rfl)
theorem dX1_errors_12 : decode cX1_errors 12 = .ok (.multianewarray 524 2, 4) := by decide +kernel
theorem dX1_errors_16 : decode cX1_errors 16 = .ok (.astore_n 1, 1) := dk_76 (dk_at dksX1_errors_0 16 rfl rfl)
theorem dX1_errors_17 : decode cX1_errors 17 = .ok (.iconst 0, 1) := dk_3 (dk_at dksX1_errors_0 17 rfl rfl)
theorem dX1_errors_18 : decode cX1_errors 18 = .ok (.istore_n 2, 1) := dk_61 (dk_at dksX1_errors_0 18 rfl rfl)
theorem dX1_errors_19 : decode cX1_errors 19 = .ok (.iload_n 2, 1) := dk_28 (dk_at dksX1_errors_0 19 rfl rfl)
theorem dX1_errors_20 : decode cX1_errors 20 = .ok (.aload_n 0, 1) := dk_42 (dk_at dksX1_errors_0 20 rfl rfl)
theorem dX1_errors_21 : decode cX1_errors 21 = .ok (.getfield 63, 3) := dk_180 0 63 (dk_at dksX1_errors_0 21 rfl rfl)
theorem dX1_errors_24 : decode cX1_errors 24 = .ok (.invokeinterface 85 1, 5) := by decide +kernel
theorem dX1_errors_29 : decode cX1_errors 29 = .ok (.if_icmp .ge 102, 3) := dk_162 0 102 (dk_at dksX1_errors_1 5 rfl rfl)
theorem dX1_errors_32 : decode cX1_errors 32 = .ok (.aload_n 0, 1) := dk_42 (dk_at dksX1_errors_1 8 rfl rfl)
theorem dX1_errors_33 : decode cX1_errors 33 = .ok (.getfield 63, 3) := dk_180 0 63 (dk_at dksX1_errors_1 9 rfl rfl)
theorem dX1_errors_36 : decode cX1_errors 36 = .ok (.iload_n 2, 1) := dk_28 (dk_at dksX1_errors_1 12 rfl rfl)
theorem dX1_errors_37 : decode cX1_errors 37 = .ok (.invokeinterface 99 2, 5) := by decide +kernel
theorem dX1_errors_42 : decode cX1_errors 42 = .ok (.checkcast 526, 3) := dk_192 2 14 (dk_at dksX1_errors_1 18 rfl rfl)
theorem dX1_errors_45 : decode cX1_errors 45 = .ok (.astore_n 3, 1) := dk_78 (dk_at dksX1_errors_1 21 rfl rfl)
theorem dX1_errors_46 : decode cX1_errors 46 = .ok (.aload_n 3, 1) := dk_45 (dk_at dksX1_errors_1 22 rfl rfl)
theorem dX1_errors_47 : decode cX1_errors 47 = .ok (.instanceof 227, 3) := dk_193 0 227 (dk_at dksX1_errors_2 0 rfl rfl)
theorem dX1_errors_50 : decode cX1_errors 50 = .ok (.ifCond .eq 47, 3) := dk_153 0 47 (dk_at dksX1_errors_2 3 rfl rfl)
theorem dX1_errors_53 : decode cX1_errors 53 = .ok (.aload_n 3, 1) := dk_45 (dk_at dksX1_errors_2 6 rfl rfl)
theorem dX1_errors_54 : decode cX1_errors 54 = .ok (.checkcast 227, 3) := dk_192 0 227 (dk_at dksX1_errors_2 7 rfl rfl)
theorem dX1_errors_57 : decode cX1_errors 57 = .ok (.astore 4, 2) := dk_58 4 (dk_at dksX1_errors_2 10 rfl rfl)
theorem dX1_errors_59 : decode cX1_errors 59 = .ok (.aload_n 1, 1) := dk_43 (dk_at dksX1_errors_2 12 rfl rfl)
theorem dX1_errors_60 : decode cX1_errors 60 = .ok (.aload 4, 2) := dk_25 4 (dk_at dksX1_errors_2 13 rfl rfl)
theorem dX1_errors_62 : decode cX1_errors 62 = .ok (.invokevirtual 528, 3) := dk_182 2 16 (dk_at dksX1_errors_2 15 rfl rfl)
theorem dX1_errors_65 : decode cX1_errors 65 = .ok (.aaload, 1) := dk_50 (dk_at dksX1_errors_2 18 rfl rfl)
theorem dX1_errors_66 : decode cX1_errors 66 = .ok (.aload 4, 2) := dk_25 4 (dk_at dksX1_errors_2 19 rfl rfl)
theorem dX1_errors_68 : decode cX1_errors 68 = .ok (.invokevirtual 529, 3) := dk_182 2 17 (dk_at dksX1_errors_2 21 rfl rfl)
theorem dX1_errors_71 : decode cX1_errors 71 = .ok (.aload_n 0, 1) := dk_42 (dk_at dksX1_errors_3 0 rfl rfl)
theorem dX1_errors_72 : decode cX1_errors 72 = .ok (.getfield 22, 3) := dk_180 0 22 (dk_at dksX1_errors_3 1 rfl rfl)
theorem dX1_errors_75 : decode cX1_errors 75 = .ok (.aload_n 1, 1) := dk_43 (dk_at dksX1_errors_3 4 rfl rfl)
theorem dX1_errors_76 : decode cX1_errors 76 = .ok (.aload 4, 2) := dk_25 4 (dk_at dksX1_errors_3 5 rfl rfl)
theorem dX1_errors_78 : decode cX1_errors 78 = .ok (.invokevirtual 528, 3) := dk_182 2 16 (dk_at dksX1_errors_3 7 rfl rfl)
theorem dX1_errors_81 : decode cX1_errors 81 = .ok (.aaload, 1) := dk_50 (dk_at dksX1_errors_3 10 rfl rfl)
theorem dX1_errors_82 : decode cX1_errors 82 = .ok (.aload 4, 2) := dk_25 4 (dk_at dksX1_errors_3 11 rfl rfl)
theorem dX1_errors_84 : decode cX1_errors 84 = .ok (.invokevirtual 529, 3) := dk_182 2 17 (dk_at dksX1_errors_3 13 rfl rfl)
theorem dX1_errors_87 : decode cX1_errors 87 = .ok (.iaload, 1) := dk_46 (dk_at dksX1_errors_3 16 rfl rfl)
theorem dX1_errors_88 : decode cX1_errors 88 = .ok (.invokeinterface 222 2, 5) := by decide +kernel
theorem dX1_errors_93 : decode cX1_errors 93 = .ok (.iastore, 1) := dk_79 (dk_at dksX1_errors_3 22 rfl rfl)
theorem dX1_errors_94 : decode cX1_errors 94 = .ok (.goto 31, 3) := dk_167 0 31 (dk_at dksX1_errors_4 0 rfl rfl)
theorem dX1_errors_97 : decode cX1_errors 97 = .ok (.aload_n 3, 1) := dk_45 (dk_at dksX1_errors_4 3 rfl rfl)
theorem dX1_errors_98 : decode cX1_errors 98 = .ok (.instanceof 409, 3) := dk_193 1 153 (dk_at dksX1_errors_4 4 rfl rfl)
theorem dX1_errors_101 : decode cX1_errors 101 = .ok (.ifCond .eq 19, 3) := dk_153 0 19 (dk_at dksX1_errors_4 7 rfl rfl)
theorem dX1_errors_104 : decode cX1_errors 104 = .ok (.aload_n 3, 1) := dk_45 (dk_at dksX1_errors_4 10 rfl rfl)
theorem dX1_errors_105 : decode cX1_errors 105 = .ok (.checkcast 409, 3) := dk_192 1 153 (dk_at dksX1_errors_4 11 rfl rfl)
theorem dX1_errors_108 : decode cX1_errors 108 = .ok (.astore 5, 2) := dk_58 5 (dk_at dksX1_errors_4 14 rfl rfl)
theorem dX1_errors_110 : decode cX1_errors 110 = .ok (.aload_n 0, 1) := dk_42 (dk_at dksX1_errors_4 16 rfl rfl)
theorem dX1_errors_111 : decode cX1_errors 111 = .ok (.aload 5, 2) := dk_25 5 (dk_at dksX1_errors_4 17 rfl rfl)
theorem dX1_errors_113 : decode cX1_errors 113 = .ok (.aload_n 1, 1) := dk_43 (dk_at dksX1_errors_4 19 rfl rfl)
theorem dX1_errors_114 : decode cX1_errors 114 = .ok (.invokevirtual 439, 3) := dk_182 1 183 (dk_at dksX1_errors_4 20 rfl rfl)
theorem dX1_errors_117 : decode cX1_errors 117 = .ok (.goto 8, 3) := dk_167 0 8 (dk_at dksX1_errors_5 0 rfl rfl)
theorem dX1_errors_120 : decode cX1_errors 120 = .ok (.aload_n 0, 1) := dk_42 (dk_at dksX1_errors_5 3 rfl rfl)
theorem dX1_errors_121 : decode cX1_errors 121 = .ok (.aload_n 1, 1) := dk_43 (dk_at dksX1_errors_5 4 rfl rfl)
theorem dX1_errors_122 : decode cX1_errors 122 = .ok (.invokevirtual 485, 3) := dk_182 1 229 (dk_at dksX1_errors_5 5 rfl rfl)
theorem dX1_errors_125 : decode cX1_errors 125 = .ok (.iinc 2 1, 3) := dk_132 2 1 (dk_at dksX1_errors_5 8 rfl rfl)
theorem dX1_errors_128 : decode cX1_errors 128 = .ok (.goto (-109), 3) := dk_167 255 147 (dk_at dksX1_errors_5 11 rfl rfl)
theorem dX1_errors_131 : decode cX1_errors 131 = .ok (.iconst 0, 1) := dk_3 (dk_at dksX1_errors_5 14 rfl rfl)
theorem dX1_errors_132 : decode cX1_errors 132 = .ok (.istore_n 2, 1) := dk_61 (dk_at dksX1_errors_5 15 rfl rfl)
theorem dX1_errors_133 : decode cX1_errors 133 = .ok (.iconst 0, 1) := dk_3 (dk_at dksX1_errors_5 16 rfl rfl)
theorem dX1_errors_134 : decode cX1_errors 134 = .ok (.istore_n 3, 1) := dk_62 (dk_at dksX1_errors_5 17 rfl rfl)
theorem dX1_errors_135 : decode cX1_errors 135 = .ok (.iload_n 3, 1) := dk_29 (dk_at dksX1_errors_5 18 rfl rfl)
theorem dX1_errors_136 : decode cX1_errors 136 = .ok (.aload_n 1, 1) := dk_43 (dk_at dksX1_errors_5 19 rfl rfl)
theorem dX1_errors_137 : decode cX1_errors 137 = .ok (.arraylength, 1) := dk_190 (dk_at dksX1_errors_5 20 rfl rfl)
theorem dX1_errors_138 : decode cX1_errors 138 = .ok (.if_icmp .ge 62, 3) := dk_162 0 62 (dk_at dksX1_errors_5 21 rfl rfl)
theorem dX1_errors_141 : decode cX1_errors 141 = .ok (.iconst 0, 1) := dk_3 (dk_at dksX1_errors_6 0 rfl rfl)
theorem dX1_errors_142 : decode cX1_errors 142 = .ok (.istore 4, 2) := dk_54 4 (dk_at dksX1_errors_6 1 rfl rfl)
theorem dX1_errors_144 : decode cX1_errors 144 = .ok (.iload 4, 2) := dk_21 4 (dk_at dksX1_errors_6 3 rfl rfl)
theorem dX1_errors_146 : decode cX1_errors 146 = .ok (.sipush 384, 3) := dk_17 1 128 (dk_at dksX1_errors_6 5 rfl rfl)
theorem dX1_errors_149 : decode cX1_errors 149 = .ok (.if_icmp .ge 45, 3) := dk_162 0 45 (dk_at dksX1_errors_6 8 rfl rfl)
theorem dX1_errors_152 : decode cX1_errors 152 = .ok (.iload_n 2, 1) := dk_28 (dk_at dksX1_errors_6 11 rfl rfl)
theorem dX1_errors_153 : decode cX1_errors 153 = .ok (.aload_n 1, 1) := dk_43 (dk_at dksX1_errors_6 12 rfl rfl)
theorem dX1_errors_154 : decode cX1_errors 154 = .ok (.iload_n 3, 1) := dk_29 (dk_at dksX1_errors_6 13 rfl rfl)
theorem dX1_errors_155 : decode cX1_errors 155 = .ok (.aaload, 1) := dk_50 (dk_at dksX1_errors_6 14 rfl rfl)
theorem dX1_errors_156 : decode cX1_errors 156 = .ok (.iload 4, 2) := dk_21 4 (dk_at dksX1_errors_6 15 rfl rfl)
theorem dX1_errors_158 : decode cX1_errors 158 = .ok (.iaload, 1) := dk_46 (dk_at dksX1_errors_6 17 rfl rfl)
theorem dX1_errors_159 : decode cX1_errors 159 = .ok (.aload_n 0, 1) := dk_42 (dk_at dksX1_errors_6 18 rfl rfl)
theorem dX1_errors_160 : decode cX1_errors 160 = .ok (.getfield 57, 3) := dk_180 0 57 (dk_at dksX1_errors_6 19 rfl rfl)
theorem dX1_errors_163 : decode cX1_errors 163 = .ok (.iload_n 3, 1) := dk_29 (dk_at dksX1_errors_6 22 rfl rfl)
theorem dX1_errors_164 : decode cX1_errors 164 = .ok (.invokeinterface 99 2, 5) := by decide +kernel
theorem dX1_errors_169 : decode cX1_errors 169 = .ok (.checkcast 196, 3) := dk_192 0 196 (dk_at dksX1_errors_7 5 rfl rfl)
theorem dX1_errors_172 : decode cX1_errors 172 = .ok (.getfield 210, 3) := dk_180 0 210 (dk_at dksX1_errors_7 8 rfl rfl)
theorem dX1_errors_175 : decode cX1_errors 175 = .ok (.iload 4, 2) := dk_21 4 (dk_at dksX1_errors_7 11 rfl rfl)
theorem dX1_errors_177 : decode cX1_errors 177 = .ok (.iaload, 1) := dk_46 (dk_at dksX1_errors_7 13 rfl rfl)
theorem dX1_errors_178 : decode cX1_errors 178 = .ok (.if_icmp .ne 7, 3) := dk_160 0 7 (dk_at dksX1_errors_7 14 rfl rfl)
theorem dX1_errors_181 : decode cX1_errors 181 = .ok (.iconst 0, 1) := dk_3 (dk_at dksX1_errors_7 17 rfl rfl)
theorem dX1_errors_182 : decode cX1_errors 182 = .ok (.goto 4, 3) := dk_167 0 4 (dk_at dksX1_errors_7 18 rfl rfl)
theorem dX1_errors_185 : decode cX1_errors 185 = .ok (.iconst 1, 1) := dk_4 (dk_at dksX1_errors_7 21 rfl rfl)
theorem dX1_errors_186 : decode cX1_errors 186 = .ok (.iadd, 1) := dk_96 (dk_at dksX1_errors_7 22 rfl rfl)
theorem dX1_errors_187 : decode cX1_errors 187 = .ok (.istore_n 2, 1) := dk_61 (dk_at dksX1_errors_7 23 rfl rfl)
theorem dX1_errors_188 : decode cX1_errors 188 = .ok (.iinc 4 1, 3) := dk_132 4 1 (dk_at dksX1_errors_8 0 rfl rfl)
theorem dX1_errors_191 : decode cX1_errors 191 = .ok (.goto (-47), 3) := dk_167 255 209 (dk_at dksX1_errors_8 3 rfl rfl)
theorem dX1_errors_194 : decode cX1_errors 194 = .ok (.iinc 3 1, 3) := dk_132 3 1 (dk_at dksX1_errors_8 6 rfl rfl)
theorem dX1_errors_197 : decode cX1_errors 197 = .ok (.goto (-62), 3) := dk_167 255 194 (dk_at dksX1_errors_8 9 rfl rfl)
theorem dX1_errors_200 : decode cX1_errors 200 = .ok (.iload_n 2, 1) := dk_28 (dk_at dksX1_errors_8 12 rfl rfl)
theorem dX1_errors_201 : decode cX1_errors 201 = .ok (.ireturn, 1) := dk_172 (dk_at dksX1_errors_8 13 rfl rfl)
abbrev cX1_learn : ByteArray := prog_1_method_48_code
def yX1_learn : MethodName := ⟨RX1, "learn", "(LDialectdepot$Tried;[[I)V"⟩
def dkwX1_learn_3 : List UInt8 := [182, 1, 160, 43, 182, 1, 164, 184, 1, 165, 132, 3, 1, 167, 255, 211, 177]
abbrev dktX1_learn_3 : List UInt8 := dkwX1_learn_3 ++ []
def dkwX1_learn_2 : List UInt8 := [153, 0, 38, 43, 182, 1, 169, 29, 184, 1, 118, 153, 0, 21, 42, 180, 0, 26, 44, 29, 50, 43]
abbrev dktX1_learn_2 : List UInt8 := dkwX1_learn_2 ++ dktX1_learn_3
def dkwX1_learn_1 : List UInt8 := [43, 182, 1, 160, 43, 182, 1, 164, 184, 1, 165, 3, 62, 29, 44, 190, 162, 0, 45, 43, 182, 1, 152]
abbrev dktX1_learn_1 : List UInt8 := dkwX1_learn_1 ++ dktX1_learn_2
def dkwX1_learn_0 : List UInt8 := [43, 182, 1, 152, 153, 0, 10, 42, 180, 0, 13, 167, 0, 7, 42, 180, 0, 18, 44, 43, 182, 1, 157, 50]
abbrev dktX1_learn_0 : List UInt8 := dkwX1_learn_0 ++ dktX1_learn_1
theorem dksX1_learn_0 : cX1_learn.data.toList.drop 0 = dktX1_learn_0 := by decide +kernel
theorem dksX1_learn_1 : cX1_learn.data.toList.drop 24 = dktX1_learn_1 := dk_seg dksX1_learn_0 24 rfl rfl
theorem dksX1_learn_2 : cX1_learn.data.toList.drop 47 = dktX1_learn_2 := dk_seg dksX1_learn_1 23 rfl rfl
theorem dksX1_learn_3 : cX1_learn.data.toList.drop 69 = dktX1_learn_3 := dk_seg dksX1_learn_2 22 rfl rfl
theorem dX1_learn_0 : decode cX1_learn 0 = .ok (.aload_n 1, 1) := dk_43 (dk_at dksX1_learn_0 0 rfl rfl)
theorem dX1_learn_1 : decode cX1_learn 1 = .ok (.invokevirtual 408, 3) := dk_182 1 152 (dk_at dksX1_learn_0 1 rfl rfl)
theorem dX1_learn_4 : decode cX1_learn 4 = .ok (.ifCond .eq 10, 3) := dk_153 0 10 (dk_at dksX1_learn_0 4 rfl rfl)
theorem dX1_learn_7 : decode cX1_learn 7 = .ok (.aload_n 0, 1) := dk_42 (dk_at dksX1_learn_0 7 rfl rfl)
theorem dX1_learn_8 : decode cX1_learn 8 = .ok (.getfield 13, 3) := dk_180 0 13 (dk_at dksX1_learn_0 8 rfl rfl)
theorem dX1_learn_11 : decode cX1_learn 11 = .ok (.goto 7, 3) := dk_167 0 7 (dk_at dksX1_learn_0 11 rfl rfl)
theorem dX1_learn_14 : decode cX1_learn 14 = .ok (.aload_n 0, 1) := dk_42 (dk_at dksX1_learn_0 14 rfl rfl)
theorem dX1_learn_15 : decode cX1_learn 15 = .ok (.getfield 18, 3) := dk_180 0 18 (dk_at dksX1_learn_0 15 rfl rfl)
theorem dX1_learn_18 : decode cX1_learn 18 = .ok (.aload_n 2, 1) := dk_44 (dk_at dksX1_learn_0 18 rfl rfl)
theorem dX1_learn_19 : decode cX1_learn 19 = .ok (.aload_n 1, 1) := dk_43 (dk_at dksX1_learn_0 19 rfl rfl)
theorem dX1_learn_20 : decode cX1_learn 20 = .ok (.invokevirtual 413, 3) := dk_182 1 157 (dk_at dksX1_learn_0 20 rfl rfl)
theorem dX1_learn_23 : decode cX1_learn 23 = .ok (.aaload, 1) := dk_50 (dk_at dksX1_learn_0 23 rfl rfl)
theorem dX1_learn_24 : decode cX1_learn 24 = .ok (.aload_n 1, 1) := dk_43 (dk_at dksX1_learn_1 0 rfl rfl)
theorem dX1_learn_25 : decode cX1_learn 25 = .ok (.invokevirtual 416, 3) := dk_182 1 160 (dk_at dksX1_learn_1 1 rfl rfl)
theorem dX1_learn_28 : decode cX1_learn 28 = .ok (.aload_n 1, 1) := dk_43 (dk_at dksX1_learn_1 4 rfl rfl)
theorem dX1_learn_29 : decode cX1_learn 29 = .ok (.invokevirtual 420, 3) := dk_182 1 164 (dk_at dksX1_learn_1 5 rfl rfl)
theorem dX1_learn_32 : decode cX1_learn 32 = .ok (.invokestatic 421, 3) := dk_184 1 165 (dk_at dksX1_learn_1 8 rfl rfl)
theorem dX1_learn_35 : decode cX1_learn 35 = .ok (.iconst 0, 1) := dk_3 (dk_at dksX1_learn_1 11 rfl rfl)
theorem dX1_learn_36 : decode cX1_learn 36 = .ok (.istore_n 3, 1) := dk_62 (dk_at dksX1_learn_1 12 rfl rfl)
theorem dX1_learn_37 : decode cX1_learn 37 = .ok (.iload_n 3, 1) := dk_29 (dk_at dksX1_learn_1 13 rfl rfl)
theorem dX1_learn_38 : decode cX1_learn 38 = .ok (.aload_n 2, 1) := dk_44 (dk_at dksX1_learn_1 14 rfl rfl)
theorem dX1_learn_39 : decode cX1_learn 39 = .ok (.arraylength, 1) := dk_190 (dk_at dksX1_learn_1 15 rfl rfl)
theorem dX1_learn_40 : decode cX1_learn 40 = .ok (.if_icmp .ge 45, 3) := dk_162 0 45 (dk_at dksX1_learn_1 16 rfl rfl)
theorem dX1_learn_43 : decode cX1_learn 43 = .ok (.aload_n 1, 1) := dk_43 (dk_at dksX1_learn_1 19 rfl rfl)
theorem dX1_learn_44 : decode cX1_learn 44 = .ok (.invokevirtual 408, 3) := dk_182 1 152 (dk_at dksX1_learn_1 20 rfl rfl)
theorem dX1_learn_47 : decode cX1_learn 47 = .ok (.ifCond .eq 38, 3) := dk_153 0 38 (dk_at dksX1_learn_2 0 rfl rfl)
theorem dX1_learn_50 : decode cX1_learn 50 = .ok (.aload_n 1, 1) := dk_43 (dk_at dksX1_learn_2 3 rfl rfl)
theorem dX1_learn_51 : decode cX1_learn 51 = .ok (.invokevirtual 425, 3) := dk_182 1 169 (dk_at dksX1_learn_2 4 rfl rfl)
theorem dX1_learn_54 : decode cX1_learn 54 = .ok (.iload_n 3, 1) := dk_29 (dk_at dksX1_learn_2 7 rfl rfl)
theorem dX1_learn_55 : decode cX1_learn 55 = .ok (.invokestatic 374, 3) := dk_184 1 118 (dk_at dksX1_learn_2 8 rfl rfl)
theorem dX1_learn_58 : decode cX1_learn 58 = .ok (.ifCond .eq 21, 3) := dk_153 0 21 (dk_at dksX1_learn_2 11 rfl rfl)
theorem dX1_learn_61 : decode cX1_learn 61 = .ok (.aload_n 0, 1) := dk_42 (dk_at dksX1_learn_2 14 rfl rfl)
theorem dX1_learn_62 : decode cX1_learn 62 = .ok (.getfield 26, 3) := dk_180 0 26 (dk_at dksX1_learn_2 15 rfl rfl)
theorem dX1_learn_65 : decode cX1_learn 65 = .ok (.aload_n 2, 1) := dk_44 (dk_at dksX1_learn_2 18 rfl rfl)
theorem dX1_learn_66 : decode cX1_learn 66 = .ok (.iload_n 3, 1) := dk_29 (dk_at dksX1_learn_2 19 rfl rfl)
theorem dX1_learn_67 : decode cX1_learn 67 = .ok (.aaload, 1) := dk_50 (dk_at dksX1_learn_2 20 rfl rfl)
theorem dX1_learn_68 : decode cX1_learn 68 = .ok (.aload_n 1, 1) := dk_43 (dk_at dksX1_learn_2 21 rfl rfl)
theorem dX1_learn_69 : decode cX1_learn 69 = .ok (.invokevirtual 416, 3) := dk_182 1 160 (dk_at dksX1_learn_3 0 rfl rfl)
theorem dX1_learn_72 : decode cX1_learn 72 = .ok (.aload_n 1, 1) := dk_43 (dk_at dksX1_learn_3 3 rfl rfl)
theorem dX1_learn_73 : decode cX1_learn 73 = .ok (.invokevirtual 420, 3) := dk_182 1 164 (dk_at dksX1_learn_3 4 rfl rfl)
theorem dX1_learn_76 : decode cX1_learn 76 = .ok (.invokestatic 421, 3) := dk_184 1 165 (dk_at dksX1_learn_3 7 rfl rfl)
theorem dX1_learn_79 : decode cX1_learn 79 = .ok (.iinc 3 1, 3) := dk_132 3 1 (dk_at dksX1_learn_3 10 rfl rfl)
theorem dX1_learn_82 : decode cX1_learn 82 = .ok (.goto (-45), 3) := dk_167 255 211 (dk_at dksX1_learn_3 13 rfl rfl)
theorem dX1_learn_85 : decode cX1_learn 85 = .ok (.return_, 1) := dk_177 (dk_at dksX1_learn_3 16 rfl rfl)
abbrev cX1_has : ByteArray := prog_1_method_3_code
def yX1_has : MethodName := ⟨RX1, "has", "(II)Z"⟩
def dkwX1_has_0 : List UInt8 := [26, 27, 124, 4, 126, 4, 160, 0, 7, 4, 167, 0, 4, 3, 172]
abbrev dktX1_has_0 : List UInt8 := dkwX1_has_0 ++ []
theorem dksX1_has_0 : cX1_has.data.toList.drop 0 = dktX1_has_0 := by decide +kernel
theorem dX1_has_0 : decode cX1_has 0 = .ok (.iload_n 0, 1) := dk_26 (dk_at dksX1_has_0 0 rfl rfl)
theorem dX1_has_1 : decode cX1_has 1 = .ok (.iload_n 1, 1) := dk_27 (dk_at dksX1_has_0 1 rfl rfl)
theorem dX1_has_2 : decode cX1_has 2 = .ok (.iushr, 1) := dk_124 (dk_at dksX1_has_0 2 rfl rfl)
theorem dX1_has_3 : decode cX1_has 3 = .ok (.iconst 1, 1) := dk_4 (dk_at dksX1_has_0 3 rfl rfl)
theorem dX1_has_4 : decode cX1_has 4 = .ok (.iand, 1) := dk_126 (dk_at dksX1_has_0 4 rfl rfl)
theorem dX1_has_5 : decode cX1_has 5 = .ok (.iconst 1, 1) := dk_4 (dk_at dksX1_has_0 5 rfl rfl)
theorem dX1_has_6 : decode cX1_has 6 = .ok (.if_icmp .ne 7, 3) := dk_160 0 7 (dk_at dksX1_has_0 6 rfl rfl)
theorem dX1_has_9 : decode cX1_has 9 = .ok (.iconst 1, 1) := dk_4 (dk_at dksX1_has_0 9 rfl rfl)
theorem dX1_has_10 : decode cX1_has 10 = .ok (.goto 4, 3) := dk_167 0 4 (dk_at dksX1_has_0 10 rfl rfl)
theorem dX1_has_13 : decode cX1_has 13 = .ok (.iconst 0, 1) := dk_3 (dk_at dksX1_has_0 13 rfl rfl)
theorem dX1_has_14 : decode cX1_has 14 = .ok (.ireturn, 1) := dk_172 (dk_at dksX1_has_0 14 rfl rfl)
abbrev cX1_forget : ByteArray := prog_1_method_54_code
def yX1_forget : MethodName := ⟨RX1, "forget", "([[I)V"⟩
def dkwX1_forget_2 : List UInt8 := [185, 0, 222, 2, 0, 79, 132, 6, 1, 167, 255, 226, 132, 4, 1, 167, 255, 205, 177]
abbrev dktX1_forget_2 : List UInt8 := dkwX1_forget_2 ++ []
def dkwX1_forget_1 : List UInt8 := [21, 6, 25, 5, 190, 162, 0, 28, 25, 5, 21, 6, 42, 180, 0, 30, 25, 5, 21, 6, 46]
abbrev dktX1_forget_1 : List UInt8 := dkwX1_forget_1 ++ dktX1_forget_2
def dkwX1_forget_0 : List UInt8 := [43, 77, 44, 190, 62, 3, 54, 4, 21, 4, 29, 162, 0, 51, 44, 21, 4, 50, 58, 5, 3, 54, 6]
abbrev dktX1_forget_0 : List UInt8 := dkwX1_forget_0 ++ dktX1_forget_1
theorem dksX1_forget_0 : cX1_forget.data.toList.drop 0 = dktX1_forget_0 := by decide +kernel
theorem dksX1_forget_1 : cX1_forget.data.toList.drop 23 = dktX1_forget_1 := dk_seg dksX1_forget_0 23 rfl rfl
theorem dksX1_forget_2 : cX1_forget.data.toList.drop 44 = dktX1_forget_2 := dk_seg dksX1_forget_1 21 rfl rfl
theorem dX1_forget_0 : decode cX1_forget 0 = .ok (.aload_n 1, 1) := dk_43 (dk_at dksX1_forget_0 0 rfl rfl)
theorem dX1_forget_1 : decode cX1_forget 1 = .ok (.astore_n 2, 1) := dk_77 (dk_at dksX1_forget_0 1 rfl rfl)
theorem dX1_forget_2 : decode cX1_forget 2 = .ok (.aload_n 2, 1) := dk_44 (dk_at dksX1_forget_0 2 rfl rfl)
theorem dX1_forget_3 : decode cX1_forget 3 = .ok (.arraylength, 1) := dk_190 (dk_at dksX1_forget_0 3 rfl rfl)
theorem dX1_forget_4 : decode cX1_forget 4 = .ok (.istore_n 3, 1) := dk_62 (dk_at dksX1_forget_0 4 rfl rfl)
theorem dX1_forget_5 : decode cX1_forget 5 = .ok (.iconst 0, 1) := dk_3 (dk_at dksX1_forget_0 5 rfl rfl)
theorem dX1_forget_6 : decode cX1_forget 6 = .ok (.istore 4, 2) := dk_54 4 (dk_at dksX1_forget_0 6 rfl rfl)
theorem dX1_forget_8 : decode cX1_forget 8 = .ok (.iload 4, 2) := dk_21 4 (dk_at dksX1_forget_0 8 rfl rfl)
theorem dX1_forget_10 : decode cX1_forget 10 = .ok (.iload_n 3, 1) := dk_29 (dk_at dksX1_forget_0 10 rfl rfl)
theorem dX1_forget_11 : decode cX1_forget 11 = .ok (.if_icmp .ge 51, 3) := dk_162 0 51 (dk_at dksX1_forget_0 11 rfl rfl)
theorem dX1_forget_14 : decode cX1_forget 14 = .ok (.aload_n 2, 1) := dk_44 (dk_at dksX1_forget_0 14 rfl rfl)
theorem dX1_forget_15 : decode cX1_forget 15 = .ok (.iload 4, 2) := dk_21 4 (dk_at dksX1_forget_0 15 rfl rfl)
theorem dX1_forget_17 : decode cX1_forget 17 = .ok (.aaload, 1) := dk_50 (dk_at dksX1_forget_0 17 rfl rfl)
theorem dX1_forget_18 : decode cX1_forget 18 = .ok (.astore 5, 2) := dk_58 5 (dk_at dksX1_forget_0 18 rfl rfl)
theorem dX1_forget_20 : decode cX1_forget 20 = .ok (.iconst 0, 1) := dk_3 (dk_at dksX1_forget_0 20 rfl rfl)
theorem dX1_forget_21 : decode cX1_forget 21 = .ok (.istore 6, 2) := dk_54 6 (dk_at dksX1_forget_0 21 rfl rfl)
theorem dX1_forget_23 : decode cX1_forget 23 = .ok (.iload 6, 2) := dk_21 6 (dk_at dksX1_forget_1 0 rfl rfl)
theorem dX1_forget_25 : decode cX1_forget 25 = .ok (.aload 5, 2) := dk_25 5 (dk_at dksX1_forget_1 2 rfl rfl)
theorem dX1_forget_27 : decode cX1_forget 27 = .ok (.arraylength, 1) := dk_190 (dk_at dksX1_forget_1 4 rfl rfl)
theorem dX1_forget_28 : decode cX1_forget 28 = .ok (.if_icmp .ge 28, 3) := dk_162 0 28 (dk_at dksX1_forget_1 5 rfl rfl)
theorem dX1_forget_31 : decode cX1_forget 31 = .ok (.aload 5, 2) := dk_25 5 (dk_at dksX1_forget_1 8 rfl rfl)
theorem dX1_forget_33 : decode cX1_forget 33 = .ok (.iload 6, 2) := dk_21 6 (dk_at dksX1_forget_1 10 rfl rfl)
theorem dX1_forget_35 : decode cX1_forget 35 = .ok (.aload_n 0, 1) := dk_42 (dk_at dksX1_forget_1 12 rfl rfl)
theorem dX1_forget_36 : decode cX1_forget 36 = .ok (.getfield 30, 3) := dk_180 0 30 (dk_at dksX1_forget_1 13 rfl rfl)
theorem dX1_forget_39 : decode cX1_forget 39 = .ok (.aload 5, 2) := dk_25 5 (dk_at dksX1_forget_1 16 rfl rfl)
theorem dX1_forget_41 : decode cX1_forget 41 = .ok (.iload 6, 2) := dk_21 6 (dk_at dksX1_forget_1 18 rfl rfl)
theorem dX1_forget_43 : decode cX1_forget 43 = .ok (.iaload, 1) := dk_46 (dk_at dksX1_forget_1 20 rfl rfl)
theorem dX1_forget_44 : decode cX1_forget 44 = .ok (.invokeinterface 222 2, 5) := by decide +kernel
theorem dX1_forget_49 : decode cX1_forget 49 = .ok (.iastore, 1) := dk_79 (dk_at dksX1_forget_2 5 rfl rfl)
theorem dX1_forget_50 : decode cX1_forget 50 = .ok (.iinc 6 1, 3) := dk_132 6 1 (dk_at dksX1_forget_2 6 rfl rfl)
theorem dX1_forget_53 : decode cX1_forget 53 = .ok (.goto (-30), 3) := dk_167 255 226 (dk_at dksX1_forget_2 9 rfl rfl)
theorem dX1_forget_56 : decode cX1_forget 56 = .ok (.iinc 4 1, 3) := dk_132 4 1 (dk_at dksX1_forget_2 12 rfl rfl)
theorem dX1_forget_59 : decode cX1_forget 59 = .ok (.goto (-51), 3) := dk_167 255 205 (dk_at dksX1_forget_2 15 rfl rfl)
theorem dX1_forget_62 : decode cX1_forget 62 = .ok (.return_, 1) := dk_177 (dk_at dksX1_forget_2 18 rfl rfl)
abbrev cX1_meanAttempts : ByteArray := prog_1_method_75_code
def yX1_meanAttempts : MethodName := ⟨RX1, "meanAttempts", "()D"⟩
def dkwX1_meanAttempts_3 : List UInt8 := [167, 255, 195, 42, 180, 1, 233, 154, 0, 7, 14, 167, 0, 11, 27, 135, 42, 180, 1, 233, 135, 111, 175]
abbrev dktX1_meanAttempts_3 : List UInt8 := dkwX1_meanAttempts_3 ++ []
def dkwX1_meanAttempts_2 : List UInt8 := [185, 0, 99, 2, 0, 192, 1, 49, 180, 1, 64, 4, 96, 167, 0, 4, 3, 96, 60, 132, 2, 1]
abbrev dktX1_meanAttempts_2 : List UInt8 := dkwX1_meanAttempts_2 ++ dktX1_meanAttempts_3
def dkwX1_meanAttempts_1 : List UInt8 := [185, 0, 99, 2, 0, 192, 1, 49, 180, 1, 61, 4, 160, 0, 24, 42, 180, 0, 60, 28]
abbrev dktX1_meanAttempts_1 : List UInt8 := dkwX1_meanAttempts_1 ++ dktX1_meanAttempts_2
def dkwX1_meanAttempts_0 : List UInt8 := [3, 60, 3, 61, 28, 42, 180, 0, 60, 185, 0, 85, 1, 0, 162, 0, 54, 27, 42, 180, 0, 60, 28]
abbrev dktX1_meanAttempts_0 : List UInt8 := dkwX1_meanAttempts_0 ++ dktX1_meanAttempts_1
theorem dksX1_meanAttempts_0 : cX1_meanAttempts.data.toList.drop 0 = dktX1_meanAttempts_0 := by decide +kernel
theorem dksX1_meanAttempts_1 : cX1_meanAttempts.data.toList.drop 23 = dktX1_meanAttempts_1 := dk_seg dksX1_meanAttempts_0 23 rfl rfl
theorem dksX1_meanAttempts_2 : cX1_meanAttempts.data.toList.drop 43 = dktX1_meanAttempts_2 := dk_seg dksX1_meanAttempts_1 20 rfl rfl
theorem dksX1_meanAttempts_3 : cX1_meanAttempts.data.toList.drop 65 = dktX1_meanAttempts_3 := dk_seg dksX1_meanAttempts_2 22 rfl rfl
theorem dX1_meanAttempts_0 : decode cX1_meanAttempts 0 = .ok (.iconst 0, 1) := dk_3 (dk_at dksX1_meanAttempts_0 0 rfl rfl)
theorem dX1_meanAttempts_1 : decode cX1_meanAttempts 1 = .ok (.istore_n 1, 1) := dk_60 (dk_at dksX1_meanAttempts_0 1 rfl rfl)
theorem dX1_meanAttempts_2 : decode cX1_meanAttempts 2 = .ok (.iconst 0, 1) := dk_3 (dk_at dksX1_meanAttempts_0 2 rfl rfl)
theorem dX1_meanAttempts_3 : decode cX1_meanAttempts 3 = .ok (.istore_n 2, 1) := dk_61 (dk_at dksX1_meanAttempts_0 3 rfl rfl)
theorem dX1_meanAttempts_4 : decode cX1_meanAttempts 4 = .ok (.iload_n 2, 1) := dk_28 (dk_at dksX1_meanAttempts_0 4 rfl rfl)
theorem dX1_meanAttempts_5 : decode cX1_meanAttempts 5 = .ok (.aload_n 0, 1) := dk_42 (dk_at dksX1_meanAttempts_0 5 rfl rfl)
theorem dX1_meanAttempts_6 : decode cX1_meanAttempts 6 = .ok (.getfield 60, 3) := dk_180 0 60 (dk_at dksX1_meanAttempts_0 6 rfl rfl)
theorem dX1_meanAttempts_9 : decode cX1_meanAttempts 9 = .ok (.invokeinterface 85 1, 5) := by decide +kernel
theorem dX1_meanAttempts_14 : decode cX1_meanAttempts 14 = .ok (.if_icmp .ge 54, 3) := dk_162 0 54 (dk_at dksX1_meanAttempts_0 14 rfl rfl)
theorem dX1_meanAttempts_17 : decode cX1_meanAttempts 17 = .ok (.iload_n 1, 1) := dk_27 (dk_at dksX1_meanAttempts_0 17 rfl rfl)
theorem dX1_meanAttempts_18 : decode cX1_meanAttempts 18 = .ok (.aload_n 0, 1) := dk_42 (dk_at dksX1_meanAttempts_0 18 rfl rfl)
theorem dX1_meanAttempts_19 : decode cX1_meanAttempts 19 = .ok (.getfield 60, 3) := dk_180 0 60 (dk_at dksX1_meanAttempts_0 19 rfl rfl)
theorem dX1_meanAttempts_22 : decode cX1_meanAttempts 22 = .ok (.iload_n 2, 1) := dk_28 (dk_at dksX1_meanAttempts_0 22 rfl rfl)
theorem dX1_meanAttempts_23 : decode cX1_meanAttempts 23 = .ok (.invokeinterface 99 2, 5) := by decide +kernel
theorem dX1_meanAttempts_28 : decode cX1_meanAttempts 28 = .ok (.checkcast 305, 3) := dk_192 1 49 (dk_at dksX1_meanAttempts_1 5 rfl rfl)
theorem dX1_meanAttempts_31 : decode cX1_meanAttempts 31 = .ok (.getfield 317, 3) := dk_180 1 61 (dk_at dksX1_meanAttempts_1 8 rfl rfl)
theorem dX1_meanAttempts_34 : decode cX1_meanAttempts 34 = .ok (.iconst 1, 1) := dk_4 (dk_at dksX1_meanAttempts_1 11 rfl rfl)
theorem dX1_meanAttempts_35 : decode cX1_meanAttempts 35 = .ok (.if_icmp .ne 24, 3) := dk_160 0 24 (dk_at dksX1_meanAttempts_1 12 rfl rfl)
theorem dX1_meanAttempts_38 : decode cX1_meanAttempts 38 = .ok (.aload_n 0, 1) := dk_42 (dk_at dksX1_meanAttempts_1 15 rfl rfl)
theorem dX1_meanAttempts_39 : decode cX1_meanAttempts 39 = .ok (.getfield 60, 3) := dk_180 0 60 (dk_at dksX1_meanAttempts_1 16 rfl rfl)
theorem dX1_meanAttempts_42 : decode cX1_meanAttempts 42 = .ok (.iload_n 2, 1) := dk_28 (dk_at dksX1_meanAttempts_1 19 rfl rfl)
theorem dX1_meanAttempts_43 : decode cX1_meanAttempts 43 = .ok (.invokeinterface 99 2, 5) := by decide +kernel
theorem dX1_meanAttempts_48 : decode cX1_meanAttempts 48 = .ok (.checkcast 305, 3) := dk_192 1 49 (dk_at dksX1_meanAttempts_2 5 rfl rfl)
theorem dX1_meanAttempts_51 : decode cX1_meanAttempts 51 = .ok (.getfield 320, 3) := dk_180 1 64 (dk_at dksX1_meanAttempts_2 8 rfl rfl)
theorem dX1_meanAttempts_54 : decode cX1_meanAttempts 54 = .ok (.iconst 1, 1) := dk_4 (dk_at dksX1_meanAttempts_2 11 rfl rfl)
theorem dX1_meanAttempts_55 : decode cX1_meanAttempts 55 = .ok (.iadd, 1) := dk_96 (dk_at dksX1_meanAttempts_2 12 rfl rfl)
theorem dX1_meanAttempts_56 : decode cX1_meanAttempts 56 = .ok (.goto 4, 3) := dk_167 0 4 (dk_at dksX1_meanAttempts_2 13 rfl rfl)
theorem dX1_meanAttempts_59 : decode cX1_meanAttempts 59 = .ok (.iconst 0, 1) := dk_3 (dk_at dksX1_meanAttempts_2 16 rfl rfl)
theorem dX1_meanAttempts_60 : decode cX1_meanAttempts 60 = .ok (.iadd, 1) := dk_96 (dk_at dksX1_meanAttempts_2 17 rfl rfl)
theorem dX1_meanAttempts_61 : decode cX1_meanAttempts 61 = .ok (.istore_n 1, 1) := dk_60 (dk_at dksX1_meanAttempts_2 18 rfl rfl)
theorem dX1_meanAttempts_62 : decode cX1_meanAttempts 62 = .ok (.iinc 2 1, 3) := dk_132 2 1 (dk_at dksX1_meanAttempts_2 19 rfl rfl)
theorem dX1_meanAttempts_65 : decode cX1_meanAttempts 65 = .ok (.goto (-61), 3) := dk_167 255 195 (dk_at dksX1_meanAttempts_3 0 rfl rfl)
theorem dX1_meanAttempts_68 : decode cX1_meanAttempts 68 = .ok (.aload_n 0, 1) := dk_42 (dk_at dksX1_meanAttempts_3 3 rfl rfl)
theorem dX1_meanAttempts_69 : decode cX1_meanAttempts 69 = .ok (.getfield 489, 3) := dk_180 1 233 (dk_at dksX1_meanAttempts_3 4 rfl rfl)
theorem dX1_meanAttempts_72 : decode cX1_meanAttempts 72 = .ok (.ifCond .ne 7, 3) := dk_154 0 7 (dk_at dksX1_meanAttempts_3 7 rfl rfl)
theorem dX1_meanAttempts_75 : decode cX1_meanAttempts 75 = .ok (.dconst 0, 1) := dk_14 (dk_at dksX1_meanAttempts_3 10 rfl rfl)
theorem dX1_meanAttempts_76 : decode cX1_meanAttempts 76 = .ok (.goto 11, 3) := dk_167 0 11 (dk_at dksX1_meanAttempts_3 11 rfl rfl)
theorem dX1_meanAttempts_79 : decode cX1_meanAttempts 79 = .ok (.iload_n 1, 1) := dk_27 (dk_at dksX1_meanAttempts_3 14 rfl rfl)
theorem dX1_meanAttempts_80 : decode cX1_meanAttempts 80 = .ok (.i2d, 1) := dk_135 (dk_at dksX1_meanAttempts_3 15 rfl rfl)
theorem dX1_meanAttempts_81 : decode cX1_meanAttempts 81 = .ok (.aload_n 0, 1) := dk_42 (dk_at dksX1_meanAttempts_3 16 rfl rfl)
theorem dX1_meanAttempts_82 : decode cX1_meanAttempts 82 = .ok (.getfield 489, 3) := dk_180 1 233 (dk_at dksX1_meanAttempts_3 17 rfl rfl)
theorem dX1_meanAttempts_85 : decode cX1_meanAttempts 85 = .ok (.i2d, 1) := dk_135 (dk_at dksX1_meanAttempts_3 20 rfl rfl)
theorem dX1_meanAttempts_86 : decode cX1_meanAttempts 86 = .ok (.ddiv, 1) := dk_111 (dk_at dksX1_meanAttempts_3 21 rfl rfl)
theorem dX1_meanAttempts_87 : decode cX1_meanAttempts 87 = .ok (.dreturn, 1) := dk_175 (dk_at dksX1_meanAttempts_3 22 rfl rfl)
abbrev cX1_deliveredShare : ByteArray := prog_1_method_76_code
def yX1_deliveredShare : MethodName := ⟨RX1, "deliveredShare", "()F"⟩
def dkwX1_deliveredShare_1 : List UInt8 := [180, 0, 66, 185, 0, 85, 1, 0, 134, 110, 174]
abbrev dktX1_deliveredShare_1 : List UInt8 := dkwX1_deliveredShare_1 ++ []
def dkwX1_deliveredShare_0 : List UInt8 := [42, 180, 0, 66, 185, 2, 18, 1, 0, 153, 0, 7, 11, 167, 0, 19, 42, 180, 1, 233, 134, 42]
abbrev dktX1_deliveredShare_0 : List UInt8 := dkwX1_deliveredShare_0 ++ dktX1_deliveredShare_1
theorem dksX1_deliveredShare_0 : cX1_deliveredShare.data.toList.drop 0 = dktX1_deliveredShare_0 := by decide +kernel
theorem dksX1_deliveredShare_1 : cX1_deliveredShare.data.toList.drop 22 = dktX1_deliveredShare_1 := dk_seg dksX1_deliveredShare_0 22 rfl rfl
theorem dX1_deliveredShare_0 : decode cX1_deliveredShare 0 = .ok (.aload_n 0, 1) := dk_42 (dk_at dksX1_deliveredShare_0 0 rfl rfl)
theorem dX1_deliveredShare_1 : decode cX1_deliveredShare 1 = .ok (.getfield 66, 3) := dk_180 0 66 (dk_at dksX1_deliveredShare_0 1 rfl rfl)
theorem dX1_deliveredShare_4 : decode cX1_deliveredShare 4 = .ok (.invokeinterface 530 1, 5) := by decide +kernel
theorem dX1_deliveredShare_9 : decode cX1_deliveredShare 9 = .ok (.ifCond .eq 7, 3) := dk_153 0 7 (dk_at dksX1_deliveredShare_0 9 rfl rfl)
theorem dX1_deliveredShare_12 : decode cX1_deliveredShare 12 = .ok (.fconst 0, 1) := dk_11 (dk_at dksX1_deliveredShare_0 12 rfl rfl)
theorem dX1_deliveredShare_13 : decode cX1_deliveredShare 13 = .ok (.goto 19, 3) := dk_167 0 19 (dk_at dksX1_deliveredShare_0 13 rfl rfl)
theorem dX1_deliveredShare_16 : decode cX1_deliveredShare 16 = .ok (.aload_n 0, 1) := dk_42 (dk_at dksX1_deliveredShare_0 16 rfl rfl)
theorem dX1_deliveredShare_17 : decode cX1_deliveredShare 17 = .ok (.getfield 489, 3) := dk_180 1 233 (dk_at dksX1_deliveredShare_0 17 rfl rfl)
theorem dX1_deliveredShare_20 : decode cX1_deliveredShare 20 = .ok (.i2f, 1) := dk_134 (dk_at dksX1_deliveredShare_0 20 rfl rfl)
theorem dX1_deliveredShare_21 : decode cX1_deliveredShare 21 = .ok (.aload_n 0, 1) := dk_42 (dk_at dksX1_deliveredShare_0 21 rfl rfl)
theorem dX1_deliveredShare_22 : decode cX1_deliveredShare 22 = .ok (.getfield 66, 3) := dk_180 0 66 (dk_at dksX1_deliveredShare_1 0 rfl rfl)
theorem dX1_deliveredShare_25 : decode cX1_deliveredShare 25 = .ok (.invokeinterface 85 1, 5) := by decide +kernel
theorem dX1_deliveredShare_30 : decode cX1_deliveredShare 30 = .ok (.i2f, 1) := dk_134 (dk_at dksX1_deliveredShare_1 8 rfl rfl)
theorem dX1_deliveredShare_31 : decode cX1_deliveredShare 31 = .ok (.fdiv, 1) := dk_110 (dk_at dksX1_deliveredShare_1 9 rfl rfl)
theorem dX1_deliveredShare_32 : decode cX1_deliveredShare 32 = .ok (.freturn, 1) := dk_174 (dk_at dksX1_deliveredShare_1 10 rfl rfl)
abbrev cX1_addStreet : ByteArray := prog_1_method_11_code
def yX1_addStreet : MethodName := ⟨RX1, "addStreet", "()I"⟩
def dkwX1_addStreet_1 : List UInt8 := [181, 0, 103, 42, 180, 0, 103, 4, 100, 172]
abbrev dktX1_addStreet_1 : List UInt8 := dkwX1_addStreet_1 ++ []
def dkwX1_addStreet_0 : List UInt8 := [42, 180, 0, 103, 16, 8, 162, 0, 7, 4, 167, 0, 4, 3, 184, 0, 110, 42, 89, 180, 0, 103, 4, 96]
abbrev dktX1_addStreet_0 : List UInt8 := dkwX1_addStreet_0 ++ dktX1_addStreet_1
theorem dksX1_addStreet_0 : cX1_addStreet.data.toList.drop 0 = dktX1_addStreet_0 := by decide +kernel
theorem dksX1_addStreet_1 : cX1_addStreet.data.toList.drop 24 = dktX1_addStreet_1 := dk_seg dksX1_addStreet_0 24 rfl rfl
theorem dX1_addStreet_0 : decode cX1_addStreet 0 = .ok (.aload_n 0, 1) := dk_42 (dk_at dksX1_addStreet_0 0 rfl rfl)
theorem dX1_addStreet_1 : decode cX1_addStreet 1 = .ok (.getfield 103, 3) := dk_180 0 103 (dk_at dksX1_addStreet_0 1 rfl rfl)
theorem dX1_addStreet_4 : decode cX1_addStreet 4 = .ok (.bipush 8, 2) := dk_16 8 (dk_at dksX1_addStreet_0 4 rfl rfl)
theorem dX1_addStreet_6 : decode cX1_addStreet 6 = .ok (.if_icmp .ge 7, 3) := dk_162 0 7 (dk_at dksX1_addStreet_0 6 rfl rfl)
theorem dX1_addStreet_9 : decode cX1_addStreet 9 = .ok (.iconst 1, 1) := dk_4 (dk_at dksX1_addStreet_0 9 rfl rfl)
theorem dX1_addStreet_10 : decode cX1_addStreet 10 = .ok (.goto 4, 3) := dk_167 0 4 (dk_at dksX1_addStreet_0 10 rfl rfl)
theorem dX1_addStreet_13 : decode cX1_addStreet 13 = .ok (.iconst 0, 1) := dk_3 (dk_at dksX1_addStreet_0 13 rfl rfl)
theorem dX1_addStreet_14 : decode cX1_addStreet 14 = .ok (.invokestatic 110, 3) := dk_184 0 110 (dk_at dksX1_addStreet_0 14 rfl rfl)
theorem dX1_addStreet_17 : decode cX1_addStreet 17 = .ok (.aload_n 0, 1) := dk_42 (dk_at dksX1_addStreet_0 17 rfl rfl)
theorem dX1_addStreet_18 : decode cX1_addStreet 18 = .ok (.dup, 1) := dk_89 (dk_at dksX1_addStreet_0 18 rfl rfl)
theorem dX1_addStreet_19 : decode cX1_addStreet 19 = .ok (.getfield 103, 3) := dk_180 0 103 (dk_at dksX1_addStreet_0 19 rfl rfl)
theorem dX1_addStreet_22 : decode cX1_addStreet 22 = .ok (.iconst 1, 1) := dk_4 (dk_at dksX1_addStreet_0 22 rfl rfl)
theorem dX1_addStreet_23 : decode cX1_addStreet 23 = .ok (.iadd, 1) := dk_96 (dk_at dksX1_addStreet_0 23 rfl rfl)
theorem dX1_addStreet_24 : decode cX1_addStreet 24 = .ok (.putfield 103, 3) := dk_181 0 103 (dk_at dksX1_addStreet_1 0 rfl rfl)
theorem dX1_addStreet_27 : decode cX1_addStreet 27 = .ok (.aload_n 0, 1) := dk_42 (dk_at dksX1_addStreet_1 3 rfl rfl)
theorem dX1_addStreet_28 : decode cX1_addStreet 28 = .ok (.getfield 103, 3) := dk_180 0 103 (dk_at dksX1_addStreet_1 4 rfl rfl)
theorem dX1_addStreet_31 : decode cX1_addStreet 31 = .ok (.iconst 1, 1) := dk_4 (dk_at dksX1_addStreet_1 7 rfl rfl)
theorem dX1_addStreet_32 : decode cX1_addStreet 32 = .ok (.isub, 1) := dk_100 (dk_at dksX1_addStreet_1 8 rfl rfl)
theorem dX1_addStreet_33 : decode cX1_addStreet 33 = .ok (.ireturn, 1) := dk_172 (dk_at dksX1_addStreet_1 9 rfl rfl)
abbrev cX1_allow : ByteArray := prog_1_method_6_code
def yX1_allow : MethodName := ⟨RX1, "allow", "(Z)V"⟩
def dkwX1_allow_0 : List UInt8 := [26, 154, 0, 11, 187, 0, 79, 89, 183, 0, 81, 191, 177]
abbrev dktX1_allow_0 : List UInt8 := dkwX1_allow_0 ++ []
theorem dksX1_allow_0 : cX1_allow.data.toList.drop 0 = dktX1_allow_0 := by decide +kernel
theorem dX1_allow_0 : decode cX1_allow 0 = .ok (.iload_n 0, 1) := dk_26 (dk_at dksX1_allow_0 0 rfl rfl)
theorem dX1_allow_1 : decode cX1_allow 1 = .ok (.ifCond .ne 11, 3) := dk_154 0 11 (dk_at dksX1_allow_0 1 rfl rfl)
theorem dX1_allow_4 : decode cX1_allow 4 = .ok (.new 79, 3) := dk_187 0 79 (dk_at dksX1_allow_0 4 rfl rfl)
theorem dX1_allow_7 : decode cX1_allow 7 = .ok (.dup, 1) := dk_89 (dk_at dksX1_allow_0 7 rfl rfl)
theorem dX1_allow_8 : decode cX1_allow 8 = .ok (.invokespecial 81, 3) := dk_183 0 81 (dk_at dksX1_allow_0 8 rfl rfl)
theorem dX1_allow_11 : decode cX1_allow 11 = .ok (.athrow, 1) := dk_191 (dk_at dksX1_allow_0 11 rfl rfl)
theorem dX1_allow_12 : decode cX1_allow 12 = .ok (.return_, 1) := dk_177 (dk_at dksX1_allow_0 12 rfl rfl)
abbrev cX1_addName : ByteArray := prog_1_method_15_code
def yX1_addName : MethodName := ⟨RX1, "addName", "()I"⟩
def dkwX1_addName_4 : List UInt8 := [100, 172]
abbrev dktX1_addName_4 : List UInt8 := dkwX1_addName_4 ++ []
def dkwX1_addName_3 : List UInt8 := [185, 0, 155, 2, 0, 87, 42, 180, 0, 72, 3, 182, 0, 158, 42, 180, 0, 50, 185, 0, 85, 1, 0, 4]
abbrev dktX1_addName_3 : List UInt8 := dkwX1_addName_3 ++ dktX1_addName_4
def dkwX1_addName_2 : List UInt8 := [180, 0, 50, 187, 0, 113, 89, 42, 180, 0, 50, 185, 0, 85, 1, 0, 43, 183, 0, 152]
abbrev dktX1_addName_2 : List UInt8 := dkwX1_addName_2 ++ dktX1_addName_3
def dkwX1_addName_1 : List UInt8 := [184, 0, 144, 153, 0, 15, 42, 43, 182, 0, 148, 199, 0, 7, 4, 167, 0, 4, 3, 184, 0, 110, 42]
abbrev dktX1_addName_1 : List UInt8 := dkwX1_addName_1 ++ dktX1_addName_2
def dkwX1_addName_0 : List UInt8 := [42, 180, 0, 72, 182, 0, 140, 76, 42, 180, 0, 50, 185, 0, 85, 1, 0, 16, 12, 162, 0, 22, 43]
abbrev dktX1_addName_0 : List UInt8 := dkwX1_addName_0 ++ dktX1_addName_1
theorem dksX1_addName_0 : cX1_addName.data.toList.drop 0 = dktX1_addName_0 := by decide +kernel
theorem dksX1_addName_1 : cX1_addName.data.toList.drop 23 = dktX1_addName_1 := dk_seg dksX1_addName_0 23 rfl rfl
theorem dksX1_addName_2 : cX1_addName.data.toList.drop 46 = dktX1_addName_2 := dk_seg dksX1_addName_1 23 rfl rfl
theorem dksX1_addName_3 : cX1_addName.data.toList.drop 66 = dktX1_addName_3 := dk_seg dksX1_addName_2 20 rfl rfl
theorem dksX1_addName_4 : cX1_addName.data.toList.drop 90 = dktX1_addName_4 := dk_seg dksX1_addName_3 24 rfl rfl
theorem dX1_addName_0 : decode cX1_addName 0 = .ok (.aload_n 0, 1) := dk_42 (dk_at dksX1_addName_0 0 rfl rfl)
theorem dX1_addName_1 : decode cX1_addName 1 = .ok (.getfield 72, 3) := dk_180 0 72 (dk_at dksX1_addName_0 1 rfl rfl)
theorem dX1_addName_4 : decode cX1_addName 4 = .ok (.invokevirtual 140, 3) := dk_182 0 140 (dk_at dksX1_addName_0 4 rfl rfl)
theorem dX1_addName_7 : decode cX1_addName 7 = .ok (.astore_n 1, 1) := dk_76 (dk_at dksX1_addName_0 7 rfl rfl)
theorem dX1_addName_8 : decode cX1_addName 8 = .ok (.aload_n 0, 1) := dk_42 (dk_at dksX1_addName_0 8 rfl rfl)
theorem dX1_addName_9 : decode cX1_addName 9 = .ok (.getfield 50, 3) := dk_180 0 50 (dk_at dksX1_addName_0 9 rfl rfl)
theorem dX1_addName_12 : decode cX1_addName 12 = .ok (.invokeinterface 85 1, 5) := by decide +kernel
theorem dX1_addName_17 : decode cX1_addName 17 = .ok (.bipush 12, 2) := dk_16 12 (dk_at dksX1_addName_0 17 rfl rfl)
theorem dX1_addName_19 : decode cX1_addName 19 = .ok (.if_icmp .ge 22, 3) := dk_162 0 22 (dk_at dksX1_addName_0 19 rfl rfl)
theorem dX1_addName_22 : decode cX1_addName 22 = .ok (.aload_n 1, 1) := dk_43 (dk_at dksX1_addName_0 22 rfl rfl)
theorem dX1_addName_23 : decode cX1_addName 23 = .ok (.invokestatic 144, 3) := dk_184 0 144 (dk_at dksX1_addName_1 0 rfl rfl)
theorem dX1_addName_26 : decode cX1_addName 26 = .ok (.ifCond .eq 15, 3) := dk_153 0 15 (dk_at dksX1_addName_1 3 rfl rfl)
theorem dX1_addName_29 : decode cX1_addName 29 = .ok (.aload_n 0, 1) := dk_42 (dk_at dksX1_addName_1 6 rfl rfl)
theorem dX1_addName_30 : decode cX1_addName 30 = .ok (.aload_n 1, 1) := dk_43 (dk_at dksX1_addName_1 7 rfl rfl)
theorem dX1_addName_31 : decode cX1_addName 31 = .ok (.invokevirtual 148, 3) := dk_182 0 148 (dk_at dksX1_addName_1 8 rfl rfl)
theorem dX1_addName_34 : decode cX1_addName 34 = .ok (.ifnonnull 7, 3) := dk_199 0 7 (dk_at dksX1_addName_1 11 rfl rfl)
theorem dX1_addName_37 : decode cX1_addName 37 = .ok (.iconst 1, 1) := dk_4 (dk_at dksX1_addName_1 14 rfl rfl)
theorem dX1_addName_38 : decode cX1_addName 38 = .ok (.goto 4, 3) := dk_167 0 4 (dk_at dksX1_addName_1 15 rfl rfl)
theorem dX1_addName_41 : decode cX1_addName 41 = .ok (.iconst 0, 1) := dk_3 (dk_at dksX1_addName_1 18 rfl rfl)
theorem dX1_addName_42 : decode cX1_addName 42 = .ok (.invokestatic 110, 3) := dk_184 0 110 (dk_at dksX1_addName_1 19 rfl rfl)
theorem dX1_addName_45 : decode cX1_addName 45 = .ok (.aload_n 0, 1) := dk_42 (dk_at dksX1_addName_1 22 rfl rfl)
theorem dX1_addName_46 : decode cX1_addName 46 = .ok (.getfield 50, 3) := dk_180 0 50 (dk_at dksX1_addName_2 0 rfl rfl)
theorem dX1_addName_49 : decode cX1_addName 49 = .ok (.new 113, 3) := dk_187 0 113 (dk_at dksX1_addName_2 3 rfl rfl)
theorem dX1_addName_52 : decode cX1_addName 52 = .ok (.dup, 1) := dk_89 (dk_at dksX1_addName_2 6 rfl rfl)
theorem dX1_addName_53 : decode cX1_addName 53 = .ok (.aload_n 0, 1) := dk_42 (dk_at dksX1_addName_2 7 rfl rfl)
theorem dX1_addName_54 : decode cX1_addName 54 = .ok (.getfield 50, 3) := dk_180 0 50 (dk_at dksX1_addName_2 8 rfl rfl)
theorem dX1_addName_57 : decode cX1_addName 57 = .ok (.invokeinterface 85 1, 5) := by decide +kernel
theorem dX1_addName_62 : decode cX1_addName 62 = .ok (.aload_n 1, 1) := dk_43 (dk_at dksX1_addName_2 16 rfl rfl)
theorem dX1_addName_63 : decode cX1_addName 63 = .ok (.invokespecial 152, 3) := dk_183 0 152 (dk_at dksX1_addName_2 17 rfl rfl)
theorem dX1_addName_66 : decode cX1_addName 66 = .ok (.invokeinterface 155 2, 5) := by decide +kernel
theorem dX1_addName_71 : decode cX1_addName 71 = .ok (.pop, 1) := dk_87 (dk_at dksX1_addName_3 5 rfl rfl)
theorem dX1_addName_72 : decode cX1_addName 72 = .ok (.aload_n 0, 1) := dk_42 (dk_at dksX1_addName_3 6 rfl rfl)
theorem dX1_addName_73 : decode cX1_addName 73 = .ok (.getfield 72, 3) := dk_180 0 72 (dk_at dksX1_addName_3 7 rfl rfl)
theorem dX1_addName_76 : decode cX1_addName 76 = .ok (.iconst 0, 1) := dk_3 (dk_at dksX1_addName_3 10 rfl rfl)
theorem dX1_addName_77 : decode cX1_addName 77 = .ok (.invokevirtual 158, 3) := dk_182 0 158 (dk_at dksX1_addName_3 11 rfl rfl)
theorem dX1_addName_80 : decode cX1_addName 80 = .ok (.aload_n 0, 1) := dk_42 (dk_at dksX1_addName_3 14 rfl rfl)
theorem dX1_addName_81 : decode cX1_addName 81 = .ok (.getfield 50, 3) := dk_180 0 50 (dk_at dksX1_addName_3 15 rfl rfl)
theorem dX1_addName_84 : decode cX1_addName 84 = .ok (.invokeinterface 85 1, 5) := by decide +kernel
theorem dX1_addName_89 : decode cX1_addName 89 = .ok (.iconst 1, 1) := dk_4 (dk_at dksX1_addName_3 23 rfl rfl)
theorem dX1_addName_90 : decode cX1_addName 90 = .ok (.isub, 1) := dk_100 (dk_at dksX1_addName_4 0 rfl rfl)
theorem dX1_addName_91 : decode cX1_addName 91 = .ok (.ireturn, 1) := dk_172 (dk_at dksX1_addName_4 1 rfl rfl)
abbrev cX1_isName : ByteArray := prog_1_method_14_code
def yX1_isName : MethodName := ⟨RX1, "isName", "(Ljava/lang/String;)Z"⟩
def dkwX1_isName_2 : List UInt8 := [27, 153, 0, 18, 42, 28, 182, 0, 132, 184, 0, 136, 60, 132, 2, 1, 167, 255, 232, 27, 172]
abbrev dktX1_isName_2 : List UInt8 := dkwX1_isName_2 ++ []
def dkwX1_isName_1 : List UInt8 := [18, 130, 182, 0, 119, 154, 0, 7, 4, 167, 0, 4, 3, 60, 3, 61, 28, 42, 182, 0, 125, 162, 0, 22]
abbrev dktX1_isName_1 : List UInt8 := dkwX1_isName_1 ++ dktX1_isName_2
def dkwX1_isName_0 : List UInt8 := [42, 182, 0, 125, 4, 16, 8, 184, 0, 91, 153, 0, 25, 42, 18, 128, 182, 0, 119, 154, 0, 16, 42]
abbrev dktX1_isName_0 : List UInt8 := dkwX1_isName_0 ++ dktX1_isName_1
theorem dksX1_isName_0 : cX1_isName.data.toList.drop 0 = dktX1_isName_0 := by decide +kernel
theorem dksX1_isName_1 : cX1_isName.data.toList.drop 23 = dktX1_isName_1 := dk_seg dksX1_isName_0 23 rfl rfl
theorem dksX1_isName_2 : cX1_isName.data.toList.drop 47 = dktX1_isName_2 := dk_seg dksX1_isName_1 24 rfl rfl
theorem dX1_isName_0 : decode cX1_isName 0 = .ok (.aload_n 0, 1) := dk_42 (dk_at dksX1_isName_0 0 rfl rfl)
theorem dX1_isName_1 : decode cX1_isName 1 = .ok (.invokevirtual 125, 3) := dk_182 0 125 (dk_at dksX1_isName_0 1 rfl rfl)
theorem dX1_isName_4 : decode cX1_isName 4 = .ok (.iconst 1, 1) := dk_4 (dk_at dksX1_isName_0 4 rfl rfl)
theorem dX1_isName_5 : decode cX1_isName 5 = .ok (.bipush 8, 2) := dk_16 8 (dk_at dksX1_isName_0 5 rfl rfl)
theorem dX1_isName_7 : decode cX1_isName 7 = .ok (.invokestatic 91, 3) := dk_184 0 91 (dk_at dksX1_isName_0 7 rfl rfl)
theorem dX1_isName_10 : decode cX1_isName 10 = .ok (.ifCond .eq 25, 3) := dk_153 0 25 (dk_at dksX1_isName_0 10 rfl rfl)
theorem dX1_isName_13 : decode cX1_isName 13 = .ok (.aload_n 0, 1) := dk_42 (dk_at dksX1_isName_0 13 rfl rfl)
theorem dX1_isName_14 : decode cX1_isName 14 = .ok (.ldc 128, 2) := dk_18 128 (dk_at dksX1_isName_0 14 rfl rfl)
theorem dX1_isName_16 : decode cX1_isName 16 = .ok (.invokevirtual 119, 3) := dk_182 0 119 (dk_at dksX1_isName_0 16 rfl rfl)
theorem dX1_isName_19 : decode cX1_isName 19 = .ok (.ifCond .ne 16, 3) := dk_154 0 16 (dk_at dksX1_isName_0 19 rfl rfl)
theorem dX1_isName_22 : decode cX1_isName 22 = .ok (.aload_n 0, 1) := dk_42 (dk_at dksX1_isName_0 22 rfl rfl)
theorem dX1_isName_23 : decode cX1_isName 23 = .ok (.ldc 130, 2) := dk_18 130 (dk_at dksX1_isName_1 0 rfl rfl)
theorem dX1_isName_25 : decode cX1_isName 25 = .ok (.invokevirtual 119, 3) := dk_182 0 119 (dk_at dksX1_isName_1 2 rfl rfl)
theorem dX1_isName_28 : decode cX1_isName 28 = .ok (.ifCond .ne 7, 3) := dk_154 0 7 (dk_at dksX1_isName_1 5 rfl rfl)
theorem dX1_isName_31 : decode cX1_isName 31 = .ok (.iconst 1, 1) := dk_4 (dk_at dksX1_isName_1 8 rfl rfl)
theorem dX1_isName_32 : decode cX1_isName 32 = .ok (.goto 4, 3) := dk_167 0 4 (dk_at dksX1_isName_1 9 rfl rfl)
theorem dX1_isName_35 : decode cX1_isName 35 = .ok (.iconst 0, 1) := dk_3 (dk_at dksX1_isName_1 12 rfl rfl)
theorem dX1_isName_36 : decode cX1_isName 36 = .ok (.istore_n 1, 1) := dk_60 (dk_at dksX1_isName_1 13 rfl rfl)
theorem dX1_isName_37 : decode cX1_isName 37 = .ok (.iconst 0, 1) := dk_3 (dk_at dksX1_isName_1 14 rfl rfl)
theorem dX1_isName_38 : decode cX1_isName 38 = .ok (.istore_n 2, 1) := dk_61 (dk_at dksX1_isName_1 15 rfl rfl)
theorem dX1_isName_39 : decode cX1_isName 39 = .ok (.iload_n 2, 1) := dk_28 (dk_at dksX1_isName_1 16 rfl rfl)
theorem dX1_isName_40 : decode cX1_isName 40 = .ok (.aload_n 0, 1) := dk_42 (dk_at dksX1_isName_1 17 rfl rfl)
theorem dX1_isName_41 : decode cX1_isName 41 = .ok (.invokevirtual 125, 3) := dk_182 0 125 (dk_at dksX1_isName_1 18 rfl rfl)
theorem dX1_isName_44 : decode cX1_isName 44 = .ok (.if_icmp .ge 22, 3) := dk_162 0 22 (dk_at dksX1_isName_1 21 rfl rfl)
theorem dX1_isName_47 : decode cX1_isName 47 = .ok (.iload_n 1, 1) := dk_27 (dk_at dksX1_isName_2 0 rfl rfl)
theorem dX1_isName_48 : decode cX1_isName 48 = .ok (.ifCond .eq 18, 3) := dk_153 0 18 (dk_at dksX1_isName_2 1 rfl rfl)
theorem dX1_isName_51 : decode cX1_isName 51 = .ok (.aload_n 0, 1) := dk_42 (dk_at dksX1_isName_2 4 rfl rfl)
theorem dX1_isName_52 : decode cX1_isName 52 = .ok (.iload_n 2, 1) := dk_28 (dk_at dksX1_isName_2 5 rfl rfl)
theorem dX1_isName_53 : decode cX1_isName 53 = .ok (.invokevirtual 132, 3) := dk_182 0 132 (dk_at dksX1_isName_2 6 rfl rfl)
theorem dX1_isName_56 : decode cX1_isName 56 = .ok (.invokestatic 136, 3) := dk_184 0 136 (dk_at dksX1_isName_2 9 rfl rfl)
theorem dX1_isName_59 : decode cX1_isName 59 = .ok (.istore_n 1, 1) := dk_60 (dk_at dksX1_isName_2 12 rfl rfl)
theorem dX1_isName_60 : decode cX1_isName 60 = .ok (.iinc 2 1, 3) := dk_132 2 1 (dk_at dksX1_isName_2 13 rfl rfl)
theorem dX1_isName_63 : decode cX1_isName 63 = .ok (.goto (-24), 3) := dk_167 255 232 (dk_at dksX1_isName_2 16 rfl rfl)
theorem dX1_isName_66 : decode cX1_isName 66 = .ok (.iload_n 1, 1) := dk_27 (dk_at dksX1_isName_2 19 rfl rfl)
theorem dX1_isName_67 : decode cX1_isName 67 = .ok (.ireturn, 1) := dk_172 (dk_at dksX1_isName_2 20 rfl rfl)
abbrev cX1_inRange : ByteArray := prog_1_method_4_code
def yX1_inRange : MethodName := ⟨RX1, "inRange", "(III)Z"⟩
def dkwX1_inRange_0 : List UInt8 := [27, 26, 163, 0, 12, 26, 28, 163, 0, 7, 4, 167, 0, 4, 3, 172]
abbrev dktX1_inRange_0 : List UInt8 := dkwX1_inRange_0 ++ []
theorem dksX1_inRange_0 : cX1_inRange.data.toList.drop 0 = dktX1_inRange_0 := by decide +kernel
theorem dX1_inRange_0 : decode cX1_inRange 0 = .ok (.iload_n 1, 1) := dk_27 (dk_at dksX1_inRange_0 0 rfl rfl)
theorem dX1_inRange_1 : decode cX1_inRange 1 = .ok (.iload_n 0, 1) := dk_26 (dk_at dksX1_inRange_0 1 rfl rfl)
theorem dX1_inRange_2 : decode cX1_inRange 2 = .ok (.if_icmp .gt 12, 3) := dk_163 0 12 (dk_at dksX1_inRange_0 2 rfl rfl)
theorem dX1_inRange_5 : decode cX1_inRange 5 = .ok (.iload_n 0, 1) := dk_26 (dk_at dksX1_inRange_0 5 rfl rfl)
theorem dX1_inRange_6 : decode cX1_inRange 6 = .ok (.iload_n 2, 1) := dk_28 (dk_at dksX1_inRange_0 6 rfl rfl)
theorem dX1_inRange_7 : decode cX1_inRange 7 = .ok (.if_icmp .gt 7, 3) := dk_163 0 7 (dk_at dksX1_inRange_0 7 rfl rfl)
theorem dX1_inRange_10 : decode cX1_inRange 10 = .ok (.iconst 1, 1) := dk_4 (dk_at dksX1_inRange_0 10 rfl rfl)
theorem dX1_inRange_11 : decode cX1_inRange 11 = .ok (.goto 4, 3) := dk_167 0 4 (dk_at dksX1_inRange_0 11 rfl rfl)
theorem dX1_inRange_14 : decode cX1_inRange 14 = .ok (.iconst 0, 1) := dk_3 (dk_at dksX1_inRange_0 14 rfl rfl)
theorem dX1_inRange_15 : decode cX1_inRange 15 = .ok (.ireturn, 1) := dk_172 (dk_at dksX1_inRange_0 15 rfl rfl)
abbrev cX1_isLetter : ByteArray := prog_1_method_12_code
def yX1_isLetter : MethodName := ⟨RX1, "isLetter", "(C)Z"⟩
def dkwX1_isLetter_0 : List UInt8 := [26, 16, 97, 161, 0, 13, 26, 16, 122, 163, 0, 7, 4, 167, 0, 4, 3, 172]
abbrev dktX1_isLetter_0 : List UInt8 := dkwX1_isLetter_0 ++ []
theorem dksX1_isLetter_0 : cX1_isLetter.data.toList.drop 0 = dktX1_isLetter_0 := by decide +kernel
theorem dX1_isLetter_0 : decode cX1_isLetter 0 = .ok (.iload_n 0, 1) := dk_26 (dk_at dksX1_isLetter_0 0 rfl rfl)
theorem dX1_isLetter_1 : decode cX1_isLetter 1 = .ok (.bipush 97, 2) := dk_16 97 (dk_at dksX1_isLetter_0 1 rfl rfl)
theorem dX1_isLetter_3 : decode cX1_isLetter 3 = .ok (.if_icmp .lt 13, 3) := dk_161 0 13 (dk_at dksX1_isLetter_0 3 rfl rfl)
theorem dX1_isLetter_6 : decode cX1_isLetter 6 = .ok (.iload_n 0, 1) := dk_26 (dk_at dksX1_isLetter_0 6 rfl rfl)
theorem dX1_isLetter_7 : decode cX1_isLetter 7 = .ok (.bipush 122, 2) := dk_16 122 (dk_at dksX1_isLetter_0 7 rfl rfl)
theorem dX1_isLetter_9 : decode cX1_isLetter 9 = .ok (.if_icmp .gt 7, 3) := dk_163 0 7 (dk_at dksX1_isLetter_0 9 rfl rfl)
theorem dX1_isLetter_12 : decode cX1_isLetter 12 = .ok (.iconst 1, 1) := dk_4 (dk_at dksX1_isLetter_0 12 rfl rfl)
theorem dX1_isLetter_13 : decode cX1_isLetter 13 = .ok (.goto 4, 3) := dk_167 0 4 (dk_at dksX1_isLetter_0 13 rfl rfl)
theorem dX1_isLetter_16 : decode cX1_isLetter 16 = .ok (.iconst 0, 1) := dk_3 (dk_at dksX1_isLetter_0 16 rfl rfl)
theorem dX1_isLetter_17 : decode cX1_isLetter 17 = .ok (.ireturn, 1) := dk_172 (dk_at dksX1_isLetter_0 17 rfl rfl)
abbrev cX1_nameOf : ByteArray := prog_1_method_13_code
def yX1_nameOf : MethodName := ⟨RX1, "nameOf", "(Ljava/lang/String;)LDialectdepot$Name;"⟩
def dkwX1_nameOf_2 : List UInt8 := [185, 0, 99, 2, 0, 192, 0, 113, 176, 132, 2, 1, 167, 255, 203, 1, 176]
abbrev dktX1_nameOf_2 : List UInt8 := dkwX1_nameOf_2 ++ []
def dkwX1_nameOf_1 : List UInt8 := [185, 0, 99, 2, 0, 192, 0, 113, 180, 0, 115, 43, 182, 0, 119, 153, 0, 17, 42, 180, 0, 50, 28]
abbrev dktX1_nameOf_1 : List UInt8 := dkwX1_nameOf_1 ++ dktX1_nameOf_2
def dkwX1_nameOf_0 : List UInt8 := [3, 61, 28, 42, 180, 0, 50, 185, 0, 85, 1, 0, 162, 0, 46, 42, 180, 0, 50, 28]
abbrev dktX1_nameOf_0 : List UInt8 := dkwX1_nameOf_0 ++ dktX1_nameOf_1
theorem dksX1_nameOf_0 : cX1_nameOf.data.toList.drop 0 = dktX1_nameOf_0 := by decide +kernel
theorem dksX1_nameOf_1 : cX1_nameOf.data.toList.drop 20 = dktX1_nameOf_1 := dk_seg dksX1_nameOf_0 20 rfl rfl
theorem dksX1_nameOf_2 : cX1_nameOf.data.toList.drop 43 = dktX1_nameOf_2 := dk_seg dksX1_nameOf_1 23 rfl rfl
theorem dX1_nameOf_0 : decode cX1_nameOf 0 = .ok (.iconst 0, 1) := dk_3 (dk_at dksX1_nameOf_0 0 rfl rfl)
theorem dX1_nameOf_1 : decode cX1_nameOf 1 = .ok (.istore_n 2, 1) := dk_61 (dk_at dksX1_nameOf_0 1 rfl rfl)
theorem dX1_nameOf_2 : decode cX1_nameOf 2 = .ok (.iload_n 2, 1) := dk_28 (dk_at dksX1_nameOf_0 2 rfl rfl)
theorem dX1_nameOf_3 : decode cX1_nameOf 3 = .ok (.aload_n 0, 1) := dk_42 (dk_at dksX1_nameOf_0 3 rfl rfl)
theorem dX1_nameOf_4 : decode cX1_nameOf 4 = .ok (.getfield 50, 3) := dk_180 0 50 (dk_at dksX1_nameOf_0 4 rfl rfl)
theorem dX1_nameOf_7 : decode cX1_nameOf 7 = .ok (.invokeinterface 85 1, 5) := by decide +kernel
theorem dX1_nameOf_12 : decode cX1_nameOf 12 = .ok (.if_icmp .ge 46, 3) := dk_162 0 46 (dk_at dksX1_nameOf_0 12 rfl rfl)
theorem dX1_nameOf_15 : decode cX1_nameOf 15 = .ok (.aload_n 0, 1) := dk_42 (dk_at dksX1_nameOf_0 15 rfl rfl)
theorem dX1_nameOf_16 : decode cX1_nameOf 16 = .ok (.getfield 50, 3) := dk_180 0 50 (dk_at dksX1_nameOf_0 16 rfl rfl)
theorem dX1_nameOf_19 : decode cX1_nameOf 19 = .ok (.iload_n 2, 1) := dk_28 (dk_at dksX1_nameOf_0 19 rfl rfl)
theorem dX1_nameOf_20 : decode cX1_nameOf 20 = .ok (.invokeinterface 99 2, 5) := by decide +kernel
theorem dX1_nameOf_25 : decode cX1_nameOf 25 = .ok (.checkcast 113, 3) := dk_192 0 113 (dk_at dksX1_nameOf_1 5 rfl rfl)
theorem dX1_nameOf_28 : decode cX1_nameOf 28 = .ok (.getfield 115, 3) := dk_180 0 115 (dk_at dksX1_nameOf_1 8 rfl rfl)
theorem dX1_nameOf_31 : decode cX1_nameOf 31 = .ok (.aload_n 1, 1) := dk_43 (dk_at dksX1_nameOf_1 11 rfl rfl)
theorem dX1_nameOf_32 : decode cX1_nameOf 32 = .ok (.invokevirtual 119, 3) := dk_182 0 119 (dk_at dksX1_nameOf_1 12 rfl rfl)
theorem dX1_nameOf_35 : decode cX1_nameOf 35 = .ok (.ifCond .eq 17, 3) := dk_153 0 17 (dk_at dksX1_nameOf_1 15 rfl rfl)
theorem dX1_nameOf_38 : decode cX1_nameOf 38 = .ok (.aload_n 0, 1) := dk_42 (dk_at dksX1_nameOf_1 18 rfl rfl)
theorem dX1_nameOf_39 : decode cX1_nameOf 39 = .ok (.getfield 50, 3) := dk_180 0 50 (dk_at dksX1_nameOf_1 19 rfl rfl)
theorem dX1_nameOf_42 : decode cX1_nameOf 42 = .ok (.iload_n 2, 1) := dk_28 (dk_at dksX1_nameOf_1 22 rfl rfl)
theorem dX1_nameOf_43 : decode cX1_nameOf 43 = .ok (.invokeinterface 99 2, 5) := by decide +kernel
theorem dX1_nameOf_48 : decode cX1_nameOf 48 = .ok (.checkcast 113, 3) := dk_192 0 113 (dk_at dksX1_nameOf_2 5 rfl rfl)
theorem dX1_nameOf_51 : decode cX1_nameOf 51 = .ok (.areturn, 1) := dk_176 (dk_at dksX1_nameOf_2 8 rfl rfl)
theorem dX1_nameOf_52 : decode cX1_nameOf 52 = .ok (.iinc 2 1, 3) := dk_132 2 1 (dk_at dksX1_nameOf_2 9 rfl rfl)
theorem dX1_nameOf_55 : decode cX1_nameOf 55 = .ok (.goto (-53), 3) := dk_167 255 203 (dk_at dksX1_nameOf_2 12 rfl rfl)
theorem dX1_nameOf_58 : decode cX1_nameOf 58 = .ok (.aconst_null, 1) := dk_1 (dk_at dksX1_nameOf_2 15 rfl rfl)
theorem dX1_nameOf_59 : decode cX1_nameOf 59 = .ok (.areturn, 1) := dk_176 (dk_at dksX1_nameOf_2 16 rfl rfl)
abbrev cX1_addUsage : ByteArray := prog_1_method_16_code
def yX1_addUsage : MethodName := ⟨RX1, "addUsage", "(IIIII)I"⟩
def dkwX1_addUsage_8 : List UInt8 := [21, 5, 183, 0, 183, 185, 0, 155, 2, 0, 87, 42, 180, 0, 54, 185, 0, 85, 1, 0, 172]
abbrev dktX1_addUsage_8 : List UInt8 := dkwX1_addUsage_8 ++ []
def dkwX1_addUsage_7 : List UInt8 := [132, 8, 1, 167, 255, 173, 21, 7, 184, 0, 110, 42, 180, 0, 54, 187, 0, 169, 89, 27, 28, 29, 21, 4]
abbrev dktX1_addUsage_7 : List UInt8 := dkwX1_addUsage_7 ++ dktX1_addUsage_8
def dkwX1_addUsage_6 : List UInt8 := [21, 4, 161, 0, 13, 25, 9, 182, 0, 180, 21, 5, 164, 0, 7, 4, 167, 0, 4, 3, 54, 7]
abbrev dktX1_addUsage_6 : List UInt8 := dkwX1_addUsage_6 ++ dktX1_addUsage_7
def dkwX1_addUsage_5 : List UInt8 := [25, 9, 182, 0, 171, 27, 160, 0, 32, 25, 9, 182, 0, 174, 28, 160, 0, 23, 25, 9, 182, 0, 177]
abbrev dktX1_addUsage_5 : List UInt8 := dkwX1_addUsage_5 ++ dktX1_addUsage_6
def dkwX1_addUsage_4 : List UInt8 := [162, 0, 75, 21, 7, 153, 0, 70, 42, 180, 0, 54, 21, 8, 185, 0, 99, 2, 0, 192, 0, 169, 58, 9]
abbrev dktX1_addUsage_4 : List UInt8 := dkwX1_addUsage_4 ++ dktX1_addUsage_5
def dkwX1_addUsage_3 : List UInt8 := [162, 0, 7, 4, 167, 0, 4, 3, 54, 7, 3, 54, 8, 21, 8, 42, 180, 0, 54, 185, 0, 85, 1, 0]
abbrev dktX1_addUsage_3 : List UInt8 := dkwX1_addUsage_3 ++ dktX1_addUsage_4
def dkwX1_addUsage_2 : List UInt8 := [153, 0, 7, 4, 167, 0, 4, 3, 184, 0, 107, 42, 180, 0, 54, 185, 0, 85, 1, 0, 16, 30]
abbrev dktX1_addUsage_2 : List UInt8 := dkwX1_addUsage_2 ++ dktX1_addUsage_3
def dkwX1_addUsage_1 : List UInt8 := [153, 0, 30, 21, 4, 3, 16, 99, 184, 0, 91, 153, 0, 19, 21, 5, 21, 4, 16, 99, 184, 0, 91]
abbrev dktX1_addUsage_1 : List UInt8 := dkwX1_addUsage_1 ++ dktX1_addUsage_2
def dkwX1_addUsage_0 : List UInt8 := [42, 180, 0, 50, 28, 184, 0, 162, 192, 0, 113, 58, 6, 42, 29, 182, 0, 166, 27, 3, 6, 184, 0, 91]
abbrev dktX1_addUsage_0 : List UInt8 := dkwX1_addUsage_0 ++ dktX1_addUsage_1
theorem dksX1_addUsage_0 : cX1_addUsage.data.toList.drop 0 = dktX1_addUsage_0 := by decide +kernel
theorem dksX1_addUsage_1 : cX1_addUsage.data.toList.drop 24 = dktX1_addUsage_1 := dk_seg dksX1_addUsage_0 24 rfl rfl
theorem dksX1_addUsage_2 : cX1_addUsage.data.toList.drop 47 = dktX1_addUsage_2 := dk_seg dksX1_addUsage_1 23 rfl rfl
theorem dksX1_addUsage_3 : cX1_addUsage.data.toList.drop 69 = dktX1_addUsage_3 := dk_seg dksX1_addUsage_2 22 rfl rfl
theorem dksX1_addUsage_4 : cX1_addUsage.data.toList.drop 93 = dktX1_addUsage_4 := dk_seg dksX1_addUsage_3 24 rfl rfl
theorem dksX1_addUsage_5 : cX1_addUsage.data.toList.drop 117 = dktX1_addUsage_5 := dk_seg dksX1_addUsage_4 24 rfl rfl
theorem dksX1_addUsage_6 : cX1_addUsage.data.toList.drop 140 = dktX1_addUsage_6 := dk_seg dksX1_addUsage_5 23 rfl rfl
theorem dksX1_addUsage_7 : cX1_addUsage.data.toList.drop 162 = dktX1_addUsage_7 := dk_seg dksX1_addUsage_6 22 rfl rfl
theorem dksX1_addUsage_8 : cX1_addUsage.data.toList.drop 186 = dktX1_addUsage_8 := dk_seg dksX1_addUsage_7 24 rfl rfl
theorem dX1_addUsage_0 : decode cX1_addUsage 0 = .ok (.aload_n 0, 1) := dk_42 (dk_at dksX1_addUsage_0 0 rfl rfl)
theorem dX1_addUsage_1 : decode cX1_addUsage 1 = .ok (.getfield 50, 3) := dk_180 0 50 (dk_at dksX1_addUsage_0 1 rfl rfl)
theorem dX1_addUsage_4 : decode cX1_addUsage 4 = .ok (.iload_n 2, 1) := dk_28 (dk_at dksX1_addUsage_0 4 rfl rfl)
theorem dX1_addUsage_5 : decode cX1_addUsage 5 = .ok (.invokestatic 162, 3) := dk_184 0 162 (dk_at dksX1_addUsage_0 5 rfl rfl)
theorem dX1_addUsage_8 : decode cX1_addUsage 8 = .ok (.checkcast 113, 3) := dk_192 0 113 (dk_at dksX1_addUsage_0 8 rfl rfl)
theorem dX1_addUsage_11 : decode cX1_addUsage 11 = .ok (.astore 6, 2) := dk_58 6 (dk_at dksX1_addUsage_0 11 rfl rfl)
theorem dX1_addUsage_13 : decode cX1_addUsage 13 = .ok (.aload_n 0, 1) := dk_42 (dk_at dksX1_addUsage_0 13 rfl rfl)
theorem dX1_addUsage_14 : decode cX1_addUsage 14 = .ok (.iload_n 3, 1) := dk_29 (dk_at dksX1_addUsage_0 14 rfl rfl)
theorem dX1_addUsage_15 : decode cX1_addUsage 15 = .ok (.invokevirtual 166, 3) := dk_182 0 166 (dk_at dksX1_addUsage_0 15 rfl rfl)
theorem dX1_addUsage_18 : decode cX1_addUsage 18 = .ok (.iload_n 1, 1) := dk_27 (dk_at dksX1_addUsage_0 18 rfl rfl)
theorem dX1_addUsage_19 : decode cX1_addUsage 19 = .ok (.iconst 0, 1) := dk_3 (dk_at dksX1_addUsage_0 19 rfl rfl)
theorem dX1_addUsage_20 : decode cX1_addUsage 20 = .ok (.iconst 3, 1) := dk_6 (dk_at dksX1_addUsage_0 20 rfl rfl)
theorem dX1_addUsage_21 : decode cX1_addUsage 21 = .ok (.invokestatic 91, 3) := dk_184 0 91 (dk_at dksX1_addUsage_0 21 rfl rfl)
theorem dX1_addUsage_24 : decode cX1_addUsage 24 = .ok (.ifCond .eq 30, 3) := dk_153 0 30 (dk_at dksX1_addUsage_1 0 rfl rfl)
theorem dX1_addUsage_27 : decode cX1_addUsage 27 = .ok (.iload 4, 2) := dk_21 4 (dk_at dksX1_addUsage_1 3 rfl rfl)
theorem dX1_addUsage_29 : decode cX1_addUsage 29 = .ok (.iconst 0, 1) := dk_3 (dk_at dksX1_addUsage_1 5 rfl rfl)
theorem dX1_addUsage_30 : decode cX1_addUsage 30 = .ok (.bipush 99, 2) := dk_16 99 (dk_at dksX1_addUsage_1 6 rfl rfl)
theorem dX1_addUsage_32 : decode cX1_addUsage 32 = .ok (.invokestatic 91, 3) := dk_184 0 91 (dk_at dksX1_addUsage_1 8 rfl rfl)
theorem dX1_addUsage_35 : decode cX1_addUsage 35 = .ok (.ifCond .eq 19, 3) := dk_153 0 19 (dk_at dksX1_addUsage_1 11 rfl rfl)
theorem dX1_addUsage_38 : decode cX1_addUsage 38 = .ok (.iload 5, 2) := dk_21 5 (dk_at dksX1_addUsage_1 14 rfl rfl)
theorem dX1_addUsage_40 : decode cX1_addUsage 40 = .ok (.iload 4, 2) := dk_21 4 (dk_at dksX1_addUsage_1 16 rfl rfl)
theorem dX1_addUsage_42 : decode cX1_addUsage 42 = .ok (.bipush 99, 2) := dk_16 99 (dk_at dksX1_addUsage_1 18 rfl rfl)
theorem dX1_addUsage_44 : decode cX1_addUsage 44 = .ok (.invokestatic 91, 3) := dk_184 0 91 (dk_at dksX1_addUsage_1 20 rfl rfl)
theorem dX1_addUsage_47 : decode cX1_addUsage 47 = .ok (.ifCond .eq 7, 3) := dk_153 0 7 (dk_at dksX1_addUsage_2 0 rfl rfl)
theorem dX1_addUsage_50 : decode cX1_addUsage 50 = .ok (.iconst 1, 1) := dk_4 (dk_at dksX1_addUsage_2 3 rfl rfl)
theorem dX1_addUsage_51 : decode cX1_addUsage 51 = .ok (.goto 4, 3) := dk_167 0 4 (dk_at dksX1_addUsage_2 4 rfl rfl)
theorem dX1_addUsage_54 : decode cX1_addUsage 54 = .ok (.iconst 0, 1) := dk_3 (dk_at dksX1_addUsage_2 7 rfl rfl)
theorem dX1_addUsage_55 : decode cX1_addUsage 55 = .ok (.invokestatic 107, 3) := dk_184 0 107 (dk_at dksX1_addUsage_2 8 rfl rfl)
theorem dX1_addUsage_58 : decode cX1_addUsage 58 = .ok (.aload_n 0, 1) := dk_42 (dk_at dksX1_addUsage_2 11 rfl rfl)
theorem dX1_addUsage_59 : decode cX1_addUsage 59 = .ok (.getfield 54, 3) := dk_180 0 54 (dk_at dksX1_addUsage_2 12 rfl rfl)
theorem dX1_addUsage_62 : decode cX1_addUsage 62 = .ok (.invokeinterface 85 1, 5) := by decide +kernel
theorem dX1_addUsage_67 : decode cX1_addUsage 67 = .ok (.bipush 30, 2) := dk_16 30 (dk_at dksX1_addUsage_2 20 rfl rfl)
theorem dX1_addUsage_69 : decode cX1_addUsage 69 = .ok (.if_icmp .ge 7, 3) := dk_162 0 7 (dk_at dksX1_addUsage_3 0 rfl rfl)
theorem dX1_addUsage_72 : decode cX1_addUsage 72 = .ok (.iconst 1, 1) := dk_4 (dk_at dksX1_addUsage_3 3 rfl rfl)
theorem dX1_addUsage_73 : decode cX1_addUsage 73 = .ok (.goto 4, 3) := dk_167 0 4 (dk_at dksX1_addUsage_3 4 rfl rfl)
theorem dX1_addUsage_76 : decode cX1_addUsage 76 = .ok (.iconst 0, 1) := dk_3 (dk_at dksX1_addUsage_3 7 rfl rfl)
theorem dX1_addUsage_77 : decode cX1_addUsage 77 = .ok (.istore 7, 2) := dk_54 7 (dk_at dksX1_addUsage_3 8 rfl rfl)
theorem dX1_addUsage_79 : decode cX1_addUsage 79 = .ok (.iconst 0, 1) := dk_3 (dk_at dksX1_addUsage_3 10 rfl rfl)
theorem dX1_addUsage_80 : decode cX1_addUsage 80 = .ok (.istore 8, 2) := dk_54 8 (dk_at dksX1_addUsage_3 11 rfl rfl)
theorem dX1_addUsage_82 : decode cX1_addUsage 82 = .ok (.iload 8, 2) := dk_21 8 (dk_at dksX1_addUsage_3 13 rfl rfl)
theorem dX1_addUsage_84 : decode cX1_addUsage 84 = .ok (.aload_n 0, 1) := dk_42 (dk_at dksX1_addUsage_3 15 rfl rfl)
theorem dX1_addUsage_85 : decode cX1_addUsage 85 = .ok (.getfield 54, 3) := dk_180 0 54 (dk_at dksX1_addUsage_3 16 rfl rfl)
theorem dX1_addUsage_88 : decode cX1_addUsage 88 = .ok (.invokeinterface 85 1, 5) := by decide +kernel
theorem dX1_addUsage_93 : decode cX1_addUsage 93 = .ok (.if_icmp .ge 75, 3) := dk_162 0 75 (dk_at dksX1_addUsage_4 0 rfl rfl)
theorem dX1_addUsage_96 : decode cX1_addUsage 96 = .ok (.iload 7, 2) := dk_21 7 (dk_at dksX1_addUsage_4 3 rfl rfl)
theorem dX1_addUsage_98 : decode cX1_addUsage 98 = .ok (.ifCond .eq 70, 3) := dk_153 0 70 (dk_at dksX1_addUsage_4 5 rfl rfl)
theorem dX1_addUsage_101 : decode cX1_addUsage 101 = .ok (.aload_n 0, 1) := dk_42 (dk_at dksX1_addUsage_4 8 rfl rfl)
theorem dX1_addUsage_102 : decode cX1_addUsage 102 = .ok (.getfield 54, 3) := dk_180 0 54 (dk_at dksX1_addUsage_4 9 rfl rfl)
theorem dX1_addUsage_105 : decode cX1_addUsage 105 = .ok (.iload 8, 2) := dk_21 8 (dk_at dksX1_addUsage_4 12 rfl rfl)
theorem dX1_addUsage_107 : decode cX1_addUsage 107 = .ok (.invokeinterface 99 2, 5) := by decide +kernel
theorem dX1_addUsage_112 : decode cX1_addUsage 112 = .ok (.checkcast 169, 3) := dk_192 0 169 (dk_at dksX1_addUsage_4 19 rfl rfl)
theorem dX1_addUsage_115 : decode cX1_addUsage 115 = .ok (.astore 9, 2) := dk_58 9 (dk_at dksX1_addUsage_4 22 rfl rfl)
theorem dX1_addUsage_117 : decode cX1_addUsage 117 = .ok (.aload 9, 2) := dk_25 9 (dk_at dksX1_addUsage_5 0 rfl rfl)
theorem dX1_addUsage_119 : decode cX1_addUsage 119 = .ok (.invokevirtual 171, 3) := dk_182 0 171 (dk_at dksX1_addUsage_5 2 rfl rfl)
theorem dX1_addUsage_122 : decode cX1_addUsage 122 = .ok (.iload_n 1, 1) := dk_27 (dk_at dksX1_addUsage_5 5 rfl rfl)
theorem dX1_addUsage_123 : decode cX1_addUsage 123 = .ok (.if_icmp .ne 32, 3) := dk_160 0 32 (dk_at dksX1_addUsage_5 6 rfl rfl)
theorem dX1_addUsage_126 : decode cX1_addUsage 126 = .ok (.aload 9, 2) := dk_25 9 (dk_at dksX1_addUsage_5 9 rfl rfl)
theorem dX1_addUsage_128 : decode cX1_addUsage 128 = .ok (.invokevirtual 174, 3) := dk_182 0 174 (dk_at dksX1_addUsage_5 11 rfl rfl)
theorem dX1_addUsage_131 : decode cX1_addUsage 131 = .ok (.iload_n 2, 1) := dk_28 (dk_at dksX1_addUsage_5 14 rfl rfl)
theorem dX1_addUsage_132 : decode cX1_addUsage 132 = .ok (.if_icmp .ne 23, 3) := dk_160 0 23 (dk_at dksX1_addUsage_5 15 rfl rfl)
theorem dX1_addUsage_135 : decode cX1_addUsage 135 = .ok (.aload 9, 2) := dk_25 9 (dk_at dksX1_addUsage_5 18 rfl rfl)
theorem dX1_addUsage_137 : decode cX1_addUsage 137 = .ok (.invokevirtual 177, 3) := dk_182 0 177 (dk_at dksX1_addUsage_5 20 rfl rfl)
theorem dX1_addUsage_140 : decode cX1_addUsage 140 = .ok (.iload 4, 2) := dk_21 4 (dk_at dksX1_addUsage_6 0 rfl rfl)
theorem dX1_addUsage_142 : decode cX1_addUsage 142 = .ok (.if_icmp .lt 13, 3) := dk_161 0 13 (dk_at dksX1_addUsage_6 2 rfl rfl)
theorem dX1_addUsage_145 : decode cX1_addUsage 145 = .ok (.aload 9, 2) := dk_25 9 (dk_at dksX1_addUsage_6 5 rfl rfl)
theorem dX1_addUsage_147 : decode cX1_addUsage 147 = .ok (.invokevirtual 180, 3) := dk_182 0 180 (dk_at dksX1_addUsage_6 7 rfl rfl)
theorem dX1_addUsage_150 : decode cX1_addUsage 150 = .ok (.iload 5, 2) := dk_21 5 (dk_at dksX1_addUsage_6 10 rfl rfl)
theorem dX1_addUsage_152 : decode cX1_addUsage 152 = .ok (.if_icmp .le 7, 3) := dk_164 0 7 (dk_at dksX1_addUsage_6 12 rfl rfl)
theorem dX1_addUsage_155 : decode cX1_addUsage 155 = .ok (.iconst 1, 1) := dk_4 (dk_at dksX1_addUsage_6 15 rfl rfl)
theorem dX1_addUsage_156 : decode cX1_addUsage 156 = .ok (.goto 4, 3) := dk_167 0 4 (dk_at dksX1_addUsage_6 16 rfl rfl)
theorem dX1_addUsage_159 : decode cX1_addUsage 159 = .ok (.iconst 0, 1) := dk_3 (dk_at dksX1_addUsage_6 19 rfl rfl)
theorem dX1_addUsage_160 : decode cX1_addUsage 160 = .ok (.istore 7, 2) := dk_54 7 (dk_at dksX1_addUsage_6 20 rfl rfl)
theorem dX1_addUsage_162 : decode cX1_addUsage 162 = .ok (.iinc 8 1, 3) := dk_132 8 1 (dk_at dksX1_addUsage_7 0 rfl rfl)
theorem dX1_addUsage_165 : decode cX1_addUsage 165 = .ok (.goto (-83), 3) := dk_167 255 173 (dk_at dksX1_addUsage_7 3 rfl rfl)
theorem dX1_addUsage_168 : decode cX1_addUsage 168 = .ok (.iload 7, 2) := dk_21 7 (dk_at dksX1_addUsage_7 6 rfl rfl)
theorem dX1_addUsage_170 : decode cX1_addUsage 170 = .ok (.invokestatic 110, 3) := dk_184 0 110 (dk_at dksX1_addUsage_7 8 rfl rfl)
theorem dX1_addUsage_173 : decode cX1_addUsage 173 = .ok (.aload_n 0, 1) := dk_42 (dk_at dksX1_addUsage_7 11 rfl rfl)
theorem dX1_addUsage_174 : decode cX1_addUsage 174 = .ok (.getfield 54, 3) := dk_180 0 54 (dk_at dksX1_addUsage_7 12 rfl rfl)
theorem dX1_addUsage_177 : decode cX1_addUsage 177 = .ok (.new 169, 3) := dk_187 0 169 (dk_at dksX1_addUsage_7 15 rfl rfl)
theorem dX1_addUsage_180 : decode cX1_addUsage 180 = .ok (.dup, 1) := dk_89 (dk_at dksX1_addUsage_7 18 rfl rfl)
theorem dX1_addUsage_181 : decode cX1_addUsage 181 = .ok (.iload_n 1, 1) := dk_27 (dk_at dksX1_addUsage_7 19 rfl rfl)
theorem dX1_addUsage_182 : decode cX1_addUsage 182 = .ok (.iload_n 2, 1) := dk_28 (dk_at dksX1_addUsage_7 20 rfl rfl)
theorem dX1_addUsage_183 : decode cX1_addUsage 183 = .ok (.iload_n 3, 1) := dk_29 (dk_at dksX1_addUsage_7 21 rfl rfl)
theorem dX1_addUsage_184 : decode cX1_addUsage 184 = .ok (.iload 4, 2) := dk_21 4 (dk_at dksX1_addUsage_7 22 rfl rfl)
theorem dX1_addUsage_186 : decode cX1_addUsage 186 = .ok (.iload 5, 2) := dk_21 5 (dk_at dksX1_addUsage_8 0 rfl rfl)
theorem dX1_addUsage_188 : decode cX1_addUsage 188 = .ok (.invokespecial 183, 3) := dk_183 0 183 (dk_at dksX1_addUsage_8 2 rfl rfl)
theorem dX1_addUsage_191 : decode cX1_addUsage 191 = .ok (.invokeinterface 155 2, 5) := by decide +kernel
theorem dX1_addUsage_196 : decode cX1_addUsage 196 = .ok (.pop, 1) := dk_87 (dk_at dksX1_addUsage_8 10 rfl rfl)
theorem dX1_addUsage_197 : decode cX1_addUsage 197 = .ok (.aload_n 0, 1) := dk_42 (dk_at dksX1_addUsage_8 11 rfl rfl)
theorem dX1_addUsage_198 : decode cX1_addUsage 198 = .ok (.getfield 54, 3) := dk_180 0 54 (dk_at dksX1_addUsage_8 12 rfl rfl)
theorem dX1_addUsage_201 : decode cX1_addUsage 201 = .ok (.invokeinterface 85 1, 5) := by decide +kernel
theorem dX1_addUsage_206 : decode cX1_addUsage 206 = .ok (.ireturn, 1) := dk_172 (dk_at dksX1_addUsage_8 20 rfl rfl)
abbrev cX1_at : ByteArray := prog_1_method_8_code
def yX1_at : MethodName := ⟨RX1, "at", "(Ljava/util/List;I)Ljava/lang/Object;"⟩
def dkwX1_at_0 : List UInt8 := [27, 3, 42, 185, 0, 85, 1, 0, 4, 100, 184, 0, 91, 184, 0, 95, 42, 27, 185, 0, 99, 2, 0, 176]
abbrev dktX1_at_0 : List UInt8 := dkwX1_at_0 ++ []
theorem dksX1_at_0 : cX1_at.data.toList.drop 0 = dktX1_at_0 := by decide +kernel
theorem dX1_at_0 : decode cX1_at 0 = .ok (.iload_n 1, 1) := dk_27 (dk_at dksX1_at_0 0 rfl rfl)
theorem dX1_at_1 : decode cX1_at 1 = .ok (.iconst 0, 1) := dk_3 (dk_at dksX1_at_0 1 rfl rfl)
theorem dX1_at_2 : decode cX1_at 2 = .ok (.aload_n 0, 1) := dk_42 (dk_at dksX1_at_0 2 rfl rfl)
theorem dX1_at_3 : decode cX1_at 3 = .ok (.invokeinterface 85 1, 5) := by decide +kernel
theorem dX1_at_8 : decode cX1_at 8 = .ok (.iconst 1, 1) := dk_4 (dk_at dksX1_at_0 8 rfl rfl)
theorem dX1_at_9 : decode cX1_at 9 = .ok (.isub, 1) := dk_100 (dk_at dksX1_at_0 9 rfl rfl)
theorem dX1_at_10 : decode cX1_at 10 = .ok (.invokestatic 91, 3) := dk_184 0 91 (dk_at dksX1_at_0 10 rfl rfl)
theorem dX1_at_13 : decode cX1_at 13 = .ok (.invokestatic 95, 3) := dk_184 0 95 (dk_at dksX1_at_0 13 rfl rfl)
theorem dX1_at_16 : decode cX1_at 16 = .ok (.aload_n 0, 1) := dk_42 (dk_at dksX1_at_0 16 rfl rfl)
theorem dX1_at_17 : decode cX1_at 17 = .ok (.iload_n 1, 1) := dk_27 (dk_at dksX1_at_0 17 rfl rfl)
theorem dX1_at_18 : decode cX1_at 18 = .ok (.invokeinterface 99 2, 5) := by decide +kernel
theorem dX1_at_23 : decode cX1_at 23 = .ok (.areturn, 1) := dk_176 (dk_at dksX1_at_0 23 rfl rfl)
abbrev cX1_requireIndex : ByteArray := prog_1_method_7_code
def yX1_requireIndex : MethodName := ⟨RX1, "requireIndex", "(Z)V"⟩
def dkwX1_requireIndex_0 : List UInt8 := [26, 154, 0, 11, 187, 0, 82, 89, 183, 0, 84, 191, 177]
abbrev dktX1_requireIndex_0 : List UInt8 := dkwX1_requireIndex_0 ++ []
theorem dksX1_requireIndex_0 : cX1_requireIndex.data.toList.drop 0 = dktX1_requireIndex_0 := by decide +kernel
theorem dX1_requireIndex_0 : decode cX1_requireIndex 0 = .ok (.iload_n 0, 1) := dk_26 (dk_at dksX1_requireIndex_0 0 rfl rfl)
theorem dX1_requireIndex_1 : decode cX1_requireIndex 1 = .ok (.ifCond .ne 11, 3) := dk_154 0 11 (dk_at dksX1_requireIndex_0 1 rfl rfl)
theorem dX1_requireIndex_4 : decode cX1_requireIndex 4 = .ok (.new 82, 3) := dk_187 0 82 (dk_at dksX1_requireIndex_0 4 rfl rfl)
theorem dX1_requireIndex_7 : decode cX1_requireIndex 7 = .ok (.dup, 1) := dk_89 (dk_at dksX1_requireIndex_0 7 rfl rfl)
theorem dX1_requireIndex_8 : decode cX1_requireIndex 8 = .ok (.invokespecial 84, 3) := dk_183 0 84 (dk_at dksX1_requireIndex_0 8 rfl rfl)
theorem dX1_requireIndex_11 : decode cX1_requireIndex 11 = .ok (.athrow, 1) := dk_191 (dk_at dksX1_requireIndex_0 11 rfl rfl)
theorem dX1_requireIndex_12 : decode cX1_requireIndex 12 = .ok (.return_, 1) := dk_177 (dk_at dksX1_requireIndex_0 12 rfl rfl)
abbrev cX1_requireStreet : ByteArray := prog_1_method_9_code
def yX1_requireStreet : MethodName := ⟨RX1, "requireStreet", "(I)V"⟩
def dkwX1_requireStreet_0 : List UInt8 := [27, 3, 42, 180, 0, 103, 4, 100, 184, 0, 91, 184, 0, 95, 177]
abbrev dktX1_requireStreet_0 : List UInt8 := dkwX1_requireStreet_0 ++ []
theorem dksX1_requireStreet_0 : cX1_requireStreet.data.toList.drop 0 = dktX1_requireStreet_0 := by decide +kernel
theorem dX1_requireStreet_0 : decode cX1_requireStreet 0 = .ok (.iload_n 1, 1) := dk_27 (dk_at dksX1_requireStreet_0 0 rfl rfl)
theorem dX1_requireStreet_1 : decode cX1_requireStreet 1 = .ok (.iconst 0, 1) := dk_3 (dk_at dksX1_requireStreet_0 1 rfl rfl)
theorem dX1_requireStreet_2 : decode cX1_requireStreet 2 = .ok (.aload_n 0, 1) := dk_42 (dk_at dksX1_requireStreet_0 2 rfl rfl)
theorem dX1_requireStreet_3 : decode cX1_requireStreet 3 = .ok (.getfield 103, 3) := dk_180 0 103 (dk_at dksX1_requireStreet_0 3 rfl rfl)
theorem dX1_requireStreet_6 : decode cX1_requireStreet 6 = .ok (.iconst 1, 1) := dk_4 (dk_at dksX1_requireStreet_0 6 rfl rfl)
theorem dX1_requireStreet_7 : decode cX1_requireStreet 7 = .ok (.isub, 1) := dk_100 (dk_at dksX1_requireStreet_0 7 rfl rfl)
theorem dX1_requireStreet_8 : decode cX1_requireStreet 8 = .ok (.invokestatic 91, 3) := dk_184 0 91 (dk_at dksX1_requireStreet_0 8 rfl rfl)
theorem dX1_requireStreet_11 : decode cX1_requireStreet 11 = .ok (.invokestatic 95, 3) := dk_184 0 95 (dk_at dksX1_requireStreet_0 11 rfl rfl)
theorem dX1_requireStreet_14 : decode cX1_requireStreet 14 = .ok (.return_, 1) := dk_177 (dk_at dksX1_requireStreet_0 14 rfl rfl)
abbrev cX1_require : ByteArray := prog_1_method_5_code
def yX1_require : MethodName := ⟨RX1, "require", "(Z)V"⟩
def dkwX1_require_0 : List UInt8 := [26, 154, 0, 11, 187, 0, 76, 89, 183, 0, 78, 191, 177]
abbrev dktX1_require_0 : List UInt8 := dkwX1_require_0 ++ []
theorem dksX1_require_0 : cX1_require.data.toList.drop 0 = dktX1_require_0 := by decide +kernel
theorem dX1_require_0 : decode cX1_require 0 = .ok (.iload_n 0, 1) := dk_26 (dk_at dksX1_require_0 0 rfl rfl)
theorem dX1_require_1 : decode cX1_require 1 = .ok (.ifCond .ne 11, 3) := dk_154 0 11 (dk_at dksX1_require_0 1 rfl rfl)
theorem dX1_require_4 : decode cX1_require 4 = .ok (.new 76, 3) := dk_187 0 76 (dk_at dksX1_require_0 4 rfl rfl)
theorem dX1_require_7 : decode cX1_require 7 = .ok (.dup, 1) := dk_89 (dk_at dksX1_require_0 7 rfl rfl)
theorem dX1_require_8 : decode cX1_require 8 = .ok (.invokespecial 78, 3) := dk_183 0 78 (dk_at dksX1_require_0 8 rfl rfl)
theorem dX1_require_11 : decode cX1_require 11 = .ok (.athrow, 1) := dk_191 (dk_at dksX1_require_0 11 rfl rfl)
theorem dX1_require_12 : decode cX1_require 12 = .ok (.return_, 1) := dk_177 (dk_at dksX1_require_0 12 rfl rfl)
abbrev cX1_streetFor : ByteArray := prog_1_method_17_code
def yX1_streetFor : MethodName := ⟨RX1, "streetFor", "(III)I"⟩
def dkwX1_streetFor_4 : List UInt8 := [25, 6, 28, 182, 0, 186, 153, 0, 9, 25, 6, 182, 0, 190, 172, 132, 5, 1, 167, 255, 190, 2, 172]
abbrev dktX1_streetFor_4 : List UInt8 := dkwX1_streetFor_4 ++ []
def dkwX1_streetFor_3 : List UInt8 := [192, 0, 169, 58, 6, 25, 6, 182, 0, 171, 27, 160, 0, 27, 25, 6, 182, 0, 174, 29, 160, 0, 18]
abbrev dktX1_streetFor_3 : List UInt8 := dkwX1_streetFor_3 ++ dktX1_streetFor_4
def dkwX1_streetFor_2 : List UInt8 := [180, 0, 54, 185, 0, 85, 1, 0, 162, 0, 58, 42, 180, 0, 54, 21, 5, 185, 0, 99, 2, 0]
abbrev dktX1_streetFor_2 : List UInt8 := dkwX1_streetFor_2 ++ dktX1_streetFor_3
def dkwX1_streetFor_1 : List UInt8 := [16, 99, 184, 0, 91, 153, 0, 7, 4, 167, 0, 4, 3, 184, 0, 107, 3, 54, 5, 21, 5, 42]
abbrev dktX1_streetFor_1 : List UInt8 := dkwX1_streetFor_1 ++ dktX1_streetFor_2
def dkwX1_streetFor_0 : List UInt8 := [42, 180, 0, 50, 29, 184, 0, 162, 192, 0, 113, 58, 4, 27, 3, 6, 184, 0, 91, 153, 0, 17, 28, 3]
abbrev dktX1_streetFor_0 : List UInt8 := dkwX1_streetFor_0 ++ dktX1_streetFor_1
theorem dksX1_streetFor_0 : cX1_streetFor.data.toList.drop 0 = dktX1_streetFor_0 := by decide +kernel
theorem dksX1_streetFor_1 : cX1_streetFor.data.toList.drop 24 = dktX1_streetFor_1 := dk_seg dksX1_streetFor_0 24 rfl rfl
theorem dksX1_streetFor_2 : cX1_streetFor.data.toList.drop 46 = dktX1_streetFor_2 := dk_seg dksX1_streetFor_1 22 rfl rfl
theorem dksX1_streetFor_3 : cX1_streetFor.data.toList.drop 68 = dktX1_streetFor_3 := dk_seg dksX1_streetFor_2 22 rfl rfl
theorem dksX1_streetFor_4 : cX1_streetFor.data.toList.drop 91 = dktX1_streetFor_4 := dk_seg dksX1_streetFor_3 23 rfl rfl
theorem dX1_streetFor_0 : decode cX1_streetFor 0 = .ok (.aload_n 0, 1) := dk_42 (dk_at dksX1_streetFor_0 0 rfl rfl)
theorem dX1_streetFor_1 : decode cX1_streetFor 1 = .ok (.getfield 50, 3) := dk_180 0 50 (dk_at dksX1_streetFor_0 1 rfl rfl)
theorem dX1_streetFor_4 : decode cX1_streetFor 4 = .ok (.iload_n 3, 1) := dk_29 (dk_at dksX1_streetFor_0 4 rfl rfl)
theorem dX1_streetFor_5 : decode cX1_streetFor 5 = .ok (.invokestatic 162, 3) := dk_184 0 162 (dk_at dksX1_streetFor_0 5 rfl rfl)
theorem dX1_streetFor_8 : decode cX1_streetFor 8 = .ok (.checkcast 113, 3) := dk_192 0 113 (dk_at dksX1_streetFor_0 8 rfl rfl)
theorem dX1_streetFor_11 : decode cX1_streetFor 11 = .ok (.astore 4, 2) := dk_58 4 (dk_at dksX1_streetFor_0 11 rfl rfl)
theorem dX1_streetFor_13 : decode cX1_streetFor 13 = .ok (.iload_n 1, 1) := dk_27 (dk_at dksX1_streetFor_0 13 rfl rfl)
theorem dX1_streetFor_14 : decode cX1_streetFor 14 = .ok (.iconst 0, 1) := dk_3 (dk_at dksX1_streetFor_0 14 rfl rfl)
theorem dX1_streetFor_15 : decode cX1_streetFor 15 = .ok (.iconst 3, 1) := dk_6 (dk_at dksX1_streetFor_0 15 rfl rfl)
theorem dX1_streetFor_16 : decode cX1_streetFor 16 = .ok (.invokestatic 91, 3) := dk_184 0 91 (dk_at dksX1_streetFor_0 16 rfl rfl)
theorem dX1_streetFor_19 : decode cX1_streetFor 19 = .ok (.ifCond .eq 17, 3) := dk_153 0 17 (dk_at dksX1_streetFor_0 19 rfl rfl)
theorem dX1_streetFor_22 : decode cX1_streetFor 22 = .ok (.iload_n 2, 1) := dk_28 (dk_at dksX1_streetFor_0 22 rfl rfl)
theorem dX1_streetFor_23 : decode cX1_streetFor 23 = .ok (.iconst 0, 1) := dk_3 (dk_at dksX1_streetFor_0 23 rfl rfl)
theorem dX1_streetFor_24 : decode cX1_streetFor 24 = .ok (.bipush 99, 2) := dk_16 99 (dk_at dksX1_streetFor_1 0 rfl rfl)
theorem dX1_streetFor_26 : decode cX1_streetFor 26 = .ok (.invokestatic 91, 3) := dk_184 0 91 (dk_at dksX1_streetFor_1 2 rfl rfl)
theorem dX1_streetFor_29 : decode cX1_streetFor 29 = .ok (.ifCond .eq 7, 3) := dk_153 0 7 (dk_at dksX1_streetFor_1 5 rfl rfl)
theorem dX1_streetFor_32 : decode cX1_streetFor 32 = .ok (.iconst 1, 1) := dk_4 (dk_at dksX1_streetFor_1 8 rfl rfl)
theorem dX1_streetFor_33 : decode cX1_streetFor 33 = .ok (.goto 4, 3) := dk_167 0 4 (dk_at dksX1_streetFor_1 9 rfl rfl)
theorem dX1_streetFor_36 : decode cX1_streetFor 36 = .ok (.iconst 0, 1) := dk_3 (dk_at dksX1_streetFor_1 12 rfl rfl)
theorem dX1_streetFor_37 : decode cX1_streetFor 37 = .ok (.invokestatic 107, 3) := dk_184 0 107 (dk_at dksX1_streetFor_1 13 rfl rfl)
theorem dX1_streetFor_40 : decode cX1_streetFor 40 = .ok (.iconst 0, 1) := dk_3 (dk_at dksX1_streetFor_1 16 rfl rfl)
theorem dX1_streetFor_41 : decode cX1_streetFor 41 = .ok (.istore 5, 2) := dk_54 5 (dk_at dksX1_streetFor_1 17 rfl rfl)
theorem dX1_streetFor_43 : decode cX1_streetFor 43 = .ok (.iload 5, 2) := dk_21 5 (dk_at dksX1_streetFor_1 19 rfl rfl)
theorem dX1_streetFor_45 : decode cX1_streetFor 45 = .ok (.aload_n 0, 1) := dk_42 (dk_at dksX1_streetFor_1 21 rfl rfl)
theorem dX1_streetFor_46 : decode cX1_streetFor 46 = .ok (.getfield 54, 3) := dk_180 0 54 (dk_at dksX1_streetFor_2 0 rfl rfl)
theorem dX1_streetFor_49 : decode cX1_streetFor 49 = .ok (.invokeinterface 85 1, 5) := by decide +kernel
theorem dX1_streetFor_54 : decode cX1_streetFor 54 = .ok (.if_icmp .ge 58, 3) := dk_162 0 58 (dk_at dksX1_streetFor_2 8 rfl rfl)
theorem dX1_streetFor_57 : decode cX1_streetFor 57 = .ok (.aload_n 0, 1) := dk_42 (dk_at dksX1_streetFor_2 11 rfl rfl)
theorem dX1_streetFor_58 : decode cX1_streetFor 58 = .ok (.getfield 54, 3) := dk_180 0 54 (dk_at dksX1_streetFor_2 12 rfl rfl)
theorem dX1_streetFor_61 : decode cX1_streetFor 61 = .ok (.iload 5, 2) := dk_21 5 (dk_at dksX1_streetFor_2 15 rfl rfl)
theorem dX1_streetFor_63 : decode cX1_streetFor 63 = .ok (.invokeinterface 99 2, 5) := by decide +kernel
theorem dX1_streetFor_68 : decode cX1_streetFor 68 = .ok (.checkcast 169, 3) := dk_192 0 169 (dk_at dksX1_streetFor_3 0 rfl rfl)
theorem dX1_streetFor_71 : decode cX1_streetFor 71 = .ok (.astore 6, 2) := dk_58 6 (dk_at dksX1_streetFor_3 3 rfl rfl)
theorem dX1_streetFor_73 : decode cX1_streetFor 73 = .ok (.aload 6, 2) := dk_25 6 (dk_at dksX1_streetFor_3 5 rfl rfl)
theorem dX1_streetFor_75 : decode cX1_streetFor 75 = .ok (.invokevirtual 171, 3) := dk_182 0 171 (dk_at dksX1_streetFor_3 7 rfl rfl)
theorem dX1_streetFor_78 : decode cX1_streetFor 78 = .ok (.iload_n 1, 1) := dk_27 (dk_at dksX1_streetFor_3 10 rfl rfl)
theorem dX1_streetFor_79 : decode cX1_streetFor 79 = .ok (.if_icmp .ne 27, 3) := dk_160 0 27 (dk_at dksX1_streetFor_3 11 rfl rfl)
theorem dX1_streetFor_82 : decode cX1_streetFor 82 = .ok (.aload 6, 2) := dk_25 6 (dk_at dksX1_streetFor_3 14 rfl rfl)
theorem dX1_streetFor_84 : decode cX1_streetFor 84 = .ok (.invokevirtual 174, 3) := dk_182 0 174 (dk_at dksX1_streetFor_3 16 rfl rfl)
theorem dX1_streetFor_87 : decode cX1_streetFor 87 = .ok (.iload_n 3, 1) := dk_29 (dk_at dksX1_streetFor_3 19 rfl rfl)
theorem dX1_streetFor_88 : decode cX1_streetFor 88 = .ok (.if_icmp .ne 18, 3) := dk_160 0 18 (dk_at dksX1_streetFor_3 20 rfl rfl)
theorem dX1_streetFor_91 : decode cX1_streetFor 91 = .ok (.aload 6, 2) := dk_25 6 (dk_at dksX1_streetFor_4 0 rfl rfl)
theorem dX1_streetFor_93 : decode cX1_streetFor 93 = .ok (.iload_n 2, 1) := dk_28 (dk_at dksX1_streetFor_4 2 rfl rfl)
theorem dX1_streetFor_94 : decode cX1_streetFor 94 = .ok (.invokevirtual 186, 3) := dk_182 0 186 (dk_at dksX1_streetFor_4 3 rfl rfl)
theorem dX1_streetFor_97 : decode cX1_streetFor 97 = .ok (.ifCond .eq 9, 3) := dk_153 0 9 (dk_at dksX1_streetFor_4 6 rfl rfl)
theorem dX1_streetFor_100 : decode cX1_streetFor 100 = .ok (.aload 6, 2) := dk_25 6 (dk_at dksX1_streetFor_4 9 rfl rfl)
theorem dX1_streetFor_102 : decode cX1_streetFor 102 = .ok (.invokevirtual 190, 3) := dk_182 0 190 (dk_at dksX1_streetFor_4 11 rfl rfl)
theorem dX1_streetFor_105 : decode cX1_streetFor 105 = .ok (.ireturn, 1) := dk_172 (dk_at dksX1_streetFor_4 14 rfl rfl)
theorem dX1_streetFor_106 : decode cX1_streetFor 106 = .ok (.iinc 5 1, 3) := dk_132 5 1 (dk_at dksX1_streetFor_4 15 rfl rfl)
theorem dX1_streetFor_109 : decode cX1_streetFor 109 = .ok (.goto (-66), 3) := dk_167 255 190 (dk_at dksX1_streetFor_4 18 rfl rfl)
theorem dX1_streetFor_112 : decode cX1_streetFor 112 = .ok (.iconst (-1), 1) := dk_2 (dk_at dksX1_streetFor_4 21 rfl rfl)
theorem dX1_streetFor_113 : decode cX1_streetFor 113 = .ok (.ireturn, 1) := dk_172 (dk_at dksX1_streetFor_4 22 rfl rfl)
abbrev cX1_addCarrier : ByteArray := prog_1_method_19_code
def yX1_addCarrier : MethodName := ⟨RX1, "addCarrier", "(II)I"⟩
def dkwX1_addCarrier_3 : List UInt8 := [185, 0, 155, 2, 0, 87, 42, 180, 0, 57, 185, 0, 85, 1, 0, 4, 100, 172]
abbrev dktX1_addCarrier_3 : List UInt8 := dkwX1_addCarrier_3 ++ []
def dkwX1_addCarrier_2 : List UInt8 := [42, 180, 0, 57, 187, 0, 196, 89, 42, 180, 0, 57, 185, 0, 85, 1, 0, 27, 28, 183, 0, 198]
abbrev dktX1_addCarrier_2 : List UInt8 := dkwX1_addCarrier_2 ++ dktX1_addCarrier_3
def dkwX1_addCarrier_1 : List UInt8 := [184, 0, 107, 42, 180, 0, 57, 185, 0, 85, 1, 0, 8, 162, 0, 7, 4, 167, 0, 4, 3, 184, 0, 110]
abbrev dktX1_addCarrier_1 : List UInt8 := dkwX1_addCarrier_1 ++ dktX1_addCarrier_2
def dkwX1_addCarrier_0 : List UInt8 := [42, 27, 182, 0, 193, 153, 0, 17, 28, 4, 16, 9, 184, 0, 91, 153, 0, 7, 4, 167, 0, 4, 3]
abbrev dktX1_addCarrier_0 : List UInt8 := dkwX1_addCarrier_0 ++ dktX1_addCarrier_1
theorem dksX1_addCarrier_0 : cX1_addCarrier.data.toList.drop 0 = dktX1_addCarrier_0 := by decide +kernel
theorem dksX1_addCarrier_1 : cX1_addCarrier.data.toList.drop 23 = dktX1_addCarrier_1 := dk_seg dksX1_addCarrier_0 23 rfl rfl
theorem dksX1_addCarrier_2 : cX1_addCarrier.data.toList.drop 47 = dktX1_addCarrier_2 := dk_seg dksX1_addCarrier_1 24 rfl rfl
theorem dksX1_addCarrier_3 : cX1_addCarrier.data.toList.drop 69 = dktX1_addCarrier_3 := dk_seg dksX1_addCarrier_2 22 rfl rfl
theorem dX1_addCarrier_0 : decode cX1_addCarrier 0 = .ok (.aload_n 0, 1) := dk_42 (dk_at dksX1_addCarrier_0 0 rfl rfl)
theorem dX1_addCarrier_1 : decode cX1_addCarrier 1 = .ok (.iload_n 1, 1) := dk_27 (dk_at dksX1_addCarrier_0 1 rfl rfl)
theorem dX1_addCarrier_2 : decode cX1_addCarrier 2 = .ok (.invokevirtual 193, 3) := dk_182 0 193 (dk_at dksX1_addCarrier_0 2 rfl rfl)
theorem dX1_addCarrier_5 : decode cX1_addCarrier 5 = .ok (.ifCond .eq 17, 3) := dk_153 0 17 (dk_at dksX1_addCarrier_0 5 rfl rfl)
theorem dX1_addCarrier_8 : decode cX1_addCarrier 8 = .ok (.iload_n 2, 1) := dk_28 (dk_at dksX1_addCarrier_0 8 rfl rfl)
theorem dX1_addCarrier_9 : decode cX1_addCarrier 9 = .ok (.iconst 1, 1) := dk_4 (dk_at dksX1_addCarrier_0 9 rfl rfl)
theorem dX1_addCarrier_10 : decode cX1_addCarrier 10 = .ok (.bipush 9, 2) := dk_16 9 (dk_at dksX1_addCarrier_0 10 rfl rfl)
theorem dX1_addCarrier_12 : decode cX1_addCarrier 12 = .ok (.invokestatic 91, 3) := dk_184 0 91 (dk_at dksX1_addCarrier_0 12 rfl rfl)
theorem dX1_addCarrier_15 : decode cX1_addCarrier 15 = .ok (.ifCond .eq 7, 3) := dk_153 0 7 (dk_at dksX1_addCarrier_0 15 rfl rfl)
theorem dX1_addCarrier_18 : decode cX1_addCarrier 18 = .ok (.iconst 1, 1) := dk_4 (dk_at dksX1_addCarrier_0 18 rfl rfl)
theorem dX1_addCarrier_19 : decode cX1_addCarrier 19 = .ok (.goto 4, 3) := dk_167 0 4 (dk_at dksX1_addCarrier_0 19 rfl rfl)
theorem dX1_addCarrier_22 : decode cX1_addCarrier 22 = .ok (.iconst 0, 1) := dk_3 (dk_at dksX1_addCarrier_0 22 rfl rfl)
theorem dX1_addCarrier_23 : decode cX1_addCarrier 23 = .ok (.invokestatic 107, 3) := dk_184 0 107 (dk_at dksX1_addCarrier_1 0 rfl rfl)
theorem dX1_addCarrier_26 : decode cX1_addCarrier 26 = .ok (.aload_n 0, 1) := dk_42 (dk_at dksX1_addCarrier_1 3 rfl rfl)
theorem dX1_addCarrier_27 : decode cX1_addCarrier 27 = .ok (.getfield 57, 3) := dk_180 0 57 (dk_at dksX1_addCarrier_1 4 rfl rfl)
theorem dX1_addCarrier_30 : decode cX1_addCarrier 30 = .ok (.invokeinterface 85 1, 5) := by decide +kernel
theorem dX1_addCarrier_35 : decode cX1_addCarrier 35 = .ok (.iconst 5, 1) := dk_8 (dk_at dksX1_addCarrier_1 12 rfl rfl)
theorem dX1_addCarrier_36 : decode cX1_addCarrier 36 = .ok (.if_icmp .ge 7, 3) := dk_162 0 7 (dk_at dksX1_addCarrier_1 13 rfl rfl)
theorem dX1_addCarrier_39 : decode cX1_addCarrier 39 = .ok (.iconst 1, 1) := dk_4 (dk_at dksX1_addCarrier_1 16 rfl rfl)
theorem dX1_addCarrier_40 : decode cX1_addCarrier 40 = .ok (.goto 4, 3) := dk_167 0 4 (dk_at dksX1_addCarrier_1 17 rfl rfl)
theorem dX1_addCarrier_43 : decode cX1_addCarrier 43 = .ok (.iconst 0, 1) := dk_3 (dk_at dksX1_addCarrier_1 20 rfl rfl)
theorem dX1_addCarrier_44 : decode cX1_addCarrier 44 = .ok (.invokestatic 110, 3) := dk_184 0 110 (dk_at dksX1_addCarrier_1 21 rfl rfl)
theorem dX1_addCarrier_47 : decode cX1_addCarrier 47 = .ok (.aload_n 0, 1) := dk_42 (dk_at dksX1_addCarrier_2 0 rfl rfl)
theorem dX1_addCarrier_48 : decode cX1_addCarrier 48 = .ok (.getfield 57, 3) := dk_180 0 57 (dk_at dksX1_addCarrier_2 1 rfl rfl)
theorem dX1_addCarrier_51 : decode cX1_addCarrier 51 = .ok (.new 196, 3) := dk_187 0 196 (dk_at dksX1_addCarrier_2 4 rfl rfl)
theorem dX1_addCarrier_54 : decode cX1_addCarrier 54 = .ok (.dup, 1) := dk_89 (dk_at dksX1_addCarrier_2 7 rfl rfl)
theorem dX1_addCarrier_55 : decode cX1_addCarrier 55 = .ok (.aload_n 0, 1) := dk_42 (dk_at dksX1_addCarrier_2 8 rfl rfl)
theorem dX1_addCarrier_56 : decode cX1_addCarrier 56 = .ok (.getfield 57, 3) := dk_180 0 57 (dk_at dksX1_addCarrier_2 9 rfl rfl)
theorem dX1_addCarrier_59 : decode cX1_addCarrier 59 = .ok (.invokeinterface 85 1, 5) := by decide +kernel
theorem dX1_addCarrier_64 : decode cX1_addCarrier 64 = .ok (.iload_n 1, 1) := dk_27 (dk_at dksX1_addCarrier_2 17 rfl rfl)
theorem dX1_addCarrier_65 : decode cX1_addCarrier 65 = .ok (.iload_n 2, 1) := dk_28 (dk_at dksX1_addCarrier_2 18 rfl rfl)
theorem dX1_addCarrier_66 : decode cX1_addCarrier 66 = .ok (.invokespecial 198, 3) := dk_183 0 198 (dk_at dksX1_addCarrier_2 19 rfl rfl)
theorem dX1_addCarrier_69 : decode cX1_addCarrier 69 = .ok (.invokeinterface 155 2, 5) := by decide +kernel
theorem dX1_addCarrier_74 : decode cX1_addCarrier 74 = .ok (.pop, 1) := dk_87 (dk_at dksX1_addCarrier_3 5 rfl rfl)
theorem dX1_addCarrier_75 : decode cX1_addCarrier 75 = .ok (.aload_n 0, 1) := dk_42 (dk_at dksX1_addCarrier_3 6 rfl rfl)
theorem dX1_addCarrier_76 : decode cX1_addCarrier 76 = .ok (.getfield 57, 3) := dk_180 0 57 (dk_at dksX1_addCarrier_3 7 rfl rfl)
theorem dX1_addCarrier_79 : decode cX1_addCarrier 79 = .ok (.invokeinterface 85 1, 5) := by decide +kernel
theorem dX1_addCarrier_84 : decode cX1_addCarrier 84 = .ok (.iconst 1, 1) := dk_4 (dk_at dksX1_addCarrier_3 15 rfl rfl)
theorem dX1_addCarrier_85 : decode cX1_addCarrier 85 = .ok (.isub, 1) := dk_100 (dk_at dksX1_addCarrier_3 16 rfl rfl)
theorem dX1_addCarrier_86 : decode cX1_addCarrier 86 = .ok (.ireturn, 1) := dk_172 (dk_at dksX1_addCarrier_3 17 rfl rfl)
abbrev cX1_isRound : ByteArray := prog_1_method_18_code
def yX1_isRound : MethodName := ⟨RX1, "isRound", "(I)Z"⟩
def dkwX1_isRound_0 : List UInt8 := [27, 3, 4, 42, 180, 0, 103, 120, 4, 100, 184, 0, 91, 172]
abbrev dktX1_isRound_0 : List UInt8 := dkwX1_isRound_0 ++ []
theorem dksX1_isRound_0 : cX1_isRound.data.toList.drop 0 = dktX1_isRound_0 := by decide +kernel
theorem dX1_isRound_0 : decode cX1_isRound 0 = .ok (.iload_n 1, 1) := dk_27 (dk_at dksX1_isRound_0 0 rfl rfl)
theorem dX1_isRound_1 : decode cX1_isRound 1 = .ok (.iconst 0, 1) := dk_3 (dk_at dksX1_isRound_0 1 rfl rfl)
theorem dX1_isRound_2 : decode cX1_isRound 2 = .ok (.iconst 1, 1) := dk_4 (dk_at dksX1_isRound_0 2 rfl rfl)
theorem dX1_isRound_3 : decode cX1_isRound 3 = .ok (.aload_n 0, 1) := dk_42 (dk_at dksX1_isRound_0 3 rfl rfl)
theorem dX1_isRound_4 : decode cX1_isRound 4 = .ok (.getfield 103, 3) := dk_180 0 103 (dk_at dksX1_isRound_0 4 rfl rfl)
theorem dX1_isRound_7 : decode cX1_isRound 7 = .ok (.ishl, 1) := dk_120 (dk_at dksX1_isRound_0 7 rfl rfl)
theorem dX1_isRound_8 : decode cX1_isRound 8 = .ok (.iconst 1, 1) := dk_4 (dk_at dksX1_isRound_0 8 rfl rfl)
theorem dX1_isRound_9 : decode cX1_isRound 9 = .ok (.isub, 1) := dk_100 (dk_at dksX1_isRound_0 9 rfl rfl)
theorem dX1_isRound_10 : decode cX1_isRound 10 = .ok (.invokestatic 91, 3) := dk_184 0 91 (dk_at dksX1_isRound_0 10 rfl rfl)
theorem dX1_isRound_13 : decode cX1_isRound 13 = .ok (.ireturn, 1) := dk_172 (dk_at dksX1_isRound_0 13 rfl rfl)
abbrev cX1_setRound : ByteArray := prog_1_method_20_code
def yX1_setRound : MethodName := ⟨RX1, "setRound", "(II)I"⟩
def dkwX1_setRound_1 : List UInt8 := [54, 4, 45, 28, 181, 0, 201, 21, 4, 172]
abbrev dktX1_setRound_1 : List UInt8 := dkwX1_setRound_1 ++ []
def dkwX1_setRound_0 : List UInt8 := [42, 180, 0, 57, 27, 184, 0, 162, 192, 0, 196, 78, 42, 28, 182, 0, 193, 184, 0, 107, 45, 180, 0, 201]
abbrev dktX1_setRound_0 : List UInt8 := dkwX1_setRound_0 ++ dktX1_setRound_1
theorem dksX1_setRound_0 : cX1_setRound.data.toList.drop 0 = dktX1_setRound_0 := by decide +kernel
theorem dksX1_setRound_1 : cX1_setRound.data.toList.drop 24 = dktX1_setRound_1 := dk_seg dksX1_setRound_0 24 rfl rfl
theorem dX1_setRound_0 : decode cX1_setRound 0 = .ok (.aload_n 0, 1) := dk_42 (dk_at dksX1_setRound_0 0 rfl rfl)
theorem dX1_setRound_1 : decode cX1_setRound 1 = .ok (.getfield 57, 3) := dk_180 0 57 (dk_at dksX1_setRound_0 1 rfl rfl)
theorem dX1_setRound_4 : decode cX1_setRound 4 = .ok (.iload_n 1, 1) := dk_27 (dk_at dksX1_setRound_0 4 rfl rfl)
theorem dX1_setRound_5 : decode cX1_setRound 5 = .ok (.invokestatic 162, 3) := dk_184 0 162 (dk_at dksX1_setRound_0 5 rfl rfl)
theorem dX1_setRound_8 : decode cX1_setRound 8 = .ok (.checkcast 196, 3) := dk_192 0 196 (dk_at dksX1_setRound_0 8 rfl rfl)
theorem dX1_setRound_11 : decode cX1_setRound 11 = .ok (.astore_n 3, 1) := dk_78 (dk_at dksX1_setRound_0 11 rfl rfl)
theorem dX1_setRound_12 : decode cX1_setRound 12 = .ok (.aload_n 0, 1) := dk_42 (dk_at dksX1_setRound_0 12 rfl rfl)
theorem dX1_setRound_13 : decode cX1_setRound 13 = .ok (.iload_n 2, 1) := dk_28 (dk_at dksX1_setRound_0 13 rfl rfl)
theorem dX1_setRound_14 : decode cX1_setRound 14 = .ok (.invokevirtual 193, 3) := dk_182 0 193 (dk_at dksX1_setRound_0 14 rfl rfl)
theorem dX1_setRound_17 : decode cX1_setRound 17 = .ok (.invokestatic 107, 3) := dk_184 0 107 (dk_at dksX1_setRound_0 17 rfl rfl)
theorem dX1_setRound_20 : decode cX1_setRound 20 = .ok (.aload_n 3, 1) := dk_45 (dk_at dksX1_setRound_0 20 rfl rfl)
theorem dX1_setRound_21 : decode cX1_setRound 21 = .ok (.getfield 201, 3) := dk_180 0 201 (dk_at dksX1_setRound_0 21 rfl rfl)
theorem dX1_setRound_24 : decode cX1_setRound 24 = .ok (.istore 4, 2) := dk_54 4 (dk_at dksX1_setRound_1 0 rfl rfl)
theorem dX1_setRound_26 : decode cX1_setRound 26 = .ok (.aload_n 3, 1) := dk_45 (dk_at dksX1_setRound_1 2 rfl rfl)
theorem dX1_setRound_27 : decode cX1_setRound 27 = .ok (.iload_n 2, 1) := dk_28 (dk_at dksX1_setRound_1 3 rfl rfl)
theorem dX1_setRound_28 : decode cX1_setRound 28 = .ok (.putfield 201, 3) := dk_181 0 201 (dk_at dksX1_setRound_1 4 rfl rfl)
theorem dX1_setRound_31 : decode cX1_setRound 31 = .ok (.iload 4, 2) := dk_21 4 (dk_at dksX1_setRound_1 7 rfl rfl)
theorem dX1_setRound_33 : decode cX1_setRound 33 = .ok (.ireturn, 1) := dk_172 (dk_at dksX1_setRound_1 9 rfl rfl)
abbrev cX1_setRoom : ByteArray := prog_1_method_21_code
def yX1_setRoom : MethodName := ⟨RX1, "setRoom", "(II)I"⟩
def dkwX1_setRoom_1 : List UInt8 := [180, 0, 204, 54, 4, 45, 28, 181, 0, 204, 21, 4, 172]
abbrev dktX1_setRoom_1 : List UInt8 := dkwX1_setRoom_1 ++ []
def dkwX1_setRoom_0 : List UInt8 := [42, 180, 0, 57, 27, 184, 0, 162, 192, 0, 196, 78, 28, 4, 16, 9, 184, 0, 91, 184, 0, 107, 45]
abbrev dktX1_setRoom_0 : List UInt8 := dkwX1_setRoom_0 ++ dktX1_setRoom_1
theorem dksX1_setRoom_0 : cX1_setRoom.data.toList.drop 0 = dktX1_setRoom_0 := by decide +kernel
theorem dksX1_setRoom_1 : cX1_setRoom.data.toList.drop 23 = dktX1_setRoom_1 := dk_seg dksX1_setRoom_0 23 rfl rfl
theorem dX1_setRoom_0 : decode cX1_setRoom 0 = .ok (.aload_n 0, 1) := dk_42 (dk_at dksX1_setRoom_0 0 rfl rfl)
theorem dX1_setRoom_1 : decode cX1_setRoom 1 = .ok (.getfield 57, 3) := dk_180 0 57 (dk_at dksX1_setRoom_0 1 rfl rfl)
theorem dX1_setRoom_4 : decode cX1_setRoom 4 = .ok (.iload_n 1, 1) := dk_27 (dk_at dksX1_setRoom_0 4 rfl rfl)
theorem dX1_setRoom_5 : decode cX1_setRoom 5 = .ok (.invokestatic 162, 3) := dk_184 0 162 (dk_at dksX1_setRoom_0 5 rfl rfl)
theorem dX1_setRoom_8 : decode cX1_setRoom 8 = .ok (.checkcast 196, 3) := dk_192 0 196 (dk_at dksX1_setRoom_0 8 rfl rfl)
theorem dX1_setRoom_11 : decode cX1_setRoom 11 = .ok (.astore_n 3, 1) := dk_78 (dk_at dksX1_setRoom_0 11 rfl rfl)
theorem dX1_setRoom_12 : decode cX1_setRoom 12 = .ok (.iload_n 2, 1) := dk_28 (dk_at dksX1_setRoom_0 12 rfl rfl)
theorem dX1_setRoom_13 : decode cX1_setRoom 13 = .ok (.iconst 1, 1) := dk_4 (dk_at dksX1_setRoom_0 13 rfl rfl)
theorem dX1_setRoom_14 : decode cX1_setRoom 14 = .ok (.bipush 9, 2) := dk_16 9 (dk_at dksX1_setRoom_0 14 rfl rfl)
theorem dX1_setRoom_16 : decode cX1_setRoom 16 = .ok (.invokestatic 91, 3) := dk_184 0 91 (dk_at dksX1_setRoom_0 16 rfl rfl)
theorem dX1_setRoom_19 : decode cX1_setRoom 19 = .ok (.invokestatic 107, 3) := dk_184 0 107 (dk_at dksX1_setRoom_0 19 rfl rfl)
theorem dX1_setRoom_22 : decode cX1_setRoom 22 = .ok (.aload_n 3, 1) := dk_45 (dk_at dksX1_setRoom_0 22 rfl rfl)
theorem dX1_setRoom_23 : decode cX1_setRoom 23 = .ok (.getfield 204, 3) := dk_180 0 204 (dk_at dksX1_setRoom_1 0 rfl rfl)
theorem dX1_setRoom_26 : decode cX1_setRoom 26 = .ok (.istore 4, 2) := dk_54 4 (dk_at dksX1_setRoom_1 3 rfl rfl)
theorem dX1_setRoom_28 : decode cX1_setRoom 28 = .ok (.aload_n 3, 1) := dk_45 (dk_at dksX1_setRoom_1 5 rfl rfl)
theorem dX1_setRoom_29 : decode cX1_setRoom 29 = .ok (.iload_n 2, 1) := dk_28 (dk_at dksX1_setRoom_1 6 rfl rfl)
theorem dX1_setRoom_30 : decode cX1_setRoom 30 = .ok (.putfield 204, 3) := dk_181 0 204 (dk_at dksX1_setRoom_1 7 rfl rfl)
theorem dX1_setRoom_33 : decode cX1_setRoom 33 = .ok (.iload 4, 2) := dk_21 4 (dk_at dksX1_setRoom_1 10 rfl rfl)
theorem dX1_setRoom_35 : decode cX1_setRoom 35 = .ok (.ireturn, 1) := dk_172 (dk_at dksX1_setRoom_1 12 rfl rfl)
abbrev cX1_lesson : ByteArray := prog_1_method_22_code
def yX1_lesson : MethodName := ⟨RX1, "lesson", "(IIII)I"⟩
def dkwX1_lesson_2 : List UInt8 := [46, 172]
abbrev dktX1_lesson_2 : List UInt8 := dkwX1_lesson_2 ++ []
def dkwX1_lesson_1 : List UInt8 := [58, 6, 42, 21, 4, 182, 0, 166, 29, 184, 0, 207, 25, 5, 180, 0, 210, 28, 29, 21, 4, 184, 0, 214]
abbrev dktX1_lesson_1 : List UInt8 := dkwX1_lesson_1 ++ dktX1_lesson_2
def dkwX1_lesson_0 : List UInt8 := [42, 180, 0, 57, 27, 184, 0, 162, 192, 0, 196, 58, 5, 42, 180, 0, 50, 28, 184, 0, 162, 192, 0, 113]
abbrev dktX1_lesson_0 : List UInt8 := dkwX1_lesson_0 ++ dktX1_lesson_1
theorem dksX1_lesson_0 : cX1_lesson.data.toList.drop 0 = dktX1_lesson_0 := by decide +kernel
theorem dksX1_lesson_1 : cX1_lesson.data.toList.drop 24 = dktX1_lesson_1 := dk_seg dksX1_lesson_0 24 rfl rfl
theorem dksX1_lesson_2 : cX1_lesson.data.toList.drop 48 = dktX1_lesson_2 := dk_seg dksX1_lesson_1 24 rfl rfl
theorem dX1_lesson_0 : decode cX1_lesson 0 = .ok (.aload_n 0, 1) := dk_42 (dk_at dksX1_lesson_0 0 rfl rfl)
theorem dX1_lesson_1 : decode cX1_lesson 1 = .ok (.getfield 57, 3) := dk_180 0 57 (dk_at dksX1_lesson_0 1 rfl rfl)
theorem dX1_lesson_4 : decode cX1_lesson 4 = .ok (.iload_n 1, 1) := dk_27 (dk_at dksX1_lesson_0 4 rfl rfl)
theorem dX1_lesson_5 : decode cX1_lesson 5 = .ok (.invokestatic 162, 3) := dk_184 0 162 (dk_at dksX1_lesson_0 5 rfl rfl)
theorem dX1_lesson_8 : decode cX1_lesson 8 = .ok (.checkcast 196, 3) := dk_192 0 196 (dk_at dksX1_lesson_0 8 rfl rfl)
theorem dX1_lesson_11 : decode cX1_lesson 11 = .ok (.astore 5, 2) := dk_58 5 (dk_at dksX1_lesson_0 11 rfl rfl)
theorem dX1_lesson_13 : decode cX1_lesson 13 = .ok (.aload_n 0, 1) := dk_42 (dk_at dksX1_lesson_0 13 rfl rfl)
theorem dX1_lesson_14 : decode cX1_lesson 14 = .ok (.getfield 50, 3) := dk_180 0 50 (dk_at dksX1_lesson_0 14 rfl rfl)
theorem dX1_lesson_17 : decode cX1_lesson 17 = .ok (.iload_n 2, 1) := dk_28 (dk_at dksX1_lesson_0 17 rfl rfl)
theorem dX1_lesson_18 : decode cX1_lesson 18 = .ok (.invokestatic 162, 3) := dk_184 0 162 (dk_at dksX1_lesson_0 18 rfl rfl)
theorem dX1_lesson_21 : decode cX1_lesson 21 = .ok (.checkcast 113, 3) := dk_192 0 113 (dk_at dksX1_lesson_0 21 rfl rfl)
theorem dX1_lesson_24 : decode cX1_lesson 24 = .ok (.astore 6, 2) := dk_58 6 (dk_at dksX1_lesson_1 0 rfl rfl)
theorem dX1_lesson_26 : decode cX1_lesson 26 = .ok (.aload_n 0, 1) := dk_42 (dk_at dksX1_lesson_1 2 rfl rfl)
theorem dX1_lesson_27 : decode cX1_lesson 27 = .ok (.iload 4, 2) := dk_21 4 (dk_at dksX1_lesson_1 3 rfl rfl)
theorem dX1_lesson_29 : decode cX1_lesson 29 = .ok (.invokevirtual 166, 3) := dk_182 0 166 (dk_at dksX1_lesson_1 5 rfl rfl)
theorem dX1_lesson_32 : decode cX1_lesson 32 = .ok (.iload_n 3, 1) := dk_29 (dk_at dksX1_lesson_1 8 rfl rfl)
theorem dX1_lesson_33 : decode cX1_lesson 33 = .ok (.invokestatic 207, 3) := dk_184 0 207 (dk_at dksX1_lesson_1 9 rfl rfl)
theorem dX1_lesson_36 : decode cX1_lesson 36 = .ok (.aload 5, 2) := dk_25 5 (dk_at dksX1_lesson_1 12 rfl rfl)
theorem dX1_lesson_38 : decode cX1_lesson 38 = .ok (.getfield 210, 3) := dk_180 0 210 (dk_at dksX1_lesson_1 14 rfl rfl)
theorem dX1_lesson_41 : decode cX1_lesson 41 = .ok (.iload_n 2, 1) := dk_28 (dk_at dksX1_lesson_1 17 rfl rfl)
theorem dX1_lesson_42 : decode cX1_lesson 42 = .ok (.iload_n 3, 1) := dk_29 (dk_at dksX1_lesson_1 18 rfl rfl)
theorem dX1_lesson_43 : decode cX1_lesson 43 = .ok (.iload 4, 2) := dk_21 4 (dk_at dksX1_lesson_1 19 rfl rfl)
theorem dX1_lesson_45 : decode cX1_lesson 45 = .ok (.invokestatic 214, 3) := dk_184 0 214 (dk_at dksX1_lesson_1 21 rfl rfl)
theorem dX1_lesson_48 : decode cX1_lesson 48 = .ok (.iaload, 1) := dk_46 (dk_at dksX1_lesson_2 0 rfl rfl)
theorem dX1_lesson_49 : decode cX1_lesson 49 = .ok (.ireturn, 1) := dk_172 (dk_at dksX1_lesson_2 1 rfl rfl)
abbrev cX1_requireGroup : ByteArray := prog_1_method_10_code
def yX1_requireGroup : MethodName := ⟨RX1, "requireGroup", "(I)V"⟩
def dkwX1_requireGroup_0 : List UInt8 := [26, 3, 6, 184, 0, 91, 184, 0, 107, 177]
abbrev dktX1_requireGroup_0 : List UInt8 := dkwX1_requireGroup_0 ++ []
theorem dksX1_requireGroup_0 : cX1_requireGroup.data.toList.drop 0 = dktX1_requireGroup_0 := by decide +kernel
theorem dX1_requireGroup_0 : decode cX1_requireGroup 0 = .ok (.iload_n 0, 1) := dk_26 (dk_at dksX1_requireGroup_0 0 rfl rfl)
theorem dX1_requireGroup_1 : decode cX1_requireGroup 1 = .ok (.iconst 0, 1) := dk_3 (dk_at dksX1_requireGroup_0 1 rfl rfl)
theorem dX1_requireGroup_2 : decode cX1_requireGroup 2 = .ok (.iconst 3, 1) := dk_6 (dk_at dksX1_requireGroup_0 2 rfl rfl)
theorem dX1_requireGroup_3 : decode cX1_requireGroup 3 = .ok (.invokestatic 91, 3) := dk_184 0 91 (dk_at dksX1_requireGroup_0 3 rfl rfl)
theorem dX1_requireGroup_6 : decode cX1_requireGroup 6 = .ok (.invokestatic 107, 3) := dk_184 0 107 (dk_at dksX1_requireGroup_0 6 rfl rfl)
theorem dX1_requireGroup_9 : decode cX1_requireGroup 9 = .ok (.return_, 1) := dk_177 (dk_at dksX1_requireGroup_0 9 rfl rfl)
abbrev cX1_tell : ByteArray := prog_1_method_23_code
def yX1_tell : MethodName := ⟨RX1, "tell", "(IIII)I"⟩
def dkwX1_tell_3 : List UInt8 := [185, 0, 155, 2, 0, 87, 25, 7, 21, 6, 46, 172]
abbrev dktX1_tell_3 : List UInt8 := dkwX1_tell_3 ++ []
def dkwX1_tell_2 : List UInt8 := [185, 0, 222, 2, 0, 79, 42, 180, 0, 63, 187, 0, 227, 89, 27, 21, 6, 183, 0, 229]
abbrev dktX1_tell_2 : List UInt8 := dkwX1_tell_2 ++ dktX1_tell_3
def dkwX1_tell_1 : List UInt8 := [27, 185, 0, 99, 2, 0, 192, 0, 196, 180, 0, 210, 58, 7, 25, 7, 21, 6, 42, 180, 0, 22, 21, 5]
abbrev dktX1_tell_1 : List UInt8 := dkwX1_tell_1 ++ dktX1_tell_2
def dkwX1_tell_0 : List UInt8 := [42, 27, 28, 29, 21, 4, 182, 0, 218, 54, 5, 28, 29, 21, 4, 184, 0, 214, 54, 6, 42, 180, 0, 57]
abbrev dktX1_tell_0 : List UInt8 := dkwX1_tell_0 ++ dktX1_tell_1
theorem dksX1_tell_0 : cX1_tell.data.toList.drop 0 = dktX1_tell_0 := by decide +kernel
theorem dksX1_tell_1 : cX1_tell.data.toList.drop 24 = dktX1_tell_1 := dk_seg dksX1_tell_0 24 rfl rfl
theorem dksX1_tell_2 : cX1_tell.data.toList.drop 48 = dktX1_tell_2 := dk_seg dksX1_tell_1 24 rfl rfl
theorem dksX1_tell_3 : cX1_tell.data.toList.drop 68 = dktX1_tell_3 := dk_seg dksX1_tell_2 20 rfl rfl
theorem dX1_tell_0 : decode cX1_tell 0 = .ok (.aload_n 0, 1) := dk_42 (dk_at dksX1_tell_0 0 rfl rfl)
theorem dX1_tell_1 : decode cX1_tell 1 = .ok (.iload_n 1, 1) := dk_27 (dk_at dksX1_tell_0 1 rfl rfl)
theorem dX1_tell_2 : decode cX1_tell 2 = .ok (.iload_n 2, 1) := dk_28 (dk_at dksX1_tell_0 2 rfl rfl)
theorem dX1_tell_3 : decode cX1_tell 3 = .ok (.iload_n 3, 1) := dk_29 (dk_at dksX1_tell_0 3 rfl rfl)
theorem dX1_tell_4 : decode cX1_tell 4 = .ok (.iload 4, 2) := dk_21 4 (dk_at dksX1_tell_0 4 rfl rfl)
theorem dX1_tell_6 : decode cX1_tell 6 = .ok (.invokevirtual 218, 3) := dk_182 0 218 (dk_at dksX1_tell_0 6 rfl rfl)
theorem dX1_tell_9 : decode cX1_tell 9 = .ok (.istore 5, 2) := dk_54 5 (dk_at dksX1_tell_0 9 rfl rfl)
theorem dX1_tell_11 : decode cX1_tell 11 = .ok (.iload_n 2, 1) := dk_28 (dk_at dksX1_tell_0 11 rfl rfl)
theorem dX1_tell_12 : decode cX1_tell 12 = .ok (.iload_n 3, 1) := dk_29 (dk_at dksX1_tell_0 12 rfl rfl)
theorem dX1_tell_13 : decode cX1_tell 13 = .ok (.iload 4, 2) := dk_21 4 (dk_at dksX1_tell_0 13 rfl rfl)
theorem dX1_tell_15 : decode cX1_tell 15 = .ok (.invokestatic 214, 3) := dk_184 0 214 (dk_at dksX1_tell_0 15 rfl rfl)
theorem dX1_tell_18 : decode cX1_tell 18 = .ok (.istore 6, 2) := dk_54 6 (dk_at dksX1_tell_0 18 rfl rfl)
theorem dX1_tell_20 : decode cX1_tell 20 = .ok (.aload_n 0, 1) := dk_42 (dk_at dksX1_tell_0 20 rfl rfl)
theorem dX1_tell_21 : decode cX1_tell 21 = .ok (.getfield 57, 3) := dk_180 0 57 (dk_at dksX1_tell_0 21 rfl rfl)
theorem dX1_tell_24 : decode cX1_tell 24 = .ok (.iload_n 1, 1) := dk_27 (dk_at dksX1_tell_1 0 rfl rfl)
theorem dX1_tell_25 : decode cX1_tell 25 = .ok (.invokeinterface 99 2, 5) := by decide +kernel
theorem dX1_tell_30 : decode cX1_tell 30 = .ok (.checkcast 196, 3) := dk_192 0 196 (dk_at dksX1_tell_1 6 rfl rfl)
theorem dX1_tell_33 : decode cX1_tell 33 = .ok (.getfield 210, 3) := dk_180 0 210 (dk_at dksX1_tell_1 9 rfl rfl)
theorem dX1_tell_36 : decode cX1_tell 36 = .ok (.astore 7, 2) := dk_58 7 (dk_at dksX1_tell_1 12 rfl rfl)
theorem dX1_tell_38 : decode cX1_tell 38 = .ok (.aload 7, 2) := dk_25 7 (dk_at dksX1_tell_1 14 rfl rfl)
theorem dX1_tell_40 : decode cX1_tell 40 = .ok (.iload 6, 2) := dk_21 6 (dk_at dksX1_tell_1 16 rfl rfl)
theorem dX1_tell_42 : decode cX1_tell 42 = .ok (.aload_n 0, 1) := dk_42 (dk_at dksX1_tell_1 18 rfl rfl)
theorem dX1_tell_43 : decode cX1_tell 43 = .ok (.getfield 22, 3) := dk_180 0 22 (dk_at dksX1_tell_1 19 rfl rfl)
theorem dX1_tell_46 : decode cX1_tell 46 = .ok (.iload 5, 2) := dk_21 5 (dk_at dksX1_tell_1 22 rfl rfl)
theorem dX1_tell_48 : decode cX1_tell 48 = .ok (.invokeinterface 222 2, 5) := by decide +kernel
theorem dX1_tell_53 : decode cX1_tell 53 = .ok (.iastore, 1) := dk_79 (dk_at dksX1_tell_2 5 rfl rfl)
theorem dX1_tell_54 : decode cX1_tell 54 = .ok (.aload_n 0, 1) := dk_42 (dk_at dksX1_tell_2 6 rfl rfl)
theorem dX1_tell_55 : decode cX1_tell 55 = .ok (.getfield 63, 3) := dk_180 0 63 (dk_at dksX1_tell_2 7 rfl rfl)
theorem dX1_tell_58 : decode cX1_tell 58 = .ok (.new 227, 3) := dk_187 0 227 (dk_at dksX1_tell_2 10 rfl rfl)
theorem dX1_tell_61 : decode cX1_tell 61 = .ok (.dup, 1) := dk_89 (dk_at dksX1_tell_2 13 rfl rfl)
theorem dX1_tell_62 : decode cX1_tell 62 = .ok (.iload_n 1, 1) := dk_27 (dk_at dksX1_tell_2 14 rfl rfl)
theorem dX1_tell_63 : decode cX1_tell 63 = .ok (.iload 6, 2) := dk_21 6 (dk_at dksX1_tell_2 15 rfl rfl)
theorem dX1_tell_65 : decode cX1_tell 65 = .ok (.invokespecial 229, 3) := dk_183 0 229 (dk_at dksX1_tell_2 17 rfl rfl)
theorem dX1_tell_68 : decode cX1_tell 68 = .ok (.invokeinterface 155 2, 5) := by decide +kernel
theorem dX1_tell_73 : decode cX1_tell 73 = .ok (.pop, 1) := dk_87 (dk_at dksX1_tell_3 5 rfl rfl)
theorem dX1_tell_74 : decode cX1_tell 74 = .ok (.aload 7, 2) := dk_25 7 (dk_at dksX1_tell_3 6 rfl rfl)
theorem dX1_tell_76 : decode cX1_tell 76 = .ok (.iload 6, 2) := dk_21 6 (dk_at dksX1_tell_3 8 rfl rfl)
theorem dX1_tell_78 : decode cX1_tell 78 = .ok (.iaload, 1) := dk_46 (dk_at dksX1_tell_3 10 rfl rfl)
theorem dX1_tell_79 : decode cX1_tell 79 = .ok (.ireturn, 1) := dk_172 (dk_at dksX1_tell_3 11 rfl rfl)
abbrev cX1_feed : ByteArray := prog_1_method_24_code
def yX1_feed : MethodName := ⟨RX1, "feed", "(II)I"⟩
def dkwX1_feed_5 : List UInt8 := [3, 184, 0, 110, 42, 180, 0, 72, 45, 182, 0, 239, 87, 42, 180, 0, 72, 182, 0, 238, 172]
abbrev dktX1_feed_5 : List UInt8 := dkwX1_feed_5 ++ []
def dkwX1_feed_4 : List UInt8 := [167, 255, 177, 42, 180, 0, 72, 182, 0, 238, 45, 182, 0, 238, 96, 16, 48, 163, 0, 7, 4, 167, 0, 4]
abbrev dktX1_feed_4 : List UInt8 := dkwX1_feed_4 ++ dktX1_feed_5
def dkwX1_feed_3 : List UInt8 := [167, 0, 4, 3, 184, 0, 107, 21, 5, 153, 0, 10, 45, 21, 5, 182, 0, 234, 87, 132, 4, 1]
abbrev dktX1_feed_3 : List UInt8 := dkwX1_feed_3 ++ dktX1_feed_4
def dkwX1_feed_2 : List UInt8 := [54, 5, 21, 5, 153, 0, 18, 21, 5, 16, 32, 159, 0, 11, 21, 5, 184, 0, 136, 153, 0, 7, 4]
abbrev dktX1_feed_2 : List UInt8 := dkwX1_feed_2 ++ dktX1_feed_3
def dkwX1_feed_1 : List UInt8 := [162, 0, 7, 27, 167, 0, 4, 28, 16, 24, 16, 8, 21, 4, 7, 112, 104, 100, 124, 17, 0, 255, 126, 146]
abbrev dktX1_feed_1 : List UInt8 := dkwX1_feed_1 ++ dktX1_feed_2
def dkwX1_feed_0 : List UInt8 := [187, 0, 69, 89, 16, 8, 183, 0, 232, 78, 3, 54, 4, 21, 4, 16, 8, 162, 0, 78, 21, 4, 7]
abbrev dktX1_feed_0 : List UInt8 := dkwX1_feed_0 ++ dktX1_feed_1
theorem dksX1_feed_0 : cX1_feed.data.toList.drop 0 = dktX1_feed_0 := by decide +kernel
theorem dksX1_feed_1 : cX1_feed.data.toList.drop 23 = dktX1_feed_1 := dk_seg dksX1_feed_0 23 rfl rfl
theorem dksX1_feed_2 : cX1_feed.data.toList.drop 47 = dktX1_feed_2 := dk_seg dksX1_feed_1 24 rfl rfl
theorem dksX1_feed_3 : cX1_feed.data.toList.drop 70 = dktX1_feed_3 := dk_seg dksX1_feed_2 23 rfl rfl
theorem dksX1_feed_4 : cX1_feed.data.toList.drop 92 = dktX1_feed_4 := dk_seg dksX1_feed_3 22 rfl rfl
theorem dksX1_feed_5 : cX1_feed.data.toList.drop 116 = dktX1_feed_5 := dk_seg dksX1_feed_4 24 rfl rfl
theorem dX1_feed_0 : decode cX1_feed 0 = .ok (.new 69, 3) := dk_187 0 69 (dk_at dksX1_feed_0 0 rfl rfl)
theorem dX1_feed_3 : decode cX1_feed 3 = .ok (.dup, 1) := dk_89 (dk_at dksX1_feed_0 3 rfl rfl)
theorem dX1_feed_4 : decode cX1_feed 4 = .ok (.bipush 8, 2) := dk_16 8 (dk_at dksX1_feed_0 4 rfl rfl)
theorem dX1_feed_6 : decode cX1_feed 6 = .ok (.invokespecial 232, 3) := dk_183 0 232 (dk_at dksX1_feed_0 6 rfl rfl)
theorem dX1_feed_9 : decode cX1_feed 9 = .ok (.astore_n 3, 1) := dk_78 (dk_at dksX1_feed_0 9 rfl rfl)
theorem dX1_feed_10 : decode cX1_feed 10 = .ok (.iconst 0, 1) := dk_3 (dk_at dksX1_feed_0 10 rfl rfl)
theorem dX1_feed_11 : decode cX1_feed 11 = .ok (.istore 4, 2) := dk_54 4 (dk_at dksX1_feed_0 11 rfl rfl)
theorem dX1_feed_13 : decode cX1_feed 13 = .ok (.iload 4, 2) := dk_21 4 (dk_at dksX1_feed_0 13 rfl rfl)
theorem dX1_feed_15 : decode cX1_feed 15 = .ok (.bipush 8, 2) := dk_16 8 (dk_at dksX1_feed_0 15 rfl rfl)
theorem dX1_feed_17 : decode cX1_feed 17 = .ok (.if_icmp .ge 78, 3) := dk_162 0 78 (dk_at dksX1_feed_0 17 rfl rfl)
theorem dX1_feed_20 : decode cX1_feed 20 = .ok (.iload 4, 2) := dk_21 4 (dk_at dksX1_feed_0 20 rfl rfl)
theorem dX1_feed_22 : decode cX1_feed 22 = .ok (.iconst 4, 1) := dk_7 (dk_at dksX1_feed_0 22 rfl rfl)
theorem dX1_feed_23 : decode cX1_feed 23 = .ok (.if_icmp .ge 7, 3) := dk_162 0 7 (dk_at dksX1_feed_1 0 rfl rfl)
theorem dX1_feed_26 : decode cX1_feed 26 = .ok (.iload_n 1, 1) := dk_27 (dk_at dksX1_feed_1 3 rfl rfl)
theorem dX1_feed_27 : decode cX1_feed 27 = .ok (.goto 4, 3) := dk_167 0 4 (dk_at dksX1_feed_1 4 rfl rfl)
theorem dX1_feed_30 : decode cX1_feed 30 = .ok (.iload_n 2, 1) := dk_28 (dk_at dksX1_feed_1 7 rfl rfl)
theorem dX1_feed_31 : decode cX1_feed 31 = .ok (.bipush 24, 2) := dk_16 24 (dk_at dksX1_feed_1 8 rfl rfl)
theorem dX1_feed_33 : decode cX1_feed 33 = .ok (.bipush 8, 2) := dk_16 8 (dk_at dksX1_feed_1 10 rfl rfl)
theorem dX1_feed_35 : decode cX1_feed 35 = .ok (.iload 4, 2) := dk_21 4 (dk_at dksX1_feed_1 12 rfl rfl)
theorem dX1_feed_37 : decode cX1_feed 37 = .ok (.iconst 4, 1) := dk_7 (dk_at dksX1_feed_1 14 rfl rfl)
theorem dX1_feed_38 : decode cX1_feed 38 = .ok (.irem, 1) := dk_112 (dk_at dksX1_feed_1 15 rfl rfl)
theorem dX1_feed_39 : decode cX1_feed 39 = .ok (.imul, 1) := dk_104 (dk_at dksX1_feed_1 16 rfl rfl)
theorem dX1_feed_40 : decode cX1_feed 40 = .ok (.isub, 1) := dk_100 (dk_at dksX1_feed_1 17 rfl rfl)
theorem dX1_feed_41 : decode cX1_feed 41 = .ok (.iushr, 1) := dk_124 (dk_at dksX1_feed_1 18 rfl rfl)
theorem dX1_feed_42 : decode cX1_feed 42 = .ok (.sipush 255, 3) := dk_17 0 255 (dk_at dksX1_feed_1 19 rfl rfl)
theorem dX1_feed_45 : decode cX1_feed 45 = .ok (.iand, 1) := dk_126 (dk_at dksX1_feed_1 22 rfl rfl)
theorem dX1_feed_46 : decode cX1_feed 46 = .ok (.i2c, 1) := dk_146 (dk_at dksX1_feed_1 23 rfl rfl)
theorem dX1_feed_47 : decode cX1_feed 47 = .ok (.istore 5, 2) := dk_54 5 (dk_at dksX1_feed_2 0 rfl rfl)
theorem dX1_feed_49 : decode cX1_feed 49 = .ok (.iload 5, 2) := dk_21 5 (dk_at dksX1_feed_2 2 rfl rfl)
theorem dX1_feed_51 : decode cX1_feed 51 = .ok (.ifCond .eq 18, 3) := dk_153 0 18 (dk_at dksX1_feed_2 4 rfl rfl)
theorem dX1_feed_54 : decode cX1_feed 54 = .ok (.iload 5, 2) := dk_21 5 (dk_at dksX1_feed_2 7 rfl rfl)
theorem dX1_feed_56 : decode cX1_feed 56 = .ok (.bipush 32, 2) := dk_16 32 (dk_at dksX1_feed_2 9 rfl rfl)
theorem dX1_feed_58 : decode cX1_feed 58 = .ok (.if_icmp .eq 11, 3) := dk_159 0 11 (dk_at dksX1_feed_2 11 rfl rfl)
theorem dX1_feed_61 : decode cX1_feed 61 = .ok (.iload 5, 2) := dk_21 5 (dk_at dksX1_feed_2 14 rfl rfl)
theorem dX1_feed_63 : decode cX1_feed 63 = .ok (.invokestatic 136, 3) := dk_184 0 136 (dk_at dksX1_feed_2 16 rfl rfl)
theorem dX1_feed_66 : decode cX1_feed 66 = .ok (.ifCond .eq 7, 3) := dk_153 0 7 (dk_at dksX1_feed_2 19 rfl rfl)
theorem dX1_feed_69 : decode cX1_feed 69 = .ok (.iconst 1, 1) := dk_4 (dk_at dksX1_feed_2 22 rfl rfl)
theorem dX1_feed_70 : decode cX1_feed 70 = .ok (.goto 4, 3) := dk_167 0 4 (dk_at dksX1_feed_3 0 rfl rfl)
theorem dX1_feed_73 : decode cX1_feed 73 = .ok (.iconst 0, 1) := dk_3 (dk_at dksX1_feed_3 3 rfl rfl)
theorem dX1_feed_74 : decode cX1_feed 74 = .ok (.invokestatic 107, 3) := dk_184 0 107 (dk_at dksX1_feed_3 4 rfl rfl)
theorem dX1_feed_77 : decode cX1_feed 77 = .ok (.iload 5, 2) := dk_21 5 (dk_at dksX1_feed_3 7 rfl rfl)
theorem dX1_feed_79 : decode cX1_feed 79 = .ok (.ifCond .eq 10, 3) := dk_153 0 10 (dk_at dksX1_feed_3 9 rfl rfl)
theorem dX1_feed_82 : decode cX1_feed 82 = .ok (.aload_n 3, 1) := dk_45 (dk_at dksX1_feed_3 12 rfl rfl)
theorem dX1_feed_83 : decode cX1_feed 83 = .ok (.iload 5, 2) := dk_21 5 (dk_at dksX1_feed_3 13 rfl rfl)
theorem dX1_feed_85 : decode cX1_feed 85 = .ok (.invokevirtual 234, 3) := dk_182 0 234 (dk_at dksX1_feed_3 15 rfl rfl)
theorem dX1_feed_88 : decode cX1_feed 88 = .ok (.pop, 1) := dk_87 (dk_at dksX1_feed_3 18 rfl rfl)
theorem dX1_feed_89 : decode cX1_feed 89 = .ok (.iinc 4 1, 3) := dk_132 4 1 (dk_at dksX1_feed_3 19 rfl rfl)
theorem dX1_feed_92 : decode cX1_feed 92 = .ok (.goto (-79), 3) := dk_167 255 177 (dk_at dksX1_feed_4 0 rfl rfl)
theorem dX1_feed_95 : decode cX1_feed 95 = .ok (.aload_n 0, 1) := dk_42 (dk_at dksX1_feed_4 3 rfl rfl)
theorem dX1_feed_96 : decode cX1_feed 96 = .ok (.getfield 72, 3) := dk_180 0 72 (dk_at dksX1_feed_4 4 rfl rfl)
theorem dX1_feed_99 : decode cX1_feed 99 = .ok (.invokevirtual 238, 3) := dk_182 0 238 (dk_at dksX1_feed_4 7 rfl rfl)
theorem dX1_feed_102 : decode cX1_feed 102 = .ok (.aload_n 3, 1) := dk_45 (dk_at dksX1_feed_4 10 rfl rfl)
theorem dX1_feed_103 : decode cX1_feed 103 = .ok (.invokevirtual 238, 3) := dk_182 0 238 (dk_at dksX1_feed_4 11 rfl rfl)
theorem dX1_feed_106 : decode cX1_feed 106 = .ok (.iadd, 1) := dk_96 (dk_at dksX1_feed_4 14 rfl rfl)
theorem dX1_feed_107 : decode cX1_feed 107 = .ok (.bipush 48, 2) := dk_16 48 (dk_at dksX1_feed_4 15 rfl rfl)
theorem dX1_feed_109 : decode cX1_feed 109 = .ok (.if_icmp .gt 7, 3) := dk_163 0 7 (dk_at dksX1_feed_4 17 rfl rfl)
theorem dX1_feed_112 : decode cX1_feed 112 = .ok (.iconst 1, 1) := dk_4 (dk_at dksX1_feed_4 20 rfl rfl)
theorem dX1_feed_113 : decode cX1_feed 113 = .ok (.goto 4, 3) := dk_167 0 4 (dk_at dksX1_feed_4 21 rfl rfl)
theorem dX1_feed_116 : decode cX1_feed 116 = .ok (.iconst 0, 1) := dk_3 (dk_at dksX1_feed_5 0 rfl rfl)
theorem dX1_feed_117 : decode cX1_feed 117 = .ok (.invokestatic 110, 3) := dk_184 0 110 (dk_at dksX1_feed_5 1 rfl rfl)
theorem dX1_feed_120 : decode cX1_feed 120 = .ok (.aload_n 0, 1) := dk_42 (dk_at dksX1_feed_5 4 rfl rfl)
theorem dX1_feed_121 : decode cX1_feed 121 = .ok (.getfield 72, 3) := dk_180 0 72 (dk_at dksX1_feed_5 5 rfl rfl)
theorem dX1_feed_124 : decode cX1_feed 124 = .ok (.aload_n 3, 1) := dk_45 (dk_at dksX1_feed_5 8 rfl rfl)
theorem dX1_feed_125 : decode cX1_feed 125 = .ok (.invokevirtual 239, 3) := dk_182 0 239 (dk_at dksX1_feed_5 9 rfl rfl)
theorem dX1_feed_128 : decode cX1_feed 128 = .ok (.pop, 1) := dk_87 (dk_at dksX1_feed_5 12 rfl rfl)
theorem dX1_feed_129 : decode cX1_feed 129 = .ok (.aload_n 0, 1) := dk_42 (dk_at dksX1_feed_5 13 rfl rfl)
theorem dX1_feed_130 : decode cX1_feed 130 = .ok (.getfield 72, 3) := dk_180 0 72 (dk_at dksX1_feed_5 14 rfl rfl)
theorem dX1_feed_133 : decode cX1_feed 133 = .ok (.invokevirtual 238, 3) := dk_182 0 238 (dk_at dksX1_feed_5 17 rfl rfl)
theorem dX1_feed_136 : decode cX1_feed 136 = .ok (.ireturn, 1) := dk_172 (dk_at dksX1_feed_5 20 rfl rfl)
abbrev cX1_post : ByteArray := prog_1_method_28_code
def yX1_post : MethodName := ⟨RX1, "post", "(IIII)I"⟩
def dkwX1_post_6 : List UInt8 := [182, 0, 158, 21, 6, 172, 58, 7, 42, 180, 0, 72, 3, 182, 0, 158, 25, 7, 191]
abbrev dktX1_post_6 : List UInt8 := dkwX1_post_6 ++ []
def dkwX1_post_5 : List UInt8 := [180, 0, 72, 3, 182, 0, 158, 21, 5, 172, 58, 5, 25, 5, 182, 1, 58, 54, 6, 42, 180, 0, 72, 3]
abbrev dktX1_post_5 : List UInt8 := dkwX1_post_5 ++ dktX1_post_6
def dkwX1_post_4 : List UInt8 := [183, 1, 55, 185, 0, 155, 2, 0, 87, 42, 180, 0, 60, 185, 0, 85, 1, 0, 4, 100, 54, 5, 42]
abbrev dktX1_post_4 : List UInt8 := dkwX1_post_4 ++ dktX1_post_5
def dkwX1_post_3 : List UInt8 := [187, 1, 49, 89, 42, 180, 0, 60, 185, 0, 85, 1, 0, 42, 182, 1, 51, 27, 28, 29, 21, 4]
abbrev dktX1_post_3 : List UInt8 := dkwX1_post_3 ++ dktX1_post_4
def dkwX1_post_2 : List UInt8 := [185, 0, 85, 1, 0, 16, 40, 162, 0, 7, 4, 167, 0, 4, 3, 184, 0, 110, 42, 180, 0, 60]
abbrev dktX1_post_2 : List UInt8 := dkwX1_post_2 ++ dktX1_post_3
def dkwX1_post_1 : List UInt8 := [21, 4, 3, 17, 3, 231, 184, 0, 91, 153, 0, 7, 4, 167, 0, 4, 3, 184, 0, 107, 42, 180, 0, 60]
abbrev dktX1_post_1 : List UInt8 := dkwX1_post_1 ++ dktX1_post_2
def dkwX1_post_0 : List UInt8 := [42, 29, 182, 0, 166, 27, 3, 6, 184, 0, 91, 153, 0, 29, 28, 3, 16, 99, 184, 0, 91, 153, 0, 19]
abbrev dktX1_post_0 : List UInt8 := dkwX1_post_0 ++ dktX1_post_1
theorem dksX1_post_0 : cX1_post.data.toList.drop 0 = dktX1_post_0 := by decide +kernel
theorem dksX1_post_1 : cX1_post.data.toList.drop 24 = dktX1_post_1 := dk_seg dksX1_post_0 24 rfl rfl
theorem dksX1_post_2 : cX1_post.data.toList.drop 48 = dktX1_post_2 := dk_seg dksX1_post_1 24 rfl rfl
theorem dksX1_post_3 : cX1_post.data.toList.drop 70 = dktX1_post_3 := dk_seg dksX1_post_2 22 rfl rfl
theorem dksX1_post_4 : cX1_post.data.toList.drop 92 = dktX1_post_4 := dk_seg dksX1_post_3 22 rfl rfl
theorem dksX1_post_5 : cX1_post.data.toList.drop 115 = dktX1_post_5 := dk_seg dksX1_post_4 23 rfl rfl
theorem dksX1_post_6 : cX1_post.data.toList.drop 139 = dktX1_post_6 := dk_seg dksX1_post_5 24 rfl rfl
theorem dX1_post_0 : decode cX1_post 0 = .ok (.aload_n 0, 1) := dk_42 (dk_at dksX1_post_0 0 rfl rfl)
theorem dX1_post_1 : decode cX1_post 1 = .ok (.iload_n 3, 1) := dk_29 (dk_at dksX1_post_0 1 rfl rfl)
theorem dX1_post_2 : decode cX1_post 2 = .ok (.invokevirtual 166, 3) := dk_182 0 166 (dk_at dksX1_post_0 2 rfl rfl)
theorem dX1_post_5 : decode cX1_post 5 = .ok (.iload_n 1, 1) := dk_27 (dk_at dksX1_post_0 5 rfl rfl)
theorem dX1_post_6 : decode cX1_post 6 = .ok (.iconst 0, 1) := dk_3 (dk_at dksX1_post_0 6 rfl rfl)
theorem dX1_post_7 : decode cX1_post 7 = .ok (.iconst 3, 1) := dk_6 (dk_at dksX1_post_0 7 rfl rfl)
theorem dX1_post_8 : decode cX1_post 8 = .ok (.invokestatic 91, 3) := dk_184 0 91 (dk_at dksX1_post_0 8 rfl rfl)
theorem dX1_post_11 : decode cX1_post 11 = .ok (.ifCond .eq 29, 3) := dk_153 0 29 (dk_at dksX1_post_0 11 rfl rfl)
theorem dX1_post_14 : decode cX1_post 14 = .ok (.iload_n 2, 1) := dk_28 (dk_at dksX1_post_0 14 rfl rfl)
theorem dX1_post_15 : decode cX1_post 15 = .ok (.iconst 0, 1) := dk_3 (dk_at dksX1_post_0 15 rfl rfl)
theorem dX1_post_16 : decode cX1_post 16 = .ok (.bipush 99, 2) := dk_16 99 (dk_at dksX1_post_0 16 rfl rfl)
theorem dX1_post_18 : decode cX1_post 18 = .ok (.invokestatic 91, 3) := dk_184 0 91 (dk_at dksX1_post_0 18 rfl rfl)
theorem dX1_post_21 : decode cX1_post 21 = .ok (.ifCond .eq 19, 3) := dk_153 0 19 (dk_at dksX1_post_0 21 rfl rfl)
theorem dX1_post_24 : decode cX1_post 24 = .ok (.iload 4, 2) := dk_21 4 (dk_at dksX1_post_1 0 rfl rfl)
theorem dX1_post_26 : decode cX1_post 26 = .ok (.iconst 0, 1) := dk_3 (dk_at dksX1_post_1 2 rfl rfl)
theorem dX1_post_27 : decode cX1_post 27 = .ok (.sipush 999, 3) := dk_17 3 231 (dk_at dksX1_post_1 3 rfl rfl)
theorem dX1_post_30 : decode cX1_post 30 = .ok (.invokestatic 91, 3) := dk_184 0 91 (dk_at dksX1_post_1 6 rfl rfl)
theorem dX1_post_33 : decode cX1_post 33 = .ok (.ifCond .eq 7, 3) := dk_153 0 7 (dk_at dksX1_post_1 9 rfl rfl)
theorem dX1_post_36 : decode cX1_post 36 = .ok (.iconst 1, 1) := dk_4 (dk_at dksX1_post_1 12 rfl rfl)
theorem dX1_post_37 : decode cX1_post 37 = .ok (.goto 4, 3) := dk_167 0 4 (dk_at dksX1_post_1 13 rfl rfl)
theorem dX1_post_40 : decode cX1_post 40 = .ok (.iconst 0, 1) := dk_3 (dk_at dksX1_post_1 16 rfl rfl)
theorem dX1_post_41 : decode cX1_post 41 = .ok (.invokestatic 107, 3) := dk_184 0 107 (dk_at dksX1_post_1 17 rfl rfl)
theorem dX1_post_44 : decode cX1_post 44 = .ok (.aload_n 0, 1) := dk_42 (dk_at dksX1_post_1 20 rfl rfl)
theorem dX1_post_45 : decode cX1_post 45 = .ok (.getfield 60, 3) := dk_180 0 60 (dk_at dksX1_post_1 21 rfl rfl)
theorem dX1_post_48 : decode cX1_post 48 = .ok (.invokeinterface 85 1, 5) := by decide +kernel
theorem dX1_post_53 : decode cX1_post 53 = .ok (.bipush 40, 2) := dk_16 40 (dk_at dksX1_post_2 5 rfl rfl)
theorem dX1_post_55 : decode cX1_post 55 = .ok (.if_icmp .ge 7, 3) := dk_162 0 7 (dk_at dksX1_post_2 7 rfl rfl)
theorem dX1_post_58 : decode cX1_post 58 = .ok (.iconst 1, 1) := dk_4 (dk_at dksX1_post_2 10 rfl rfl)
theorem dX1_post_59 : decode cX1_post 59 = .ok (.goto 4, 3) := dk_167 0 4 (dk_at dksX1_post_2 11 rfl rfl)
theorem dX1_post_62 : decode cX1_post 62 = .ok (.iconst 0, 1) := dk_3 (dk_at dksX1_post_2 14 rfl rfl)
theorem dX1_post_63 : decode cX1_post 63 = .ok (.invokestatic 110, 3) := dk_184 0 110 (dk_at dksX1_post_2 15 rfl rfl)
theorem dX1_post_66 : decode cX1_post 66 = .ok (.aload_n 0, 1) := dk_42 (dk_at dksX1_post_2 18 rfl rfl)
theorem dX1_post_67 : decode cX1_post 67 = .ok (.getfield 60, 3) := dk_180 0 60 (dk_at dksX1_post_2 19 rfl rfl)
theorem dX1_post_70 : decode cX1_post 70 = .ok (.new 305, 3) := dk_187 1 49 (dk_at dksX1_post_3 0 rfl rfl)
theorem dX1_post_73 : decode cX1_post 73 = .ok (.dup, 1) := dk_89 (dk_at dksX1_post_3 3 rfl rfl)
theorem dX1_post_74 : decode cX1_post 74 = .ok (.aload_n 0, 1) := dk_42 (dk_at dksX1_post_3 4 rfl rfl)
theorem dX1_post_75 : decode cX1_post 75 = .ok (.getfield 60, 3) := dk_180 0 60 (dk_at dksX1_post_3 5 rfl rfl)
theorem dX1_post_78 : decode cX1_post 78 = .ok (.invokeinterface 85 1, 5) := by decide +kernel
theorem dX1_post_83 : decode cX1_post 83 = .ok (.aload_n 0, 1) := dk_42 (dk_at dksX1_post_3 13 rfl rfl)
theorem dX1_post_84 : decode cX1_post 84 = .ok (.invokevirtual 307, 3) := dk_182 1 51 (dk_at dksX1_post_3 14 rfl rfl)
theorem dX1_post_87 : decode cX1_post 87 = .ok (.iload_n 1, 1) := dk_27 (dk_at dksX1_post_3 17 rfl rfl)
theorem dX1_post_88 : decode cX1_post 88 = .ok (.iload_n 2, 1) := dk_28 (dk_at dksX1_post_3 18 rfl rfl)
theorem dX1_post_89 : decode cX1_post 89 = .ok (.iload_n 3, 1) := dk_29 (dk_at dksX1_post_3 19 rfl rfl)
theorem dX1_post_90 : decode cX1_post 90 = .ok (.iload 4, 2) := dk_21 4 (dk_at dksX1_post_3 20 rfl rfl)
theorem dX1_post_92 : decode cX1_post 92 = .ok (.invokespecial 311, 3) := dk_183 1 55 (dk_at dksX1_post_4 0 rfl rfl)
theorem dX1_post_95 : decode cX1_post 95 = .ok (.invokeinterface 155 2, 5) := by decide +kernel
theorem dX1_post_100 : decode cX1_post 100 = .ok (.pop, 1) := dk_87 (dk_at dksX1_post_4 8 rfl rfl)
theorem dX1_post_101 : decode cX1_post 101 = .ok (.aload_n 0, 1) := dk_42 (dk_at dksX1_post_4 9 rfl rfl)
theorem dX1_post_102 : decode cX1_post 102 = .ok (.getfield 60, 3) := dk_180 0 60 (dk_at dksX1_post_4 10 rfl rfl)
theorem dX1_post_105 : decode cX1_post 105 = .ok (.invokeinterface 85 1, 5) := by decide +kernel
theorem dX1_post_110 : decode cX1_post 110 = .ok (.iconst 1, 1) := dk_4 (dk_at dksX1_post_4 18 rfl rfl)
theorem dX1_post_111 : decode cX1_post 111 = .ok (.isub, 1) := dk_100 (dk_at dksX1_post_4 19 rfl rfl)
theorem dX1_post_112 : decode cX1_post 112 = .ok (.istore 5, 2) := dk_54 5 (dk_at dksX1_post_4 20 rfl rfl)
theorem dX1_post_114 : decode cX1_post 114 = .ok (.aload_n 0, 1) := dk_42 (dk_at dksX1_post_4 22 rfl rfl)
theorem dX1_post_115 : decode cX1_post 115 = .ok (.getfield 72, 3) := dk_180 0 72 (dk_at dksX1_post_5 0 rfl rfl)
theorem dX1_post_118 : decode cX1_post 118 = .ok (.iconst 0, 1) := dk_3 (dk_at dksX1_post_5 3 rfl rfl)
theorem dX1_post_119 : decode cX1_post 119 = .ok (.invokevirtual 158, 3) := dk_182 0 158 (dk_at dksX1_post_5 4 rfl rfl)
theorem dX1_post_122 : decode cX1_post 122 = .ok (.iload 5, 2) := dk_21 5 (dk_at dksX1_post_5 7 rfl rfl)
theorem dX1_post_124 : decode cX1_post 124 = .ok (.ireturn, 1) := dk_172 (dk_at dksX1_post_5 9 rfl rfl)
theorem dX1_post_125 : decode cX1_post 125 = .ok (.astore 5, 2) := dk_58 5 (dk_at dksX1_post_5 10 rfl rfl)
theorem dX1_post_127 : decode cX1_post 127 = .ok (.aload 5, 2) := dk_25 5 (dk_at dksX1_post_5 12 rfl rfl)
theorem dX1_post_129 : decode cX1_post 129 = .ok (.invokevirtual 314, 3) := dk_182 1 58 (dk_at dksX1_post_5 14 rfl rfl)
theorem dX1_post_132 : decode cX1_post 132 = .ok (.istore 6, 2) := dk_54 6 (dk_at dksX1_post_5 17 rfl rfl)
theorem dX1_post_134 : decode cX1_post 134 = .ok (.aload_n 0, 1) := dk_42 (dk_at dksX1_post_5 19 rfl rfl)
theorem dX1_post_135 : decode cX1_post 135 = .ok (.getfield 72, 3) := dk_180 0 72 (dk_at dksX1_post_5 20 rfl rfl)
theorem dX1_post_138 : decode cX1_post 138 = .ok (.iconst 0, 1) := dk_3 (dk_at dksX1_post_5 23 rfl rfl)
theorem dX1_post_139 : decode cX1_post 139 = .ok (.invokevirtual 158, 3) := dk_182 0 158 (dk_at dksX1_post_6 0 rfl rfl)
theorem dX1_post_142 : decode cX1_post 142 = .ok (.iload 6, 2) := dk_21 6 (dk_at dksX1_post_6 3 rfl rfl)
theorem dX1_post_144 : decode cX1_post 144 = .ok (.ireturn, 1) := dk_172 (dk_at dksX1_post_6 5 rfl rfl)
theorem dX1_post_145 : decode cX1_post 145 = .ok (.astore 7, 2) := dk_58 7 (dk_at dksX1_post_6 6 rfl rfl)
theorem dX1_post_147 : decode cX1_post 147 = .ok (.aload_n 0, 1) := dk_42 (dk_at dksX1_post_6 8 rfl rfl)
theorem dX1_post_148 : decode cX1_post 148 = .ok (.getfield 72, 3) := dk_180 0 72 (dk_at dksX1_post_6 9 rfl rfl)
theorem dX1_post_151 : decode cX1_post 151 = .ok (.iconst 0, 1) := dk_3 (dk_at dksX1_post_6 12 rfl rfl)
theorem dX1_post_152 : decode cX1_post 152 = .ok (.invokevirtual 158, 3) := dk_182 0 158 (dk_at dksX1_post_6 13 rfl rfl)
theorem dX1_post_155 : decode cX1_post 155 = .ok (.aload 7, 2) := dk_25 7 (dk_at dksX1_post_6 16 rfl rfl)
theorem dX1_post_157 : decode cX1_post 157 = .ok (.athrow, 1) := dk_191 (dk_at dksX1_post_6 18 rfl rfl)
abbrev cX1_read : ByteArray := prog_1_method_27_code
def yX1_read : MethodName := ⟨RX1, "read", "()LDialectdepot$Address;"⟩
def dkwX1_read_6 : List UInt8 := [180, 1, 32, 4, 96, 181, 1, 32, 167, 0, 9, 44, 21, 5, 181, 1, 45, 167, 255, 134, 44, 176]
abbrev dktX1_read_6 : List UInt8 := dkwX1_read_6 ++ []
def dkwX1_read_5 : List UInt8 := [182, 1, 28, 54, 5, 21, 4, 153, 0, 27, 44, 180, 1, 25, 44, 180, 1, 32, 21, 5, 79, 44, 89]
abbrev dktX1_read_5 : List UInt8 := dkwX1_read_5 ++ dktX1_read_6
def dkwX1_read_4 : List UInt8 := [180, 1, 45, 2, 159, 0, 16, 187, 1, 14, 89, 45, 182, 1, 16, 4, 183, 1, 48, 191, 42, 43, 44]
abbrev dktX1_read_4 : List UInt8 := dkwX1_read_4 ++ dktX1_read_5
def dkwX1_read_3 : List UInt8 := [4, 167, 0, 4, 3, 54, 4, 21, 4, 154, 0, 33, 45, 18, 130, 182, 1, 42, 153, 0, 11, 44]
abbrev dktX1_read_3 : List UInt8 := dkwX1_read_3 ++ dktX1_read_4
def dkwX1_read_2 : List UInt8 := [18, 128, 182, 1, 42, 153, 0, 23, 44, 180, 1, 32, 6, 162, 0, 15, 44, 180, 1, 45, 2, 160, 0, 7]
abbrev dktX1_read_2 : List UInt8 := dkwX1_read_2 ++ dktX1_read_3
def dkwX1_read_1 : List UInt8 := [44, 182, 1, 28, 79, 44, 4, 181, 1, 32, 43, 182, 1, 35, 153, 0, 121, 43, 182, 1, 39, 78, 45]
abbrev dktX1_read_1 : List UInt8 := dkwX1_read_1 ++ dktX1_read_2
def dkwX1_read_0 : List UInt8 := [187, 1, 5, 89, 42, 183, 1, 21, 76, 187, 0, 253, 89, 183, 1, 24, 77, 44, 180, 1, 25, 3, 42, 43]
abbrev dktX1_read_0 : List UInt8 := dkwX1_read_0 ++ dktX1_read_1
theorem dksX1_read_0 : cX1_read.data.toList.drop 0 = dktX1_read_0 := by decide +kernel
theorem dksX1_read_1 : cX1_read.data.toList.drop 24 = dktX1_read_1 := dk_seg dksX1_read_0 24 rfl rfl
theorem dksX1_read_2 : cX1_read.data.toList.drop 47 = dktX1_read_2 := dk_seg dksX1_read_1 23 rfl rfl
theorem dksX1_read_3 : cX1_read.data.toList.drop 71 = dktX1_read_3 := dk_seg dksX1_read_2 24 rfl rfl
theorem dksX1_read_4 : cX1_read.data.toList.drop 93 = dktX1_read_4 := dk_seg dksX1_read_3 22 rfl rfl
theorem dksX1_read_5 : cX1_read.data.toList.drop 116 = dktX1_read_5 := dk_seg dksX1_read_4 23 rfl rfl
theorem dksX1_read_6 : cX1_read.data.toList.drop 139 = dktX1_read_6 := dk_seg dksX1_read_5 23 rfl rfl
theorem dX1_read_0 : decode cX1_read 0 = .ok (.new 261, 3) := dk_187 1 5 (dk_at dksX1_read_0 0 rfl rfl)
theorem dX1_read_3 : decode cX1_read 3 = .ok (.dup, 1) := dk_89 (dk_at dksX1_read_0 3 rfl rfl)
theorem dX1_read_4 : decode cX1_read 4 = .ok (.aload_n 0, 1) := dk_42 (dk_at dksX1_read_0 4 rfl rfl)
theorem dX1_read_5 : decode cX1_read 5 = .ok (.invokespecial 277, 3) := dk_183 1 21 (dk_at dksX1_read_0 5 rfl rfl)
theorem dX1_read_8 : decode cX1_read 8 = .ok (.astore_n 1, 1) := dk_76 (dk_at dksX1_read_0 8 rfl rfl)
theorem dX1_read_9 : decode cX1_read 9 = .ok (.new 253, 3) := dk_187 0 253 (dk_at dksX1_read_0 9 rfl rfl)
theorem dX1_read_12 : decode cX1_read 12 = .ok (.dup, 1) := dk_89 (dk_at dksX1_read_0 12 rfl rfl)
theorem dX1_read_13 : decode cX1_read 13 = .ok (.invokespecial 280, 3) := dk_183 1 24 (dk_at dksX1_read_0 13 rfl rfl)
theorem dX1_read_16 : decode cX1_read 16 = .ok (.astore_n 2, 1) := dk_77 (dk_at dksX1_read_0 16 rfl rfl)
theorem dX1_read_17 : decode cX1_read 17 = .ok (.aload_n 2, 1) := dk_44 (dk_at dksX1_read_0 17 rfl rfl)
theorem dX1_read_18 : decode cX1_read 18 = .ok (.getfield 281, 3) := dk_180 1 25 (dk_at dksX1_read_0 18 rfl rfl)
theorem dX1_read_21 : decode cX1_read 21 = .ok (.iconst 0, 1) := dk_3 (dk_at dksX1_read_0 21 rfl rfl)
theorem dX1_read_22 : decode cX1_read 22 = .ok (.aload_n 0, 1) := dk_42 (dk_at dksX1_read_0 22 rfl rfl)
theorem dX1_read_23 : decode cX1_read 23 = .ok (.aload_n 1, 1) := dk_43 (dk_at dksX1_read_0 23 rfl rfl)
theorem dX1_read_24 : decode cX1_read 24 = .ok (.aload_n 2, 1) := dk_44 (dk_at dksX1_read_1 0 rfl rfl)
theorem dX1_read_25 : decode cX1_read 25 = .ok (.invokevirtual 284, 3) := dk_182 1 28 (dk_at dksX1_read_1 1 rfl rfl)
theorem dX1_read_28 : decode cX1_read 28 = .ok (.iastore, 1) := dk_79 (dk_at dksX1_read_1 4 rfl rfl)
theorem dX1_read_29 : decode cX1_read 29 = .ok (.aload_n 2, 1) := dk_44 (dk_at dksX1_read_1 5 rfl rfl)
theorem dX1_read_30 : decode cX1_read 30 = .ok (.iconst 1, 1) := dk_4 (dk_at dksX1_read_1 6 rfl rfl)
theorem dX1_read_31 : decode cX1_read 31 = .ok (.putfield 288, 3) := dk_181 1 32 (dk_at dksX1_read_1 7 rfl rfl)
theorem dX1_read_34 : decode cX1_read 34 = .ok (.aload_n 1, 1) := dk_43 (dk_at dksX1_read_1 10 rfl rfl)
theorem dX1_read_35 : decode cX1_read 35 = .ok (.invokevirtual 291, 3) := dk_182 1 35 (dk_at dksX1_read_1 11 rfl rfl)
theorem dX1_read_38 : decode cX1_read 38 = .ok (.ifCond .eq 121, 3) := dk_153 0 121 (dk_at dksX1_read_1 14 rfl rfl)
theorem dX1_read_41 : decode cX1_read 41 = .ok (.aload_n 1, 1) := dk_43 (dk_at dksX1_read_1 17 rfl rfl)
theorem dX1_read_42 : decode cX1_read 42 = .ok (.invokevirtual 295, 3) := dk_182 1 39 (dk_at dksX1_read_1 18 rfl rfl)
theorem dX1_read_45 : decode cX1_read 45 = .ok (.astore_n 3, 1) := dk_78 (dk_at dksX1_read_1 21 rfl rfl)
theorem dX1_read_46 : decode cX1_read 46 = .ok (.aload_n 3, 1) := dk_45 (dk_at dksX1_read_1 22 rfl rfl)
theorem dX1_read_47 : decode cX1_read 47 = .ok (.ldc 128, 2) := dk_18 128 (dk_at dksX1_read_2 0 rfl rfl)
theorem dX1_read_49 : decode cX1_read 49 = .ok (.invokevirtual 298, 3) := dk_182 1 42 (dk_at dksX1_read_2 2 rfl rfl)
theorem dX1_read_52 : decode cX1_read 52 = .ok (.ifCond .eq 23, 3) := dk_153 0 23 (dk_at dksX1_read_2 5 rfl rfl)
theorem dX1_read_55 : decode cX1_read 55 = .ok (.aload_n 2, 1) := dk_44 (dk_at dksX1_read_2 8 rfl rfl)
theorem dX1_read_56 : decode cX1_read 56 = .ok (.getfield 288, 3) := dk_180 1 32 (dk_at dksX1_read_2 9 rfl rfl)
theorem dX1_read_59 : decode cX1_read 59 = .ok (.iconst 3, 1) := dk_6 (dk_at dksX1_read_2 12 rfl rfl)
theorem dX1_read_60 : decode cX1_read 60 = .ok (.if_icmp .ge 15, 3) := dk_162 0 15 (dk_at dksX1_read_2 13 rfl rfl)
theorem dX1_read_63 : decode cX1_read 63 = .ok (.aload_n 2, 1) := dk_44 (dk_at dksX1_read_2 16 rfl rfl)
theorem dX1_read_64 : decode cX1_read 64 = .ok (.getfield 301, 3) := dk_180 1 45 (dk_at dksX1_read_2 17 rfl rfl)
theorem dX1_read_67 : decode cX1_read 67 = .ok (.iconst (-1), 1) := dk_2 (dk_at dksX1_read_2 20 rfl rfl)
theorem dX1_read_68 : decode cX1_read 68 = .ok (.if_icmp .ne 7, 3) := dk_160 0 7 (dk_at dksX1_read_2 21 rfl rfl)
theorem dX1_read_71 : decode cX1_read 71 = .ok (.iconst 1, 1) := dk_4 (dk_at dksX1_read_3 0 rfl rfl)
theorem dX1_read_72 : decode cX1_read 72 = .ok (.goto 4, 3) := dk_167 0 4 (dk_at dksX1_read_3 1 rfl rfl)
theorem dX1_read_75 : decode cX1_read 75 = .ok (.iconst 0, 1) := dk_3 (dk_at dksX1_read_3 4 rfl rfl)
theorem dX1_read_76 : decode cX1_read 76 = .ok (.istore 4, 2) := dk_54 4 (dk_at dksX1_read_3 5 rfl rfl)
theorem dX1_read_78 : decode cX1_read 78 = .ok (.iload 4, 2) := dk_21 4 (dk_at dksX1_read_3 7 rfl rfl)
theorem dX1_read_80 : decode cX1_read 80 = .ok (.ifCond .ne 33, 3) := dk_154 0 33 (dk_at dksX1_read_3 9 rfl rfl)
theorem dX1_read_83 : decode cX1_read 83 = .ok (.aload_n 3, 1) := dk_45 (dk_at dksX1_read_3 12 rfl rfl)
theorem dX1_read_84 : decode cX1_read 84 = .ok (.ldc 130, 2) := dk_18 130 (dk_at dksX1_read_3 13 rfl rfl)
theorem dX1_read_86 : decode cX1_read 86 = .ok (.invokevirtual 298, 3) := dk_182 1 42 (dk_at dksX1_read_3 15 rfl rfl)
theorem dX1_read_89 : decode cX1_read 89 = .ok (.ifCond .eq 11, 3) := dk_153 0 11 (dk_at dksX1_read_3 18 rfl rfl)
theorem dX1_read_92 : decode cX1_read 92 = .ok (.aload_n 2, 1) := dk_44 (dk_at dksX1_read_3 21 rfl rfl)
theorem dX1_read_93 : decode cX1_read 93 = .ok (.getfield 301, 3) := dk_180 1 45 (dk_at dksX1_read_4 0 rfl rfl)
theorem dX1_read_96 : decode cX1_read 96 = .ok (.iconst (-1), 1) := dk_2 (dk_at dksX1_read_4 3 rfl rfl)
theorem dX1_read_97 : decode cX1_read 97 = .ok (.if_icmp .eq 16, 3) := dk_159 0 16 (dk_at dksX1_read_4 4 rfl rfl)
theorem dX1_read_100 : decode cX1_read 100 = .ok (.new 270, 3) := dk_187 1 14 (dk_at dksX1_read_4 7 rfl rfl)
theorem dX1_read_103 : decode cX1_read 103 = .ok (.dup, 1) := dk_89 (dk_at dksX1_read_4 10 rfl rfl)
theorem dX1_read_104 : decode cX1_read 104 = .ok (.aload_n 3, 1) := dk_45 (dk_at dksX1_read_4 11 rfl rfl)
theorem dX1_read_105 : decode cX1_read 105 = .ok (.invokevirtual 272, 3) := dk_182 1 16 (dk_at dksX1_read_4 12 rfl rfl)
theorem dX1_read_108 : decode cX1_read 108 = .ok (.iconst 1, 1) := dk_4 (dk_at dksX1_read_4 15 rfl rfl)
theorem dX1_read_109 : decode cX1_read 109 = .ok (.invokespecial 304, 3) := dk_183 1 48 (dk_at dksX1_read_4 16 rfl rfl)
theorem dX1_read_112 : decode cX1_read 112 = .ok (.athrow, 1) := dk_191 (dk_at dksX1_read_4 19 rfl rfl)
theorem dX1_read_113 : decode cX1_read 113 = .ok (.aload_n 0, 1) := dk_42 (dk_at dksX1_read_4 20 rfl rfl)
theorem dX1_read_114 : decode cX1_read 114 = .ok (.aload_n 1, 1) := dk_43 (dk_at dksX1_read_4 21 rfl rfl)
theorem dX1_read_115 : decode cX1_read 115 = .ok (.aload_n 2, 1) := dk_44 (dk_at dksX1_read_4 22 rfl rfl)
theorem dX1_read_116 : decode cX1_read 116 = .ok (.invokevirtual 284, 3) := dk_182 1 28 (dk_at dksX1_read_5 0 rfl rfl)
theorem dX1_read_119 : decode cX1_read 119 = .ok (.istore 5, 2) := dk_54 5 (dk_at dksX1_read_5 3 rfl rfl)
theorem dX1_read_121 : decode cX1_read 121 = .ok (.iload 4, 2) := dk_21 4 (dk_at dksX1_read_5 5 rfl rfl)
theorem dX1_read_123 : decode cX1_read 123 = .ok (.ifCond .eq 27, 3) := dk_153 0 27 (dk_at dksX1_read_5 7 rfl rfl)
theorem dX1_read_126 : decode cX1_read 126 = .ok (.aload_n 2, 1) := dk_44 (dk_at dksX1_read_5 10 rfl rfl)
theorem dX1_read_127 : decode cX1_read 127 = .ok (.getfield 281, 3) := dk_180 1 25 (dk_at dksX1_read_5 11 rfl rfl)
theorem dX1_read_130 : decode cX1_read 130 = .ok (.aload_n 2, 1) := dk_44 (dk_at dksX1_read_5 14 rfl rfl)
theorem dX1_read_131 : decode cX1_read 131 = .ok (.getfield 288, 3) := dk_180 1 32 (dk_at dksX1_read_5 15 rfl rfl)
theorem dX1_read_134 : decode cX1_read 134 = .ok (.iload 5, 2) := dk_21 5 (dk_at dksX1_read_5 18 rfl rfl)
theorem dX1_read_136 : decode cX1_read 136 = .ok (.iastore, 1) := dk_79 (dk_at dksX1_read_5 20 rfl rfl)
theorem dX1_read_137 : decode cX1_read 137 = .ok (.aload_n 2, 1) := dk_44 (dk_at dksX1_read_5 21 rfl rfl)
theorem dX1_read_138 : decode cX1_read 138 = .ok (.dup, 1) := dk_89 (dk_at dksX1_read_5 22 rfl rfl)
theorem dX1_read_139 : decode cX1_read 139 = .ok (.getfield 288, 3) := dk_180 1 32 (dk_at dksX1_read_6 0 rfl rfl)
theorem dX1_read_142 : decode cX1_read 142 = .ok (.iconst 1, 1) := dk_4 (dk_at dksX1_read_6 3 rfl rfl)
theorem dX1_read_143 : decode cX1_read 143 = .ok (.iadd, 1) := dk_96 (dk_at dksX1_read_6 4 rfl rfl)
theorem dX1_read_144 : decode cX1_read 144 = .ok (.putfield 288, 3) := dk_181 1 32 (dk_at dksX1_read_6 5 rfl rfl)
theorem dX1_read_147 : decode cX1_read 147 = .ok (.goto 9, 3) := dk_167 0 9 (dk_at dksX1_read_6 8 rfl rfl)
theorem dX1_read_150 : decode cX1_read 150 = .ok (.aload_n 2, 1) := dk_44 (dk_at dksX1_read_6 11 rfl rfl)
theorem dX1_read_151 : decode cX1_read 151 = .ok (.iload 5, 2) := dk_21 5 (dk_at dksX1_read_6 12 rfl rfl)
theorem dX1_read_153 : decode cX1_read 153 = .ok (.putfield 301, 3) := dk_181 1 45 (dk_at dksX1_read_6 14 rfl rfl)
theorem dX1_read_156 : decode cX1_read 156 = .ok (.goto (-122), 3) := dk_167 255 134 (dk_at dksX1_read_6 17 rfl rfl)
theorem dX1_read_159 : decode cX1_read 159 = .ok (.aload_n 2, 1) := dk_44 (dk_at dksX1_read_6 20 rfl rfl)
theorem dX1_read_160 : decode cX1_read 160 = .ok (.areturn, 1) := dk_176 (dk_at dksX1_read_6 21 rfl rfl)
abbrev cX1_readName : ByteArray := prog_1_method_26_code
def yX1_readName : MethodName := ⟨RX1, "readName", "(LDialectdepot$Words;LDialectdepot$Address;)I"⟩
def dkwX1_readName_1 : List UInt8 := [183, 1, 18, 191]
abbrev dktX1_readName_1 : List UInt8 := dkwX1_readName_1 ++ []
def dkwX1_readName_0 : List UInt8 := [43, 182, 1, 4, 78, 42, 45, 44, 182, 1, 10, 172, 58, 4, 187, 1, 14, 89, 45, 182, 1, 16, 25, 4]
abbrev dktX1_readName_0 : List UInt8 := dkwX1_readName_0 ++ dktX1_readName_1
theorem dksX1_readName_0 : cX1_readName.data.toList.drop 0 = dktX1_readName_0 := by decide +kernel
theorem dksX1_readName_1 : cX1_readName.data.toList.drop 24 = dktX1_readName_1 := dk_seg dksX1_readName_0 24 rfl rfl
theorem dX1_readName_0 : decode cX1_readName 0 = .ok (.aload_n 1, 1) := dk_43 (dk_at dksX1_readName_0 0 rfl rfl)
theorem dX1_readName_1 : decode cX1_readName 1 = .ok (.invokevirtual 260, 3) := dk_182 1 4 (dk_at dksX1_readName_0 1 rfl rfl)
theorem dX1_readName_4 : decode cX1_readName 4 = .ok (.astore_n 3, 1) := dk_78 (dk_at dksX1_readName_0 4 rfl rfl)
theorem dX1_readName_5 : decode cX1_readName 5 = .ok (.aload_n 0, 1) := dk_42 (dk_at dksX1_readName_0 5 rfl rfl)
theorem dX1_readName_6 : decode cX1_readName 6 = .ok (.aload_n 3, 1) := dk_45 (dk_at dksX1_readName_0 6 rfl rfl)
theorem dX1_readName_7 : decode cX1_readName 7 = .ok (.aload_n 2, 1) := dk_44 (dk_at dksX1_readName_0 7 rfl rfl)
theorem dX1_readName_8 : decode cX1_readName 8 = .ok (.invokevirtual 266, 3) := dk_182 1 10 (dk_at dksX1_readName_0 8 rfl rfl)
theorem dX1_readName_11 : decode cX1_readName 11 = .ok (.ireturn, 1) := dk_172 (dk_at dksX1_readName_0 11 rfl rfl)
theorem dX1_readName_12 : decode cX1_readName 12 = .ok (.astore 4, 2) := dk_58 4 (dk_at dksX1_readName_0 12 rfl rfl)
theorem dX1_readName_14 : decode cX1_readName 14 = .ok (.new 270, 3) := dk_187 1 14 (dk_at dksX1_readName_0 14 rfl rfl)
theorem dX1_readName_17 : decode cX1_readName 17 = .ok (.dup, 1) := dk_89 (dk_at dksX1_readName_0 17 rfl rfl)
theorem dX1_readName_18 : decode cX1_readName 18 = .ok (.aload_n 3, 1) := dk_45 (dk_at dksX1_readName_0 18 rfl rfl)
theorem dX1_readName_19 : decode cX1_readName 19 = .ok (.invokevirtual 272, 3) := dk_182 1 16 (dk_at dksX1_readName_0 19 rfl rfl)
theorem dX1_readName_22 : decode cX1_readName 22 = .ok (.aload 4, 2) := dk_25 4 (dk_at dksX1_readName_0 22 rfl rfl)
theorem dX1_readName_24 : decode cX1_readName 24 = .ok (.invokespecial 274, 3) := dk_183 1 18 (dk_at dksX1_readName_1 0 rfl rfl)
theorem dX1_readName_27 : decode cX1_readName 27 = .ok (.athrow, 1) := dk_191 (dk_at dksX1_readName_1 3 rfl rfl)
abbrev cX1_freshName : ByteArray := prog_1_method_25_code
def yX1_freshName : MethodName := ⟨RX1, "freshName", "(LDialectdepot$Word;LDialectdepot$Address;)I"⟩
def dkwX1_freshName_1 : List UInt8 := [180, 0, 249, 182, 0, 252, 153, 0, 11, 187, 1, 1, 89, 183, 1, 3, 191, 45, 180, 0, 249, 172]
abbrev dktX1_freshName_1 : List UInt8 := dkwX1_freshName_1 ++ []
def dkwX1_freshName_0 : List UInt8 := [42, 43, 182, 0, 242, 182, 0, 148, 78, 45, 199, 0, 11, 187, 0, 246, 89, 183, 0, 248, 191, 44, 45]
abbrev dktX1_freshName_0 : List UInt8 := dkwX1_freshName_0 ++ dktX1_freshName_1
theorem dksX1_freshName_0 : cX1_freshName.data.toList.drop 0 = dktX1_freshName_0 := by decide +kernel
theorem dksX1_freshName_1 : cX1_freshName.data.toList.drop 23 = dktX1_freshName_1 := dk_seg dksX1_freshName_0 23 rfl rfl
theorem dX1_freshName_0 : decode cX1_freshName 0 = .ok (.aload_n 0, 1) := dk_42 (dk_at dksX1_freshName_0 0 rfl rfl)
theorem dX1_freshName_1 : decode cX1_freshName 1 = .ok (.aload_n 1, 1) := dk_43 (dk_at dksX1_freshName_0 1 rfl rfl)
theorem dX1_freshName_2 : decode cX1_freshName 2 = .ok (.invokevirtual 242, 3) := dk_182 0 242 (dk_at dksX1_freshName_0 2 rfl rfl)
theorem dX1_freshName_5 : decode cX1_freshName 5 = .ok (.invokevirtual 148, 3) := dk_182 0 148 (dk_at dksX1_freshName_0 5 rfl rfl)
theorem dX1_freshName_8 : decode cX1_freshName 8 = .ok (.astore_n 3, 1) := dk_78 (dk_at dksX1_freshName_0 8 rfl rfl)
theorem dX1_freshName_9 : decode cX1_freshName 9 = .ok (.aload_n 3, 1) := dk_45 (dk_at dksX1_freshName_0 9 rfl rfl)
theorem dX1_freshName_10 : decode cX1_freshName 10 = .ok (.ifnonnull 11, 3) := dk_199 0 11 (dk_at dksX1_freshName_0 10 rfl rfl)
theorem dX1_freshName_13 : decode cX1_freshName 13 = .ok (.new 246, 3) := dk_187 0 246 (dk_at dksX1_freshName_0 13 rfl rfl)
theorem dX1_freshName_16 : decode cX1_freshName 16 = .ok (.dup, 1) := dk_89 (dk_at dksX1_freshName_0 16 rfl rfl)
theorem dX1_freshName_17 : decode cX1_freshName 17 = .ok (.invokespecial 248, 3) := dk_183 0 248 (dk_at dksX1_freshName_0 17 rfl rfl)
theorem dX1_freshName_20 : decode cX1_freshName 20 = .ok (.athrow, 1) := dk_191 (dk_at dksX1_freshName_0 20 rfl rfl)
theorem dX1_freshName_21 : decode cX1_freshName 21 = .ok (.aload_n 2, 1) := dk_44 (dk_at dksX1_freshName_0 21 rfl rfl)
theorem dX1_freshName_22 : decode cX1_freshName 22 = .ok (.aload_n 3, 1) := dk_45 (dk_at dksX1_freshName_0 22 rfl rfl)
theorem dX1_freshName_23 : decode cX1_freshName 23 = .ok (.getfield 249, 3) := dk_180 0 249 (dk_at dksX1_freshName_1 0 rfl rfl)
theorem dX1_freshName_26 : decode cX1_freshName 26 = .ok (.invokevirtual 252, 3) := dk_182 0 252 (dk_at dksX1_freshName_1 3 rfl rfl)
theorem dX1_freshName_29 : decode cX1_freshName 29 = .ok (.ifCond .eq 11, 3) := dk_153 0 11 (dk_at dksX1_freshName_1 6 rfl rfl)
theorem dX1_freshName_32 : decode cX1_freshName 32 = .ok (.new 257, 3) := dk_187 1 1 (dk_at dksX1_freshName_1 9 rfl rfl)
theorem dX1_freshName_35 : decode cX1_freshName 35 = .ok (.dup, 1) := dk_89 (dk_at dksX1_freshName_1 12 rfl rfl)
theorem dX1_freshName_36 : decode cX1_freshName 36 = .ok (.invokespecial 259, 3) := dk_183 1 3 (dk_at dksX1_freshName_1 13 rfl rfl)
theorem dX1_freshName_39 : decode cX1_freshName 39 = .ok (.athrow, 1) := dk_191 (dk_at dksX1_freshName_1 16 rfl rfl)
theorem dX1_freshName_40 : decode cX1_freshName 40 = .ok (.aload_n 3, 1) := dk_45 (dk_at dksX1_freshName_1 17 rfl rfl)
theorem dX1_freshName_41 : decode cX1_freshName 41 = .ok (.getfield 249, 3) := dk_180 0 249 (dk_at dksX1_freshName_1 18 rfl rfl)
theorem dX1_freshName_44 : decode cX1_freshName 44 = .ok (.ireturn, 1) := dk_172 (dk_at dksX1_freshName_1 21 rfl rfl)
abbrev cX1_stateOf : ByteArray := prog_1_method_30_code
def yX1_stateOf : MethodName := ⟨RX1, "stateOf", "(I)I"⟩
def dkwX1_stateOf_0 : List UInt8 := [42, 180, 0, 60, 27, 184, 0, 162, 192, 1, 49, 180, 1, 61, 172]
abbrev dktX1_stateOf_0 : List UInt8 := dkwX1_stateOf_0 ++ []
theorem dksX1_stateOf_0 : cX1_stateOf.data.toList.drop 0 = dktX1_stateOf_0 := by decide +kernel
theorem dX1_stateOf_0 : decode cX1_stateOf 0 = .ok (.aload_n 0, 1) := dk_42 (dk_at dksX1_stateOf_0 0 rfl rfl)
theorem dX1_stateOf_1 : decode cX1_stateOf 1 = .ok (.getfield 60, 3) := dk_180 0 60 (dk_at dksX1_stateOf_0 1 rfl rfl)
theorem dX1_stateOf_4 : decode cX1_stateOf 4 = .ok (.iload_n 1, 1) := dk_27 (dk_at dksX1_stateOf_0 4 rfl rfl)
theorem dX1_stateOf_5 : decode cX1_stateOf 5 = .ok (.invokestatic 162, 3) := dk_184 0 162 (dk_at dksX1_stateOf_0 5 rfl rfl)
theorem dX1_stateOf_8 : decode cX1_stateOf 8 = .ok (.checkcast 305, 3) := dk_192 1 49 (dk_at dksX1_stateOf_0 8 rfl rfl)
theorem dX1_stateOf_11 : decode cX1_stateOf 11 = .ok (.getfield 317, 3) := dk_180 1 61 (dk_at dksX1_stateOf_0 11 rfl rfl)
theorem dX1_stateOf_14 : decode cX1_stateOf 14 = .ok (.ireturn, 1) := dk_172 (dk_at dksX1_stateOf_0 14 rfl rfl)
abbrev cX1_timesBack : ByteArray := prog_1_method_31_code
def yX1_timesBack : MethodName := ⟨RX1, "timesBack", "(I)I"⟩
def dkwX1_timesBack_0 : List UInt8 := [42, 180, 0, 60, 27, 184, 0, 162, 192, 1, 49, 180, 1, 64, 172]
abbrev dktX1_timesBack_0 : List UInt8 := dkwX1_timesBack_0 ++ []
theorem dksX1_timesBack_0 : cX1_timesBack.data.toList.drop 0 = dktX1_timesBack_0 := by decide +kernel
theorem dX1_timesBack_0 : decode cX1_timesBack 0 = .ok (.aload_n 0, 1) := dk_42 (dk_at dksX1_timesBack_0 0 rfl rfl)
theorem dX1_timesBack_1 : decode cX1_timesBack 1 = .ok (.getfield 60, 3) := dk_180 0 60 (dk_at dksX1_timesBack_0 1 rfl rfl)
theorem dX1_timesBack_4 : decode cX1_timesBack 4 = .ok (.iload_n 1, 1) := dk_27 (dk_at dksX1_timesBack_0 4 rfl rfl)
theorem dX1_timesBack_5 : decode cX1_timesBack 5 = .ok (.invokestatic 162, 3) := dk_184 0 162 (dk_at dksX1_timesBack_0 5 rfl rfl)
theorem dX1_timesBack_8 : decode cX1_timesBack 8 = .ok (.checkcast 305, 3) := dk_192 1 49 (dk_at dksX1_timesBack_0 8 rfl rfl)
theorem dX1_timesBack_11 : decode cX1_timesBack 11 = .ok (.getfield 320, 3) := dk_180 1 64 (dk_at dksX1_timesBack_0 11 rfl rfl)
theorem dX1_timesBack_14 : decode cX1_timesBack 14 = .ok (.ireturn, 1) := dk_172 (dk_at dksX1_timesBack_0 14 rfl rfl)
abbrev cX1_whyBack : ByteArray := prog_1_method_32_code
def yX1_whyBack : MethodName := ⟨RX1, "whyBack", "(I)I"⟩
def dkwX1_whyBack_1 : List UInt8 := [182, 1, 71, 193, 1, 77, 153, 0, 7, 4, 167, 0, 4, 5, 172]
abbrev dktX1_whyBack_1 : List UInt8 := dkwX1_whyBack_1 ++ []
def dkwX1_whyBack_0 : List UInt8 := [42, 180, 0, 60, 27, 184, 0, 162, 192, 1, 49, 180, 1, 67, 77, 44, 199, 0, 7, 3, 167, 0, 18, 44]
abbrev dktX1_whyBack_0 : List UInt8 := dkwX1_whyBack_0 ++ dktX1_whyBack_1
theorem dksX1_whyBack_0 : cX1_whyBack.data.toList.drop 0 = dktX1_whyBack_0 := by decide +kernel
theorem dksX1_whyBack_1 : cX1_whyBack.data.toList.drop 24 = dktX1_whyBack_1 := dk_seg dksX1_whyBack_0 24 rfl rfl
theorem dX1_whyBack_0 : decode cX1_whyBack 0 = .ok (.aload_n 0, 1) := dk_42 (dk_at dksX1_whyBack_0 0 rfl rfl)
theorem dX1_whyBack_1 : decode cX1_whyBack 1 = .ok (.getfield 60, 3) := dk_180 0 60 (dk_at dksX1_whyBack_0 1 rfl rfl)
theorem dX1_whyBack_4 : decode cX1_whyBack 4 = .ok (.iload_n 1, 1) := dk_27 (dk_at dksX1_whyBack_0 4 rfl rfl)
theorem dX1_whyBack_5 : decode cX1_whyBack 5 = .ok (.invokestatic 162, 3) := dk_184 0 162 (dk_at dksX1_whyBack_0 5 rfl rfl)
theorem dX1_whyBack_8 : decode cX1_whyBack 8 = .ok (.checkcast 305, 3) := dk_192 1 49 (dk_at dksX1_whyBack_0 8 rfl rfl)
theorem dX1_whyBack_11 : decode cX1_whyBack 11 = .ok (.getfield 323, 3) := dk_180 1 67 (dk_at dksX1_whyBack_0 11 rfl rfl)
theorem dX1_whyBack_14 : decode cX1_whyBack 14 = .ok (.astore_n 2, 1) := dk_77 (dk_at dksX1_whyBack_0 14 rfl rfl)
theorem dX1_whyBack_15 : decode cX1_whyBack 15 = .ok (.aload_n 2, 1) := dk_44 (dk_at dksX1_whyBack_0 15 rfl rfl)
theorem dX1_whyBack_16 : decode cX1_whyBack 16 = .ok (.ifnonnull 7, 3) := dk_199 0 7 (dk_at dksX1_whyBack_0 16 rfl rfl)
theorem dX1_whyBack_19 : decode cX1_whyBack 19 = .ok (.iconst 0, 1) := dk_3 (dk_at dksX1_whyBack_0 19 rfl rfl)
theorem dX1_whyBack_20 : decode cX1_whyBack 20 = .ok (.goto 18, 3) := dk_167 0 18 (dk_at dksX1_whyBack_0 20 rfl rfl)
theorem dX1_whyBack_23 : decode cX1_whyBack 23 = .ok (.aload_n 2, 1) := dk_44 (dk_at dksX1_whyBack_0 23 rfl rfl)
theorem dX1_whyBack_24 : decode cX1_whyBack 24 = .ok (.invokevirtual 327, 3) := dk_182 1 71 (dk_at dksX1_whyBack_1 0 rfl rfl)
theorem dX1_whyBack_27 : decode cX1_whyBack 27 = .ok (.instanceof 333, 3) := dk_193 1 77 (dk_at dksX1_whyBack_1 3 rfl rfl)
theorem dX1_whyBack_30 : decode cX1_whyBack 30 = .ok (.ifCond .eq 7, 3) := dk_153 0 7 (dk_at dksX1_whyBack_1 6 rfl rfl)
theorem dX1_whyBack_33 : decode cX1_whyBack 33 = .ok (.iconst 1, 1) := dk_4 (dk_at dksX1_whyBack_1 9 rfl rfl)
theorem dX1_whyBack_34 : decode cX1_whyBack 34 = .ok (.goto 4, 3) := dk_167 0 4 (dk_at dksX1_whyBack_1 10 rfl rfl)
theorem dX1_whyBack_37 : decode cX1_whyBack 37 = .ok (.iconst 2, 1) := dk_5 (dk_at dksX1_whyBack_1 13 rfl rfl)
theorem dX1_whyBack_38 : decode cX1_whyBack 38 = .ok (.ireturn, 1) := dk_172 (dk_at dksX1_whyBack_1 14 rfl rfl)
abbrev cX1_daysWaited : ByteArray := prog_1_method_33_code
def yX1_daysWaited : MethodName := ⟨RX1, "daysWaited", "(I)I"⟩
def dkwX1_daysWaited_0 : List UInt8 := [42, 180, 0, 60, 27, 184, 0, 162, 192, 1, 49, 180, 1, 79, 172]
abbrev dktX1_daysWaited_0 : List UInt8 := dkwX1_daysWaited_0 ++ []
theorem dksX1_daysWaited_0 : cX1_daysWaited.data.toList.drop 0 = dktX1_daysWaited_0 := by decide +kernel
theorem dX1_daysWaited_0 : decode cX1_daysWaited 0 = .ok (.aload_n 0, 1) := dk_42 (dk_at dksX1_daysWaited_0 0 rfl rfl)
theorem dX1_daysWaited_1 : decode cX1_daysWaited 1 = .ok (.getfield 60, 3) := dk_180 0 60 (dk_at dksX1_daysWaited_0 1 rfl rfl)
theorem dX1_daysWaited_4 : decode cX1_daysWaited 4 = .ok (.iload_n 1, 1) := dk_27 (dk_at dksX1_daysWaited_0 4 rfl rfl)
theorem dX1_daysWaited_5 : decode cX1_daysWaited 5 = .ok (.invokestatic 162, 3) := dk_184 0 162 (dk_at dksX1_daysWaited_0 5 rfl rfl)
theorem dX1_daysWaited_8 : decode cX1_daysWaited 8 = .ok (.checkcast 305, 3) := dk_192 1 49 (dk_at dksX1_daysWaited_0 8 rfl rfl)
theorem dX1_daysWaited_11 : decode cX1_daysWaited 11 = .ok (.getfield 335, 3) := dk_180 1 79 (dk_at dksX1_daysWaited_0 11 rfl rfl)
theorem dX1_daysWaited_14 : decode cX1_daysWaited 14 = .ok (.ireturn, 1) := dk_172 (dk_at dksX1_daysWaited_0 14 rfl rfl)
abbrev cX1_isWanted : ByteArray := prog_1_method_34_code
def yX1_isWanted : MethodName := ⟨RX1, "isWanted", "(II)Z"⟩
def dkwX1_isWanted_1 : List UInt8 := [58, 4, 45, 180, 1, 82, 28, 182, 0, 252, 172]
abbrev dktX1_isWanted_1 : List UInt8 := dkwX1_isWanted_1 ++ []
def dkwX1_isWanted_0 : List UInt8 := [42, 180, 0, 60, 27, 184, 0, 162, 192, 1, 49, 78, 42, 180, 0, 50, 28, 184, 0, 162, 192, 0, 113]
abbrev dktX1_isWanted_0 : List UInt8 := dkwX1_isWanted_0 ++ dktX1_isWanted_1
theorem dksX1_isWanted_0 : cX1_isWanted.data.toList.drop 0 = dktX1_isWanted_0 := by decide +kernel
theorem dksX1_isWanted_1 : cX1_isWanted.data.toList.drop 23 = dktX1_isWanted_1 := dk_seg dksX1_isWanted_0 23 rfl rfl
theorem dX1_isWanted_0 : decode cX1_isWanted 0 = .ok (.aload_n 0, 1) := dk_42 (dk_at dksX1_isWanted_0 0 rfl rfl)
theorem dX1_isWanted_1 : decode cX1_isWanted 1 = .ok (.getfield 60, 3) := dk_180 0 60 (dk_at dksX1_isWanted_0 1 rfl rfl)
theorem dX1_isWanted_4 : decode cX1_isWanted 4 = .ok (.iload_n 1, 1) := dk_27 (dk_at dksX1_isWanted_0 4 rfl rfl)
theorem dX1_isWanted_5 : decode cX1_isWanted 5 = .ok (.invokestatic 162, 3) := dk_184 0 162 (dk_at dksX1_isWanted_0 5 rfl rfl)
theorem dX1_isWanted_8 : decode cX1_isWanted 8 = .ok (.checkcast 305, 3) := dk_192 1 49 (dk_at dksX1_isWanted_0 8 rfl rfl)
theorem dX1_isWanted_11 : decode cX1_isWanted 11 = .ok (.astore_n 3, 1) := dk_78 (dk_at dksX1_isWanted_0 11 rfl rfl)
theorem dX1_isWanted_12 : decode cX1_isWanted 12 = .ok (.aload_n 0, 1) := dk_42 (dk_at dksX1_isWanted_0 12 rfl rfl)
theorem dX1_isWanted_13 : decode cX1_isWanted 13 = .ok (.getfield 50, 3) := dk_180 0 50 (dk_at dksX1_isWanted_0 13 rfl rfl)
theorem dX1_isWanted_16 : decode cX1_isWanted 16 = .ok (.iload_n 2, 1) := dk_28 (dk_at dksX1_isWanted_0 16 rfl rfl)
theorem dX1_isWanted_17 : decode cX1_isWanted 17 = .ok (.invokestatic 162, 3) := dk_184 0 162 (dk_at dksX1_isWanted_0 17 rfl rfl)
theorem dX1_isWanted_20 : decode cX1_isWanted 20 = .ok (.checkcast 113, 3) := dk_192 0 113 (dk_at dksX1_isWanted_0 20 rfl rfl)
theorem dX1_isWanted_23 : decode cX1_isWanted 23 = .ok (.astore 4, 2) := dk_58 4 (dk_at dksX1_isWanted_1 0 rfl rfl)
theorem dX1_isWanted_25 : decode cX1_isWanted 25 = .ok (.aload_n 3, 1) := dk_45 (dk_at dksX1_isWanted_1 2 rfl rfl)
theorem dX1_isWanted_26 : decode cX1_isWanted 26 = .ok (.getfield 338, 3) := dk_180 1 82 (dk_at dksX1_isWanted_1 3 rfl rfl)
theorem dX1_isWanted_29 : decode cX1_isWanted 29 = .ok (.iload_n 2, 1) := dk_28 (dk_at dksX1_isWanted_1 6 rfl rfl)
theorem dX1_isWanted_30 : decode cX1_isWanted 30 = .ok (.invokevirtual 252, 3) := dk_182 0 252 (dk_at dksX1_isWanted_1 7 rfl rfl)
theorem dX1_isWanted_33 : decode cX1_isWanted 33 = .ok (.ireturn, 1) := dk_172 (dk_at dksX1_isWanted_1 10 rfl rfl)
abbrev cX1_unwantedName : ByteArray := prog_1_method_35_code
def yX1_unwantedName : MethodName := ⟨RX1, "unwantedName", "(I)I"⟩
def dkwX1_unwantedName_0 : List UInt8 := [42, 180, 0, 60, 27, 184, 0, 162, 192, 1, 49, 180, 1, 82, 180, 1, 45, 172]
abbrev dktX1_unwantedName_0 : List UInt8 := dkwX1_unwantedName_0 ++ []
theorem dksX1_unwantedName_0 : cX1_unwantedName.data.toList.drop 0 = dktX1_unwantedName_0 := by decide +kernel
theorem dX1_unwantedName_0 : decode cX1_unwantedName 0 = .ok (.aload_n 0, 1) := dk_42 (dk_at dksX1_unwantedName_0 0 rfl rfl)
theorem dX1_unwantedName_1 : decode cX1_unwantedName 1 = .ok (.getfield 60, 3) := dk_180 0 60 (dk_at dksX1_unwantedName_0 1 rfl rfl)
theorem dX1_unwantedName_4 : decode cX1_unwantedName 4 = .ok (.iload_n 1, 1) := dk_27 (dk_at dksX1_unwantedName_0 4 rfl rfl)
theorem dX1_unwantedName_5 : decode cX1_unwantedName 5 = .ok (.invokestatic 162, 3) := dk_184 0 162 (dk_at dksX1_unwantedName_0 5 rfl rfl)
theorem dX1_unwantedName_8 : decode cX1_unwantedName 8 = .ok (.checkcast 305, 3) := dk_192 1 49 (dk_at dksX1_unwantedName_0 8 rfl rfl)
theorem dX1_unwantedName_11 : decode cX1_unwantedName 11 = .ok (.getfield 338, 3) := dk_180 1 82 (dk_at dksX1_unwantedName_0 11 rfl rfl)
theorem dX1_unwantedName_14 : decode cX1_unwantedName 14 = .ok (.getfield 301, 3) := dk_180 1 45 (dk_at dksX1_unwantedName_0 14 rfl rfl)
theorem dX1_unwantedName_17 : decode cX1_unwantedName 17 = .ok (.ireturn, 1) := dk_172 (dk_at dksX1_unwantedName_0 17 rfl rfl)
abbrev cX1_isHeld : ByteArray := prog_1_method_37_code
def yX1_isHeld : MethodName := ⟨RX1, "isHeld", "(I)Z"⟩
def dkwX1_isHeld_0 : List UInt8 := [42, 42, 180, 0, 60, 27, 184, 0, 162, 192, 1, 49, 182, 1, 89, 172]
abbrev dktX1_isHeld_0 : List UInt8 := dkwX1_isHeld_0 ++ []
theorem dksX1_isHeld_0 : cX1_isHeld.data.toList.drop 0 = dktX1_isHeld_0 := by decide +kernel
theorem dX1_isHeld_0 : decode cX1_isHeld 0 = .ok (.aload_n 0, 1) := dk_42 (dk_at dksX1_isHeld_0 0 rfl rfl)
theorem dX1_isHeld_1 : decode cX1_isHeld 1 = .ok (.aload_n 0, 1) := dk_42 (dk_at dksX1_isHeld_0 1 rfl rfl)
theorem dX1_isHeld_2 : decode cX1_isHeld 2 = .ok (.getfield 60, 3) := dk_180 0 60 (dk_at dksX1_isHeld_0 2 rfl rfl)
theorem dX1_isHeld_5 : decode cX1_isHeld 5 = .ok (.iload_n 1, 1) := dk_27 (dk_at dksX1_isHeld_0 5 rfl rfl)
theorem dX1_isHeld_6 : decode cX1_isHeld 6 = .ok (.invokestatic 162, 3) := dk_184 0 162 (dk_at dksX1_isHeld_0 6 rfl rfl)
theorem dX1_isHeld_9 : decode cX1_isHeld 9 = .ok (.checkcast 305, 3) := dk_192 1 49 (dk_at dksX1_isHeld_0 9 rfl rfl)
theorem dX1_isHeld_12 : decode cX1_isHeld 12 = .ok (.invokevirtual 345, 3) := dk_182 1 89 (dk_at dksX1_isHeld_0 12 rfl rfl)
theorem dX1_isHeld_15 : decode cX1_isHeld 15 = .ok (.ireturn, 1) := dk_172 (dk_at dksX1_isHeld_0 15 rfl rfl)
abbrev cX1_isKept : ByteArray := prog_1_method_36_code
def yX1_isKept : MethodName := ⟨RX1, "isKept", "(LDialectdepot$Parcel;)Z"⟩
def dkwX1_isKept_3 : List UInt8 := [167, 0, 4, 3, 172]
abbrev dktX1_isKept_3 : List UInt8 := dkwX1_isKept_3 ++ []
def dkwX1_isKept_2 : List UInt8 := [167, 0, 4, 3, 61, 132, 3, 1, 167, 255, 204, 43, 180, 1, 61, 154, 0, 11, 28, 153, 0, 7, 4]
abbrev dktX1_isKept_2 : List UInt8 := dkwX1_isKept_2 ++ dktX1_isKept_3
def dkwX1_isKept_1 : List UInt8 := [180, 1, 82, 180, 1, 25, 29, 46, 185, 0, 99, 2, 0, 192, 0, 113, 180, 1, 86, 2, 159, 0, 7, 4]
abbrev dktX1_isKept_1 : List UInt8 := dkwX1_isKept_1 ++ dktX1_isKept_2
def dkwX1_isKept_0 : List UInt8 := [3, 61, 3, 62, 29, 43, 180, 1, 82, 180, 1, 32, 162, 0, 47, 28, 154, 0, 31, 42, 180, 0, 50, 43]
abbrev dktX1_isKept_0 : List UInt8 := dkwX1_isKept_0 ++ dktX1_isKept_1
theorem dksX1_isKept_0 : cX1_isKept.data.toList.drop 0 = dktX1_isKept_0 := by decide +kernel
theorem dksX1_isKept_1 : cX1_isKept.data.toList.drop 24 = dktX1_isKept_1 := dk_seg dksX1_isKept_0 24 rfl rfl
theorem dksX1_isKept_2 : cX1_isKept.data.toList.drop 48 = dktX1_isKept_2 := dk_seg dksX1_isKept_1 24 rfl rfl
theorem dksX1_isKept_3 : cX1_isKept.data.toList.drop 71 = dktX1_isKept_3 := dk_seg dksX1_isKept_2 23 rfl rfl
theorem dX1_isKept_0 : decode cX1_isKept 0 = .ok (.iconst 0, 1) := dk_3 (dk_at dksX1_isKept_0 0 rfl rfl)
theorem dX1_isKept_1 : decode cX1_isKept 1 = .ok (.istore_n 2, 1) := dk_61 (dk_at dksX1_isKept_0 1 rfl rfl)
theorem dX1_isKept_2 : decode cX1_isKept 2 = .ok (.iconst 0, 1) := dk_3 (dk_at dksX1_isKept_0 2 rfl rfl)
theorem dX1_isKept_3 : decode cX1_isKept 3 = .ok (.istore_n 3, 1) := dk_62 (dk_at dksX1_isKept_0 3 rfl rfl)
theorem dX1_isKept_4 : decode cX1_isKept 4 = .ok (.iload_n 3, 1) := dk_29 (dk_at dksX1_isKept_0 4 rfl rfl)
theorem dX1_isKept_5 : decode cX1_isKept 5 = .ok (.aload_n 1, 1) := dk_43 (dk_at dksX1_isKept_0 5 rfl rfl)
theorem dX1_isKept_6 : decode cX1_isKept 6 = .ok (.getfield 338, 3) := dk_180 1 82 (dk_at dksX1_isKept_0 6 rfl rfl)
theorem dX1_isKept_9 : decode cX1_isKept 9 = .ok (.getfield 288, 3) := dk_180 1 32 (dk_at dksX1_isKept_0 9 rfl rfl)
theorem dX1_isKept_12 : decode cX1_isKept 12 = .ok (.if_icmp .ge 47, 3) := dk_162 0 47 (dk_at dksX1_isKept_0 12 rfl rfl)
theorem dX1_isKept_15 : decode cX1_isKept 15 = .ok (.iload_n 2, 1) := dk_28 (dk_at dksX1_isKept_0 15 rfl rfl)
theorem dX1_isKept_16 : decode cX1_isKept 16 = .ok (.ifCond .ne 31, 3) := dk_154 0 31 (dk_at dksX1_isKept_0 16 rfl rfl)
theorem dX1_isKept_19 : decode cX1_isKept 19 = .ok (.aload_n 0, 1) := dk_42 (dk_at dksX1_isKept_0 19 rfl rfl)
theorem dX1_isKept_20 : decode cX1_isKept 20 = .ok (.getfield 50, 3) := dk_180 0 50 (dk_at dksX1_isKept_0 20 rfl rfl)
theorem dX1_isKept_23 : decode cX1_isKept 23 = .ok (.aload_n 1, 1) := dk_43 (dk_at dksX1_isKept_0 23 rfl rfl)
theorem dX1_isKept_24 : decode cX1_isKept 24 = .ok (.getfield 338, 3) := dk_180 1 82 (dk_at dksX1_isKept_1 0 rfl rfl)
theorem dX1_isKept_27 : decode cX1_isKept 27 = .ok (.getfield 281, 3) := dk_180 1 25 (dk_at dksX1_isKept_1 3 rfl rfl)
theorem dX1_isKept_30 : decode cX1_isKept 30 = .ok (.iload_n 3, 1) := dk_29 (dk_at dksX1_isKept_1 6 rfl rfl)
theorem dX1_isKept_31 : decode cX1_isKept 31 = .ok (.iaload, 1) := dk_46 (dk_at dksX1_isKept_1 7 rfl rfl)
theorem dX1_isKept_32 : decode cX1_isKept 32 = .ok (.invokeinterface 99 2, 5) := by decide +kernel
theorem dX1_isKept_37 : decode cX1_isKept 37 = .ok (.checkcast 113, 3) := dk_192 0 113 (dk_at dksX1_isKept_1 13 rfl rfl)
theorem dX1_isKept_40 : decode cX1_isKept 40 = .ok (.getfield 342, 3) := dk_180 1 86 (dk_at dksX1_isKept_1 16 rfl rfl)
theorem dX1_isKept_43 : decode cX1_isKept 43 = .ok (.iconst (-1), 1) := dk_2 (dk_at dksX1_isKept_1 19 rfl rfl)
theorem dX1_isKept_44 : decode cX1_isKept 44 = .ok (.if_icmp .eq 7, 3) := dk_159 0 7 (dk_at dksX1_isKept_1 20 rfl rfl)
theorem dX1_isKept_47 : decode cX1_isKept 47 = .ok (.iconst 1, 1) := dk_4 (dk_at dksX1_isKept_1 23 rfl rfl)
theorem dX1_isKept_48 : decode cX1_isKept 48 = .ok (.goto 4, 3) := dk_167 0 4 (dk_at dksX1_isKept_2 0 rfl rfl)
theorem dX1_isKept_51 : decode cX1_isKept 51 = .ok (.iconst 0, 1) := dk_3 (dk_at dksX1_isKept_2 3 rfl rfl)
theorem dX1_isKept_52 : decode cX1_isKept 52 = .ok (.istore_n 2, 1) := dk_61 (dk_at dksX1_isKept_2 4 rfl rfl)
theorem dX1_isKept_53 : decode cX1_isKept 53 = .ok (.iinc 3 1, 3) := dk_132 3 1 (dk_at dksX1_isKept_2 5 rfl rfl)
theorem dX1_isKept_56 : decode cX1_isKept 56 = .ok (.goto (-52), 3) := dk_167 255 204 (dk_at dksX1_isKept_2 8 rfl rfl)
theorem dX1_isKept_59 : decode cX1_isKept 59 = .ok (.aload_n 1, 1) := dk_43 (dk_at dksX1_isKept_2 11 rfl rfl)
theorem dX1_isKept_60 : decode cX1_isKept 60 = .ok (.getfield 317, 3) := dk_180 1 61 (dk_at dksX1_isKept_2 12 rfl rfl)
theorem dX1_isKept_63 : decode cX1_isKept 63 = .ok (.ifCond .ne 11, 3) := dk_154 0 11 (dk_at dksX1_isKept_2 15 rfl rfl)
theorem dX1_isKept_66 : decode cX1_isKept 66 = .ok (.iload_n 2, 1) := dk_28 (dk_at dksX1_isKept_2 18 rfl rfl)
theorem dX1_isKept_67 : decode cX1_isKept 67 = .ok (.ifCond .eq 7, 3) := dk_153 0 7 (dk_at dksX1_isKept_2 19 rfl rfl)
theorem dX1_isKept_70 : decode cX1_isKept 70 = .ok (.iconst 1, 1) := dk_4 (dk_at dksX1_isKept_2 22 rfl rfl)
theorem dX1_isKept_71 : decode cX1_isKept 71 = .ok (.goto 4, 3) := dk_167 0 4 (dk_at dksX1_isKept_3 0 rfl rfl)
theorem dX1_isKept_74 : decode cX1_isKept 74 = .ok (.iconst 0, 1) := dk_3 (dk_at dksX1_isKept_3 3 rfl rfl)
theorem dX1_isKept_75 : decode cX1_isKept 75 = .ok (.ireturn, 1) := dk_172 (dk_at dksX1_isKept_3 4 rfl rfl)
abbrev cX1_score : ByteArray := prog_1_method_42_code
def yX1_score : MethodName := ⟨RX1, "score", "(III)I"⟩
def dkwX1_score_1 : List UInt8 := [58, 5, 42, 29, 182, 0, 166, 42, 180, 0, 43, 25, 4, 25, 5, 29, 184, 1, 111, 172]
abbrev dktX1_score_1 : List UInt8 := dkwX1_score_1 ++ []
def dkwX1_score_0 : List UInt8 := [42, 180, 0, 60, 27, 184, 0, 162, 192, 1, 49, 58, 4, 42, 180, 0, 57, 28, 184, 0, 162, 192, 0, 196]
abbrev dktX1_score_0 : List UInt8 := dkwX1_score_0 ++ dktX1_score_1
theorem dksX1_score_0 : cX1_score.data.toList.drop 0 = dktX1_score_0 := by decide +kernel
theorem dksX1_score_1 : cX1_score.data.toList.drop 24 = dktX1_score_1 := dk_seg dksX1_score_0 24 rfl rfl
theorem dX1_score_0 : decode cX1_score 0 = .ok (.aload_n 0, 1) := dk_42 (dk_at dksX1_score_0 0 rfl rfl)
theorem dX1_score_1 : decode cX1_score 1 = .ok (.getfield 60, 3) := dk_180 0 60 (dk_at dksX1_score_0 1 rfl rfl)
theorem dX1_score_4 : decode cX1_score 4 = .ok (.iload_n 1, 1) := dk_27 (dk_at dksX1_score_0 4 rfl rfl)
theorem dX1_score_5 : decode cX1_score 5 = .ok (.invokestatic 162, 3) := dk_184 0 162 (dk_at dksX1_score_0 5 rfl rfl)
theorem dX1_score_8 : decode cX1_score 8 = .ok (.checkcast 305, 3) := dk_192 1 49 (dk_at dksX1_score_0 8 rfl rfl)
theorem dX1_score_11 : decode cX1_score 11 = .ok (.astore 4, 2) := dk_58 4 (dk_at dksX1_score_0 11 rfl rfl)
theorem dX1_score_13 : decode cX1_score 13 = .ok (.aload_n 0, 1) := dk_42 (dk_at dksX1_score_0 13 rfl rfl)
theorem dX1_score_14 : decode cX1_score 14 = .ok (.getfield 57, 3) := dk_180 0 57 (dk_at dksX1_score_0 14 rfl rfl)
theorem dX1_score_17 : decode cX1_score 17 = .ok (.iload_n 2, 1) := dk_28 (dk_at dksX1_score_0 17 rfl rfl)
theorem dX1_score_18 : decode cX1_score 18 = .ok (.invokestatic 162, 3) := dk_184 0 162 (dk_at dksX1_score_0 18 rfl rfl)
theorem dX1_score_21 : decode cX1_score 21 = .ok (.checkcast 196, 3) := dk_192 0 196 (dk_at dksX1_score_0 21 rfl rfl)
theorem dX1_score_24 : decode cX1_score 24 = .ok (.astore 5, 2) := dk_58 5 (dk_at dksX1_score_1 0 rfl rfl)
theorem dX1_score_26 : decode cX1_score 26 = .ok (.aload_n 0, 1) := dk_42 (dk_at dksX1_score_1 2 rfl rfl)
theorem dX1_score_27 : decode cX1_score 27 = .ok (.iload_n 3, 1) := dk_29 (dk_at dksX1_score_1 3 rfl rfl)
theorem dX1_score_28 : decode cX1_score 28 = .ok (.invokevirtual 166, 3) := dk_182 0 166 (dk_at dksX1_score_1 4 rfl rfl)
theorem dX1_score_31 : decode cX1_score 31 = .ok (.aload_n 0, 1) := dk_42 (dk_at dksX1_score_1 7 rfl rfl)
theorem dX1_score_32 : decode cX1_score 32 = .ok (.getfield 43, 3) := dk_180 0 43 (dk_at dksX1_score_1 8 rfl rfl)
theorem dX1_score_35 : decode cX1_score 35 = .ok (.aload 4, 2) := dk_25 4 (dk_at dksX1_score_1 11 rfl rfl)
theorem dX1_score_37 : decode cX1_score 37 = .ok (.aload 5, 2) := dk_25 5 (dk_at dksX1_score_1 13 rfl rfl)
theorem dX1_score_39 : decode cX1_score 39 = .ok (.iload_n 3, 1) := dk_29 (dk_at dksX1_score_1 15 rfl rfl)
theorem dX1_score_40 : decode cX1_score 40 = .ok (.invokestatic 367, 3) := dk_184 1 111 (dk_at dksX1_score_1 16 rfl rfl)
theorem dX1_score_43 : decode cX1_score 43 = .ok (.ireturn, 1) := dk_172 (dk_at dksX1_score_1 19 rfl rfl)
abbrev cX1_choiceFor : ByteArray := prog_1_method_44_code
def yX1_choiceFor : MethodName := ⟨RX1, "choiceFor", "(I)I"⟩
def dkwX1_choiceFor_0 : List UInt8 := [42, 42, 180, 0, 60, 27, 184, 0, 162, 192, 1, 49, 4, 182, 1, 128, 172]
abbrev dktX1_choiceFor_0 : List UInt8 := dkwX1_choiceFor_0 ++ []
theorem dksX1_choiceFor_0 : cX1_choiceFor.data.toList.drop 0 = dktX1_choiceFor_0 := by decide +kernel
theorem dX1_choiceFor_0 : decode cX1_choiceFor 0 = .ok (.aload_n 0, 1) := dk_42 (dk_at dksX1_choiceFor_0 0 rfl rfl)
theorem dX1_choiceFor_1 : decode cX1_choiceFor 1 = .ok (.aload_n 0, 1) := dk_42 (dk_at dksX1_choiceFor_0 1 rfl rfl)
theorem dX1_choiceFor_2 : decode cX1_choiceFor 2 = .ok (.getfield 60, 3) := dk_180 0 60 (dk_at dksX1_choiceFor_0 2 rfl rfl)
theorem dX1_choiceFor_5 : decode cX1_choiceFor 5 = .ok (.iload_n 1, 1) := dk_27 (dk_at dksX1_choiceFor_0 5 rfl rfl)
theorem dX1_choiceFor_6 : decode cX1_choiceFor 6 = .ok (.invokestatic 162, 3) := dk_184 0 162 (dk_at dksX1_choiceFor_0 6 rfl rfl)
theorem dX1_choiceFor_9 : decode cX1_choiceFor 9 = .ok (.checkcast 305, 3) := dk_192 1 49 (dk_at dksX1_choiceFor_0 9 rfl rfl)
theorem dX1_choiceFor_12 : decode cX1_choiceFor 12 = .ok (.iconst 1, 1) := dk_4 (dk_at dksX1_choiceFor_0 12 rfl rfl)
theorem dX1_choiceFor_13 : decode cX1_choiceFor 13 = .ok (.invokevirtual 384, 3) := dk_182 1 128 (dk_at dksX1_choiceFor_0 13 rfl rfl)
theorem dX1_choiceFor_16 : decode cX1_choiceFor 16 = .ok (.ireturn, 1) := dk_172 (dk_at dksX1_choiceFor_0 16 rfl rfl)
abbrev cX1_choose : ByteArray := prog_1_method_43_code
def yX1_choose : MethodName := ⟨RX1, "choose", "(LDialectdepot$Parcel;Z)I"⟩
def dkwX1_choose_6 : List UInt8 := [132, 5, 1, 167, 255, 123, 29, 172]
abbrev dktX1_choose_6 : List UInt8 := dkwX1_choose_6 ++ []
def dkwX1_choose_5 : List UInt8 := [21, 7, 96, 167, 0, 4, 29, 62, 21, 4, 21, 8, 184, 1, 122, 54, 4, 132, 7, 1, 167, 255, 162]
abbrev dktX1_choose_5 : List UInt8 := dkwX1_choose_5 ++ dktX1_choose_6
def dkwX1_choose_4 : List UInt8 := [21, 7, 184, 1, 111, 167, 0, 4, 3, 54, 8, 21, 8, 21, 4, 164, 0, 14, 16, 10, 21, 5, 104]
abbrev dktX1_choose_4 : List UInt8 := dkwX1_choose_4 ++ dktX1_choose_5
def dkwX1_choose_3 : List UInt8 := [162, 0, 69, 25, 6, 180, 0, 201, 21, 7, 184, 1, 118, 153, 0, 18, 42, 180, 0, 43, 43, 25, 6]
abbrev dktX1_choose_3 : List UInt8 := dkwX1_choose_3 ++ dktX1_choose_4
def dkwX1_choose_2 : List UInt8 := [162, 0, 91, 28, 154, 0, 21, 25, 6, 180, 1, 115, 185, 0, 85, 1, 0, 25, 6, 180, 0, 204]
abbrev dktX1_choose_2 : List UInt8 := dkwX1_choose_2 ++ dktX1_choose_3
def dkwX1_choose_1 : List UInt8 := [180, 0, 57, 21, 5, 185, 0, 99, 2, 0, 192, 0, 196, 58, 6, 3, 54, 7, 21, 7, 42, 180, 0, 103]
abbrev dktX1_choose_1 : List UInt8 := dkwX1_choose_1 ++ dktX1_choose_2
def dkwX1_choose_0 : List UInt8 := [2, 62, 3, 54, 4, 3, 54, 5, 21, 5, 42, 180, 0, 57, 185, 0, 85, 1, 0, 162, 0, 125, 42]
abbrev dktX1_choose_0 : List UInt8 := dkwX1_choose_0 ++ dktX1_choose_1
theorem dksX1_choose_0 : cX1_choose.data.toList.drop 0 = dktX1_choose_0 := by decide +kernel
theorem dksX1_choose_1 : cX1_choose.data.toList.drop 23 = dktX1_choose_1 := dk_seg dksX1_choose_0 23 rfl rfl
theorem dksX1_choose_2 : cX1_choose.data.toList.drop 47 = dktX1_choose_2 := dk_seg dksX1_choose_1 24 rfl rfl
theorem dksX1_choose_3 : cX1_choose.data.toList.drop 69 = dktX1_choose_3 := dk_seg dksX1_choose_2 22 rfl rfl
theorem dksX1_choose_4 : cX1_choose.data.toList.drop 92 = dktX1_choose_4 := dk_seg dksX1_choose_3 23 rfl rfl
theorem dksX1_choose_5 : cX1_choose.data.toList.drop 115 = dktX1_choose_5 := dk_seg dksX1_choose_4 23 rfl rfl
theorem dksX1_choose_6 : cX1_choose.data.toList.drop 138 = dktX1_choose_6 := dk_seg dksX1_choose_5 23 rfl rfl
theorem dX1_choose_0 : decode cX1_choose 0 = .ok (.iconst (-1), 1) := dk_2 (dk_at dksX1_choose_0 0 rfl rfl)
theorem dX1_choose_1 : decode cX1_choose 1 = .ok (.istore_n 3, 1) := dk_62 (dk_at dksX1_choose_0 1 rfl rfl)
theorem dX1_choose_2 : decode cX1_choose 2 = .ok (.iconst 0, 1) := dk_3 (dk_at dksX1_choose_0 2 rfl rfl)
theorem dX1_choose_3 : decode cX1_choose 3 = .ok (.istore 4, 2) := dk_54 4 (dk_at dksX1_choose_0 3 rfl rfl)
theorem dX1_choose_5 : decode cX1_choose 5 = .ok (.iconst 0, 1) := dk_3 (dk_at dksX1_choose_0 5 rfl rfl)
theorem dX1_choose_6 : decode cX1_choose 6 = .ok (.istore 5, 2) := dk_54 5 (dk_at dksX1_choose_0 6 rfl rfl)
theorem dX1_choose_8 : decode cX1_choose 8 = .ok (.iload 5, 2) := dk_21 5 (dk_at dksX1_choose_0 8 rfl rfl)
theorem dX1_choose_10 : decode cX1_choose 10 = .ok (.aload_n 0, 1) := dk_42 (dk_at dksX1_choose_0 10 rfl rfl)
theorem dX1_choose_11 : decode cX1_choose 11 = .ok (.getfield 57, 3) := dk_180 0 57 (dk_at dksX1_choose_0 11 rfl rfl)
theorem dX1_choose_14 : decode cX1_choose 14 = .ok (.invokeinterface 85 1, 5) := by decide +kernel
theorem dX1_choose_19 : decode cX1_choose 19 = .ok (.if_icmp .ge 125, 3) := dk_162 0 125 (dk_at dksX1_choose_0 19 rfl rfl)
theorem dX1_choose_22 : decode cX1_choose 22 = .ok (.aload_n 0, 1) := dk_42 (dk_at dksX1_choose_0 22 rfl rfl)
theorem dX1_choose_23 : decode cX1_choose 23 = .ok (.getfield 57, 3) := dk_180 0 57 (dk_at dksX1_choose_1 0 rfl rfl)
theorem dX1_choose_26 : decode cX1_choose 26 = .ok (.iload 5, 2) := dk_21 5 (dk_at dksX1_choose_1 3 rfl rfl)
theorem dX1_choose_28 : decode cX1_choose 28 = .ok (.invokeinterface 99 2, 5) := by decide +kernel
theorem dX1_choose_33 : decode cX1_choose 33 = .ok (.checkcast 196, 3) := dk_192 0 196 (dk_at dksX1_choose_1 10 rfl rfl)
theorem dX1_choose_36 : decode cX1_choose 36 = .ok (.astore 6, 2) := dk_58 6 (dk_at dksX1_choose_1 13 rfl rfl)
theorem dX1_choose_38 : decode cX1_choose 38 = .ok (.iconst 0, 1) := dk_3 (dk_at dksX1_choose_1 15 rfl rfl)
theorem dX1_choose_39 : decode cX1_choose 39 = .ok (.istore 7, 2) := dk_54 7 (dk_at dksX1_choose_1 16 rfl rfl)
theorem dX1_choose_41 : decode cX1_choose 41 = .ok (.iload 7, 2) := dk_21 7 (dk_at dksX1_choose_1 18 rfl rfl)
theorem dX1_choose_43 : decode cX1_choose 43 = .ok (.aload_n 0, 1) := dk_42 (dk_at dksX1_choose_1 20 rfl rfl)
theorem dX1_choose_44 : decode cX1_choose 44 = .ok (.getfield 103, 3) := dk_180 0 103 (dk_at dksX1_choose_1 21 rfl rfl)
theorem dX1_choose_47 : decode cX1_choose 47 = .ok (.if_icmp .ge 91, 3) := dk_162 0 91 (dk_at dksX1_choose_2 0 rfl rfl)
theorem dX1_choose_50 : decode cX1_choose 50 = .ok (.iload_n 2, 1) := dk_28 (dk_at dksX1_choose_2 3 rfl rfl)
theorem dX1_choose_51 : decode cX1_choose 51 = .ok (.ifCond .ne 21, 3) := dk_154 0 21 (dk_at dksX1_choose_2 4 rfl rfl)
theorem dX1_choose_54 : decode cX1_choose 54 = .ok (.aload 6, 2) := dk_25 6 (dk_at dksX1_choose_2 7 rfl rfl)
theorem dX1_choose_56 : decode cX1_choose 56 = .ok (.getfield 371, 3) := dk_180 1 115 (dk_at dksX1_choose_2 9 rfl rfl)
theorem dX1_choose_59 : decode cX1_choose 59 = .ok (.invokeinterface 85 1, 5) := by decide +kernel
theorem dX1_choose_64 : decode cX1_choose 64 = .ok (.aload 6, 2) := dk_25 6 (dk_at dksX1_choose_2 17 rfl rfl)
theorem dX1_choose_66 : decode cX1_choose 66 = .ok (.getfield 204, 3) := dk_180 0 204 (dk_at dksX1_choose_2 19 rfl rfl)
theorem dX1_choose_69 : decode cX1_choose 69 = .ok (.if_icmp .ge 69, 3) := dk_162 0 69 (dk_at dksX1_choose_3 0 rfl rfl)
theorem dX1_choose_72 : decode cX1_choose 72 = .ok (.aload 6, 2) := dk_25 6 (dk_at dksX1_choose_3 3 rfl rfl)
theorem dX1_choose_74 : decode cX1_choose 74 = .ok (.getfield 201, 3) := dk_180 0 201 (dk_at dksX1_choose_3 5 rfl rfl)
theorem dX1_choose_77 : decode cX1_choose 77 = .ok (.iload 7, 2) := dk_21 7 (dk_at dksX1_choose_3 8 rfl rfl)
theorem dX1_choose_79 : decode cX1_choose 79 = .ok (.invokestatic 374, 3) := dk_184 1 118 (dk_at dksX1_choose_3 10 rfl rfl)
theorem dX1_choose_82 : decode cX1_choose 82 = .ok (.ifCond .eq 18, 3) := dk_153 0 18 (dk_at dksX1_choose_3 13 rfl rfl)
theorem dX1_choose_85 : decode cX1_choose 85 = .ok (.aload_n 0, 1) := dk_42 (dk_at dksX1_choose_3 16 rfl rfl)
theorem dX1_choose_86 : decode cX1_choose 86 = .ok (.getfield 43, 3) := dk_180 0 43 (dk_at dksX1_choose_3 17 rfl rfl)
theorem dX1_choose_89 : decode cX1_choose 89 = .ok (.aload_n 1, 1) := dk_43 (dk_at dksX1_choose_3 20 rfl rfl)
theorem dX1_choose_90 : decode cX1_choose 90 = .ok (.aload 6, 2) := dk_25 6 (dk_at dksX1_choose_3 21 rfl rfl)
theorem dX1_choose_92 : decode cX1_choose 92 = .ok (.iload 7, 2) := dk_21 7 (dk_at dksX1_choose_4 0 rfl rfl)
theorem dX1_choose_94 : decode cX1_choose 94 = .ok (.invokestatic 367, 3) := dk_184 1 111 (dk_at dksX1_choose_4 2 rfl rfl)
theorem dX1_choose_97 : decode cX1_choose 97 = .ok (.goto 4, 3) := dk_167 0 4 (dk_at dksX1_choose_4 5 rfl rfl)
theorem dX1_choose_100 : decode cX1_choose 100 = .ok (.iconst 0, 1) := dk_3 (dk_at dksX1_choose_4 8 rfl rfl)
theorem dX1_choose_101 : decode cX1_choose 101 = .ok (.istore 8, 2) := dk_54 8 (dk_at dksX1_choose_4 9 rfl rfl)
theorem dX1_choose_103 : decode cX1_choose 103 = .ok (.iload 8, 2) := dk_21 8 (dk_at dksX1_choose_4 11 rfl rfl)
theorem dX1_choose_105 : decode cX1_choose 105 = .ok (.iload 4, 2) := dk_21 4 (dk_at dksX1_choose_4 13 rfl rfl)
theorem dX1_choose_107 : decode cX1_choose 107 = .ok (.if_icmp .le 14, 3) := dk_164 0 14 (dk_at dksX1_choose_4 15 rfl rfl)
theorem dX1_choose_110 : decode cX1_choose 110 = .ok (.bipush 10, 2) := dk_16 10 (dk_at dksX1_choose_4 18 rfl rfl)
theorem dX1_choose_112 : decode cX1_choose 112 = .ok (.iload 5, 2) := dk_21 5 (dk_at dksX1_choose_4 20 rfl rfl)
theorem dX1_choose_114 : decode cX1_choose 114 = .ok (.imul, 1) := dk_104 (dk_at dksX1_choose_4 22 rfl rfl)
theorem dX1_choose_115 : decode cX1_choose 115 = .ok (.iload 7, 2) := dk_21 7 (dk_at dksX1_choose_5 0 rfl rfl)
theorem dX1_choose_117 : decode cX1_choose 117 = .ok (.iadd, 1) := dk_96 (dk_at dksX1_choose_5 2 rfl rfl)
theorem dX1_choose_118 : decode cX1_choose 118 = .ok (.goto 4, 3) := dk_167 0 4 (dk_at dksX1_choose_5 3 rfl rfl)
theorem dX1_choose_121 : decode cX1_choose 121 = .ok (.iload_n 3, 1) := dk_29 (dk_at dksX1_choose_5 6 rfl rfl)
theorem dX1_choose_122 : decode cX1_choose 122 = .ok (.istore_n 3, 1) := dk_62 (dk_at dksX1_choose_5 7 rfl rfl)
theorem dX1_choose_123 : decode cX1_choose 123 = .ok (.iload 4, 2) := dk_21 4 (dk_at dksX1_choose_5 8 rfl rfl)
theorem dX1_choose_125 : decode cX1_choose 125 = .ok (.iload 8, 2) := dk_21 8 (dk_at dksX1_choose_5 10 rfl rfl)
theorem dX1_choose_127 : decode cX1_choose 127 = .ok (.invokestatic 378, 3) := dk_184 1 122 (dk_at dksX1_choose_5 12 rfl rfl)
theorem dX1_choose_130 : decode cX1_choose 130 = .ok (.istore 4, 2) := dk_54 4 (dk_at dksX1_choose_5 15 rfl rfl)
theorem dX1_choose_132 : decode cX1_choose 132 = .ok (.iinc 7 1, 3) := dk_132 7 1 (dk_at dksX1_choose_5 17 rfl rfl)
theorem dX1_choose_135 : decode cX1_choose 135 = .ok (.goto (-94), 3) := dk_167 255 162 (dk_at dksX1_choose_5 20 rfl rfl)
theorem dX1_choose_138 : decode cX1_choose 138 = .ok (.iinc 5 1, 3) := dk_132 5 1 (dk_at dksX1_choose_6 0 rfl rfl)
theorem dX1_choose_141 : decode cX1_choose 141 = .ok (.goto (-133), 3) := dk_167 255 123 (dk_at dksX1_choose_6 3 rfl rfl)
theorem dX1_choose_144 : decode cX1_choose 144 = .ok (.iload_n 3, 1) := dk_29 (dk_at dksX1_choose_6 6 rfl rfl)
theorem dX1_choose_145 : decode cX1_choose 145 = .ok (.ireturn, 1) := dk_172 (dk_at dksX1_choose_6 7 rfl rfl)
abbrev cX1_nextDay : ByteArray := prog_1_method_53_code
def yX1_nextDay : MethodName := ⟨RX1, "nextDay", "()I"⟩
def dkwX1_nextDay_9 : List UInt8 := [42, 182, 1, 195, 182, 1, 229, 42, 89, 180, 1, 233, 27, 96, 181, 1, 233, 27, 172]
abbrev dktX1_nextDay_9 : List UInt8 := dkwX1_nextDay_9 ++ []
def dkwX1_nextDay_8 : List UInt8 := [16, 30, 112, 154, 0, 28, 42, 180, 0, 63, 187, 1, 226, 89, 183, 1, 228, 185, 0, 155, 2, 0, 87, 42]
abbrev dktX1_nextDay_8 : List UInt8 := dkwX1_nextDay_8 ++ dktX1_nextDay_9
def dkwX1_nextDay_7 : List UInt8 := [182, 1, 222, 132, 2, 1, 167, 255, 199, 42, 89, 180, 1, 174, 4, 96, 181, 1, 174, 42, 180, 1, 174]
abbrev dktX1_nextDay_7 : List UInt8 := dkwX1_nextDay_7 ++ dktX1_nextDay_8
def dkwX1_nextDay_6 : List UInt8 := [180, 1, 86, 2, 159, 0, 22, 42, 180, 1, 174, 45, 180, 1, 86, 100, 16, 6, 161, 0, 8, 42, 45]
abbrev dktX1_nextDay_6 : List UInt8 := dkwX1_nextDay_6 ++ dktX1_nextDay_7
def dkwX1_nextDay_5 : List UInt8 := [185, 0, 85, 1, 0, 162, 0, 50, 42, 180, 0, 50, 28, 185, 0, 99, 2, 0, 192, 0, 113, 78, 45]
abbrev dktX1_nextDay_5 : List UInt8 := dkwX1_nextDay_5 ++ dktX1_nextDay_6
def dkwX1_nextDay_4 : List UInt8 := [160, 0, 8, 42, 45, 182, 1, 209, 132, 2, 1, 167, 255, 180, 3, 61, 28, 42, 180, 0, 50]
abbrev dktX1_nextDay_4 : List UInt8 := dkwX1_nextDay_4 ++ dktX1_nextDay_5
def dkwX1_nextDay_3 : List UInt8 := [45, 182, 1, 89, 154, 0, 27, 45, 89, 180, 1, 79, 4, 96, 181, 1, 79, 45, 180, 1, 79, 16, 10]
abbrev dktX1_nextDay_3 : List UInt8 := dkwX1_nextDay_3 ++ dktX1_nextDay_4
def dkwX1_nextDay_2 : List UInt8 := [185, 0, 99, 2, 0, 192, 1, 49, 78, 45, 180, 1, 61, 154, 0, 42, 45, 180, 1, 132, 154, 0, 35, 42]
abbrev dktX1_nextDay_2 : List UInt8 := dkwX1_nextDay_2 ++ dktX1_nextDay_3
def dkwX1_nextDay_1 : List UInt8 := [182, 1, 219, 60, 3, 61, 28, 42, 180, 0, 60, 185, 0, 85, 1, 0, 162, 0, 69, 42, 180, 0, 60, 28]
abbrev dktX1_nextDay_1 : List UInt8 := dkwX1_nextDay_1 ++ dktX1_nextDay_2
def dkwX1_nextDay_0 : List UInt8 := [42, 180, 1, 174, 17, 3, 231, 162, 0, 7, 4, 167, 0, 4, 3, 184, 0, 110, 42, 182, 1, 216, 42]
abbrev dktX1_nextDay_0 : List UInt8 := dkwX1_nextDay_0 ++ dktX1_nextDay_1
theorem dksX1_nextDay_0 : cX1_nextDay.data.toList.drop 0 = dktX1_nextDay_0 := by decide +kernel
theorem dksX1_nextDay_1 : cX1_nextDay.data.toList.drop 23 = dktX1_nextDay_1 := dk_seg dksX1_nextDay_0 23 rfl rfl
theorem dksX1_nextDay_2 : cX1_nextDay.data.toList.drop 47 = dktX1_nextDay_2 := dk_seg dksX1_nextDay_1 24 rfl rfl
theorem dksX1_nextDay_3 : cX1_nextDay.data.toList.drop 71 = dktX1_nextDay_3 := dk_seg dksX1_nextDay_2 24 rfl rfl
theorem dksX1_nextDay_4 : cX1_nextDay.data.toList.drop 94 = dktX1_nextDay_4 := dk_seg dksX1_nextDay_3 23 rfl rfl
theorem dksX1_nextDay_5 : cX1_nextDay.data.toList.drop 115 = dktX1_nextDay_5 := dk_seg dksX1_nextDay_4 21 rfl rfl
theorem dksX1_nextDay_6 : cX1_nextDay.data.toList.drop 138 = dktX1_nextDay_6 := dk_seg dksX1_nextDay_5 23 rfl rfl
theorem dksX1_nextDay_7 : cX1_nextDay.data.toList.drop 161 = dktX1_nextDay_7 := dk_seg dksX1_nextDay_6 23 rfl rfl
theorem dksX1_nextDay_8 : cX1_nextDay.data.toList.drop 184 = dktX1_nextDay_8 := dk_seg dksX1_nextDay_7 23 rfl rfl
theorem dksX1_nextDay_9 : cX1_nextDay.data.toList.drop 208 = dktX1_nextDay_9 := dk_seg dksX1_nextDay_8 24 rfl rfl
theorem dX1_nextDay_0 : decode cX1_nextDay 0 = .ok (.aload_n 0, 1) := dk_42 (dk_at dksX1_nextDay_0 0 rfl rfl)
theorem dX1_nextDay_1 : decode cX1_nextDay 1 = .ok (.getfield 430, 3) := dk_180 1 174 (dk_at dksX1_nextDay_0 1 rfl rfl)
theorem dX1_nextDay_4 : decode cX1_nextDay 4 = .ok (.sipush 999, 3) := dk_17 3 231 (dk_at dksX1_nextDay_0 4 rfl rfl)
theorem dX1_nextDay_7 : decode cX1_nextDay 7 = .ok (.if_icmp .ge 7, 3) := dk_162 0 7 (dk_at dksX1_nextDay_0 7 rfl rfl)
theorem dX1_nextDay_10 : decode cX1_nextDay 10 = .ok (.iconst 1, 1) := dk_4 (dk_at dksX1_nextDay_0 10 rfl rfl)
theorem dX1_nextDay_11 : decode cX1_nextDay 11 = .ok (.goto 4, 3) := dk_167 0 4 (dk_at dksX1_nextDay_0 11 rfl rfl)
theorem dX1_nextDay_14 : decode cX1_nextDay 14 = .ok (.iconst 0, 1) := dk_3 (dk_at dksX1_nextDay_0 14 rfl rfl)
theorem dX1_nextDay_15 : decode cX1_nextDay 15 = .ok (.invokestatic 110, 3) := dk_184 0 110 (dk_at dksX1_nextDay_0 15 rfl rfl)
theorem dX1_nextDay_18 : decode cX1_nextDay 18 = .ok (.aload_n 0, 1) := dk_42 (dk_at dksX1_nextDay_0 18 rfl rfl)
theorem dX1_nextDay_19 : decode cX1_nextDay 19 = .ok (.invokevirtual 472, 3) := dk_182 1 216 (dk_at dksX1_nextDay_0 19 rfl rfl)
theorem dX1_nextDay_22 : decode cX1_nextDay 22 = .ok (.aload_n 0, 1) := dk_42 (dk_at dksX1_nextDay_0 22 rfl rfl)
theorem dX1_nextDay_23 : decode cX1_nextDay 23 = .ok (.invokevirtual 475, 3) := dk_182 1 219 (dk_at dksX1_nextDay_1 0 rfl rfl)
theorem dX1_nextDay_26 : decode cX1_nextDay 26 = .ok (.istore_n 1, 1) := dk_60 (dk_at dksX1_nextDay_1 3 rfl rfl)
theorem dX1_nextDay_27 : decode cX1_nextDay 27 = .ok (.iconst 0, 1) := dk_3 (dk_at dksX1_nextDay_1 4 rfl rfl)
theorem dX1_nextDay_28 : decode cX1_nextDay 28 = .ok (.istore_n 2, 1) := dk_61 (dk_at dksX1_nextDay_1 5 rfl rfl)
theorem dX1_nextDay_29 : decode cX1_nextDay 29 = .ok (.iload_n 2, 1) := dk_28 (dk_at dksX1_nextDay_1 6 rfl rfl)
theorem dX1_nextDay_30 : decode cX1_nextDay 30 = .ok (.aload_n 0, 1) := dk_42 (dk_at dksX1_nextDay_1 7 rfl rfl)
theorem dX1_nextDay_31 : decode cX1_nextDay 31 = .ok (.getfield 60, 3) := dk_180 0 60 (dk_at dksX1_nextDay_1 8 rfl rfl)
theorem dX1_nextDay_34 : decode cX1_nextDay 34 = .ok (.invokeinterface 85 1, 5) := by decide +kernel
theorem dX1_nextDay_39 : decode cX1_nextDay 39 = .ok (.if_icmp .ge 69, 3) := dk_162 0 69 (dk_at dksX1_nextDay_1 16 rfl rfl)
theorem dX1_nextDay_42 : decode cX1_nextDay 42 = .ok (.aload_n 0, 1) := dk_42 (dk_at dksX1_nextDay_1 19 rfl rfl)
theorem dX1_nextDay_43 : decode cX1_nextDay 43 = .ok (.getfield 60, 3) := dk_180 0 60 (dk_at dksX1_nextDay_1 20 rfl rfl)
theorem dX1_nextDay_46 : decode cX1_nextDay 46 = .ok (.iload_n 2, 1) := dk_28 (dk_at dksX1_nextDay_1 23 rfl rfl)
theorem dX1_nextDay_47 : decode cX1_nextDay 47 = .ok (.invokeinterface 99 2, 5) := by decide +kernel
theorem dX1_nextDay_52 : decode cX1_nextDay 52 = .ok (.checkcast 305, 3) := dk_192 1 49 (dk_at dksX1_nextDay_2 5 rfl rfl)
theorem dX1_nextDay_55 : decode cX1_nextDay 55 = .ok (.astore_n 3, 1) := dk_78 (dk_at dksX1_nextDay_2 8 rfl rfl)
theorem dX1_nextDay_56 : decode cX1_nextDay 56 = .ok (.aload_n 3, 1) := dk_45 (dk_at dksX1_nextDay_2 9 rfl rfl)
theorem dX1_nextDay_57 : decode cX1_nextDay 57 = .ok (.getfield 317, 3) := dk_180 1 61 (dk_at dksX1_nextDay_2 10 rfl rfl)
theorem dX1_nextDay_60 : decode cX1_nextDay 60 = .ok (.ifCond .ne 42, 3) := dk_154 0 42 (dk_at dksX1_nextDay_2 13 rfl rfl)
theorem dX1_nextDay_63 : decode cX1_nextDay 63 = .ok (.aload_n 3, 1) := dk_45 (dk_at dksX1_nextDay_2 16 rfl rfl)
theorem dX1_nextDay_64 : decode cX1_nextDay 64 = .ok (.getfield 388, 3) := dk_180 1 132 (dk_at dksX1_nextDay_2 17 rfl rfl)
theorem dX1_nextDay_67 : decode cX1_nextDay 67 = .ok (.ifCond .ne 35, 3) := dk_154 0 35 (dk_at dksX1_nextDay_2 20 rfl rfl)
theorem dX1_nextDay_70 : decode cX1_nextDay 70 = .ok (.aload_n 0, 1) := dk_42 (dk_at dksX1_nextDay_2 23 rfl rfl)
theorem dX1_nextDay_71 : decode cX1_nextDay 71 = .ok (.aload_n 3, 1) := dk_45 (dk_at dksX1_nextDay_3 0 rfl rfl)
theorem dX1_nextDay_72 : decode cX1_nextDay 72 = .ok (.invokevirtual 345, 3) := dk_182 1 89 (dk_at dksX1_nextDay_3 1 rfl rfl)
theorem dX1_nextDay_75 : decode cX1_nextDay 75 = .ok (.ifCond .ne 27, 3) := dk_154 0 27 (dk_at dksX1_nextDay_3 4 rfl rfl)
theorem dX1_nextDay_78 : decode cX1_nextDay 78 = .ok (.aload_n 3, 1) := dk_45 (dk_at dksX1_nextDay_3 7 rfl rfl)
theorem dX1_nextDay_79 : decode cX1_nextDay 79 = .ok (.dup, 1) := dk_89 (dk_at dksX1_nextDay_3 8 rfl rfl)
theorem dX1_nextDay_80 : decode cX1_nextDay 80 = .ok (.getfield 335, 3) := dk_180 1 79 (dk_at dksX1_nextDay_3 9 rfl rfl)
theorem dX1_nextDay_83 : decode cX1_nextDay 83 = .ok (.iconst 1, 1) := dk_4 (dk_at dksX1_nextDay_3 12 rfl rfl)
theorem dX1_nextDay_84 : decode cX1_nextDay 84 = .ok (.iadd, 1) := dk_96 (dk_at dksX1_nextDay_3 13 rfl rfl)
theorem dX1_nextDay_85 : decode cX1_nextDay 85 = .ok (.putfield 335, 3) := dk_181 1 79 (dk_at dksX1_nextDay_3 14 rfl rfl)
theorem dX1_nextDay_88 : decode cX1_nextDay 88 = .ok (.aload_n 3, 1) := dk_45 (dk_at dksX1_nextDay_3 17 rfl rfl)
theorem dX1_nextDay_89 : decode cX1_nextDay 89 = .ok (.getfield 335, 3) := dk_180 1 79 (dk_at dksX1_nextDay_3 18 rfl rfl)
theorem dX1_nextDay_92 : decode cX1_nextDay 92 = .ok (.bipush 10, 2) := dk_16 10 (dk_at dksX1_nextDay_3 21 rfl rfl)
theorem dX1_nextDay_94 : decode cX1_nextDay 94 = .ok (.if_icmp .ne 8, 3) := dk_160 0 8 (dk_at dksX1_nextDay_4 0 rfl rfl)
theorem dX1_nextDay_97 : decode cX1_nextDay 97 = .ok (.aload_n 0, 1) := dk_42 (dk_at dksX1_nextDay_4 3 rfl rfl)
theorem dX1_nextDay_98 : decode cX1_nextDay 98 = .ok (.aload_n 3, 1) := dk_45 (dk_at dksX1_nextDay_4 4 rfl rfl)
theorem dX1_nextDay_99 : decode cX1_nextDay 99 = .ok (.invokevirtual 465, 3) := dk_182 1 209 (dk_at dksX1_nextDay_4 5 rfl rfl)
theorem dX1_nextDay_102 : decode cX1_nextDay 102 = .ok (.iinc 2 1, 3) := dk_132 2 1 (dk_at dksX1_nextDay_4 8 rfl rfl)
theorem dX1_nextDay_105 : decode cX1_nextDay 105 = .ok (.goto (-76), 3) := dk_167 255 180 (dk_at dksX1_nextDay_4 11 rfl rfl)
theorem dX1_nextDay_108 : decode cX1_nextDay 108 = .ok (.iconst 0, 1) := dk_3 (dk_at dksX1_nextDay_4 14 rfl rfl)
theorem dX1_nextDay_109 : decode cX1_nextDay 109 = .ok (.istore_n 2, 1) := dk_61 (dk_at dksX1_nextDay_4 15 rfl rfl)
theorem dX1_nextDay_110 : decode cX1_nextDay 110 = .ok (.iload_n 2, 1) := dk_28 (dk_at dksX1_nextDay_4 16 rfl rfl)
theorem dX1_nextDay_111 : decode cX1_nextDay 111 = .ok (.aload_n 0, 1) := dk_42 (dk_at dksX1_nextDay_4 17 rfl rfl)
theorem dX1_nextDay_112 : decode cX1_nextDay 112 = .ok (.getfield 50, 3) := dk_180 0 50 (dk_at dksX1_nextDay_4 18 rfl rfl)
theorem dX1_nextDay_115 : decode cX1_nextDay 115 = .ok (.invokeinterface 85 1, 5) := by decide +kernel
theorem dX1_nextDay_120 : decode cX1_nextDay 120 = .ok (.if_icmp .ge 50, 3) := dk_162 0 50 (dk_at dksX1_nextDay_5 5 rfl rfl)
theorem dX1_nextDay_123 : decode cX1_nextDay 123 = .ok (.aload_n 0, 1) := dk_42 (dk_at dksX1_nextDay_5 8 rfl rfl)
theorem dX1_nextDay_124 : decode cX1_nextDay 124 = .ok (.getfield 50, 3) := dk_180 0 50 (dk_at dksX1_nextDay_5 9 rfl rfl)
theorem dX1_nextDay_127 : decode cX1_nextDay 127 = .ok (.iload_n 2, 1) := dk_28 (dk_at dksX1_nextDay_5 12 rfl rfl)
theorem dX1_nextDay_128 : decode cX1_nextDay 128 = .ok (.invokeinterface 99 2, 5) := by decide +kernel
theorem dX1_nextDay_133 : decode cX1_nextDay 133 = .ok (.checkcast 113, 3) := dk_192 0 113 (dk_at dksX1_nextDay_5 18 rfl rfl)
theorem dX1_nextDay_136 : decode cX1_nextDay 136 = .ok (.astore_n 3, 1) := dk_78 (dk_at dksX1_nextDay_5 21 rfl rfl)
theorem dX1_nextDay_137 : decode cX1_nextDay 137 = .ok (.aload_n 3, 1) := dk_45 (dk_at dksX1_nextDay_5 22 rfl rfl)
theorem dX1_nextDay_138 : decode cX1_nextDay 138 = .ok (.getfield 342, 3) := dk_180 1 86 (dk_at dksX1_nextDay_6 0 rfl rfl)
theorem dX1_nextDay_141 : decode cX1_nextDay 141 = .ok (.iconst (-1), 1) := dk_2 (dk_at dksX1_nextDay_6 3 rfl rfl)
theorem dX1_nextDay_142 : decode cX1_nextDay 142 = .ok (.if_icmp .eq 22, 3) := dk_159 0 22 (dk_at dksX1_nextDay_6 4 rfl rfl)
theorem dX1_nextDay_145 : decode cX1_nextDay 145 = .ok (.aload_n 0, 1) := dk_42 (dk_at dksX1_nextDay_6 7 rfl rfl)
theorem dX1_nextDay_146 : decode cX1_nextDay 146 = .ok (.getfield 430, 3) := dk_180 1 174 (dk_at dksX1_nextDay_6 8 rfl rfl)
theorem dX1_nextDay_149 : decode cX1_nextDay 149 = .ok (.aload_n 3, 1) := dk_45 (dk_at dksX1_nextDay_6 11 rfl rfl)
theorem dX1_nextDay_150 : decode cX1_nextDay 150 = .ok (.getfield 342, 3) := dk_180 1 86 (dk_at dksX1_nextDay_6 12 rfl rfl)
theorem dX1_nextDay_153 : decode cX1_nextDay 153 = .ok (.isub, 1) := dk_100 (dk_at dksX1_nextDay_6 15 rfl rfl)
theorem dX1_nextDay_154 : decode cX1_nextDay 154 = .ok (.bipush 6, 2) := dk_16 6 (dk_at dksX1_nextDay_6 16 rfl rfl)
theorem dX1_nextDay_156 : decode cX1_nextDay 156 = .ok (.if_icmp .lt 8, 3) := dk_161 0 8 (dk_at dksX1_nextDay_6 18 rfl rfl)
theorem dX1_nextDay_159 : decode cX1_nextDay 159 = .ok (.aload_n 0, 1) := dk_42 (dk_at dksX1_nextDay_6 21 rfl rfl)
theorem dX1_nextDay_160 : decode cX1_nextDay 160 = .ok (.aload_n 3, 1) := dk_45 (dk_at dksX1_nextDay_6 22 rfl rfl)
theorem dX1_nextDay_161 : decode cX1_nextDay 161 = .ok (.invokevirtual 478, 3) := dk_182 1 222 (dk_at dksX1_nextDay_7 0 rfl rfl)
theorem dX1_nextDay_164 : decode cX1_nextDay 164 = .ok (.iinc 2 1, 3) := dk_132 2 1 (dk_at dksX1_nextDay_7 3 rfl rfl)
theorem dX1_nextDay_167 : decode cX1_nextDay 167 = .ok (.goto (-57), 3) := dk_167 255 199 (dk_at dksX1_nextDay_7 6 rfl rfl)
theorem dX1_nextDay_170 : decode cX1_nextDay 170 = .ok (.aload_n 0, 1) := dk_42 (dk_at dksX1_nextDay_7 9 rfl rfl)
theorem dX1_nextDay_171 : decode cX1_nextDay 171 = .ok (.dup, 1) := dk_89 (dk_at dksX1_nextDay_7 10 rfl rfl)
theorem dX1_nextDay_172 : decode cX1_nextDay 172 = .ok (.getfield 430, 3) := dk_180 1 174 (dk_at dksX1_nextDay_7 11 rfl rfl)
theorem dX1_nextDay_175 : decode cX1_nextDay 175 = .ok (.iconst 1, 1) := dk_4 (dk_at dksX1_nextDay_7 14 rfl rfl)
theorem dX1_nextDay_176 : decode cX1_nextDay 176 = .ok (.iadd, 1) := dk_96 (dk_at dksX1_nextDay_7 15 rfl rfl)
theorem dX1_nextDay_177 : decode cX1_nextDay 177 = .ok (.putfield 430, 3) := dk_181 1 174 (dk_at dksX1_nextDay_7 16 rfl rfl)
theorem dX1_nextDay_180 : decode cX1_nextDay 180 = .ok (.aload_n 0, 1) := dk_42 (dk_at dksX1_nextDay_7 19 rfl rfl)
theorem dX1_nextDay_181 : decode cX1_nextDay 181 = .ok (.getfield 430, 3) := dk_180 1 174 (dk_at dksX1_nextDay_7 20 rfl rfl)
theorem dX1_nextDay_184 : decode cX1_nextDay 184 = .ok (.bipush 30, 2) := dk_16 30 (dk_at dksX1_nextDay_8 0 rfl rfl)
theorem dX1_nextDay_186 : decode cX1_nextDay 186 = .ok (.irem, 1) := dk_112 (dk_at dksX1_nextDay_8 2 rfl rfl)
theorem dX1_nextDay_187 : decode cX1_nextDay 187 = .ok (.ifCond .ne 28, 3) := dk_154 0 28 (dk_at dksX1_nextDay_8 3 rfl rfl)
theorem dX1_nextDay_190 : decode cX1_nextDay 190 = .ok (.aload_n 0, 1) := dk_42 (dk_at dksX1_nextDay_8 6 rfl rfl)
theorem dX1_nextDay_191 : decode cX1_nextDay 191 = .ok (.getfield 63, 3) := dk_180 0 63 (dk_at dksX1_nextDay_8 7 rfl rfl)
theorem dX1_nextDay_194 : decode cX1_nextDay 194 = .ok (.new 482, 3) := dk_187 1 226 (dk_at dksX1_nextDay_8 10 rfl rfl)
theorem dX1_nextDay_197 : decode cX1_nextDay 197 = .ok (.dup, 1) := dk_89 (dk_at dksX1_nextDay_8 13 rfl rfl)
theorem dX1_nextDay_198 : decode cX1_nextDay 198 = .ok (.invokespecial 484, 3) := dk_183 1 228 (dk_at dksX1_nextDay_8 14 rfl rfl)
theorem dX1_nextDay_201 : decode cX1_nextDay 201 = .ok (.invokeinterface 155 2, 5) := by decide +kernel
theorem dX1_nextDay_206 : decode cX1_nextDay 206 = .ok (.pop, 1) := dk_87 (dk_at dksX1_nextDay_8 22 rfl rfl)
theorem dX1_nextDay_207 : decode cX1_nextDay 207 = .ok (.aload_n 0, 1) := dk_42 (dk_at dksX1_nextDay_8 23 rfl rfl)
theorem dX1_nextDay_208 : decode cX1_nextDay 208 = .ok (.aload_n 0, 1) := dk_42 (dk_at dksX1_nextDay_9 0 rfl rfl)
theorem dX1_nextDay_209 : decode cX1_nextDay 209 = .ok (.invokevirtual 451, 3) := dk_182 1 195 (dk_at dksX1_nextDay_9 1 rfl rfl)
theorem dX1_nextDay_212 : decode cX1_nextDay 212 = .ok (.invokevirtual 485, 3) := dk_182 1 229 (dk_at dksX1_nextDay_9 4 rfl rfl)
theorem dX1_nextDay_215 : decode cX1_nextDay 215 = .ok (.aload_n 0, 1) := dk_42 (dk_at dksX1_nextDay_9 7 rfl rfl)
theorem dX1_nextDay_216 : decode cX1_nextDay 216 = .ok (.dup, 1) := dk_89 (dk_at dksX1_nextDay_9 8 rfl rfl)
theorem dX1_nextDay_217 : decode cX1_nextDay 217 = .ok (.getfield 489, 3) := dk_180 1 233 (dk_at dksX1_nextDay_9 9 rfl rfl)
theorem dX1_nextDay_220 : decode cX1_nextDay 220 = .ok (.iload_n 1, 1) := dk_27 (dk_at dksX1_nextDay_9 12 rfl rfl)
theorem dX1_nextDay_221 : decode cX1_nextDay 221 = .ok (.iadd, 1) := dk_96 (dk_at dksX1_nextDay_9 13 rfl rfl)
theorem dX1_nextDay_222 : decode cX1_nextDay 222 = .ok (.putfield 489, 3) := dk_181 1 233 (dk_at dksX1_nextDay_9 14 rfl rfl)
theorem dX1_nextDay_225 : decode cX1_nextDay 225 = .ok (.iload_n 1, 1) := dk_27 (dk_at dksX1_nextDay_9 17 rfl rfl)
theorem dX1_nextDay_226 : decode cX1_nextDay 226 = .ok (.ireturn, 1) := dk_172 (dk_at dksX1_nextDay_9 18 rfl rfl)
abbrev cX1_giveOut : ByteArray := prog_1_method_45_code
def yX1_giveOut : MethodName := ⟨RX1, "giveOut", "()V"⟩
def dkwX1_giveOut_5 : List UInt8 := [16, 10, 112, 184, 1, 138, 185, 0, 155, 2, 0, 87, 132, 1, 1, 167, 255, 131, 177]
abbrev dktX1_giveOut_5 : List UInt8 := dkwX1_giveOut_5 ++ []
def dkwX1_giveOut_4 : List UInt8 := [192, 0, 196, 58, 4, 25, 4, 180, 1, 115, 44, 185, 0, 155, 2, 0, 87, 25, 4, 180, 1, 136, 29]
abbrev dktX1_giveOut_4 : List UInt8 := dkwX1_giveOut_4 ++ dktX1_giveOut_5
def dkwX1_giveOut_3 : List UInt8 := [181, 1, 132, 44, 180, 1, 132, 153, 0, 51, 42, 180, 0, 57, 29, 16, 10, 108, 185, 0, 99, 2, 0]
abbrev dktX1_giveOut_3 : List UInt8 := dkwX1_giveOut_3 ++ dktX1_giveOut_4
def dkwX1_giveOut_2 : List UInt8 := [42, 44, 3, 182, 1, 128, 167, 0, 4, 2, 62, 44, 29, 2, 159, 0, 7, 4, 167, 0, 4, 3]
abbrev dktX1_giveOut_2 : List UInt8 := dkwX1_giveOut_2 ++ dktX1_giveOut_3
def dkwX1_giveOut_1 : List UInt8 := [185, 0, 99, 2, 0, 192, 1, 49, 77, 44, 180, 1, 61, 154, 0, 20, 42, 44, 182, 1, 89, 154, 0, 12]
abbrev dktX1_giveOut_1 : List UInt8 := dkwX1_giveOut_1 ++ dktX1_giveOut_2
def dkwX1_giveOut_0 : List UInt8 := [3, 60, 27, 42, 180, 0, 60, 185, 0, 85, 1, 0, 162, 0, 118, 42, 180, 0, 60, 27]
abbrev dktX1_giveOut_0 : List UInt8 := dkwX1_giveOut_0 ++ dktX1_giveOut_1
theorem dksX1_giveOut_0 : cX1_giveOut.data.toList.drop 0 = dktX1_giveOut_0 := by decide +kernel
theorem dksX1_giveOut_1 : cX1_giveOut.data.toList.drop 20 = dktX1_giveOut_1 := dk_seg dksX1_giveOut_0 20 rfl rfl
theorem dksX1_giveOut_2 : cX1_giveOut.data.toList.drop 44 = dktX1_giveOut_2 := dk_seg dksX1_giveOut_1 24 rfl rfl
theorem dksX1_giveOut_3 : cX1_giveOut.data.toList.drop 66 = dktX1_giveOut_3 := dk_seg dksX1_giveOut_2 22 rfl rfl
theorem dksX1_giveOut_4 : cX1_giveOut.data.toList.drop 89 = dktX1_giveOut_4 := dk_seg dksX1_giveOut_3 23 rfl rfl
theorem dksX1_giveOut_5 : cX1_giveOut.data.toList.drop 112 = dktX1_giveOut_5 := dk_seg dksX1_giveOut_4 23 rfl rfl
theorem dX1_giveOut_0 : decode cX1_giveOut 0 = .ok (.iconst 0, 1) := dk_3 (dk_at dksX1_giveOut_0 0 rfl rfl)
theorem dX1_giveOut_1 : decode cX1_giveOut 1 = .ok (.istore_n 1, 1) := dk_60 (dk_at dksX1_giveOut_0 1 rfl rfl)
theorem dX1_giveOut_2 : decode cX1_giveOut 2 = .ok (.iload_n 1, 1) := dk_27 (dk_at dksX1_giveOut_0 2 rfl rfl)
theorem dX1_giveOut_3 : decode cX1_giveOut 3 = .ok (.aload_n 0, 1) := dk_42 (dk_at dksX1_giveOut_0 3 rfl rfl)
theorem dX1_giveOut_4 : decode cX1_giveOut 4 = .ok (.getfield 60, 3) := dk_180 0 60 (dk_at dksX1_giveOut_0 4 rfl rfl)
theorem dX1_giveOut_7 : decode cX1_giveOut 7 = .ok (.invokeinterface 85 1, 5) := by decide +kernel
theorem dX1_giveOut_12 : decode cX1_giveOut 12 = .ok (.if_icmp .ge 118, 3) := dk_162 0 118 (dk_at dksX1_giveOut_0 12 rfl rfl)
theorem dX1_giveOut_15 : decode cX1_giveOut 15 = .ok (.aload_n 0, 1) := dk_42 (dk_at dksX1_giveOut_0 15 rfl rfl)
theorem dX1_giveOut_16 : decode cX1_giveOut 16 = .ok (.getfield 60, 3) := dk_180 0 60 (dk_at dksX1_giveOut_0 16 rfl rfl)
theorem dX1_giveOut_19 : decode cX1_giveOut 19 = .ok (.iload_n 1, 1) := dk_27 (dk_at dksX1_giveOut_0 19 rfl rfl)
theorem dX1_giveOut_20 : decode cX1_giveOut 20 = .ok (.invokeinterface 99 2, 5) := by decide +kernel
theorem dX1_giveOut_25 : decode cX1_giveOut 25 = .ok (.checkcast 305, 3) := dk_192 1 49 (dk_at dksX1_giveOut_1 5 rfl rfl)
theorem dX1_giveOut_28 : decode cX1_giveOut 28 = .ok (.astore_n 2, 1) := dk_77 (dk_at dksX1_giveOut_1 8 rfl rfl)
theorem dX1_giveOut_29 : decode cX1_giveOut 29 = .ok (.aload_n 2, 1) := dk_44 (dk_at dksX1_giveOut_1 9 rfl rfl)
theorem dX1_giveOut_30 : decode cX1_giveOut 30 = .ok (.getfield 317, 3) := dk_180 1 61 (dk_at dksX1_giveOut_1 10 rfl rfl)
theorem dX1_giveOut_33 : decode cX1_giveOut 33 = .ok (.ifCond .ne 20, 3) := dk_154 0 20 (dk_at dksX1_giveOut_1 13 rfl rfl)
theorem dX1_giveOut_36 : decode cX1_giveOut 36 = .ok (.aload_n 0, 1) := dk_42 (dk_at dksX1_giveOut_1 16 rfl rfl)
theorem dX1_giveOut_37 : decode cX1_giveOut 37 = .ok (.aload_n 2, 1) := dk_44 (dk_at dksX1_giveOut_1 17 rfl rfl)
theorem dX1_giveOut_38 : decode cX1_giveOut 38 = .ok (.invokevirtual 345, 3) := dk_182 1 89 (dk_at dksX1_giveOut_1 18 rfl rfl)
theorem dX1_giveOut_41 : decode cX1_giveOut 41 = .ok (.ifCond .ne 12, 3) := dk_154 0 12 (dk_at dksX1_giveOut_1 21 rfl rfl)
theorem dX1_giveOut_44 : decode cX1_giveOut 44 = .ok (.aload_n 0, 1) := dk_42 (dk_at dksX1_giveOut_2 0 rfl rfl)
theorem dX1_giveOut_45 : decode cX1_giveOut 45 = .ok (.aload_n 2, 1) := dk_44 (dk_at dksX1_giveOut_2 1 rfl rfl)
theorem dX1_giveOut_46 : decode cX1_giveOut 46 = .ok (.iconst 0, 1) := dk_3 (dk_at dksX1_giveOut_2 2 rfl rfl)
theorem dX1_giveOut_47 : decode cX1_giveOut 47 = .ok (.invokevirtual 384, 3) := dk_182 1 128 (dk_at dksX1_giveOut_2 3 rfl rfl)
theorem dX1_giveOut_50 : decode cX1_giveOut 50 = .ok (.goto 4, 3) := dk_167 0 4 (dk_at dksX1_giveOut_2 6 rfl rfl)
theorem dX1_giveOut_53 : decode cX1_giveOut 53 = .ok (.iconst (-1), 1) := dk_2 (dk_at dksX1_giveOut_2 9 rfl rfl)
theorem dX1_giveOut_54 : decode cX1_giveOut 54 = .ok (.istore_n 3, 1) := dk_62 (dk_at dksX1_giveOut_2 10 rfl rfl)
theorem dX1_giveOut_55 : decode cX1_giveOut 55 = .ok (.aload_n 2, 1) := dk_44 (dk_at dksX1_giveOut_2 11 rfl rfl)
theorem dX1_giveOut_56 : decode cX1_giveOut 56 = .ok (.iload_n 3, 1) := dk_29 (dk_at dksX1_giveOut_2 12 rfl rfl)
theorem dX1_giveOut_57 : decode cX1_giveOut 57 = .ok (.iconst (-1), 1) := dk_2 (dk_at dksX1_giveOut_2 13 rfl rfl)
theorem dX1_giveOut_58 : decode cX1_giveOut 58 = .ok (.if_icmp .eq 7, 3) := dk_159 0 7 (dk_at dksX1_giveOut_2 14 rfl rfl)
theorem dX1_giveOut_61 : decode cX1_giveOut 61 = .ok (.iconst 1, 1) := dk_4 (dk_at dksX1_giveOut_2 17 rfl rfl)
theorem dX1_giveOut_62 : decode cX1_giveOut 62 = .ok (.goto 4, 3) := dk_167 0 4 (dk_at dksX1_giveOut_2 18 rfl rfl)
theorem dX1_giveOut_65 : decode cX1_giveOut 65 = .ok (.iconst 0, 1) := dk_3 (dk_at dksX1_giveOut_2 21 rfl rfl)
theorem dX1_giveOut_66 : decode cX1_giveOut 66 = .ok (.putfield 388, 3) := dk_181 1 132 (dk_at dksX1_giveOut_3 0 rfl rfl)
theorem dX1_giveOut_69 : decode cX1_giveOut 69 = .ok (.aload_n 2, 1) := dk_44 (dk_at dksX1_giveOut_3 3 rfl rfl)
theorem dX1_giveOut_70 : decode cX1_giveOut 70 = .ok (.getfield 388, 3) := dk_180 1 132 (dk_at dksX1_giveOut_3 4 rfl rfl)
theorem dX1_giveOut_73 : decode cX1_giveOut 73 = .ok (.ifCond .eq 51, 3) := dk_153 0 51 (dk_at dksX1_giveOut_3 7 rfl rfl)
theorem dX1_giveOut_76 : decode cX1_giveOut 76 = .ok (.aload_n 0, 1) := dk_42 (dk_at dksX1_giveOut_3 10 rfl rfl)
theorem dX1_giveOut_77 : decode cX1_giveOut 77 = .ok (.getfield 57, 3) := dk_180 0 57 (dk_at dksX1_giveOut_3 11 rfl rfl)
theorem dX1_giveOut_80 : decode cX1_giveOut 80 = .ok (.iload_n 3, 1) := dk_29 (dk_at dksX1_giveOut_3 14 rfl rfl)
theorem dX1_giveOut_81 : decode cX1_giveOut 81 = .ok (.bipush 10, 2) := dk_16 10 (dk_at dksX1_giveOut_3 15 rfl rfl)
theorem dX1_giveOut_83 : decode cX1_giveOut 83 = .ok (.idiv, 1) := dk_108 (dk_at dksX1_giveOut_3 17 rfl rfl)
theorem dX1_giveOut_84 : decode cX1_giveOut 84 = .ok (.invokeinterface 99 2, 5) := by decide +kernel
theorem dX1_giveOut_89 : decode cX1_giveOut 89 = .ok (.checkcast 196, 3) := dk_192 0 196 (dk_at dksX1_giveOut_4 0 rfl rfl)
theorem dX1_giveOut_92 : decode cX1_giveOut 92 = .ok (.astore 4, 2) := dk_58 4 (dk_at dksX1_giveOut_4 3 rfl rfl)
theorem dX1_giveOut_94 : decode cX1_giveOut 94 = .ok (.aload 4, 2) := dk_25 4 (dk_at dksX1_giveOut_4 5 rfl rfl)
theorem dX1_giveOut_96 : decode cX1_giveOut 96 = .ok (.getfield 371, 3) := dk_180 1 115 (dk_at dksX1_giveOut_4 7 rfl rfl)
theorem dX1_giveOut_99 : decode cX1_giveOut 99 = .ok (.aload_n 2, 1) := dk_44 (dk_at dksX1_giveOut_4 10 rfl rfl)
theorem dX1_giveOut_100 : decode cX1_giveOut 100 = .ok (.invokeinterface 155 2, 5) := by decide +kernel
theorem dX1_giveOut_105 : decode cX1_giveOut 105 = .ok (.pop, 1) := dk_87 (dk_at dksX1_giveOut_4 16 rfl rfl)
theorem dX1_giveOut_106 : decode cX1_giveOut 106 = .ok (.aload 4, 2) := dk_25 4 (dk_at dksX1_giveOut_4 17 rfl rfl)
theorem dX1_giveOut_108 : decode cX1_giveOut 108 = .ok (.getfield 392, 3) := dk_180 1 136 (dk_at dksX1_giveOut_4 19 rfl rfl)
theorem dX1_giveOut_111 : decode cX1_giveOut 111 = .ok (.iload_n 3, 1) := dk_29 (dk_at dksX1_giveOut_4 22 rfl rfl)
theorem dX1_giveOut_112 : decode cX1_giveOut 112 = .ok (.bipush 10, 2) := dk_16 10 (dk_at dksX1_giveOut_5 0 rfl rfl)
theorem dX1_giveOut_114 : decode cX1_giveOut 114 = .ok (.irem, 1) := dk_112 (dk_at dksX1_giveOut_5 2 rfl rfl)
theorem dX1_giveOut_115 : decode cX1_giveOut 115 = .ok (.invokestatic 394, 3) := dk_184 1 138 (dk_at dksX1_giveOut_5 3 rfl rfl)
theorem dX1_giveOut_118 : decode cX1_giveOut 118 = .ok (.invokeinterface 155 2, 5) := by decide +kernel
theorem dX1_giveOut_123 : decode cX1_giveOut 123 = .ok (.pop, 1) := dk_87 (dk_at dksX1_giveOut_5 11 rfl rfl)
theorem dX1_giveOut_124 : decode cX1_giveOut 124 = .ok (.iinc 1 1, 3) := dk_132 1 1 (dk_at dksX1_giveOut_5 12 rfl rfl)
theorem dX1_giveOut_127 : decode cX1_giveOut 127 = .ok (.goto (-125), 3) := dk_167 255 131 (dk_at dksX1_giveOut_5 15 rfl rfl)
theorem dX1_giveOut_130 : decode cX1_giveOut 130 = .ok (.return_, 1) := dk_177 (dk_at dksX1_giveOut_5 18 rfl rfl)
abbrev cX1_deliverAll : ByteArray := prog_1_method_52_code
def yX1_deliverAll : MethodName := ⟨RX1, "deliverAll", "()I"⟩
def dkwX1_deliverAll_9 : List UInt8 := [27, 172]
abbrev dktX1_deliverAll_9 : List UInt8 := dkwX1_deliverAll_9 ++ []
def dkwX1_deliverAll_8 : List UInt8 := [180, 1, 115, 185, 1, 213, 1, 0, 25, 4, 180, 1, 136, 185, 1, 213, 1, 0, 132, 3, 1, 167, 255, 57]
abbrev dktX1_deliverAll_8 : List UInt8 := dkwX1_deliverAll_8 ++ dktX1_deliverAll_9
def dkwX1_deliverAll_7 : List UInt8 := [25, 10, 191, 21, 8, 153, 0, 9, 42, 25, 6, 182, 1, 209, 132, 5, 1, 167, 255, 114, 25, 4]
abbrev dktX1_deliverAll_7 : List UInt8 := dkwX1_deliverAll_7 ++ dktX1_deliverAll_8
def dkwX1_deliverAll_6 : List UInt8 := [25, 6, 21, 7, 44, 182, 1, 205, 167, 0, 19, 58, 10, 42, 25, 4, 25, 6, 21, 7, 44, 182, 1, 205]
abbrev dktX1_deliverAll_6 : List UInt8 := dkwX1_deliverAll_6 ++ dktX1_deliverAll_7
def dkwX1_deliverAll_5 : List UInt8 := [167, 0, 51, 58, 9, 25, 6, 180, 1, 64, 7, 160, 0, 7, 4, 167, 0, 4, 3, 54, 8, 42, 25, 4]
abbrev dktX1_deliverAll_5 : List UInt8 := dkwX1_deliverAll_5 ++ dktX1_deliverAll_6
def dkwX1_deliverAll_4 : List UInt8 := [54, 8, 42, 25, 6, 21, 7, 182, 1, 201, 132, 1, 1, 42, 25, 4, 25, 6, 21, 7, 44, 182, 1, 205]
abbrev dktX1_deliverAll_4 : List UInt8 := dkwX1_deliverAll_4 ++ dktX1_deliverAll_5
def dkwX1_deliverAll_3 : List UInt8 := [58, 6, 25, 4, 180, 1, 136, 21, 5, 185, 0, 99, 2, 0, 192, 1, 139, 182, 1, 198, 54, 7, 3]
abbrev dktX1_deliverAll_3 : List UInt8 := dkwX1_deliverAll_3 ++ dktX1_deliverAll_4
def dkwX1_deliverAll_2 : List UInt8 := [185, 0, 85, 1, 0, 162, 0, 133, 25, 4, 180, 1, 115, 21, 5, 185, 0, 99, 2, 0, 192, 1, 49]
abbrev dktX1_deliverAll_2 : List UInt8 := dkwX1_deliverAll_2 ++ dktX1_deliverAll_3
def dkwX1_deliverAll_1 : List UInt8 := [180, 0, 57, 29, 185, 0, 99, 2, 0, 192, 0, 196, 58, 4, 3, 54, 5, 21, 5, 25, 4, 180, 1, 115]
abbrev dktX1_deliverAll_1 : List UInt8 := dkwX1_deliverAll_1 ++ dktX1_deliverAll_2
def dkwX1_deliverAll_0 : List UInt8 := [3, 60, 42, 182, 1, 195, 77, 3, 62, 29, 42, 180, 0, 57, 185, 0, 85, 1, 0, 162, 0, 192, 42]
abbrev dktX1_deliverAll_0 : List UInt8 := dkwX1_deliverAll_0 ++ dktX1_deliverAll_1
theorem dksX1_deliverAll_0 : cX1_deliverAll.data.toList.drop 0 = dktX1_deliverAll_0 := by decide +kernel
theorem dksX1_deliverAll_1 : cX1_deliverAll.data.toList.drop 23 = dktX1_deliverAll_1 := dk_seg dksX1_deliverAll_0 23 rfl rfl
theorem dksX1_deliverAll_2 : cX1_deliverAll.data.toList.drop 47 = dktX1_deliverAll_2 := dk_seg dksX1_deliverAll_1 24 rfl rfl
theorem dksX1_deliverAll_3 : cX1_deliverAll.data.toList.drop 70 = dktX1_deliverAll_3 := dk_seg dksX1_deliverAll_2 23 rfl rfl
theorem dksX1_deliverAll_4 : cX1_deliverAll.data.toList.drop 93 = dktX1_deliverAll_4 := dk_seg dksX1_deliverAll_3 23 rfl rfl
theorem dksX1_deliverAll_5 : cX1_deliverAll.data.toList.drop 117 = dktX1_deliverAll_5 := dk_seg dksX1_deliverAll_4 24 rfl rfl
theorem dksX1_deliverAll_6 : cX1_deliverAll.data.toList.drop 141 = dktX1_deliverAll_6 := dk_seg dksX1_deliverAll_5 24 rfl rfl
theorem dksX1_deliverAll_7 : cX1_deliverAll.data.toList.drop 165 = dktX1_deliverAll_7 := dk_seg dksX1_deliverAll_6 24 rfl rfl
theorem dksX1_deliverAll_8 : cX1_deliverAll.data.toList.drop 187 = dktX1_deliverAll_8 := dk_seg dksX1_deliverAll_7 22 rfl rfl
theorem dksX1_deliverAll_9 : cX1_deliverAll.data.toList.drop 211 = dktX1_deliverAll_9 := dk_seg dksX1_deliverAll_8 24 rfl rfl
theorem dX1_deliverAll_0 : decode cX1_deliverAll 0 = .ok (.iconst 0, 1) := dk_3 (dk_at dksX1_deliverAll_0 0 rfl rfl)
theorem dX1_deliverAll_1 : decode cX1_deliverAll 1 = .ok (.istore_n 1, 1) := dk_60 (dk_at dksX1_deliverAll_0 1 rfl rfl)
theorem dX1_deliverAll_2 : decode cX1_deliverAll 2 = .ok (.aload_n 0, 1) := dk_42 (dk_at dksX1_deliverAll_0 2 rfl rfl)
theorem dX1_deliverAll_3 : decode cX1_deliverAll 3 = .ok (.invokevirtual 451, 3) := dk_182 1 195 (dk_at dksX1_deliverAll_0 3 rfl rfl)
theorem dX1_deliverAll_6 : decode cX1_deliverAll 6 = .ok (.astore_n 2, 1) := dk_77 (dk_at dksX1_deliverAll_0 6 rfl rfl)
theorem dX1_deliverAll_7 : decode cX1_deliverAll 7 = .ok (.iconst 0, 1) := dk_3 (dk_at dksX1_deliverAll_0 7 rfl rfl)
theorem dX1_deliverAll_8 : decode cX1_deliverAll 8 = .ok (.istore_n 3, 1) := dk_62 (dk_at dksX1_deliverAll_0 8 rfl rfl)
theorem dX1_deliverAll_9 : decode cX1_deliverAll 9 = .ok (.iload_n 3, 1) := dk_29 (dk_at dksX1_deliverAll_0 9 rfl rfl)
theorem dX1_deliverAll_10 : decode cX1_deliverAll 10 = .ok (.aload_n 0, 1) := dk_42 (dk_at dksX1_deliverAll_0 10 rfl rfl)
theorem dX1_deliverAll_11 : decode cX1_deliverAll 11 = .ok (.getfield 57, 3) := dk_180 0 57 (dk_at dksX1_deliverAll_0 11 rfl rfl)
theorem dX1_deliverAll_14 : decode cX1_deliverAll 14 = .ok (.invokeinterface 85 1, 5) := by decide +kernel
theorem dX1_deliverAll_19 : decode cX1_deliverAll 19 = .ok (.if_icmp .ge 192, 3) := dk_162 0 192 (dk_at dksX1_deliverAll_0 19 rfl rfl)
theorem dX1_deliverAll_22 : decode cX1_deliverAll 22 = .ok (.aload_n 0, 1) := dk_42 (dk_at dksX1_deliverAll_0 22 rfl rfl)
theorem dX1_deliverAll_23 : decode cX1_deliverAll 23 = .ok (.getfield 57, 3) := dk_180 0 57 (dk_at dksX1_deliverAll_1 0 rfl rfl)
theorem dX1_deliverAll_26 : decode cX1_deliverAll 26 = .ok (.iload_n 3, 1) := dk_29 (dk_at dksX1_deliverAll_1 3 rfl rfl)
theorem dX1_deliverAll_27 : decode cX1_deliverAll 27 = .ok (.invokeinterface 99 2, 5) := by decide +kernel
theorem dX1_deliverAll_32 : decode cX1_deliverAll 32 = .ok (.checkcast 196, 3) := dk_192 0 196 (dk_at dksX1_deliverAll_1 9 rfl rfl)
theorem dX1_deliverAll_35 : decode cX1_deliverAll 35 = .ok (.astore 4, 2) := dk_58 4 (dk_at dksX1_deliverAll_1 12 rfl rfl)
theorem dX1_deliverAll_37 : decode cX1_deliverAll 37 = .ok (.iconst 0, 1) := dk_3 (dk_at dksX1_deliverAll_1 14 rfl rfl)
theorem dX1_deliverAll_38 : decode cX1_deliverAll 38 = .ok (.istore 5, 2) := dk_54 5 (dk_at dksX1_deliverAll_1 15 rfl rfl)
theorem dX1_deliverAll_40 : decode cX1_deliverAll 40 = .ok (.iload 5, 2) := dk_21 5 (dk_at dksX1_deliverAll_1 17 rfl rfl)
theorem dX1_deliverAll_42 : decode cX1_deliverAll 42 = .ok (.aload 4, 2) := dk_25 4 (dk_at dksX1_deliverAll_1 19 rfl rfl)
theorem dX1_deliverAll_44 : decode cX1_deliverAll 44 = .ok (.getfield 371, 3) := dk_180 1 115 (dk_at dksX1_deliverAll_1 21 rfl rfl)
theorem dX1_deliverAll_47 : decode cX1_deliverAll 47 = .ok (.invokeinterface 85 1, 5) := by decide +kernel
theorem dX1_deliverAll_52 : decode cX1_deliverAll 52 = .ok (.if_icmp .ge 133, 3) := dk_162 0 133 (dk_at dksX1_deliverAll_2 5 rfl rfl)
theorem dX1_deliverAll_55 : decode cX1_deliverAll 55 = .ok (.aload 4, 2) := dk_25 4 (dk_at dksX1_deliverAll_2 8 rfl rfl)
theorem dX1_deliverAll_57 : decode cX1_deliverAll 57 = .ok (.getfield 371, 3) := dk_180 1 115 (dk_at dksX1_deliverAll_2 10 rfl rfl)
theorem dX1_deliverAll_60 : decode cX1_deliverAll 60 = .ok (.iload 5, 2) := dk_21 5 (dk_at dksX1_deliverAll_2 13 rfl rfl)
theorem dX1_deliverAll_62 : decode cX1_deliverAll 62 = .ok (.invokeinterface 99 2, 5) := by decide +kernel
theorem dX1_deliverAll_67 : decode cX1_deliverAll 67 = .ok (.checkcast 305, 3) := dk_192 1 49 (dk_at dksX1_deliverAll_2 20 rfl rfl)
theorem dX1_deliverAll_70 : decode cX1_deliverAll 70 = .ok (.astore 6, 2) := dk_58 6 (dk_at dksX1_deliverAll_3 0 rfl rfl)
theorem dX1_deliverAll_72 : decode cX1_deliverAll 72 = .ok (.aload 4, 2) := dk_25 4 (dk_at dksX1_deliverAll_3 2 rfl rfl)
theorem dX1_deliverAll_74 : decode cX1_deliverAll 74 = .ok (.getfield 392, 3) := dk_180 1 136 (dk_at dksX1_deliverAll_3 4 rfl rfl)
theorem dX1_deliverAll_77 : decode cX1_deliverAll 77 = .ok (.iload 5, 2) := dk_21 5 (dk_at dksX1_deliverAll_3 7 rfl rfl)
theorem dX1_deliverAll_79 : decode cX1_deliverAll 79 = .ok (.invokeinterface 99 2, 5) := by decide +kernel
theorem dX1_deliverAll_84 : decode cX1_deliverAll 84 = .ok (.checkcast 395, 3) := dk_192 1 139 (dk_at dksX1_deliverAll_3 14 rfl rfl)
theorem dX1_deliverAll_87 : decode cX1_deliverAll 87 = .ok (.invokevirtual 454, 3) := dk_182 1 198 (dk_at dksX1_deliverAll_3 17 rfl rfl)
theorem dX1_deliverAll_90 : decode cX1_deliverAll 90 = .ok (.istore 7, 2) := dk_54 7 (dk_at dksX1_deliverAll_3 20 rfl rfl)
theorem dX1_deliverAll_92 : decode cX1_deliverAll 92 = .ok (.iconst 0, 1) := dk_3 (dk_at dksX1_deliverAll_3 22 rfl rfl)
theorem dX1_deliverAll_93 : decode cX1_deliverAll 93 = .ok (.istore 8, 2) := dk_54 8 (dk_at dksX1_deliverAll_4 0 rfl rfl)
theorem dX1_deliverAll_95 : decode cX1_deliverAll 95 = .ok (.aload_n 0, 1) := dk_42 (dk_at dksX1_deliverAll_4 2 rfl rfl)
theorem dX1_deliverAll_96 : decode cX1_deliverAll 96 = .ok (.aload 6, 2) := dk_25 6 (dk_at dksX1_deliverAll_4 3 rfl rfl)
theorem dX1_deliverAll_98 : decode cX1_deliverAll 98 = .ok (.iload 7, 2) := dk_21 7 (dk_at dksX1_deliverAll_4 5 rfl rfl)
theorem dX1_deliverAll_100 : decode cX1_deliverAll 100 = .ok (.invokevirtual 457, 3) := dk_182 1 201 (dk_at dksX1_deliverAll_4 7 rfl rfl)
theorem dX1_deliverAll_103 : decode cX1_deliverAll 103 = .ok (.iinc 1 1, 3) := dk_132 1 1 (dk_at dksX1_deliverAll_4 10 rfl rfl)
theorem dX1_deliverAll_106 : decode cX1_deliverAll 106 = .ok (.aload_n 0, 1) := dk_42 (dk_at dksX1_deliverAll_4 13 rfl rfl)
theorem dX1_deliverAll_107 : decode cX1_deliverAll 107 = .ok (.aload 4, 2) := dk_25 4 (dk_at dksX1_deliverAll_4 14 rfl rfl)
theorem dX1_deliverAll_109 : decode cX1_deliverAll 109 = .ok (.aload 6, 2) := dk_25 6 (dk_at dksX1_deliverAll_4 16 rfl rfl)
theorem dX1_deliverAll_111 : decode cX1_deliverAll 111 = .ok (.iload 7, 2) := dk_21 7 (dk_at dksX1_deliverAll_4 18 rfl rfl)
theorem dX1_deliverAll_113 : decode cX1_deliverAll 113 = .ok (.aload_n 2, 1) := dk_44 (dk_at dksX1_deliverAll_4 20 rfl rfl)
theorem dX1_deliverAll_114 : decode cX1_deliverAll 114 = .ok (.invokevirtual 461, 3) := dk_182 1 205 (dk_at dksX1_deliverAll_4 21 rfl rfl)
theorem dX1_deliverAll_117 : decode cX1_deliverAll 117 = .ok (.goto 51, 3) := dk_167 0 51 (dk_at dksX1_deliverAll_5 0 rfl rfl)
theorem dX1_deliverAll_120 : decode cX1_deliverAll 120 = .ok (.astore 9, 2) := dk_58 9 (dk_at dksX1_deliverAll_5 3 rfl rfl)
theorem dX1_deliverAll_122 : decode cX1_deliverAll 122 = .ok (.aload 6, 2) := dk_25 6 (dk_at dksX1_deliverAll_5 5 rfl rfl)
theorem dX1_deliverAll_124 : decode cX1_deliverAll 124 = .ok (.getfield 320, 3) := dk_180 1 64 (dk_at dksX1_deliverAll_5 7 rfl rfl)
theorem dX1_deliverAll_127 : decode cX1_deliverAll 127 = .ok (.iconst 4, 1) := dk_7 (dk_at dksX1_deliverAll_5 10 rfl rfl)
theorem dX1_deliverAll_128 : decode cX1_deliverAll 128 = .ok (.if_icmp .ne 7, 3) := dk_160 0 7 (dk_at dksX1_deliverAll_5 11 rfl rfl)
theorem dX1_deliverAll_131 : decode cX1_deliverAll 131 = .ok (.iconst 1, 1) := dk_4 (dk_at dksX1_deliverAll_5 14 rfl rfl)
theorem dX1_deliverAll_132 : decode cX1_deliverAll 132 = .ok (.goto 4, 3) := dk_167 0 4 (dk_at dksX1_deliverAll_5 15 rfl rfl)
theorem dX1_deliverAll_135 : decode cX1_deliverAll 135 = .ok (.iconst 0, 1) := dk_3 (dk_at dksX1_deliverAll_5 18 rfl rfl)
theorem dX1_deliverAll_136 : decode cX1_deliverAll 136 = .ok (.istore 8, 2) := dk_54 8 (dk_at dksX1_deliverAll_5 19 rfl rfl)
theorem dX1_deliverAll_138 : decode cX1_deliverAll 138 = .ok (.aload_n 0, 1) := dk_42 (dk_at dksX1_deliverAll_5 21 rfl rfl)
theorem dX1_deliverAll_139 : decode cX1_deliverAll 139 = .ok (.aload 4, 2) := dk_25 4 (dk_at dksX1_deliverAll_5 22 rfl rfl)
theorem dX1_deliverAll_141 : decode cX1_deliverAll 141 = .ok (.aload 6, 2) := dk_25 6 (dk_at dksX1_deliverAll_6 0 rfl rfl)
theorem dX1_deliverAll_143 : decode cX1_deliverAll 143 = .ok (.iload 7, 2) := dk_21 7 (dk_at dksX1_deliverAll_6 2 rfl rfl)
theorem dX1_deliverAll_145 : decode cX1_deliverAll 145 = .ok (.aload_n 2, 1) := dk_44 (dk_at dksX1_deliverAll_6 4 rfl rfl)
theorem dX1_deliverAll_146 : decode cX1_deliverAll 146 = .ok (.invokevirtual 461, 3) := dk_182 1 205 (dk_at dksX1_deliverAll_6 5 rfl rfl)
theorem dX1_deliverAll_149 : decode cX1_deliverAll 149 = .ok (.goto 19, 3) := dk_167 0 19 (dk_at dksX1_deliverAll_6 8 rfl rfl)
theorem dX1_deliverAll_152 : decode cX1_deliverAll 152 = .ok (.astore 10, 2) := dk_58 10 (dk_at dksX1_deliverAll_6 11 rfl rfl)
theorem dX1_deliverAll_154 : decode cX1_deliverAll 154 = .ok (.aload_n 0, 1) := dk_42 (dk_at dksX1_deliverAll_6 13 rfl rfl)
theorem dX1_deliverAll_155 : decode cX1_deliverAll 155 = .ok (.aload 4, 2) := dk_25 4 (dk_at dksX1_deliverAll_6 14 rfl rfl)
theorem dX1_deliverAll_157 : decode cX1_deliverAll 157 = .ok (.aload 6, 2) := dk_25 6 (dk_at dksX1_deliverAll_6 16 rfl rfl)
theorem dX1_deliverAll_159 : decode cX1_deliverAll 159 = .ok (.iload 7, 2) := dk_21 7 (dk_at dksX1_deliverAll_6 18 rfl rfl)
theorem dX1_deliverAll_161 : decode cX1_deliverAll 161 = .ok (.aload_n 2, 1) := dk_44 (dk_at dksX1_deliverAll_6 20 rfl rfl)
theorem dX1_deliverAll_162 : decode cX1_deliverAll 162 = .ok (.invokevirtual 461, 3) := dk_182 1 205 (dk_at dksX1_deliverAll_6 21 rfl rfl)
theorem dX1_deliverAll_165 : decode cX1_deliverAll 165 = .ok (.aload 10, 2) := dk_25 10 (dk_at dksX1_deliverAll_7 0 rfl rfl)
theorem dX1_deliverAll_167 : decode cX1_deliverAll 167 = .ok (.athrow, 1) := dk_191 (dk_at dksX1_deliverAll_7 2 rfl rfl)
theorem dX1_deliverAll_168 : decode cX1_deliverAll 168 = .ok (.iload 8, 2) := dk_21 8 (dk_at dksX1_deliverAll_7 3 rfl rfl)
theorem dX1_deliverAll_170 : decode cX1_deliverAll 170 = .ok (.ifCond .eq 9, 3) := dk_153 0 9 (dk_at dksX1_deliverAll_7 5 rfl rfl)
theorem dX1_deliverAll_173 : decode cX1_deliverAll 173 = .ok (.aload_n 0, 1) := dk_42 (dk_at dksX1_deliverAll_7 8 rfl rfl)
theorem dX1_deliverAll_174 : decode cX1_deliverAll 174 = .ok (.aload 6, 2) := dk_25 6 (dk_at dksX1_deliverAll_7 9 rfl rfl)
theorem dX1_deliverAll_176 : decode cX1_deliverAll 176 = .ok (.invokevirtual 465, 3) := dk_182 1 209 (dk_at dksX1_deliverAll_7 11 rfl rfl)
theorem dX1_deliverAll_179 : decode cX1_deliverAll 179 = .ok (.iinc 5 1, 3) := dk_132 5 1 (dk_at dksX1_deliverAll_7 14 rfl rfl)
theorem dX1_deliverAll_182 : decode cX1_deliverAll 182 = .ok (.goto (-142), 3) := dk_167 255 114 (dk_at dksX1_deliverAll_7 17 rfl rfl)
theorem dX1_deliverAll_185 : decode cX1_deliverAll 185 = .ok (.aload 4, 2) := dk_25 4 (dk_at dksX1_deliverAll_7 20 rfl rfl)
theorem dX1_deliverAll_187 : decode cX1_deliverAll 187 = .ok (.getfield 371, 3) := dk_180 1 115 (dk_at dksX1_deliverAll_8 0 rfl rfl)
theorem dX1_deliverAll_190 : decode cX1_deliverAll 190 = .ok (.invokeinterface 469 1, 5) := by decide +kernel
theorem dX1_deliverAll_195 : decode cX1_deliverAll 195 = .ok (.aload 4, 2) := dk_25 4 (dk_at dksX1_deliverAll_8 8 rfl rfl)
theorem dX1_deliverAll_197 : decode cX1_deliverAll 197 = .ok (.getfield 392, 3) := dk_180 1 136 (dk_at dksX1_deliverAll_8 10 rfl rfl)
theorem dX1_deliverAll_200 : decode cX1_deliverAll 200 = .ok (.invokeinterface 469 1, 5) := by decide +kernel
theorem dX1_deliverAll_205 : decode cX1_deliverAll 205 = .ok (.iinc 3 1, 3) := dk_132 3 1 (dk_at dksX1_deliverAll_8 18 rfl rfl)
theorem dX1_deliverAll_208 : decode cX1_deliverAll 208 = .ok (.goto (-199), 3) := dk_167 255 57 (dk_at dksX1_deliverAll_8 21 rfl rfl)
theorem dX1_deliverAll_211 : decode cX1_deliverAll 211 = .ok (.iload_n 1, 1) := dk_27 (dk_at dksX1_deliverAll_9 0 rfl rfl)
theorem dX1_deliverAll_212 : decode cX1_deliverAll 212 = .ok (.ireturn, 1) := dk_172 (dk_at dksX1_deliverAll_9 1 rfl rfl)
abbrev cX1_lessons : ByteArray := prog_1_method_49_code
def yX1_lessons : MethodName := ⟨RX1, "lessons", "()[[I"⟩
def dkwX1_lessons_1 : List UInt8 := [180, 0, 57, 28, 185, 0, 99, 2, 0, 192, 0, 196, 180, 0, 210, 83, 132, 2, 1, 167, 255, 228, 43, 176]
abbrev dktX1_lessons_1 : List UInt8 := dkwX1_lessons_1 ++ []
def dkwX1_lessons_0 : List UInt8 := [42, 180, 0, 57, 185, 0, 85, 1, 0, 189, 1, 172, 76, 3, 61, 28, 43, 190, 162, 0, 28, 43, 28, 42]
abbrev dktX1_lessons_0 : List UInt8 := dkwX1_lessons_0 ++ dktX1_lessons_1
theorem dksX1_lessons_0 : cX1_lessons.data.toList.drop 0 = dktX1_lessons_0 := by decide +kernel
theorem dksX1_lessons_1 : cX1_lessons.data.toList.drop 24 = dktX1_lessons_1 := dk_seg dksX1_lessons_0 24 rfl rfl
theorem dX1_lessons_0 : decode cX1_lessons 0 = .ok (.aload_n 0, 1) := dk_42 (dk_at dksX1_lessons_0 0 rfl rfl)
theorem dX1_lessons_1 : decode cX1_lessons 1 = .ok (.getfield 57, 3) := dk_180 0 57 (dk_at dksX1_lessons_0 1 rfl rfl)
theorem dX1_lessons_4 : decode cX1_lessons 4 = .ok (.invokeinterface 85 1, 5) := by decide +kernel
theorem dX1_lessons_9 : decode cX1_lessons 9 = .ok (.anewarray 428, 3) := dk_189 1 172 (dk_at dksX1_lessons_0 9 rfl rfl)
theorem dX1_lessons_12 : decode cX1_lessons 12 = .ok (.astore_n 1, 1) := dk_76 (dk_at dksX1_lessons_0 12 rfl rfl)
theorem dX1_lessons_13 : decode cX1_lessons 13 = .ok (.iconst 0, 1) := dk_3 (dk_at dksX1_lessons_0 13 rfl rfl)
theorem dX1_lessons_14 : decode cX1_lessons 14 = .ok (.istore_n 2, 1) := dk_61 (dk_at dksX1_lessons_0 14 rfl rfl)
theorem dX1_lessons_15 : decode cX1_lessons 15 = .ok (.iload_n 2, 1) := dk_28 (dk_at dksX1_lessons_0 15 rfl rfl)
theorem dX1_lessons_16 : decode cX1_lessons 16 = .ok (.aload_n 1, 1) := dk_43 (dk_at dksX1_lessons_0 16 rfl rfl)
theorem dX1_lessons_17 : decode cX1_lessons 17 = .ok (.arraylength, 1) := dk_190 (dk_at dksX1_lessons_0 17 rfl rfl)
theorem dX1_lessons_18 : decode cX1_lessons 18 = .ok (.if_icmp .ge 28, 3) := dk_162 0 28 (dk_at dksX1_lessons_0 18 rfl rfl)
theorem dX1_lessons_21 : decode cX1_lessons 21 = .ok (.aload_n 1, 1) := dk_43 (dk_at dksX1_lessons_0 21 rfl rfl)
theorem dX1_lessons_22 : decode cX1_lessons 22 = .ok (.iload_n 2, 1) := dk_28 (dk_at dksX1_lessons_0 22 rfl rfl)
theorem dX1_lessons_23 : decode cX1_lessons 23 = .ok (.aload_n 0, 1) := dk_42 (dk_at dksX1_lessons_0 23 rfl rfl)
theorem dX1_lessons_24 : decode cX1_lessons 24 = .ok (.getfield 57, 3) := dk_180 0 57 (dk_at dksX1_lessons_1 0 rfl rfl)
theorem dX1_lessons_27 : decode cX1_lessons 27 = .ok (.iload_n 2, 1) := dk_28 (dk_at dksX1_lessons_1 3 rfl rfl)
theorem dX1_lessons_28 : decode cX1_lessons 28 = .ok (.invokeinterface 99 2, 5) := by decide +kernel
theorem dX1_lessons_33 : decode cX1_lessons 33 = .ok (.checkcast 196, 3) := dk_192 0 196 (dk_at dksX1_lessons_1 9 rfl rfl)
theorem dX1_lessons_36 : decode cX1_lessons 36 = .ok (.getfield 210, 3) := dk_180 0 210 (dk_at dksX1_lessons_1 12 rfl rfl)
theorem dX1_lessons_39 : decode cX1_lessons 39 = .ok (.aastore, 1) := dk_83 (dk_at dksX1_lessons_1 15 rfl rfl)
theorem dX1_lessons_40 : decode cX1_lessons 40 = .ok (.iinc 2 1, 3) := dk_132 2 1 (dk_at dksX1_lessons_1 16 rfl rfl)
theorem dX1_lessons_43 : decode cX1_lessons 43 = .ok (.goto (-28), 3) := dk_167 255 228 (dk_at dksX1_lessons_1 19 rfl rfl)
theorem dX1_lessons_46 : decode cX1_lessons 46 = .ok (.aload_n 1, 1) := dk_43 (dk_at dksX1_lessons_1 22 rfl rfl)
theorem dX1_lessons_47 : decode cX1_lessons 47 = .ok (.areturn, 1) := dk_176 (dk_at dksX1_lessons_1 23 rfl rfl)
abbrev cX1_go : ByteArray := prog_1_method_51_code
def yX1_go : MethodName := ⟨RX1, "go", "(LDialectdepot$Parcel;I)V"⟩
def dkwX1_go_0 : List UInt8 := [43, 28, 42, 180, 1, 174, 182, 1, 187, 167, 0, 10, 78, 43, 28, 45, 182, 1, 192, 177]
abbrev dktX1_go_0 : List UInt8 := dkwX1_go_0 ++ []
theorem dksX1_go_0 : cX1_go.data.toList.drop 0 = dktX1_go_0 := by decide +kernel
theorem dX1_go_0 : decode cX1_go 0 = .ok (.aload_n 1, 1) := dk_43 (dk_at dksX1_go_0 0 rfl rfl)
theorem dX1_go_1 : decode cX1_go 1 = .ok (.iload_n 2, 1) := dk_28 (dk_at dksX1_go_0 1 rfl rfl)
theorem dX1_go_2 : decode cX1_go 2 = .ok (.aload_n 0, 1) := dk_42 (dk_at dksX1_go_0 2 rfl rfl)
theorem dX1_go_3 : decode cX1_go 3 = .ok (.getfield 430, 3) := dk_180 1 174 (dk_at dksX1_go_0 3 rfl rfl)
theorem dX1_go_6 : decode cX1_go 6 = .ok (.invokevirtual 443, 3) := dk_182 1 187 (dk_at dksX1_go_0 6 rfl rfl)
theorem dX1_go_9 : decode cX1_go 9 = .ok (.goto 10, 3) := dk_167 0 10 (dk_at dksX1_go_0 9 rfl rfl)
theorem dX1_go_12 : decode cX1_go 12 = .ok (.astore_n 3, 1) := dk_78 (dk_at dksX1_go_0 12 rfl rfl)
theorem dX1_go_13 : decode cX1_go 13 = .ok (.aload_n 1, 1) := dk_43 (dk_at dksX1_go_0 13 rfl rfl)
theorem dX1_go_14 : decode cX1_go 14 = .ok (.iload_n 2, 1) := dk_28 (dk_at dksX1_go_0 14 rfl rfl)
theorem dX1_go_15 : decode cX1_go 15 = .ok (.aload_n 3, 1) := dk_45 (dk_at dksX1_go_0 15 rfl rfl)
theorem dX1_go_16 : decode cX1_go 16 = .ok (.invokevirtual 448, 3) := dk_182 1 192 (dk_at dksX1_go_0 16 rfl rfl)
theorem dX1_go_19 : decode cX1_go 19 = .ok (.return_, 1) := dk_177 (dk_at dksX1_go_0 19 rfl rfl)
abbrev cX1_note : ByteArray := prog_1_method_50_code
def yX1_note : MethodName := ⟨RX1, "note", "(LDialectdepot$Carrier;LDialectdepot$Parcel;I[[I)V"⟩
def dkwX1_note_3 : List UInt8 := [182, 1, 183, 177]
abbrev dktX1_note_3 : List UInt8 := dkwX1_note_3 ++ []
def dkwX1_note_2 : List UInt8 := [185, 0, 155, 2, 0, 87, 42, 180, 0, 63, 25, 5, 185, 0, 155, 2, 0, 87, 42, 25, 5, 25, 4]
abbrev dktX1_note_2 : List UInt8 := dkwX1_note_2 ++ dktX1_note_3
def dkwX1_note_1 : List UInt8 := [167, 0, 4, 3, 42, 43, 29, 182, 1, 177, 183, 1, 180, 58, 5, 42, 180, 0, 66, 25, 5]
abbrev dktX1_note_1 : List UInt8 := dkwX1_note_1 ++ dktX1_note_2
def dkwX1_note_0 : List UInt8 := [187, 1, 153, 89, 44, 43, 180, 1, 173, 29, 42, 180, 1, 174, 44, 180, 1, 61, 4, 160, 0, 7, 4]
abbrev dktX1_note_0 : List UInt8 := dkwX1_note_0 ++ dktX1_note_1
theorem dksX1_note_0 : cX1_note.data.toList.drop 0 = dktX1_note_0 := by decide +kernel
theorem dksX1_note_1 : cX1_note.data.toList.drop 23 = dktX1_note_1 := dk_seg dksX1_note_0 23 rfl rfl
theorem dksX1_note_2 : cX1_note.data.toList.drop 44 = dktX1_note_2 := dk_seg dksX1_note_1 21 rfl rfl
theorem dksX1_note_3 : cX1_note.data.toList.drop 67 = dktX1_note_3 := dk_seg dksX1_note_2 23 rfl rfl
theorem dX1_note_0 : decode cX1_note 0 = .ok (.new 409, 3) := dk_187 1 153 (dk_at dksX1_note_0 0 rfl rfl)
theorem dX1_note_3 : decode cX1_note 3 = .ok (.dup, 1) := dk_89 (dk_at dksX1_note_0 3 rfl rfl)
theorem dX1_note_4 : decode cX1_note 4 = .ok (.aload_n 2, 1) := dk_44 (dk_at dksX1_note_0 4 rfl rfl)
theorem dX1_note_5 : decode cX1_note 5 = .ok (.aload_n 1, 1) := dk_43 (dk_at dksX1_note_0 5 rfl rfl)
theorem dX1_note_6 : decode cX1_note 6 = .ok (.getfield 429, 3) := dk_180 1 173 (dk_at dksX1_note_0 6 rfl rfl)
theorem dX1_note_9 : decode cX1_note 9 = .ok (.iload_n 3, 1) := dk_29 (dk_at dksX1_note_0 9 rfl rfl)
theorem dX1_note_10 : decode cX1_note 10 = .ok (.aload_n 0, 1) := dk_42 (dk_at dksX1_note_0 10 rfl rfl)
theorem dX1_note_11 : decode cX1_note 11 = .ok (.getfield 430, 3) := dk_180 1 174 (dk_at dksX1_note_0 11 rfl rfl)
theorem dX1_note_14 : decode cX1_note 14 = .ok (.aload_n 2, 1) := dk_44 (dk_at dksX1_note_0 14 rfl rfl)
theorem dX1_note_15 : decode cX1_note 15 = .ok (.getfield 317, 3) := dk_180 1 61 (dk_at dksX1_note_0 15 rfl rfl)
theorem dX1_note_18 : decode cX1_note 18 = .ok (.iconst 1, 1) := dk_4 (dk_at dksX1_note_0 18 rfl rfl)
theorem dX1_note_19 : decode cX1_note 19 = .ok (.if_icmp .ne 7, 3) := dk_160 0 7 (dk_at dksX1_note_0 19 rfl rfl)
theorem dX1_note_22 : decode cX1_note 22 = .ok (.iconst 1, 1) := dk_4 (dk_at dksX1_note_0 22 rfl rfl)
theorem dX1_note_23 : decode cX1_note 23 = .ok (.goto 4, 3) := dk_167 0 4 (dk_at dksX1_note_1 0 rfl rfl)
theorem dX1_note_26 : decode cX1_note 26 = .ok (.iconst 0, 1) := dk_3 (dk_at dksX1_note_1 3 rfl rfl)
theorem dX1_note_27 : decode cX1_note 27 = .ok (.aload_n 0, 1) := dk_42 (dk_at dksX1_note_1 4 rfl rfl)
theorem dX1_note_28 : decode cX1_note 28 = .ok (.aload_n 1, 1) := dk_43 (dk_at dksX1_note_1 5 rfl rfl)
theorem dX1_note_29 : decode cX1_note 29 = .ok (.iload_n 3, 1) := dk_29 (dk_at dksX1_note_1 6 rfl rfl)
theorem dX1_note_30 : decode cX1_note 30 = .ok (.invokevirtual 433, 3) := dk_182 1 177 (dk_at dksX1_note_1 7 rfl rfl)
theorem dX1_note_33 : decode cX1_note 33 = .ok (.invokespecial 436, 3) := dk_183 1 180 (dk_at dksX1_note_1 10 rfl rfl)
theorem dX1_note_36 : decode cX1_note 36 = .ok (.astore 5, 2) := dk_58 5 (dk_at dksX1_note_1 13 rfl rfl)
theorem dX1_note_38 : decode cX1_note 38 = .ok (.aload_n 0, 1) := dk_42 (dk_at dksX1_note_1 15 rfl rfl)
theorem dX1_note_39 : decode cX1_note 39 = .ok (.getfield 66, 3) := dk_180 0 66 (dk_at dksX1_note_1 16 rfl rfl)
theorem dX1_note_42 : decode cX1_note 42 = .ok (.aload 5, 2) := dk_25 5 (dk_at dksX1_note_1 19 rfl rfl)
theorem dX1_note_44 : decode cX1_note 44 = .ok (.invokeinterface 155 2, 5) := by decide +kernel
theorem dX1_note_49 : decode cX1_note 49 = .ok (.pop, 1) := dk_87 (dk_at dksX1_note_2 5 rfl rfl)
theorem dX1_note_50 : decode cX1_note 50 = .ok (.aload_n 0, 1) := dk_42 (dk_at dksX1_note_2 6 rfl rfl)
theorem dX1_note_51 : decode cX1_note 51 = .ok (.getfield 63, 3) := dk_180 0 63 (dk_at dksX1_note_2 7 rfl rfl)
theorem dX1_note_54 : decode cX1_note 54 = .ok (.aload 5, 2) := dk_25 5 (dk_at dksX1_note_2 10 rfl rfl)
theorem dX1_note_56 : decode cX1_note 56 = .ok (.invokeinterface 155 2, 5) := by decide +kernel
theorem dX1_note_61 : decode cX1_note 61 = .ok (.pop, 1) := dk_87 (dk_at dksX1_note_2 17 rfl rfl)
theorem dX1_note_62 : decode cX1_note 62 = .ok (.aload_n 0, 1) := dk_42 (dk_at dksX1_note_2 18 rfl rfl)
theorem dX1_note_63 : decode cX1_note 63 = .ok (.aload 5, 2) := dk_25 5 (dk_at dksX1_note_2 19 rfl rfl)
theorem dX1_note_65 : decode cX1_note 65 = .ok (.aload 4, 2) := dk_25 4 (dk_at dksX1_note_2 21 rfl rfl)
theorem dX1_note_67 : decode cX1_note 67 = .ok (.invokevirtual 439, 3) := dk_182 1 183 (dk_at dksX1_note_3 0 rfl rfl)
theorem dX1_note_70 : decode cX1_note 70 = .ok (.return_, 1) := dk_177 (dk_at dksX1_note_3 3 rfl rfl)
abbrev cX1_listeners : ByteArray := prog_1_method_47_code
def yX1_listeners : MethodName := ⟨RX1, "listeners", "(LDialectdepot$Carrier;I)I"⟩
def dkwX1_listeners_3 : List UInt8 := [132, 4, 1, 167, 255, 189, 29, 172]
abbrev dktX1_listeners_3 : List UInt8 := dkwX1_listeners_3 ++ []
def dkwX1_listeners_2 : List UInt8 := [192, 0, 196, 180, 0, 201, 28, 184, 1, 118, 153, 0, 10, 4, 21, 4, 120, 167, 0, 4, 3, 128, 62]
abbrev dktX1_listeners_2 : List UInt8 := dkwX1_listeners_2 ++ dktX1_listeners_3
def dkwX1_listeners_1 : List UInt8 := [21, 4, 185, 0, 99, 2, 0, 43, 165, 0, 34, 42, 180, 0, 57, 21, 4, 185, 0, 99, 2, 0]
abbrev dktX1_listeners_1 : List UInt8 := dkwX1_listeners_1 ++ dktX1_listeners_2
def dkwX1_listeners_0 : List UInt8 := [3, 62, 3, 54, 4, 21, 4, 42, 180, 0, 57, 185, 0, 85, 1, 0, 162, 0, 59, 29, 42, 180, 0, 57]
abbrev dktX1_listeners_0 : List UInt8 := dkwX1_listeners_0 ++ dktX1_listeners_1
theorem dksX1_listeners_0 : cX1_listeners.data.toList.drop 0 = dktX1_listeners_0 := by decide +kernel
theorem dksX1_listeners_1 : cX1_listeners.data.toList.drop 24 = dktX1_listeners_1 := dk_seg dksX1_listeners_0 24 rfl rfl
theorem dksX1_listeners_2 : cX1_listeners.data.toList.drop 46 = dktX1_listeners_2 := dk_seg dksX1_listeners_1 22 rfl rfl
theorem dksX1_listeners_3 : cX1_listeners.data.toList.drop 69 = dktX1_listeners_3 := dk_seg dksX1_listeners_2 23 rfl rfl
theorem dX1_listeners_0 : decode cX1_listeners 0 = .ok (.iconst 0, 1) := dk_3 (dk_at dksX1_listeners_0 0 rfl rfl)
theorem dX1_listeners_1 : decode cX1_listeners 1 = .ok (.istore_n 3, 1) := dk_62 (dk_at dksX1_listeners_0 1 rfl rfl)
theorem dX1_listeners_2 : decode cX1_listeners 2 = .ok (.iconst 0, 1) := dk_3 (dk_at dksX1_listeners_0 2 rfl rfl)
theorem dX1_listeners_3 : decode cX1_listeners 3 = .ok (.istore 4, 2) := dk_54 4 (dk_at dksX1_listeners_0 3 rfl rfl)
theorem dX1_listeners_5 : decode cX1_listeners 5 = .ok (.iload 4, 2) := dk_21 4 (dk_at dksX1_listeners_0 5 rfl rfl)
theorem dX1_listeners_7 : decode cX1_listeners 7 = .ok (.aload_n 0, 1) := dk_42 (dk_at dksX1_listeners_0 7 rfl rfl)
theorem dX1_listeners_8 : decode cX1_listeners 8 = .ok (.getfield 57, 3) := dk_180 0 57 (dk_at dksX1_listeners_0 8 rfl rfl)
theorem dX1_listeners_11 : decode cX1_listeners 11 = .ok (.invokeinterface 85 1, 5) := by decide +kernel
theorem dX1_listeners_16 : decode cX1_listeners 16 = .ok (.if_icmp .ge 59, 3) := dk_162 0 59 (dk_at dksX1_listeners_0 16 rfl rfl)
theorem dX1_listeners_19 : decode cX1_listeners 19 = .ok (.iload_n 3, 1) := dk_29 (dk_at dksX1_listeners_0 19 rfl rfl)
theorem dX1_listeners_20 : decode cX1_listeners 20 = .ok (.aload_n 0, 1) := dk_42 (dk_at dksX1_listeners_0 20 rfl rfl)
theorem dX1_listeners_21 : decode cX1_listeners 21 = .ok (.getfield 57, 3) := dk_180 0 57 (dk_at dksX1_listeners_0 21 rfl rfl)
theorem dX1_listeners_24 : decode cX1_listeners 24 = .ok (.iload 4, 2) := dk_21 4 (dk_at dksX1_listeners_1 0 rfl rfl)
theorem dX1_listeners_26 : decode cX1_listeners 26 = .ok (.invokeinterface 99 2, 5) := by decide +kernel
theorem dX1_listeners_31 : decode cX1_listeners 31 = .ok (.aload_n 1, 1) := dk_43 (dk_at dksX1_listeners_1 7 rfl rfl)
theorem dX1_listeners_32 : decode cX1_listeners 32 = .ok (.if_acmp .eq 34, 3) := dk_165 0 34 (dk_at dksX1_listeners_1 8 rfl rfl)
theorem dX1_listeners_35 : decode cX1_listeners 35 = .ok (.aload_n 0, 1) := dk_42 (dk_at dksX1_listeners_1 11 rfl rfl)
theorem dX1_listeners_36 : decode cX1_listeners 36 = .ok (.getfield 57, 3) := dk_180 0 57 (dk_at dksX1_listeners_1 12 rfl rfl)
theorem dX1_listeners_39 : decode cX1_listeners 39 = .ok (.iload 4, 2) := dk_21 4 (dk_at dksX1_listeners_1 15 rfl rfl)
theorem dX1_listeners_41 : decode cX1_listeners 41 = .ok (.invokeinterface 99 2, 5) := by decide +kernel
theorem dX1_listeners_46 : decode cX1_listeners 46 = .ok (.checkcast 196, 3) := dk_192 0 196 (dk_at dksX1_listeners_2 0 rfl rfl)
theorem dX1_listeners_49 : decode cX1_listeners 49 = .ok (.getfield 201, 3) := dk_180 0 201 (dk_at dksX1_listeners_2 3 rfl rfl)
theorem dX1_listeners_52 : decode cX1_listeners 52 = .ok (.iload_n 2, 1) := dk_28 (dk_at dksX1_listeners_2 6 rfl rfl)
theorem dX1_listeners_53 : decode cX1_listeners 53 = .ok (.invokestatic 374, 3) := dk_184 1 118 (dk_at dksX1_listeners_2 7 rfl rfl)
theorem dX1_listeners_56 : decode cX1_listeners 56 = .ok (.ifCond .eq 10, 3) := dk_153 0 10 (dk_at dksX1_listeners_2 10 rfl rfl)
theorem dX1_listeners_59 : decode cX1_listeners 59 = .ok (.iconst 1, 1) := dk_4 (dk_at dksX1_listeners_2 13 rfl rfl)
theorem dX1_listeners_60 : decode cX1_listeners 60 = .ok (.iload 4, 2) := dk_21 4 (dk_at dksX1_listeners_2 14 rfl rfl)
theorem dX1_listeners_62 : decode cX1_listeners 62 = .ok (.ishl, 1) := dk_120 (dk_at dksX1_listeners_2 16 rfl rfl)
theorem dX1_listeners_63 : decode cX1_listeners 63 = .ok (.goto 4, 3) := dk_167 0 4 (dk_at dksX1_listeners_2 17 rfl rfl)
theorem dX1_listeners_66 : decode cX1_listeners 66 = .ok (.iconst 0, 1) := dk_3 (dk_at dksX1_listeners_2 20 rfl rfl)
theorem dX1_listeners_67 : decode cX1_listeners 67 = .ok (.ior, 1) := dk_128 (dk_at dksX1_listeners_2 21 rfl rfl)
theorem dX1_listeners_68 : decode cX1_listeners 68 = .ok (.istore_n 3, 1) := dk_62 (dk_at dksX1_listeners_2 22 rfl rfl)
theorem dX1_listeners_69 : decode cX1_listeners 69 = .ok (.iinc 4 1, 3) := dk_132 4 1 (dk_at dksX1_listeners_3 0 rfl rfl)
theorem dX1_listeners_72 : decode cX1_listeners 72 = .ok (.goto (-67), 3) := dk_167 255 189 (dk_at dksX1_listeners_3 3 rfl rfl)
theorem dX1_listeners_75 : decode cX1_listeners 75 = .ok (.iload_n 3, 1) := dk_29 (dk_at dksX1_listeners_3 6 rfl rfl)
theorem dX1_listeners_76 : decode cX1_listeners 76 = .ok (.ireturn, 1) := dk_172 (dk_at dksX1_listeners_3 7 rfl rfl)
abbrev cX1_giveUp : ByteArray := prog_1_method_46_code
def yX1_giveUp : MethodName := ⟨RX1, "giveUp", "(LDialectdepot$Parcel;)V"⟩
def dkwX1_giveUp_5 : List UInt8 := [153, 0, 7, 4, 167, 0, 4, 3, 96, 181, 1, 149, 177]
abbrev dktX1_giveUp_5 : List UInt8 := dkwX1_giveUp_5 ++ []
def dkwX1_giveUp_4 : List UInt8 := [167, 0, 4, 3, 61, 132, 4, 1, 167, 255, 190, 132, 3, 1, 167, 255, 168, 42, 89, 180, 1, 149, 28]
abbrev dktX1_giveUp_4 : List UInt8 := dkwX1_giveUp_4 ++ dktX1_giveUp_5
def dkwX1_giveUp_3 : List UInt8 := [180, 1, 25, 21, 4, 46, 43, 180, 1, 96, 43, 180, 1, 147, 184, 0, 214, 46, 158, 0, 7, 4]
abbrev dktX1_giveUp_3 : List UInt8 := dkwX1_giveUp_3 ++ dktX1_giveUp_4
def dkwX1_giveUp_2 : List UInt8 := [154, 0, 44, 42, 180, 0, 57, 29, 185, 0, 99, 2, 0, 192, 0, 196, 180, 0, 210, 43, 180, 1, 82]
abbrev dktX1_giveUp_2 : List UInt8 := dkwX1_giveUp_2 ++ dktX1_giveUp_3
def dkwX1_giveUp_1 : List UInt8 := [185, 0, 85, 1, 0, 162, 0, 81, 3, 54, 4, 21, 4, 43, 180, 1, 82, 180, 1, 32, 162, 0, 60, 28]
abbrev dktX1_giveUp_1 : List UInt8 := dkwX1_giveUp_1 ++ dktX1_giveUp_2
def dkwX1_giveUp_0 : List UInt8 := [43, 5, 181, 1, 61, 42, 89, 180, 1, 144, 4, 96, 181, 1, 144, 3, 61, 3, 62, 29, 42, 180, 0, 57]
abbrev dktX1_giveUp_0 : List UInt8 := dkwX1_giveUp_0 ++ dktX1_giveUp_1
theorem dksX1_giveUp_0 : cX1_giveUp.data.toList.drop 0 = dktX1_giveUp_0 := by decide +kernel
theorem dksX1_giveUp_1 : cX1_giveUp.data.toList.drop 24 = dktX1_giveUp_1 := dk_seg dksX1_giveUp_0 24 rfl rfl
theorem dksX1_giveUp_2 : cX1_giveUp.data.toList.drop 48 = dktX1_giveUp_2 := dk_seg dksX1_giveUp_1 24 rfl rfl
theorem dksX1_giveUp_3 : cX1_giveUp.data.toList.drop 71 = dktX1_giveUp_3 := dk_seg dksX1_giveUp_2 23 rfl rfl
theorem dksX1_giveUp_4 : cX1_giveUp.data.toList.drop 93 = dktX1_giveUp_4 := dk_seg dksX1_giveUp_3 22 rfl rfl
theorem dksX1_giveUp_5 : cX1_giveUp.data.toList.drop 116 = dktX1_giveUp_5 := dk_seg dksX1_giveUp_4 23 rfl rfl
theorem dX1_giveUp_0 : decode cX1_giveUp 0 = .ok (.aload_n 1, 1) := dk_43 (dk_at dksX1_giveUp_0 0 rfl rfl)
theorem dX1_giveUp_1 : decode cX1_giveUp 1 = .ok (.iconst 2, 1) := dk_5 (dk_at dksX1_giveUp_0 1 rfl rfl)
theorem dX1_giveUp_2 : decode cX1_giveUp 2 = .ok (.putfield 317, 3) := dk_181 1 61 (dk_at dksX1_giveUp_0 2 rfl rfl)
theorem dX1_giveUp_5 : decode cX1_giveUp 5 = .ok (.aload_n 0, 1) := dk_42 (dk_at dksX1_giveUp_0 5 rfl rfl)
theorem dX1_giveUp_6 : decode cX1_giveUp 6 = .ok (.dup, 1) := dk_89 (dk_at dksX1_giveUp_0 6 rfl rfl)
theorem dX1_giveUp_7 : decode cX1_giveUp 7 = .ok (.getfield 400, 3) := dk_180 1 144 (dk_at dksX1_giveUp_0 7 rfl rfl)
theorem dX1_giveUp_10 : decode cX1_giveUp 10 = .ok (.iconst 1, 1) := dk_4 (dk_at dksX1_giveUp_0 10 rfl rfl)
theorem dX1_giveUp_11 : decode cX1_giveUp 11 = .ok (.iadd, 1) := dk_96 (dk_at dksX1_giveUp_0 11 rfl rfl)
theorem dX1_giveUp_12 : decode cX1_giveUp 12 = .ok (.putfield 400, 3) := dk_181 1 144 (dk_at dksX1_giveUp_0 12 rfl rfl)
theorem dX1_giveUp_15 : decode cX1_giveUp 15 = .ok (.iconst 0, 1) := dk_3 (dk_at dksX1_giveUp_0 15 rfl rfl)
theorem dX1_giveUp_16 : decode cX1_giveUp 16 = .ok (.istore_n 2, 1) := dk_61 (dk_at dksX1_giveUp_0 16 rfl rfl)
theorem dX1_giveUp_17 : decode cX1_giveUp 17 = .ok (.iconst 0, 1) := dk_3 (dk_at dksX1_giveUp_0 17 rfl rfl)
theorem dX1_giveUp_18 : decode cX1_giveUp 18 = .ok (.istore_n 3, 1) := dk_62 (dk_at dksX1_giveUp_0 18 rfl rfl)
theorem dX1_giveUp_19 : decode cX1_giveUp 19 = .ok (.iload_n 3, 1) := dk_29 (dk_at dksX1_giveUp_0 19 rfl rfl)
theorem dX1_giveUp_20 : decode cX1_giveUp 20 = .ok (.aload_n 0, 1) := dk_42 (dk_at dksX1_giveUp_0 20 rfl rfl)
theorem dX1_giveUp_21 : decode cX1_giveUp 21 = .ok (.getfield 57, 3) := dk_180 0 57 (dk_at dksX1_giveUp_0 21 rfl rfl)
theorem dX1_giveUp_24 : decode cX1_giveUp 24 = .ok (.invokeinterface 85 1, 5) := by decide +kernel
theorem dX1_giveUp_29 : decode cX1_giveUp 29 = .ok (.if_icmp .ge 81, 3) := dk_162 0 81 (dk_at dksX1_giveUp_1 5 rfl rfl)
theorem dX1_giveUp_32 : decode cX1_giveUp 32 = .ok (.iconst 0, 1) := dk_3 (dk_at dksX1_giveUp_1 8 rfl rfl)
theorem dX1_giveUp_33 : decode cX1_giveUp 33 = .ok (.istore 4, 2) := dk_54 4 (dk_at dksX1_giveUp_1 9 rfl rfl)
theorem dX1_giveUp_35 : decode cX1_giveUp 35 = .ok (.iload 4, 2) := dk_21 4 (dk_at dksX1_giveUp_1 11 rfl rfl)
theorem dX1_giveUp_37 : decode cX1_giveUp 37 = .ok (.aload_n 1, 1) := dk_43 (dk_at dksX1_giveUp_1 13 rfl rfl)
theorem dX1_giveUp_38 : decode cX1_giveUp 38 = .ok (.getfield 338, 3) := dk_180 1 82 (dk_at dksX1_giveUp_1 14 rfl rfl)
theorem dX1_giveUp_41 : decode cX1_giveUp 41 = .ok (.getfield 288, 3) := dk_180 1 32 (dk_at dksX1_giveUp_1 17 rfl rfl)
theorem dX1_giveUp_44 : decode cX1_giveUp 44 = .ok (.if_icmp .ge 60, 3) := dk_162 0 60 (dk_at dksX1_giveUp_1 20 rfl rfl)
theorem dX1_giveUp_47 : decode cX1_giveUp 47 = .ok (.iload_n 2, 1) := dk_28 (dk_at dksX1_giveUp_1 23 rfl rfl)
theorem dX1_giveUp_48 : decode cX1_giveUp 48 = .ok (.ifCond .ne 44, 3) := dk_154 0 44 (dk_at dksX1_giveUp_2 0 rfl rfl)
theorem dX1_giveUp_51 : decode cX1_giveUp 51 = .ok (.aload_n 0, 1) := dk_42 (dk_at dksX1_giveUp_2 3 rfl rfl)
theorem dX1_giveUp_52 : decode cX1_giveUp 52 = .ok (.getfield 57, 3) := dk_180 0 57 (dk_at dksX1_giveUp_2 4 rfl rfl)
theorem dX1_giveUp_55 : decode cX1_giveUp 55 = .ok (.iload_n 3, 1) := dk_29 (dk_at dksX1_giveUp_2 7 rfl rfl)
theorem dX1_giveUp_56 : decode cX1_giveUp 56 = .ok (.invokeinterface 99 2, 5) := by decide +kernel
theorem dX1_giveUp_61 : decode cX1_giveUp 61 = .ok (.checkcast 196, 3) := dk_192 0 196 (dk_at dksX1_giveUp_2 13 rfl rfl)
theorem dX1_giveUp_64 : decode cX1_giveUp 64 = .ok (.getfield 210, 3) := dk_180 0 210 (dk_at dksX1_giveUp_2 16 rfl rfl)
theorem dX1_giveUp_67 : decode cX1_giveUp 67 = .ok (.aload_n 1, 1) := dk_43 (dk_at dksX1_giveUp_2 19 rfl rfl)
theorem dX1_giveUp_68 : decode cX1_giveUp 68 = .ok (.getfield 338, 3) := dk_180 1 82 (dk_at dksX1_giveUp_2 20 rfl rfl)
theorem dX1_giveUp_71 : decode cX1_giveUp 71 = .ok (.getfield 281, 3) := dk_180 1 25 (dk_at dksX1_giveUp_3 0 rfl rfl)
theorem dX1_giveUp_74 : decode cX1_giveUp 74 = .ok (.iload 4, 2) := dk_21 4 (dk_at dksX1_giveUp_3 3 rfl rfl)
theorem dX1_giveUp_76 : decode cX1_giveUp 76 = .ok (.iaload, 1) := dk_46 (dk_at dksX1_giveUp_3 5 rfl rfl)
theorem dX1_giveUp_77 : decode cX1_giveUp 77 = .ok (.aload_n 1, 1) := dk_43 (dk_at dksX1_giveUp_3 6 rfl rfl)
theorem dX1_giveUp_78 : decode cX1_giveUp 78 = .ok (.getfield 352, 3) := dk_180 1 96 (dk_at dksX1_giveUp_3 7 rfl rfl)
theorem dX1_giveUp_81 : decode cX1_giveUp 81 = .ok (.aload_n 1, 1) := dk_43 (dk_at dksX1_giveUp_3 10 rfl rfl)
theorem dX1_giveUp_82 : decode cX1_giveUp 82 = .ok (.getfield 403, 3) := dk_180 1 147 (dk_at dksX1_giveUp_3 11 rfl rfl)
theorem dX1_giveUp_85 : decode cX1_giveUp 85 = .ok (.invokestatic 214, 3) := dk_184 0 214 (dk_at dksX1_giveUp_3 14 rfl rfl)
theorem dX1_giveUp_88 : decode cX1_giveUp 88 = .ok (.iaload, 1) := dk_46 (dk_at dksX1_giveUp_3 17 rfl rfl)
theorem dX1_giveUp_89 : decode cX1_giveUp 89 = .ok (.ifCond .le 7, 3) := dk_158 0 7 (dk_at dksX1_giveUp_3 18 rfl rfl)
theorem dX1_giveUp_92 : decode cX1_giveUp 92 = .ok (.iconst 1, 1) := dk_4 (dk_at dksX1_giveUp_3 21 rfl rfl)
theorem dX1_giveUp_93 : decode cX1_giveUp 93 = .ok (.goto 4, 3) := dk_167 0 4 (dk_at dksX1_giveUp_4 0 rfl rfl)
theorem dX1_giveUp_96 : decode cX1_giveUp 96 = .ok (.iconst 0, 1) := dk_3 (dk_at dksX1_giveUp_4 3 rfl rfl)
theorem dX1_giveUp_97 : decode cX1_giveUp 97 = .ok (.istore_n 2, 1) := dk_61 (dk_at dksX1_giveUp_4 4 rfl rfl)
theorem dX1_giveUp_98 : decode cX1_giveUp 98 = .ok (.iinc 4 1, 3) := dk_132 4 1 (dk_at dksX1_giveUp_4 5 rfl rfl)
theorem dX1_giveUp_101 : decode cX1_giveUp 101 = .ok (.goto (-66), 3) := dk_167 255 190 (dk_at dksX1_giveUp_4 8 rfl rfl)
theorem dX1_giveUp_104 : decode cX1_giveUp 104 = .ok (.iinc 3 1, 3) := dk_132 3 1 (dk_at dksX1_giveUp_4 11 rfl rfl)
theorem dX1_giveUp_107 : decode cX1_giveUp 107 = .ok (.goto (-88), 3) := dk_167 255 168 (dk_at dksX1_giveUp_4 14 rfl rfl)
theorem dX1_giveUp_110 : decode cX1_giveUp 110 = .ok (.aload_n 0, 1) := dk_42 (dk_at dksX1_giveUp_4 17 rfl rfl)
theorem dX1_giveUp_111 : decode cX1_giveUp 111 = .ok (.dup, 1) := dk_89 (dk_at dksX1_giveUp_4 18 rfl rfl)
theorem dX1_giveUp_112 : decode cX1_giveUp 112 = .ok (.getfield 405, 3) := dk_180 1 149 (dk_at dksX1_giveUp_4 19 rfl rfl)
theorem dX1_giveUp_115 : decode cX1_giveUp 115 = .ok (.iload_n 2, 1) := dk_28 (dk_at dksX1_giveUp_4 22 rfl rfl)
theorem dX1_giveUp_116 : decode cX1_giveUp 116 = .ok (.ifCond .eq 7, 3) := dk_153 0 7 (dk_at dksX1_giveUp_5 0 rfl rfl)
theorem dX1_giveUp_119 : decode cX1_giveUp 119 = .ok (.iconst 1, 1) := dk_4 (dk_at dksX1_giveUp_5 3 rfl rfl)
theorem dX1_giveUp_120 : decode cX1_giveUp 120 = .ok (.goto 4, 3) := dk_167 0 4 (dk_at dksX1_giveUp_5 4 rfl rfl)
theorem dX1_giveUp_123 : decode cX1_giveUp 123 = .ok (.iconst 0, 1) := dk_3 (dk_at dksX1_giveUp_5 7 rfl rfl)
theorem dX1_giveUp_124 : decode cX1_giveUp 124 = .ok (.iadd, 1) := dk_96 (dk_at dksX1_giveUp_5 8 rfl rfl)
theorem dX1_giveUp_125 : decode cX1_giveUp 125 = .ok (.putfield 405, 3) := dk_181 1 149 (dk_at dksX1_giveUp_5 9 rfl rfl)
theorem dX1_giveUp_128 : decode cX1_giveUp 128 = .ok (.return_, 1) := dk_177 (dk_at dksX1_giveUp_5 12 rfl rfl)
abbrev cX1_rule : ByteArray := prog_1_method_69_code
def yX1_rule : MethodName := ⟨RX1, "rule", "(LDialectdepot$Name;)V"⟩
def dkwX1_rule_4 : List UInt8 := [181, 2, 2, 43, 180, 1, 242, 185, 1, 213, 1, 0, 43, 2, 181, 1, 86, 177]
abbrev dktX1_rule_4 : List UInt8 := dkwX1_rule_4 ++ []
def dkwX1_rule_3 : List UInt8 := [180, 1, 93, 181, 1, 93, 28, 21, 4, 184, 1, 122, 61, 132, 3, 1, 167, 255, 174, 43, 42, 180, 1, 174]
abbrev dktX1_rule_3 : List UInt8 := dkwX1_rule_3 ++ dktX1_rule_4
def dkwX1_rule_2 : List UInt8 := [164, 0, 22, 43, 180, 1, 242, 29, 185, 0, 99, 2, 0, 192, 1, 245, 182, 1, 254, 167, 0, 7, 43]
abbrev dktX1_rule_2 : List UInt8 := dkwX1_rule_2 ++ dktX1_rule_3
def dkwX1_rule_1 : List UInt8 := [180, 1, 242, 29, 185, 0, 99, 2, 0, 192, 1, 245, 182, 1, 254, 182, 1, 255, 54, 4, 43, 21, 4, 28]
abbrev dktX1_rule_1 : List UInt8 := dkwX1_rule_1 ++ dktX1_rule_2
def dkwX1_rule_0 : List UInt8 := [2, 61, 3, 62, 29, 43, 180, 1, 242, 185, 0, 85, 1, 0, 162, 0, 75, 42, 43, 180, 0, 249, 43]
abbrev dktX1_rule_0 : List UInt8 := dkwX1_rule_0 ++ dktX1_rule_1
theorem dksX1_rule_0 : cX1_rule.data.toList.drop 0 = dktX1_rule_0 := by decide +kernel
theorem dksX1_rule_1 : cX1_rule.data.toList.drop 23 = dktX1_rule_1 := dk_seg dksX1_rule_0 23 rfl rfl
theorem dksX1_rule_2 : cX1_rule.data.toList.drop 47 = dktX1_rule_2 := dk_seg dksX1_rule_1 24 rfl rfl
theorem dksX1_rule_3 : cX1_rule.data.toList.drop 70 = dktX1_rule_3 := dk_seg dksX1_rule_2 23 rfl rfl
theorem dksX1_rule_4 : cX1_rule.data.toList.drop 94 = dktX1_rule_4 := dk_seg dksX1_rule_3 24 rfl rfl
theorem dX1_rule_0 : decode cX1_rule 0 = .ok (.iconst (-1), 1) := dk_2 (dk_at dksX1_rule_0 0 rfl rfl)
theorem dX1_rule_1 : decode cX1_rule 1 = .ok (.istore_n 2, 1) := dk_61 (dk_at dksX1_rule_0 1 rfl rfl)
theorem dX1_rule_2 : decode cX1_rule 2 = .ok (.iconst 0, 1) := dk_3 (dk_at dksX1_rule_0 2 rfl rfl)
theorem dX1_rule_3 : decode cX1_rule 3 = .ok (.istore_n 3, 1) := dk_62 (dk_at dksX1_rule_0 3 rfl rfl)
theorem dX1_rule_4 : decode cX1_rule 4 = .ok (.iload_n 3, 1) := dk_29 (dk_at dksX1_rule_0 4 rfl rfl)
theorem dX1_rule_5 : decode cX1_rule 5 = .ok (.aload_n 1, 1) := dk_43 (dk_at dksX1_rule_0 5 rfl rfl)
theorem dX1_rule_6 : decode cX1_rule 6 = .ok (.getfield 498, 3) := dk_180 1 242 (dk_at dksX1_rule_0 6 rfl rfl)
theorem dX1_rule_9 : decode cX1_rule 9 = .ok (.invokeinterface 85 1, 5) := by decide +kernel
theorem dX1_rule_14 : decode cX1_rule 14 = .ok (.if_icmp .ge 75, 3) := dk_162 0 75 (dk_at dksX1_rule_0 14 rfl rfl)
theorem dX1_rule_17 : decode cX1_rule 17 = .ok (.aload_n 0, 1) := dk_42 (dk_at dksX1_rule_0 17 rfl rfl)
theorem dX1_rule_18 : decode cX1_rule 18 = .ok (.aload_n 1, 1) := dk_43 (dk_at dksX1_rule_0 18 rfl rfl)
theorem dX1_rule_19 : decode cX1_rule 19 = .ok (.getfield 249, 3) := dk_180 0 249 (dk_at dksX1_rule_0 19 rfl rfl)
theorem dX1_rule_22 : decode cX1_rule 22 = .ok (.aload_n 1, 1) := dk_43 (dk_at dksX1_rule_0 22 rfl rfl)
theorem dX1_rule_23 : decode cX1_rule 23 = .ok (.getfield 498, 3) := dk_180 1 242 (dk_at dksX1_rule_1 0 rfl rfl)
theorem dX1_rule_26 : decode cX1_rule 26 = .ok (.iload_n 3, 1) := dk_29 (dk_at dksX1_rule_1 3 rfl rfl)
theorem dX1_rule_27 : decode cX1_rule 27 = .ok (.invokeinterface 99 2, 5) := by decide +kernel
theorem dX1_rule_32 : decode cX1_rule 32 = .ok (.checkcast 501, 3) := dk_192 1 245 (dk_at dksX1_rule_1 9 rfl rfl)
theorem dX1_rule_35 : decode cX1_rule 35 = .ok (.invokevirtual 510, 3) := dk_182 1 254 (dk_at dksX1_rule_1 12 rfl rfl)
theorem dX1_rule_38 : decode cX1_rule 38 = .ok (.invokevirtual 511, 3) := dk_182 1 255 (dk_at dksX1_rule_1 15 rfl rfl)
theorem dX1_rule_41 : decode cX1_rule 41 = .ok (.istore 4, 2) := dk_54 4 (dk_at dksX1_rule_1 18 rfl rfl)
theorem dX1_rule_43 : decode cX1_rule 43 = .ok (.aload_n 1, 1) := dk_43 (dk_at dksX1_rule_1 20 rfl rfl)
theorem dX1_rule_44 : decode cX1_rule 44 = .ok (.iload 4, 2) := dk_21 4 (dk_at dksX1_rule_1 21 rfl rfl)
theorem dX1_rule_46 : decode cX1_rule 46 = .ok (.iload_n 2, 1) := dk_28 (dk_at dksX1_rule_1 23 rfl rfl)
theorem dX1_rule_47 : decode cX1_rule 47 = .ok (.if_icmp .le 22, 3) := dk_164 0 22 (dk_at dksX1_rule_2 0 rfl rfl)
theorem dX1_rule_50 : decode cX1_rule 50 = .ok (.aload_n 1, 1) := dk_43 (dk_at dksX1_rule_2 3 rfl rfl)
theorem dX1_rule_51 : decode cX1_rule 51 = .ok (.getfield 498, 3) := dk_180 1 242 (dk_at dksX1_rule_2 4 rfl rfl)
theorem dX1_rule_54 : decode cX1_rule 54 = .ok (.iload_n 3, 1) := dk_29 (dk_at dksX1_rule_2 7 rfl rfl)
theorem dX1_rule_55 : decode cX1_rule 55 = .ok (.invokeinterface 99 2, 5) := by decide +kernel
theorem dX1_rule_60 : decode cX1_rule 60 = .ok (.checkcast 501, 3) := dk_192 1 245 (dk_at dksX1_rule_2 13 rfl rfl)
theorem dX1_rule_63 : decode cX1_rule 63 = .ok (.invokevirtual 510, 3) := dk_182 1 254 (dk_at dksX1_rule_2 16 rfl rfl)
theorem dX1_rule_66 : decode cX1_rule 66 = .ok (.goto 7, 3) := dk_167 0 7 (dk_at dksX1_rule_2 19 rfl rfl)
theorem dX1_rule_69 : decode cX1_rule 69 = .ok (.aload_n 1, 1) := dk_43 (dk_at dksX1_rule_2 22 rfl rfl)
theorem dX1_rule_70 : decode cX1_rule 70 = .ok (.getfield 349, 3) := dk_180 1 93 (dk_at dksX1_rule_3 0 rfl rfl)
theorem dX1_rule_73 : decode cX1_rule 73 = .ok (.putfield 349, 3) := dk_181 1 93 (dk_at dksX1_rule_3 3 rfl rfl)
theorem dX1_rule_76 : decode cX1_rule 76 = .ok (.iload_n 2, 1) := dk_28 (dk_at dksX1_rule_3 6 rfl rfl)
theorem dX1_rule_77 : decode cX1_rule 77 = .ok (.iload 4, 2) := dk_21 4 (dk_at dksX1_rule_3 7 rfl rfl)
theorem dX1_rule_79 : decode cX1_rule 79 = .ok (.invokestatic 378, 3) := dk_184 1 122 (dk_at dksX1_rule_3 9 rfl rfl)
theorem dX1_rule_82 : decode cX1_rule 82 = .ok (.istore_n 2, 1) := dk_61 (dk_at dksX1_rule_3 12 rfl rfl)
theorem dX1_rule_83 : decode cX1_rule 83 = .ok (.iinc 3 1, 3) := dk_132 3 1 (dk_at dksX1_rule_3 13 rfl rfl)
theorem dX1_rule_86 : decode cX1_rule 86 = .ok (.goto (-82), 3) := dk_167 255 174 (dk_at dksX1_rule_3 16 rfl rfl)
theorem dX1_rule_89 : decode cX1_rule 89 = .ok (.aload_n 1, 1) := dk_43 (dk_at dksX1_rule_3 19 rfl rfl)
theorem dX1_rule_90 : decode cX1_rule 90 = .ok (.aload_n 0, 1) := dk_42 (dk_at dksX1_rule_3 20 rfl rfl)
theorem dX1_rule_91 : decode cX1_rule 91 = .ok (.getfield 430, 3) := dk_180 1 174 (dk_at dksX1_rule_3 21 rfl rfl)
theorem dX1_rule_94 : decode cX1_rule 94 = .ok (.putfield 514, 3) := dk_181 2 2 (dk_at dksX1_rule_4 0 rfl rfl)
theorem dX1_rule_97 : decode cX1_rule 97 = .ok (.aload_n 1, 1) := dk_43 (dk_at dksX1_rule_4 3 rfl rfl)
theorem dX1_rule_98 : decode cX1_rule 98 = .ok (.getfield 498, 3) := dk_180 1 242 (dk_at dksX1_rule_4 4 rfl rfl)
theorem dX1_rule_101 : decode cX1_rule 101 = .ok (.invokeinterface 469 1, 5) := by decide +kernel
theorem dX1_rule_106 : decode cX1_rule 106 = .ok (.aload_n 1, 1) := dk_43 (dk_at dksX1_rule_4 12 rfl rfl)
theorem dX1_rule_107 : decode cX1_rule 107 = .ok (.iconst (-1), 1) := dk_2 (dk_at dksX1_rule_4 13 rfl rfl)
theorem dX1_rule_108 : decode cX1_rule 108 = .ok (.putfield 342, 3) := dk_181 1 86 (dk_at dksX1_rule_4 14 rfl rfl)
theorem dX1_rule_111 : decode cX1_rule 111 = .ok (.return_, 1) := dk_177 (dk_at dksX1_rule_4 17 rfl rfl)
abbrev cX1_countFor : ByteArray := prog_1_method_67_code
def yX1_countFor : MethodName := ⟨RX1, "countFor", "(II)I"⟩
def dkwX1_countFor_3 : List UInt8 := [96, 62, 132, 4, 1, 167, 255, 185, 29, 172]
abbrev dktX1_countFor_3 : List UInt8 := dkwX1_countFor_3 ++ []
def dkwX1_countFor_2 : List UInt8 := [180, 1, 147, 28, 160, 0, 19, 25, 5, 180, 1, 82, 27, 182, 0, 252, 153, 0, 7, 4, 167, 0, 4, 3]
abbrev dktX1_countFor_2 : List UInt8 := dkwX1_countFor_2 ++ dktX1_countFor_3
def dkwX1_countFor_1 : List UInt8 := [21, 4, 185, 0, 99, 2, 0, 192, 1, 49, 58, 5, 29, 25, 5, 180, 1, 61, 4, 160, 0, 28, 25, 5]
abbrev dktX1_countFor_1 : List UInt8 := dkwX1_countFor_1 ++ dktX1_countFor_2
def dkwX1_countFor_0 : List UInt8 := [3, 62, 3, 54, 4, 21, 4, 42, 180, 0, 60, 185, 0, 85, 1, 0, 162, 0, 63, 42, 180, 0, 60]
abbrev dktX1_countFor_0 : List UInt8 := dkwX1_countFor_0 ++ dktX1_countFor_1
theorem dksX1_countFor_0 : cX1_countFor.data.toList.drop 0 = dktX1_countFor_0 := by decide +kernel
theorem dksX1_countFor_1 : cX1_countFor.data.toList.drop 23 = dktX1_countFor_1 := dk_seg dksX1_countFor_0 23 rfl rfl
theorem dksX1_countFor_2 : cX1_countFor.data.toList.drop 47 = dktX1_countFor_2 := dk_seg dksX1_countFor_1 24 rfl rfl
theorem dksX1_countFor_3 : cX1_countFor.data.toList.drop 71 = dktX1_countFor_3 := dk_seg dksX1_countFor_2 24 rfl rfl
theorem dX1_countFor_0 : decode cX1_countFor 0 = .ok (.iconst 0, 1) := dk_3 (dk_at dksX1_countFor_0 0 rfl rfl)
theorem dX1_countFor_1 : decode cX1_countFor 1 = .ok (.istore_n 3, 1) := dk_62 (dk_at dksX1_countFor_0 1 rfl rfl)
theorem dX1_countFor_2 : decode cX1_countFor 2 = .ok (.iconst 0, 1) := dk_3 (dk_at dksX1_countFor_0 2 rfl rfl)
theorem dX1_countFor_3 : decode cX1_countFor 3 = .ok (.istore 4, 2) := dk_54 4 (dk_at dksX1_countFor_0 3 rfl rfl)
theorem dX1_countFor_5 : decode cX1_countFor 5 = .ok (.iload 4, 2) := dk_21 4 (dk_at dksX1_countFor_0 5 rfl rfl)
theorem dX1_countFor_7 : decode cX1_countFor 7 = .ok (.aload_n 0, 1) := dk_42 (dk_at dksX1_countFor_0 7 rfl rfl)
theorem dX1_countFor_8 : decode cX1_countFor 8 = .ok (.getfield 60, 3) := dk_180 0 60 (dk_at dksX1_countFor_0 8 rfl rfl)
theorem dX1_countFor_11 : decode cX1_countFor 11 = .ok (.invokeinterface 85 1, 5) := by decide +kernel
theorem dX1_countFor_16 : decode cX1_countFor 16 = .ok (.if_icmp .ge 63, 3) := dk_162 0 63 (dk_at dksX1_countFor_0 16 rfl rfl)
theorem dX1_countFor_19 : decode cX1_countFor 19 = .ok (.aload_n 0, 1) := dk_42 (dk_at dksX1_countFor_0 19 rfl rfl)
theorem dX1_countFor_20 : decode cX1_countFor 20 = .ok (.getfield 60, 3) := dk_180 0 60 (dk_at dksX1_countFor_0 20 rfl rfl)
theorem dX1_countFor_23 : decode cX1_countFor 23 = .ok (.iload 4, 2) := dk_21 4 (dk_at dksX1_countFor_1 0 rfl rfl)
theorem dX1_countFor_25 : decode cX1_countFor 25 = .ok (.invokeinterface 99 2, 5) := by decide +kernel
theorem dX1_countFor_30 : decode cX1_countFor 30 = .ok (.checkcast 305, 3) := dk_192 1 49 (dk_at dksX1_countFor_1 7 rfl rfl)
theorem dX1_countFor_33 : decode cX1_countFor 33 = .ok (.astore 5, 2) := dk_58 5 (dk_at dksX1_countFor_1 10 rfl rfl)
theorem dX1_countFor_35 : decode cX1_countFor 35 = .ok (.iload_n 3, 1) := dk_29 (dk_at dksX1_countFor_1 12 rfl rfl)
theorem dX1_countFor_36 : decode cX1_countFor 36 = .ok (.aload 5, 2) := dk_25 5 (dk_at dksX1_countFor_1 13 rfl rfl)
theorem dX1_countFor_38 : decode cX1_countFor 38 = .ok (.getfield 317, 3) := dk_180 1 61 (dk_at dksX1_countFor_1 15 rfl rfl)
theorem dX1_countFor_41 : decode cX1_countFor 41 = .ok (.iconst 1, 1) := dk_4 (dk_at dksX1_countFor_1 18 rfl rfl)
theorem dX1_countFor_42 : decode cX1_countFor 42 = .ok (.if_icmp .ne 28, 3) := dk_160 0 28 (dk_at dksX1_countFor_1 19 rfl rfl)
theorem dX1_countFor_45 : decode cX1_countFor 45 = .ok (.aload 5, 2) := dk_25 5 (dk_at dksX1_countFor_1 22 rfl rfl)
theorem dX1_countFor_47 : decode cX1_countFor 47 = .ok (.getfield 403, 3) := dk_180 1 147 (dk_at dksX1_countFor_2 0 rfl rfl)
theorem dX1_countFor_50 : decode cX1_countFor 50 = .ok (.iload_n 2, 1) := dk_28 (dk_at dksX1_countFor_2 3 rfl rfl)
theorem dX1_countFor_51 : decode cX1_countFor 51 = .ok (.if_icmp .ne 19, 3) := dk_160 0 19 (dk_at dksX1_countFor_2 4 rfl rfl)
theorem dX1_countFor_54 : decode cX1_countFor 54 = .ok (.aload 5, 2) := dk_25 5 (dk_at dksX1_countFor_2 7 rfl rfl)
theorem dX1_countFor_56 : decode cX1_countFor 56 = .ok (.getfield 338, 3) := dk_180 1 82 (dk_at dksX1_countFor_2 9 rfl rfl)
theorem dX1_countFor_59 : decode cX1_countFor 59 = .ok (.iload_n 1, 1) := dk_27 (dk_at dksX1_countFor_2 12 rfl rfl)
theorem dX1_countFor_60 : decode cX1_countFor 60 = .ok (.invokevirtual 252, 3) := dk_182 0 252 (dk_at dksX1_countFor_2 13 rfl rfl)
theorem dX1_countFor_63 : decode cX1_countFor 63 = .ok (.ifCond .eq 7, 3) := dk_153 0 7 (dk_at dksX1_countFor_2 16 rfl rfl)
theorem dX1_countFor_66 : decode cX1_countFor 66 = .ok (.iconst 1, 1) := dk_4 (dk_at dksX1_countFor_2 19 rfl rfl)
theorem dX1_countFor_67 : decode cX1_countFor 67 = .ok (.goto 4, 3) := dk_167 0 4 (dk_at dksX1_countFor_2 20 rfl rfl)
theorem dX1_countFor_70 : decode cX1_countFor 70 = .ok (.iconst 0, 1) := dk_3 (dk_at dksX1_countFor_2 23 rfl rfl)
theorem dX1_countFor_71 : decode cX1_countFor 71 = .ok (.iadd, 1) := dk_96 (dk_at dksX1_countFor_3 0 rfl rfl)
theorem dX1_countFor_72 : decode cX1_countFor 72 = .ok (.istore_n 3, 1) := dk_62 (dk_at dksX1_countFor_3 1 rfl rfl)
theorem dX1_countFor_73 : decode cX1_countFor 73 = .ok (.iinc 4 1, 3) := dk_132 4 1 (dk_at dksX1_countFor_3 2 rfl rfl)
theorem dX1_countFor_76 : decode cX1_countFor 76 = .ok (.goto (-71), 3) := dk_167 255 185 (dk_at dksX1_countFor_3 5 rfl rfl)
theorem dX1_countFor_79 : decode cX1_countFor 79 = .ok (.iload_n 3, 1) := dk_29 (dk_at dksX1_countFor_3 8 rfl rfl)
theorem dX1_countFor_80 : decode cX1_countFor 80 = .ok (.ireturn, 1) := dk_172 (dk_at dksX1_countFor_3 9 rfl rfl)
abbrev cX1_attemptParcel : ByteArray := prog_1_method_57_code
def yX1_attemptParcel : MethodName := ⟨RX1, "attemptParcel", "(I)I"⟩
def dkwX1_attemptParcel_0 : List UInt8 := [42, 180, 0, 66, 27, 184, 0, 162, 192, 1, 153, 182, 1, 160, 180, 1, 236, 172]
abbrev dktX1_attemptParcel_0 : List UInt8 := dkwX1_attemptParcel_0 ++ []
theorem dksX1_attemptParcel_0 : cX1_attemptParcel.data.toList.drop 0 = dktX1_attemptParcel_0 := by decide +kernel
theorem dX1_attemptParcel_0 : decode cX1_attemptParcel 0 = .ok (.aload_n 0, 1) := dk_42 (dk_at dksX1_attemptParcel_0 0 rfl rfl)
theorem dX1_attemptParcel_1 : decode cX1_attemptParcel 1 = .ok (.getfield 66, 3) := dk_180 0 66 (dk_at dksX1_attemptParcel_0 1 rfl rfl)
theorem dX1_attemptParcel_4 : decode cX1_attemptParcel 4 = .ok (.iload_n 1, 1) := dk_27 (dk_at dksX1_attemptParcel_0 4 rfl rfl)
theorem dX1_attemptParcel_5 : decode cX1_attemptParcel 5 = .ok (.invokestatic 162, 3) := dk_184 0 162 (dk_at dksX1_attemptParcel_0 5 rfl rfl)
theorem dX1_attemptParcel_8 : decode cX1_attemptParcel 8 = .ok (.checkcast 409, 3) := dk_192 1 153 (dk_at dksX1_attemptParcel_0 8 rfl rfl)
theorem dX1_attemptParcel_11 : decode cX1_attemptParcel 11 = .ok (.invokevirtual 416, 3) := dk_182 1 160 (dk_at dksX1_attemptParcel_0 11 rfl rfl)
theorem dX1_attemptParcel_14 : decode cX1_attemptParcel 14 = .ok (.getfield 492, 3) := dk_180 1 236 (dk_at dksX1_attemptParcel_0 14 rfl rfl)
theorem dX1_attemptParcel_17 : decode cX1_attemptParcel 17 = .ok (.ireturn, 1) := dk_172 (dk_at dksX1_attemptParcel_0 17 rfl rfl)
abbrev cX1_attemptCarrier : ByteArray := prog_1_method_58_code
def yX1_attemptCarrier : MethodName := ⟨RX1, "attemptCarrier", "(I)I"⟩
def dkwX1_attemptCarrier_0 : List UInt8 := [42, 180, 0, 66, 27, 184, 0, 162, 192, 1, 153, 182, 1, 157, 172]
abbrev dktX1_attemptCarrier_0 : List UInt8 := dkwX1_attemptCarrier_0 ++ []
theorem dksX1_attemptCarrier_0 : cX1_attemptCarrier.data.toList.drop 0 = dktX1_attemptCarrier_0 := by decide +kernel
theorem dX1_attemptCarrier_0 : decode cX1_attemptCarrier 0 = .ok (.aload_n 0, 1) := dk_42 (dk_at dksX1_attemptCarrier_0 0 rfl rfl)
theorem dX1_attemptCarrier_1 : decode cX1_attemptCarrier 1 = .ok (.getfield 66, 3) := dk_180 0 66 (dk_at dksX1_attemptCarrier_0 1 rfl rfl)
theorem dX1_attemptCarrier_4 : decode cX1_attemptCarrier 4 = .ok (.iload_n 1, 1) := dk_27 (dk_at dksX1_attemptCarrier_0 4 rfl rfl)
theorem dX1_attemptCarrier_5 : decode cX1_attemptCarrier 5 = .ok (.invokestatic 162, 3) := dk_184 0 162 (dk_at dksX1_attemptCarrier_0 5 rfl rfl)
theorem dX1_attemptCarrier_8 : decode cX1_attemptCarrier 8 = .ok (.checkcast 409, 3) := dk_192 1 153 (dk_at dksX1_attemptCarrier_0 8 rfl rfl)
theorem dX1_attemptCarrier_11 : decode cX1_attemptCarrier 11 = .ok (.invokevirtual 413, 3) := dk_182 1 157 (dk_at dksX1_attemptCarrier_0 11 rfl rfl)
theorem dX1_attemptCarrier_14 : decode cX1_attemptCarrier 14 = .ok (.ireturn, 1) := dk_172 (dk_at dksX1_attemptCarrier_0 14 rfl rfl)
abbrev cX1_attemptStreet : ByteArray := prog_1_method_59_code
def yX1_attemptStreet : MethodName := ⟨RX1, "attemptStreet", "(I)I"⟩
def dkwX1_attemptStreet_0 : List UInt8 := [42, 180, 0, 66, 27, 184, 0, 162, 192, 1, 153, 182, 1, 164, 172]
abbrev dktX1_attemptStreet_0 : List UInt8 := dkwX1_attemptStreet_0 ++ []
theorem dksX1_attemptStreet_0 : cX1_attemptStreet.data.toList.drop 0 = dktX1_attemptStreet_0 := by decide +kernel
theorem dX1_attemptStreet_0 : decode cX1_attemptStreet 0 = .ok (.aload_n 0, 1) := dk_42 (dk_at dksX1_attemptStreet_0 0 rfl rfl)
theorem dX1_attemptStreet_1 : decode cX1_attemptStreet 1 = .ok (.getfield 66, 3) := dk_180 0 66 (dk_at dksX1_attemptStreet_0 1 rfl rfl)
theorem dX1_attemptStreet_4 : decode cX1_attemptStreet 4 = .ok (.iload_n 1, 1) := dk_27 (dk_at dksX1_attemptStreet_0 4 rfl rfl)
theorem dX1_attemptStreet_5 : decode cX1_attemptStreet 5 = .ok (.invokestatic 162, 3) := dk_184 0 162 (dk_at dksX1_attemptStreet_0 5 rfl rfl)
theorem dX1_attemptStreet_8 : decode cX1_attemptStreet 8 = .ok (.checkcast 409, 3) := dk_192 1 153 (dk_at dksX1_attemptStreet_0 8 rfl rfl)
theorem dX1_attemptStreet_11 : decode cX1_attemptStreet 11 = .ok (.invokevirtual 420, 3) := dk_182 1 164 (dk_at dksX1_attemptStreet_0 11 rfl rfl)
theorem dX1_attemptStreet_14 : decode cX1_attemptStreet 14 = .ok (.ireturn, 1) := dk_172 (dk_at dksX1_attemptStreet_0 14 rfl rfl)
abbrev cX1_attemptDay : ByteArray := prog_1_method_60_code
def yX1_attemptDay : MethodName := ⟨RX1, "attemptDay", "(I)I"⟩
def dkwX1_attemptDay_0 : List UInt8 := [42, 180, 0, 66, 27, 184, 0, 162, 192, 1, 153, 182, 1, 237, 172]
abbrev dktX1_attemptDay_0 : List UInt8 := dkwX1_attemptDay_0 ++ []
theorem dksX1_attemptDay_0 : cX1_attemptDay.data.toList.drop 0 = dktX1_attemptDay_0 := by decide +kernel
theorem dX1_attemptDay_0 : decode cX1_attemptDay 0 = .ok (.aload_n 0, 1) := dk_42 (dk_at dksX1_attemptDay_0 0 rfl rfl)
theorem dX1_attemptDay_1 : decode cX1_attemptDay 1 = .ok (.getfield 66, 3) := dk_180 0 66 (dk_at dksX1_attemptDay_0 1 rfl rfl)
theorem dX1_attemptDay_4 : decode cX1_attemptDay 4 = .ok (.iload_n 1, 1) := dk_27 (dk_at dksX1_attemptDay_0 4 rfl rfl)
theorem dX1_attemptDay_5 : decode cX1_attemptDay 5 = .ok (.invokestatic 162, 3) := dk_184 0 162 (dk_at dksX1_attemptDay_0 5 rfl rfl)
theorem dX1_attemptDay_8 : decode cX1_attemptDay 8 = .ok (.checkcast 409, 3) := dk_192 1 153 (dk_at dksX1_attemptDay_0 8 rfl rfl)
theorem dX1_attemptDay_11 : decode cX1_attemptDay 11 = .ok (.invokevirtual 493, 3) := dk_182 1 237 (dk_at dksX1_attemptDay_0 11 rfl rfl)
theorem dX1_attemptDay_14 : decode cX1_attemptDay 14 = .ok (.ireturn, 1) := dk_172 (dk_at dksX1_attemptDay_0 14 rfl rfl)
abbrev cX1_wasDelivered : ByteArray := prog_1_method_61_code
def yX1_wasDelivered : MethodName := ⟨RX1, "wasDelivered", "(I)Z"⟩
def dkwX1_wasDelivered_0 : List UInt8 := [42, 180, 0, 66, 27, 184, 0, 162, 192, 1, 153, 182, 1, 152, 172]
abbrev dktX1_wasDelivered_0 : List UInt8 := dkwX1_wasDelivered_0 ++ []
theorem dksX1_wasDelivered_0 : cX1_wasDelivered.data.toList.drop 0 = dktX1_wasDelivered_0 := by decide +kernel
theorem dX1_wasDelivered_0 : decode cX1_wasDelivered 0 = .ok (.aload_n 0, 1) := dk_42 (dk_at dksX1_wasDelivered_0 0 rfl rfl)
theorem dX1_wasDelivered_1 : decode cX1_wasDelivered 1 = .ok (.getfield 66, 3) := dk_180 0 66 (dk_at dksX1_wasDelivered_0 1 rfl rfl)
theorem dX1_wasDelivered_4 : decode cX1_wasDelivered 4 = .ok (.iload_n 1, 1) := dk_27 (dk_at dksX1_wasDelivered_0 4 rfl rfl)
theorem dX1_wasDelivered_5 : decode cX1_wasDelivered 5 = .ok (.invokestatic 162, 3) := dk_184 0 162 (dk_at dksX1_wasDelivered_0 5 rfl rfl)
theorem dX1_wasDelivered_8 : decode cX1_wasDelivered 8 = .ok (.checkcast 409, 3) := dk_192 1 153 (dk_at dksX1_wasDelivered_0 8 rfl rfl)
theorem dX1_wasDelivered_11 : decode cX1_wasDelivered 11 = .ok (.invokevirtual 408, 3) := dk_182 1 152 (dk_at dksX1_wasDelivered_0 11 rfl rfl)
theorem dX1_wasDelivered_14 : decode cX1_wasDelivered 14 = .ok (.ireturn, 1) := dk_172 (dk_at dksX1_wasDelivered_0 14 rfl rfl)
abbrev cX1_claim : ByteArray := prog_1_method_62_code
def yX1_claim : MethodName := ⟨RX1, "claim", "(III)I"⟩
def dkwX1_claim_4 : List UInt8 := [185, 0, 85, 1, 0, 172]
abbrev dktX1_claim_4 : List UInt8 := dkwX1_claim_4 ++ []
def dkwX1_claim_3 : List UInt8 := [183, 1, 247, 185, 0, 155, 2, 0, 87, 25, 4, 42, 180, 1, 174, 182, 1, 248, 25, 4, 180, 1, 242]
abbrev dktX1_claim_3 : List UInt8 := dkwX1_claim_3 ++ dktX1_claim_4
def dkwX1_claim_2 : List UInt8 := [153, 0, 7, 4, 167, 0, 4, 3, 184, 0, 110, 25, 4, 180, 1, 242, 187, 1, 245, 89, 27, 29]
abbrev dktX1_claim_2 : List UInt8 := dkwX1_claim_2 ++ dktX1_claim_3
def dkwX1_claim_1 : List UInt8 := [180, 1, 93, 2, 160, 0, 27, 25, 4, 27, 182, 1, 239, 2, 160, 0, 17, 42, 27, 28, 29, 182, 1, 108]
abbrev dktX1_claim_1 : List UInt8 := dkwX1_claim_1 ++ dktX1_claim_2
def dkwX1_claim_0 : List UInt8 := [42, 180, 0, 50, 28, 184, 0, 162, 192, 0, 113, 58, 4, 42, 29, 182, 0, 166, 27, 184, 0, 207, 25, 4]
abbrev dktX1_claim_0 : List UInt8 := dkwX1_claim_0 ++ dktX1_claim_1
theorem dksX1_claim_0 : cX1_claim.data.toList.drop 0 = dktX1_claim_0 := by decide +kernel
theorem dksX1_claim_1 : cX1_claim.data.toList.drop 24 = dktX1_claim_1 := dk_seg dksX1_claim_0 24 rfl rfl
theorem dksX1_claim_2 : cX1_claim.data.toList.drop 48 = dktX1_claim_2 := dk_seg dksX1_claim_1 24 rfl rfl
theorem dksX1_claim_3 : cX1_claim.data.toList.drop 70 = dktX1_claim_3 := dk_seg dksX1_claim_2 22 rfl rfl
theorem dksX1_claim_4 : cX1_claim.data.toList.drop 93 = dktX1_claim_4 := dk_seg dksX1_claim_3 23 rfl rfl
theorem dX1_claim_0 : decode cX1_claim 0 = .ok (.aload_n 0, 1) := dk_42 (dk_at dksX1_claim_0 0 rfl rfl)
theorem dX1_claim_1 : decode cX1_claim 1 = .ok (.getfield 50, 3) := dk_180 0 50 (dk_at dksX1_claim_0 1 rfl rfl)
theorem dX1_claim_4 : decode cX1_claim 4 = .ok (.iload_n 2, 1) := dk_28 (dk_at dksX1_claim_0 4 rfl rfl)
theorem dX1_claim_5 : decode cX1_claim 5 = .ok (.invokestatic 162, 3) := dk_184 0 162 (dk_at dksX1_claim_0 5 rfl rfl)
theorem dX1_claim_8 : decode cX1_claim 8 = .ok (.checkcast 113, 3) := dk_192 0 113 (dk_at dksX1_claim_0 8 rfl rfl)
theorem dX1_claim_11 : decode cX1_claim 11 = .ok (.astore 4, 2) := dk_58 4 (dk_at dksX1_claim_0 11 rfl rfl)
theorem dX1_claim_13 : decode cX1_claim 13 = .ok (.aload_n 0, 1) := dk_42 (dk_at dksX1_claim_0 13 rfl rfl)
theorem dX1_claim_14 : decode cX1_claim 14 = .ok (.iload_n 3, 1) := dk_29 (dk_at dksX1_claim_0 14 rfl rfl)
theorem dX1_claim_15 : decode cX1_claim 15 = .ok (.invokevirtual 166, 3) := dk_182 0 166 (dk_at dksX1_claim_0 15 rfl rfl)
theorem dX1_claim_18 : decode cX1_claim 18 = .ok (.iload_n 1, 1) := dk_27 (dk_at dksX1_claim_0 18 rfl rfl)
theorem dX1_claim_19 : decode cX1_claim 19 = .ok (.invokestatic 207, 3) := dk_184 0 207 (dk_at dksX1_claim_0 19 rfl rfl)
theorem dX1_claim_22 : decode cX1_claim 22 = .ok (.aload 4, 2) := dk_25 4 (dk_at dksX1_claim_0 22 rfl rfl)
theorem dX1_claim_24 : decode cX1_claim 24 = .ok (.getfield 349, 3) := dk_180 1 93 (dk_at dksX1_claim_1 0 rfl rfl)
theorem dX1_claim_27 : decode cX1_claim 27 = .ok (.iconst (-1), 1) := dk_2 (dk_at dksX1_claim_1 3 rfl rfl)
theorem dX1_claim_28 : decode cX1_claim 28 = .ok (.if_icmp .ne 27, 3) := dk_160 0 27 (dk_at dksX1_claim_1 4 rfl rfl)
theorem dX1_claim_31 : decode cX1_claim 31 = .ok (.aload 4, 2) := dk_25 4 (dk_at dksX1_claim_1 7 rfl rfl)
theorem dX1_claim_33 : decode cX1_claim 33 = .ok (.iload_n 1, 1) := dk_27 (dk_at dksX1_claim_1 9 rfl rfl)
theorem dX1_claim_34 : decode cX1_claim 34 = .ok (.invokevirtual 495, 3) := dk_182 1 239 (dk_at dksX1_claim_1 10 rfl rfl)
theorem dX1_claim_37 : decode cX1_claim 37 = .ok (.iconst (-1), 1) := dk_2 (dk_at dksX1_claim_1 13 rfl rfl)
theorem dX1_claim_38 : decode cX1_claim 38 = .ok (.if_icmp .ne 17, 3) := dk_160 0 17 (dk_at dksX1_claim_1 14 rfl rfl)
theorem dX1_claim_41 : decode cX1_claim 41 = .ok (.aload_n 0, 1) := dk_42 (dk_at dksX1_claim_1 17 rfl rfl)
theorem dX1_claim_42 : decode cX1_claim 42 = .ok (.iload_n 1, 1) := dk_27 (dk_at dksX1_claim_1 18 rfl rfl)
theorem dX1_claim_43 : decode cX1_claim 43 = .ok (.iload_n 2, 1) := dk_28 (dk_at dksX1_claim_1 19 rfl rfl)
theorem dX1_claim_44 : decode cX1_claim 44 = .ok (.iload_n 3, 1) := dk_29 (dk_at dksX1_claim_1 20 rfl rfl)
theorem dX1_claim_45 : decode cX1_claim 45 = .ok (.invokevirtual 364, 3) := dk_182 1 108 (dk_at dksX1_claim_1 21 rfl rfl)
theorem dX1_claim_48 : decode cX1_claim 48 = .ok (.ifCond .eq 7, 3) := dk_153 0 7 (dk_at dksX1_claim_2 0 rfl rfl)
theorem dX1_claim_51 : decode cX1_claim 51 = .ok (.iconst 1, 1) := dk_4 (dk_at dksX1_claim_2 3 rfl rfl)
theorem dX1_claim_52 : decode cX1_claim 52 = .ok (.goto 4, 3) := dk_167 0 4 (dk_at dksX1_claim_2 4 rfl rfl)
theorem dX1_claim_55 : decode cX1_claim 55 = .ok (.iconst 0, 1) := dk_3 (dk_at dksX1_claim_2 7 rfl rfl)
theorem dX1_claim_56 : decode cX1_claim 56 = .ok (.invokestatic 110, 3) := dk_184 0 110 (dk_at dksX1_claim_2 8 rfl rfl)
theorem dX1_claim_59 : decode cX1_claim 59 = .ok (.aload 4, 2) := dk_25 4 (dk_at dksX1_claim_2 11 rfl rfl)
theorem dX1_claim_61 : decode cX1_claim 61 = .ok (.getfield 498, 3) := dk_180 1 242 (dk_at dksX1_claim_2 13 rfl rfl)
theorem dX1_claim_64 : decode cX1_claim 64 = .ok (.new 501, 3) := dk_187 1 245 (dk_at dksX1_claim_2 16 rfl rfl)
theorem dX1_claim_67 : decode cX1_claim 67 = .ok (.dup, 1) := dk_89 (dk_at dksX1_claim_2 19 rfl rfl)
theorem dX1_claim_68 : decode cX1_claim 68 = .ok (.iload_n 1, 1) := dk_27 (dk_at dksX1_claim_2 20 rfl rfl)
theorem dX1_claim_69 : decode cX1_claim 69 = .ok (.iload_n 3, 1) := dk_29 (dk_at dksX1_claim_2 21 rfl rfl)
theorem dX1_claim_70 : decode cX1_claim 70 = .ok (.invokespecial 503, 3) := dk_183 1 247 (dk_at dksX1_claim_3 0 rfl rfl)
theorem dX1_claim_73 : decode cX1_claim 73 = .ok (.invokeinterface 155 2, 5) := by decide +kernel
theorem dX1_claim_78 : decode cX1_claim 78 = .ok (.pop, 1) := dk_87 (dk_at dksX1_claim_3 8 rfl rfl)
theorem dX1_claim_79 : decode cX1_claim 79 = .ok (.aload 4, 2) := dk_25 4 (dk_at dksX1_claim_3 9 rfl rfl)
theorem dX1_claim_81 : decode cX1_claim 81 = .ok (.aload_n 0, 1) := dk_42 (dk_at dksX1_claim_3 11 rfl rfl)
theorem dX1_claim_82 : decode cX1_claim 82 = .ok (.getfield 430, 3) := dk_180 1 174 (dk_at dksX1_claim_3 12 rfl rfl)
theorem dX1_claim_85 : decode cX1_claim 85 = .ok (.invokevirtual 504, 3) := dk_182 1 248 (dk_at dksX1_claim_3 15 rfl rfl)
theorem dX1_claim_88 : decode cX1_claim 88 = .ok (.aload 4, 2) := dk_25 4 (dk_at dksX1_claim_3 18 rfl rfl)
theorem dX1_claim_90 : decode cX1_claim 90 = .ok (.getfield 498, 3) := dk_180 1 242 (dk_at dksX1_claim_3 20 rfl rfl)
theorem dX1_claim_93 : decode cX1_claim 93 = .ok (.invokeinterface 85 1, 5) := by decide +kernel
theorem dX1_claim_98 : decode cX1_claim 98 = .ok (.ireturn, 1) := dk_172 (dk_at dksX1_claim_4 5 rfl rfl)
abbrev cX1_withdraw : ByteArray := prog_1_method_63_code
def yX1_withdraw : MethodName := ⟨RX1, "withdraw", "(II)I"⟩
def dkwX1_withdraw_2 : List UInt8 := [185, 1, 251, 2, 0, 192, 1, 245, 58, 5, 45, 42, 180, 1, 174, 182, 1, 248, 25, 5, 182, 1, 254, 172]
abbrev dktX1_withdraw_2 : List UInt8 := dkwX1_withdraw_2 ++ []
def dkwX1_withdraw_1 : List UInt8 := [21, 4, 2, 159, 0, 7, 4, 167, 0, 4, 3, 184, 0, 110, 45, 180, 1, 242, 21, 4]
abbrev dktX1_withdraw_1 : List UInt8 := dkwX1_withdraw_1 ++ dktX1_withdraw_2
def dkwX1_withdraw_0 : List UInt8 := [42, 180, 0, 50, 28, 184, 0, 162, 192, 0, 113, 78, 27, 184, 0, 207, 45, 27, 182, 1, 239, 54, 4]
abbrev dktX1_withdraw_0 : List UInt8 := dkwX1_withdraw_0 ++ dktX1_withdraw_1
theorem dksX1_withdraw_0 : cX1_withdraw.data.toList.drop 0 = dktX1_withdraw_0 := by decide +kernel
theorem dksX1_withdraw_1 : cX1_withdraw.data.toList.drop 23 = dktX1_withdraw_1 := dk_seg dksX1_withdraw_0 23 rfl rfl
theorem dksX1_withdraw_2 : cX1_withdraw.data.toList.drop 43 = dktX1_withdraw_2 := dk_seg dksX1_withdraw_1 20 rfl rfl
theorem dX1_withdraw_0 : decode cX1_withdraw 0 = .ok (.aload_n 0, 1) := dk_42 (dk_at dksX1_withdraw_0 0 rfl rfl)
theorem dX1_withdraw_1 : decode cX1_withdraw 1 = .ok (.getfield 50, 3) := dk_180 0 50 (dk_at dksX1_withdraw_0 1 rfl rfl)
theorem dX1_withdraw_4 : decode cX1_withdraw 4 = .ok (.iload_n 2, 1) := dk_28 (dk_at dksX1_withdraw_0 4 rfl rfl)
theorem dX1_withdraw_5 : decode cX1_withdraw 5 = .ok (.invokestatic 162, 3) := dk_184 0 162 (dk_at dksX1_withdraw_0 5 rfl rfl)
theorem dX1_withdraw_8 : decode cX1_withdraw 8 = .ok (.checkcast 113, 3) := dk_192 0 113 (dk_at dksX1_withdraw_0 8 rfl rfl)
theorem dX1_withdraw_11 : decode cX1_withdraw 11 = .ok (.astore_n 3, 1) := dk_78 (dk_at dksX1_withdraw_0 11 rfl rfl)
theorem dX1_withdraw_12 : decode cX1_withdraw 12 = .ok (.iload_n 1, 1) := dk_27 (dk_at dksX1_withdraw_0 12 rfl rfl)
theorem dX1_withdraw_13 : decode cX1_withdraw 13 = .ok (.invokestatic 207, 3) := dk_184 0 207 (dk_at dksX1_withdraw_0 13 rfl rfl)
theorem dX1_withdraw_16 : decode cX1_withdraw 16 = .ok (.aload_n 3, 1) := dk_45 (dk_at dksX1_withdraw_0 16 rfl rfl)
theorem dX1_withdraw_17 : decode cX1_withdraw 17 = .ok (.iload_n 1, 1) := dk_27 (dk_at dksX1_withdraw_0 17 rfl rfl)
theorem dX1_withdraw_18 : decode cX1_withdraw 18 = .ok (.invokevirtual 495, 3) := dk_182 1 239 (dk_at dksX1_withdraw_0 18 rfl rfl)
theorem dX1_withdraw_21 : decode cX1_withdraw 21 = .ok (.istore 4, 2) := dk_54 4 (dk_at dksX1_withdraw_0 21 rfl rfl)
theorem dX1_withdraw_23 : decode cX1_withdraw 23 = .ok (.iload 4, 2) := dk_21 4 (dk_at dksX1_withdraw_1 0 rfl rfl)
theorem dX1_withdraw_25 : decode cX1_withdraw 25 = .ok (.iconst (-1), 1) := dk_2 (dk_at dksX1_withdraw_1 2 rfl rfl)
theorem dX1_withdraw_26 : decode cX1_withdraw 26 = .ok (.if_icmp .eq 7, 3) := dk_159 0 7 (dk_at dksX1_withdraw_1 3 rfl rfl)
theorem dX1_withdraw_29 : decode cX1_withdraw 29 = .ok (.iconst 1, 1) := dk_4 (dk_at dksX1_withdraw_1 6 rfl rfl)
theorem dX1_withdraw_30 : decode cX1_withdraw 30 = .ok (.goto 4, 3) := dk_167 0 4 (dk_at dksX1_withdraw_1 7 rfl rfl)
theorem dX1_withdraw_33 : decode cX1_withdraw 33 = .ok (.iconst 0, 1) := dk_3 (dk_at dksX1_withdraw_1 10 rfl rfl)
theorem dX1_withdraw_34 : decode cX1_withdraw 34 = .ok (.invokestatic 110, 3) := dk_184 0 110 (dk_at dksX1_withdraw_1 11 rfl rfl)
theorem dX1_withdraw_37 : decode cX1_withdraw 37 = .ok (.aload_n 3, 1) := dk_45 (dk_at dksX1_withdraw_1 14 rfl rfl)
theorem dX1_withdraw_38 : decode cX1_withdraw 38 = .ok (.getfield 498, 3) := dk_180 1 242 (dk_at dksX1_withdraw_1 15 rfl rfl)
theorem dX1_withdraw_41 : decode cX1_withdraw 41 = .ok (.iload 4, 2) := dk_21 4 (dk_at dksX1_withdraw_1 18 rfl rfl)
theorem dX1_withdraw_43 : decode cX1_withdraw 43 = .ok (.invokeinterface 507 2, 5) := by decide +kernel
theorem dX1_withdraw_48 : decode cX1_withdraw 48 = .ok (.checkcast 501, 3) := dk_192 1 245 (dk_at dksX1_withdraw_2 5 rfl rfl)
theorem dX1_withdraw_51 : decode cX1_withdraw 51 = .ok (.astore 5, 2) := dk_58 5 (dk_at dksX1_withdraw_2 8 rfl rfl)
theorem dX1_withdraw_53 : decode cX1_withdraw 53 = .ok (.aload_n 3, 1) := dk_45 (dk_at dksX1_withdraw_2 10 rfl rfl)
theorem dX1_withdraw_54 : decode cX1_withdraw 54 = .ok (.aload_n 0, 1) := dk_42 (dk_at dksX1_withdraw_2 11 rfl rfl)
theorem dX1_withdraw_55 : decode cX1_withdraw 55 = .ok (.getfield 430, 3) := dk_180 1 174 (dk_at dksX1_withdraw_2 12 rfl rfl)
theorem dX1_withdraw_58 : decode cX1_withdraw 58 = .ok (.invokevirtual 504, 3) := dk_182 1 248 (dk_at dksX1_withdraw_2 15 rfl rfl)
theorem dX1_withdraw_61 : decode cX1_withdraw 61 = .ok (.aload 5, 2) := dk_25 5 (dk_at dksX1_withdraw_2 18 rfl rfl)
theorem dX1_withdraw_63 : decode cX1_withdraw 63 = .ok (.invokevirtual 510, 3) := dk_182 1 254 (dk_at dksX1_withdraw_2 20 rfl rfl)
theorem dX1_withdraw_66 : decode cX1_withdraw 66 = .ok (.ireturn, 1) := dk_172 (dk_at dksX1_withdraw_2 23 rfl rfl)
abbrev cX1_claimOf : ByteArray := prog_1_method_64_code
def yX1_claimOf : MethodName := ⟨RX1, "claimOf", "(II)I"⟩
def dkwX1_claimOf_2 : List UInt8 := [182, 1, 254, 172]
abbrev dktX1_claimOf_2 : List UInt8 := dkwX1_claimOf_2 ++ []
def dkwX1_claimOf_1 : List UInt8 := [21, 4, 2, 160, 0, 7, 2, 167, 0, 20, 45, 180, 1, 242, 21, 4, 185, 0, 99, 2, 0, 192, 1, 245]
abbrev dktX1_claimOf_1 : List UInt8 := dkwX1_claimOf_1 ++ dktX1_claimOf_2
def dkwX1_claimOf_0 : List UInt8 := [42, 180, 0, 50, 28, 184, 0, 162, 192, 0, 113, 78, 27, 184, 0, 207, 45, 27, 182, 1, 239, 54, 4]
abbrev dktX1_claimOf_0 : List UInt8 := dkwX1_claimOf_0 ++ dktX1_claimOf_1
theorem dksX1_claimOf_0 : cX1_claimOf.data.toList.drop 0 = dktX1_claimOf_0 := by decide +kernel
theorem dksX1_claimOf_1 : cX1_claimOf.data.toList.drop 23 = dktX1_claimOf_1 := dk_seg dksX1_claimOf_0 23 rfl rfl
theorem dksX1_claimOf_2 : cX1_claimOf.data.toList.drop 47 = dktX1_claimOf_2 := dk_seg dksX1_claimOf_1 24 rfl rfl
theorem dX1_claimOf_0 : decode cX1_claimOf 0 = .ok (.aload_n 0, 1) := dk_42 (dk_at dksX1_claimOf_0 0 rfl rfl)
theorem dX1_claimOf_1 : decode cX1_claimOf 1 = .ok (.getfield 50, 3) := dk_180 0 50 (dk_at dksX1_claimOf_0 1 rfl rfl)
theorem dX1_claimOf_4 : decode cX1_claimOf 4 = .ok (.iload_n 2, 1) := dk_28 (dk_at dksX1_claimOf_0 4 rfl rfl)
theorem dX1_claimOf_5 : decode cX1_claimOf 5 = .ok (.invokestatic 162, 3) := dk_184 0 162 (dk_at dksX1_claimOf_0 5 rfl rfl)
theorem dX1_claimOf_8 : decode cX1_claimOf 8 = .ok (.checkcast 113, 3) := dk_192 0 113 (dk_at dksX1_claimOf_0 8 rfl rfl)
theorem dX1_claimOf_11 : decode cX1_claimOf 11 = .ok (.astore_n 3, 1) := dk_78 (dk_at dksX1_claimOf_0 11 rfl rfl)
theorem dX1_claimOf_12 : decode cX1_claimOf 12 = .ok (.iload_n 1, 1) := dk_27 (dk_at dksX1_claimOf_0 12 rfl rfl)
theorem dX1_claimOf_13 : decode cX1_claimOf 13 = .ok (.invokestatic 207, 3) := dk_184 0 207 (dk_at dksX1_claimOf_0 13 rfl rfl)
theorem dX1_claimOf_16 : decode cX1_claimOf 16 = .ok (.aload_n 3, 1) := dk_45 (dk_at dksX1_claimOf_0 16 rfl rfl)
theorem dX1_claimOf_17 : decode cX1_claimOf 17 = .ok (.iload_n 1, 1) := dk_27 (dk_at dksX1_claimOf_0 17 rfl rfl)
theorem dX1_claimOf_18 : decode cX1_claimOf 18 = .ok (.invokevirtual 495, 3) := dk_182 1 239 (dk_at dksX1_claimOf_0 18 rfl rfl)
theorem dX1_claimOf_21 : decode cX1_claimOf 21 = .ok (.istore 4, 2) := dk_54 4 (dk_at dksX1_claimOf_0 21 rfl rfl)
theorem dX1_claimOf_23 : decode cX1_claimOf 23 = .ok (.iload 4, 2) := dk_21 4 (dk_at dksX1_claimOf_1 0 rfl rfl)
theorem dX1_claimOf_25 : decode cX1_claimOf 25 = .ok (.iconst (-1), 1) := dk_2 (dk_at dksX1_claimOf_1 2 rfl rfl)
theorem dX1_claimOf_26 : decode cX1_claimOf 26 = .ok (.if_icmp .ne 7, 3) := dk_160 0 7 (dk_at dksX1_claimOf_1 3 rfl rfl)
theorem dX1_claimOf_29 : decode cX1_claimOf 29 = .ok (.iconst (-1), 1) := dk_2 (dk_at dksX1_claimOf_1 6 rfl rfl)
theorem dX1_claimOf_30 : decode cX1_claimOf 30 = .ok (.goto 20, 3) := dk_167 0 20 (dk_at dksX1_claimOf_1 7 rfl rfl)
theorem dX1_claimOf_33 : decode cX1_claimOf 33 = .ok (.aload_n 3, 1) := dk_45 (dk_at dksX1_claimOf_1 10 rfl rfl)
theorem dX1_claimOf_34 : decode cX1_claimOf 34 = .ok (.getfield 498, 3) := dk_180 1 242 (dk_at dksX1_claimOf_1 11 rfl rfl)
theorem dX1_claimOf_37 : decode cX1_claimOf 37 = .ok (.iload 4, 2) := dk_21 4 (dk_at dksX1_claimOf_1 14 rfl rfl)
theorem dX1_claimOf_39 : decode cX1_claimOf 39 = .ok (.invokeinterface 99 2, 5) := by decide +kernel
theorem dX1_claimOf_44 : decode cX1_claimOf 44 = .ok (.checkcast 501, 3) := dk_192 1 245 (dk_at dksX1_claimOf_1 21 rfl rfl)
theorem dX1_claimOf_47 : decode cX1_claimOf 47 = .ok (.invokevirtual 510, 3) := dk_182 1 254 (dk_at dksX1_claimOf_2 0 rfl rfl)
theorem dX1_claimOf_50 : decode cX1_claimOf 50 = .ok (.ireturn, 1) := dk_172 (dk_at dksX1_claimOf_2 3 rfl rfl)
abbrev cX1_disputeDay : ByteArray := prog_1_method_65_code
def yX1_disputeDay : MethodName := ⟨RX1, "disputeDay", "(I)I"⟩
def dkwX1_disputeDay_0 : List UInt8 := [42, 180, 0, 50, 27, 184, 0, 162, 192, 0, 113, 180, 1, 86, 172]
abbrev dktX1_disputeDay_0 : List UInt8 := dkwX1_disputeDay_0 ++ []
theorem dksX1_disputeDay_0 : cX1_disputeDay.data.toList.drop 0 = dktX1_disputeDay_0 := by decide +kernel
theorem dX1_disputeDay_0 : decode cX1_disputeDay 0 = .ok (.aload_n 0, 1) := dk_42 (dk_at dksX1_disputeDay_0 0 rfl rfl)
theorem dX1_disputeDay_1 : decode cX1_disputeDay 1 = .ok (.getfield 50, 3) := dk_180 0 50 (dk_at dksX1_disputeDay_0 1 rfl rfl)
theorem dX1_disputeDay_4 : decode cX1_disputeDay 4 = .ok (.iload_n 1, 1) := dk_27 (dk_at dksX1_disputeDay_0 4 rfl rfl)
theorem dX1_disputeDay_5 : decode cX1_disputeDay 5 = .ok (.invokestatic 162, 3) := dk_184 0 162 (dk_at dksX1_disputeDay_0 5 rfl rfl)
theorem dX1_disputeDay_8 : decode cX1_disputeDay 8 = .ok (.checkcast 113, 3) := dk_192 0 113 (dk_at dksX1_disputeDay_0 8 rfl rfl)
theorem dX1_disputeDay_11 : decode cX1_disputeDay 11 = .ok (.getfield 342, 3) := dk_180 1 86 (dk_at dksX1_disputeDay_0 11 rfl rfl)
theorem dX1_disputeDay_14 : decode cX1_disputeDay 14 = .ok (.ireturn, 1) := dk_172 (dk_at dksX1_disputeDay_0 14 rfl rfl)
abbrev cX1_ruledStreet : ByteArray := prog_1_method_66_code
def yX1_ruledStreet : MethodName := ⟨RX1, "ruledStreet", "(I)I"⟩
def dkwX1_ruledStreet_0 : List UInt8 := [42, 180, 0, 50, 27, 184, 0, 162, 192, 0, 113, 180, 1, 93, 172]
abbrev dktX1_ruledStreet_0 : List UInt8 := dkwX1_ruledStreet_0 ++ []
theorem dksX1_ruledStreet_0 : cX1_ruledStreet.data.toList.drop 0 = dktX1_ruledStreet_0 := by decide +kernel
theorem dX1_ruledStreet_0 : decode cX1_ruledStreet 0 = .ok (.aload_n 0, 1) := dk_42 (dk_at dksX1_ruledStreet_0 0 rfl rfl)
theorem dX1_ruledStreet_1 : decode cX1_ruledStreet 1 = .ok (.getfield 50, 3) := dk_180 0 50 (dk_at dksX1_ruledStreet_0 1 rfl rfl)
theorem dX1_ruledStreet_4 : decode cX1_ruledStreet 4 = .ok (.iload_n 1, 1) := dk_27 (dk_at dksX1_ruledStreet_0 4 rfl rfl)
theorem dX1_ruledStreet_5 : decode cX1_ruledStreet 5 = .ok (.invokestatic 162, 3) := dk_184 0 162 (dk_at dksX1_ruledStreet_0 5 rfl rfl)
theorem dX1_ruledStreet_8 : decode cX1_ruledStreet 8 = .ok (.checkcast 113, 3) := dk_192 0 113 (dk_at dksX1_ruledStreet_0 8 rfl rfl)
theorem dX1_ruledStreet_11 : decode cX1_ruledStreet 11 = .ok (.getfield 349, 3) := dk_180 1 93 (dk_at dksX1_ruledStreet_0 11 rfl rfl)
theorem dX1_ruledStreet_14 : decode cX1_ruledStreet 14 = .ok (.ireturn, 1) := dk_172 (dk_at dksX1_ruledStreet_0 14 rfl rfl)
abbrev cX1_evidence : ByteArray := prog_1_method_68_code
def yX1_evidence : MethodName := ⟨RX1, "evidence", "(II)I"⟩
def dkwX1_evidence_0 : List UInt8 := [42, 180, 0, 50, 27, 184, 0, 162, 192, 0, 113, 78, 42, 28, 182, 0, 166, 42, 27, 28, 182, 1, 255, 172]
abbrev dktX1_evidence_0 : List UInt8 := dkwX1_evidence_0 ++ []
theorem dksX1_evidence_0 : cX1_evidence.data.toList.drop 0 = dktX1_evidence_0 := by decide +kernel
theorem dX1_evidence_0 : decode cX1_evidence 0 = .ok (.aload_n 0, 1) := dk_42 (dk_at dksX1_evidence_0 0 rfl rfl)
theorem dX1_evidence_1 : decode cX1_evidence 1 = .ok (.getfield 50, 3) := dk_180 0 50 (dk_at dksX1_evidence_0 1 rfl rfl)
theorem dX1_evidence_4 : decode cX1_evidence 4 = .ok (.iload_n 1, 1) := dk_27 (dk_at dksX1_evidence_0 4 rfl rfl)
theorem dX1_evidence_5 : decode cX1_evidence 5 = .ok (.invokestatic 162, 3) := dk_184 0 162 (dk_at dksX1_evidence_0 5 rfl rfl)
theorem dX1_evidence_8 : decode cX1_evidence 8 = .ok (.checkcast 113, 3) := dk_192 0 113 (dk_at dksX1_evidence_0 8 rfl rfl)
theorem dX1_evidence_11 : decode cX1_evidence 11 = .ok (.astore_n 3, 1) := dk_78 (dk_at dksX1_evidence_0 11 rfl rfl)
theorem dX1_evidence_12 : decode cX1_evidence 12 = .ok (.aload_n 0, 1) := dk_42 (dk_at dksX1_evidence_0 12 rfl rfl)
theorem dX1_evidence_13 : decode cX1_evidence 13 = .ok (.iload_n 2, 1) := dk_28 (dk_at dksX1_evidence_0 13 rfl rfl)
theorem dX1_evidence_14 : decode cX1_evidence 14 = .ok (.invokevirtual 166, 3) := dk_182 0 166 (dk_at dksX1_evidence_0 14 rfl rfl)
theorem dX1_evidence_17 : decode cX1_evidence 17 = .ok (.aload_n 0, 1) := dk_42 (dk_at dksX1_evidence_0 17 rfl rfl)
theorem dX1_evidence_18 : decode cX1_evidence 18 = .ok (.iload_n 1, 1) := dk_27 (dk_at dksX1_evidence_0 18 rfl rfl)
theorem dX1_evidence_19 : decode cX1_evidence 19 = .ok (.iload_n 2, 1) := dk_28 (dk_at dksX1_evidence_0 19 rfl rfl)
theorem dX1_evidence_20 : decode cX1_evidence 20 = .ok (.invokevirtual 511, 3) := dk_182 1 255 (dk_at dksX1_evidence_0 20 rfl rfl)
theorem dX1_evidence_23 : decode cX1_evidence 23 = .ok (.ireturn, 1) := dk_172 (dk_at dksX1_evidence_0 23 rfl rfl)
abbrev cX1_appeal : ByteArray := prog_1_method_71_code
def yX1_appeal : MethodName := ⟨RX1, "appeal", "(II)Z"⟩
def dkwX1_appeal_5 : List UInt8 := [21, 5, 172]
abbrev dktX1_appeal_5 : List UInt8 := dkwX1_appeal_5 ++ []
def dkwX1_appeal_4 : List UInt8 := [167, 0, 4, 3, 54, 5, 45, 21, 5, 153, 0, 7, 2, 167, 0, 7, 45, 180, 1, 93, 181, 1, 93]
abbrev dktX1_appeal_4 : List UInt8 := dkwX1_appeal_4 ++ dktX1_appeal_5
def dkwX1_appeal_3 : List UInt8 := [181, 2, 9, 42, 28, 21, 4, 182, 1, 255, 42, 28, 45, 180, 1, 93, 182, 1, 255, 164, 0, 7, 4]
abbrev dktX1_appeal_3 : List UInt8 := dkwX1_appeal_3 ++ dktX1_appeal_4
def dkwX1_appeal_2 : List UInt8 := [180, 2, 9, 154, 0, 13, 21, 4, 2, 159, 0, 7, 4, 167, 0, 4, 3, 184, 0, 110, 45, 4]
abbrev dktX1_appeal_2 : List UInt8 := dkwX1_appeal_2 ++ dktX1_appeal_3
def dkwX1_appeal_1 : List UInt8 := [45, 180, 1, 93, 2, 159, 0, 34, 42, 180, 1, 174, 45, 180, 2, 2, 100, 16, 10, 163, 0, 20, 45]
abbrev dktX1_appeal_1 : List UInt8 := dkwX1_appeal_1 ++ dktX1_appeal_2
def dkwX1_appeal_0 : List UInt8 := [42, 180, 0, 50, 28, 184, 0, 162, 192, 0, 113, 78, 27, 184, 0, 207, 42, 27, 45, 182, 2, 5, 54, 4]
abbrev dktX1_appeal_0 : List UInt8 := dkwX1_appeal_0 ++ dktX1_appeal_1
theorem dksX1_appeal_0 : cX1_appeal.data.toList.drop 0 = dktX1_appeal_0 := by decide +kernel
theorem dksX1_appeal_1 : cX1_appeal.data.toList.drop 24 = dktX1_appeal_1 := dk_seg dksX1_appeal_0 24 rfl rfl
theorem dksX1_appeal_2 : cX1_appeal.data.toList.drop 47 = dktX1_appeal_2 := dk_seg dksX1_appeal_1 23 rfl rfl
theorem dksX1_appeal_3 : cX1_appeal.data.toList.drop 69 = dktX1_appeal_3 := dk_seg dksX1_appeal_2 22 rfl rfl
theorem dksX1_appeal_4 : cX1_appeal.data.toList.drop 92 = dktX1_appeal_4 := dk_seg dksX1_appeal_3 23 rfl rfl
theorem dksX1_appeal_5 : cX1_appeal.data.toList.drop 115 = dktX1_appeal_5 := dk_seg dksX1_appeal_4 23 rfl rfl
theorem dX1_appeal_0 : decode cX1_appeal 0 = .ok (.aload_n 0, 1) := dk_42 (dk_at dksX1_appeal_0 0 rfl rfl)
theorem dX1_appeal_1 : decode cX1_appeal 1 = .ok (.getfield 50, 3) := dk_180 0 50 (dk_at dksX1_appeal_0 1 rfl rfl)
theorem dX1_appeal_4 : decode cX1_appeal 4 = .ok (.iload_n 2, 1) := dk_28 (dk_at dksX1_appeal_0 4 rfl rfl)
theorem dX1_appeal_5 : decode cX1_appeal 5 = .ok (.invokestatic 162, 3) := dk_184 0 162 (dk_at dksX1_appeal_0 5 rfl rfl)
theorem dX1_appeal_8 : decode cX1_appeal 8 = .ok (.checkcast 113, 3) := dk_192 0 113 (dk_at dksX1_appeal_0 8 rfl rfl)
theorem dX1_appeal_11 : decode cX1_appeal 11 = .ok (.astore_n 3, 1) := dk_78 (dk_at dksX1_appeal_0 11 rfl rfl)
theorem dX1_appeal_12 : decode cX1_appeal 12 = .ok (.iload_n 1, 1) := dk_27 (dk_at dksX1_appeal_0 12 rfl rfl)
theorem dX1_appeal_13 : decode cX1_appeal 13 = .ok (.invokestatic 207, 3) := dk_184 0 207 (dk_at dksX1_appeal_0 13 rfl rfl)
theorem dX1_appeal_16 : decode cX1_appeal 16 = .ok (.aload_n 0, 1) := dk_42 (dk_at dksX1_appeal_0 16 rfl rfl)
theorem dX1_appeal_17 : decode cX1_appeal 17 = .ok (.iload_n 1, 1) := dk_27 (dk_at dksX1_appeal_0 17 rfl rfl)
theorem dX1_appeal_18 : decode cX1_appeal 18 = .ok (.aload_n 3, 1) := dk_45 (dk_at dksX1_appeal_0 18 rfl rfl)
theorem dX1_appeal_19 : decode cX1_appeal 19 = .ok (.invokevirtual 517, 3) := dk_182 2 5 (dk_at dksX1_appeal_0 19 rfl rfl)
theorem dX1_appeal_22 : decode cX1_appeal 22 = .ok (.istore 4, 2) := dk_54 4 (dk_at dksX1_appeal_0 22 rfl rfl)
theorem dX1_appeal_24 : decode cX1_appeal 24 = .ok (.aload_n 3, 1) := dk_45 (dk_at dksX1_appeal_1 0 rfl rfl)
theorem dX1_appeal_25 : decode cX1_appeal 25 = .ok (.getfield 349, 3) := dk_180 1 93 (dk_at dksX1_appeal_1 1 rfl rfl)
theorem dX1_appeal_28 : decode cX1_appeal 28 = .ok (.iconst (-1), 1) := dk_2 (dk_at dksX1_appeal_1 4 rfl rfl)
theorem dX1_appeal_29 : decode cX1_appeal 29 = .ok (.if_icmp .eq 34, 3) := dk_159 0 34 (dk_at dksX1_appeal_1 5 rfl rfl)
theorem dX1_appeal_32 : decode cX1_appeal 32 = .ok (.aload_n 0, 1) := dk_42 (dk_at dksX1_appeal_1 8 rfl rfl)
theorem dX1_appeal_33 : decode cX1_appeal 33 = .ok (.getfield 430, 3) := dk_180 1 174 (dk_at dksX1_appeal_1 9 rfl rfl)
theorem dX1_appeal_36 : decode cX1_appeal 36 = .ok (.aload_n 3, 1) := dk_45 (dk_at dksX1_appeal_1 12 rfl rfl)
theorem dX1_appeal_37 : decode cX1_appeal 37 = .ok (.getfield 514, 3) := dk_180 2 2 (dk_at dksX1_appeal_1 13 rfl rfl)
theorem dX1_appeal_40 : decode cX1_appeal 40 = .ok (.isub, 1) := dk_100 (dk_at dksX1_appeal_1 16 rfl rfl)
theorem dX1_appeal_41 : decode cX1_appeal 41 = .ok (.bipush 10, 2) := dk_16 10 (dk_at dksX1_appeal_1 17 rfl rfl)
theorem dX1_appeal_43 : decode cX1_appeal 43 = .ok (.if_icmp .gt 20, 3) := dk_163 0 20 (dk_at dksX1_appeal_1 19 rfl rfl)
theorem dX1_appeal_46 : decode cX1_appeal 46 = .ok (.aload_n 3, 1) := dk_45 (dk_at dksX1_appeal_1 22 rfl rfl)
theorem dX1_appeal_47 : decode cX1_appeal 47 = .ok (.getfield 521, 3) := dk_180 2 9 (dk_at dksX1_appeal_2 0 rfl rfl)
theorem dX1_appeal_50 : decode cX1_appeal 50 = .ok (.ifCond .ne 13, 3) := dk_154 0 13 (dk_at dksX1_appeal_2 3 rfl rfl)
theorem dX1_appeal_53 : decode cX1_appeal 53 = .ok (.iload 4, 2) := dk_21 4 (dk_at dksX1_appeal_2 6 rfl rfl)
theorem dX1_appeal_55 : decode cX1_appeal 55 = .ok (.iconst (-1), 1) := dk_2 (dk_at dksX1_appeal_2 8 rfl rfl)
theorem dX1_appeal_56 : decode cX1_appeal 56 = .ok (.if_icmp .eq 7, 3) := dk_159 0 7 (dk_at dksX1_appeal_2 9 rfl rfl)
theorem dX1_appeal_59 : decode cX1_appeal 59 = .ok (.iconst 1, 1) := dk_4 (dk_at dksX1_appeal_2 12 rfl rfl)
theorem dX1_appeal_60 : decode cX1_appeal 60 = .ok (.goto 4, 3) := dk_167 0 4 (dk_at dksX1_appeal_2 13 rfl rfl)
theorem dX1_appeal_63 : decode cX1_appeal 63 = .ok (.iconst 0, 1) := dk_3 (dk_at dksX1_appeal_2 16 rfl rfl)
theorem dX1_appeal_64 : decode cX1_appeal 64 = .ok (.invokestatic 110, 3) := dk_184 0 110 (dk_at dksX1_appeal_2 17 rfl rfl)
theorem dX1_appeal_67 : decode cX1_appeal 67 = .ok (.aload_n 3, 1) := dk_45 (dk_at dksX1_appeal_2 20 rfl rfl)
theorem dX1_appeal_68 : decode cX1_appeal 68 = .ok (.iconst 1, 1) := dk_4 (dk_at dksX1_appeal_2 21 rfl rfl)
theorem dX1_appeal_69 : decode cX1_appeal 69 = .ok (.putfield 521, 3) := dk_181 2 9 (dk_at dksX1_appeal_3 0 rfl rfl)
theorem dX1_appeal_72 : decode cX1_appeal 72 = .ok (.aload_n 0, 1) := dk_42 (dk_at dksX1_appeal_3 3 rfl rfl)
theorem dX1_appeal_73 : decode cX1_appeal 73 = .ok (.iload_n 2, 1) := dk_28 (dk_at dksX1_appeal_3 4 rfl rfl)
theorem dX1_appeal_74 : decode cX1_appeal 74 = .ok (.iload 4, 2) := dk_21 4 (dk_at dksX1_appeal_3 5 rfl rfl)
theorem dX1_appeal_76 : decode cX1_appeal 76 = .ok (.invokevirtual 511, 3) := dk_182 1 255 (dk_at dksX1_appeal_3 7 rfl rfl)
theorem dX1_appeal_79 : decode cX1_appeal 79 = .ok (.aload_n 0, 1) := dk_42 (dk_at dksX1_appeal_3 10 rfl rfl)
theorem dX1_appeal_80 : decode cX1_appeal 80 = .ok (.iload_n 2, 1) := dk_28 (dk_at dksX1_appeal_3 11 rfl rfl)
theorem dX1_appeal_81 : decode cX1_appeal 81 = .ok (.aload_n 3, 1) := dk_45 (dk_at dksX1_appeal_3 12 rfl rfl)
theorem dX1_appeal_82 : decode cX1_appeal 82 = .ok (.getfield 349, 3) := dk_180 1 93 (dk_at dksX1_appeal_3 13 rfl rfl)
theorem dX1_appeal_85 : decode cX1_appeal 85 = .ok (.invokevirtual 511, 3) := dk_182 1 255 (dk_at dksX1_appeal_3 16 rfl rfl)
theorem dX1_appeal_88 : decode cX1_appeal 88 = .ok (.if_icmp .le 7, 3) := dk_164 0 7 (dk_at dksX1_appeal_3 19 rfl rfl)
theorem dX1_appeal_91 : decode cX1_appeal 91 = .ok (.iconst 1, 1) := dk_4 (dk_at dksX1_appeal_3 22 rfl rfl)
theorem dX1_appeal_92 : decode cX1_appeal 92 = .ok (.goto 4, 3) := dk_167 0 4 (dk_at dksX1_appeal_4 0 rfl rfl)
theorem dX1_appeal_95 : decode cX1_appeal 95 = .ok (.iconst 0, 1) := dk_3 (dk_at dksX1_appeal_4 3 rfl rfl)
theorem dX1_appeal_96 : decode cX1_appeal 96 = .ok (.istore 5, 2) := dk_54 5 (dk_at dksX1_appeal_4 4 rfl rfl)
theorem dX1_appeal_98 : decode cX1_appeal 98 = .ok (.aload_n 3, 1) := dk_45 (dk_at dksX1_appeal_4 6 rfl rfl)
theorem dX1_appeal_99 : decode cX1_appeal 99 = .ok (.iload 5, 2) := dk_21 5 (dk_at dksX1_appeal_4 7 rfl rfl)
theorem dX1_appeal_101 : decode cX1_appeal 101 = .ok (.ifCond .eq 7, 3) := dk_153 0 7 (dk_at dksX1_appeal_4 9 rfl rfl)
theorem dX1_appeal_104 : decode cX1_appeal 104 = .ok (.iconst (-1), 1) := dk_2 (dk_at dksX1_appeal_4 12 rfl rfl)
theorem dX1_appeal_105 : decode cX1_appeal 105 = .ok (.goto 7, 3) := dk_167 0 7 (dk_at dksX1_appeal_4 13 rfl rfl)
theorem dX1_appeal_108 : decode cX1_appeal 108 = .ok (.aload_n 3, 1) := dk_45 (dk_at dksX1_appeal_4 16 rfl rfl)
theorem dX1_appeal_109 : decode cX1_appeal 109 = .ok (.getfield 349, 3) := dk_180 1 93 (dk_at dksX1_appeal_4 17 rfl rfl)
theorem dX1_appeal_112 : decode cX1_appeal 112 = .ok (.putfield 349, 3) := dk_181 1 93 (dk_at dksX1_appeal_4 20 rfl rfl)
theorem dX1_appeal_115 : decode cX1_appeal 115 = .ok (.iload 5, 2) := dk_21 5 (dk_at dksX1_appeal_5 0 rfl rfl)
theorem dX1_appeal_117 : decode cX1_appeal 117 = .ok (.ireturn, 1) := dk_172 (dk_at dksX1_appeal_5 2 rfl rfl)
abbrev cX1_otherStreet : ByteArray := prog_1_method_70_code
def yX1_otherStreet : MethodName := ⟨RX1, "otherStreet", "(ILDialectdepot$Name;)I"⟩
def dkwX1_otherStreet_3 : List UInt8 := [172, 132, 3, 1, 167, 255, 186, 2, 172]
abbrev dktX1_otherStreet_3 : List UInt8 := dkwX1_otherStreet_3 ++ []
def dkwX1_otherStreet_2 : List UInt8 := [44, 180, 0, 249, 160, 0, 21, 25, 4, 182, 0, 190, 44, 180, 1, 93, 159, 0, 9, 25, 4, 182, 0, 190]
abbrev dktX1_otherStreet_2 : List UInt8 := dkwX1_otherStreet_2 ++ dktX1_otherStreet_3
def dkwX1_otherStreet_1 : List UInt8 := [185, 0, 99, 2, 0, 192, 0, 169, 58, 4, 25, 4, 182, 0, 171, 27, 160, 0, 33, 25, 4, 182, 0, 174]
abbrev dktX1_otherStreet_1 : List UInt8 := dkwX1_otherStreet_1 ++ dktX1_otherStreet_2
def dkwX1_otherStreet_0 : List UInt8 := [3, 62, 29, 42, 180, 0, 54, 185, 0, 85, 1, 0, 162, 0, 63, 42, 180, 0, 54, 29]
abbrev dktX1_otherStreet_0 : List UInt8 := dkwX1_otherStreet_0 ++ dktX1_otherStreet_1
theorem dksX1_otherStreet_0 : cX1_otherStreet.data.toList.drop 0 = dktX1_otherStreet_0 := by decide +kernel
theorem dksX1_otherStreet_1 : cX1_otherStreet.data.toList.drop 20 = dktX1_otherStreet_1 := dk_seg dksX1_otherStreet_0 20 rfl rfl
theorem dksX1_otherStreet_2 : cX1_otherStreet.data.toList.drop 44 = dktX1_otherStreet_2 := dk_seg dksX1_otherStreet_1 24 rfl rfl
theorem dksX1_otherStreet_3 : cX1_otherStreet.data.toList.drop 68 = dktX1_otherStreet_3 := dk_seg dksX1_otherStreet_2 24 rfl rfl
theorem dX1_otherStreet_0 : decode cX1_otherStreet 0 = .ok (.iconst 0, 1) := dk_3 (dk_at dksX1_otherStreet_0 0 rfl rfl)
theorem dX1_otherStreet_1 : decode cX1_otherStreet 1 = .ok (.istore_n 3, 1) := dk_62 (dk_at dksX1_otherStreet_0 1 rfl rfl)
theorem dX1_otherStreet_2 : decode cX1_otherStreet 2 = .ok (.iload_n 3, 1) := dk_29 (dk_at dksX1_otherStreet_0 2 rfl rfl)
theorem dX1_otherStreet_3 : decode cX1_otherStreet 3 = .ok (.aload_n 0, 1) := dk_42 (dk_at dksX1_otherStreet_0 3 rfl rfl)
theorem dX1_otherStreet_4 : decode cX1_otherStreet 4 = .ok (.getfield 54, 3) := dk_180 0 54 (dk_at dksX1_otherStreet_0 4 rfl rfl)
theorem dX1_otherStreet_7 : decode cX1_otherStreet 7 = .ok (.invokeinterface 85 1, 5) := by decide +kernel
theorem dX1_otherStreet_12 : decode cX1_otherStreet 12 = .ok (.if_icmp .ge 63, 3) := dk_162 0 63 (dk_at dksX1_otherStreet_0 12 rfl rfl)
theorem dX1_otherStreet_15 : decode cX1_otherStreet 15 = .ok (.aload_n 0, 1) := dk_42 (dk_at dksX1_otherStreet_0 15 rfl rfl)
theorem dX1_otherStreet_16 : decode cX1_otherStreet 16 = .ok (.getfield 54, 3) := dk_180 0 54 (dk_at dksX1_otherStreet_0 16 rfl rfl)
theorem dX1_otherStreet_19 : decode cX1_otherStreet 19 = .ok (.iload_n 3, 1) := dk_29 (dk_at dksX1_otherStreet_0 19 rfl rfl)
theorem dX1_otherStreet_20 : decode cX1_otherStreet 20 = .ok (.invokeinterface 99 2, 5) := by decide +kernel
theorem dX1_otherStreet_25 : decode cX1_otherStreet 25 = .ok (.checkcast 169, 3) := dk_192 0 169 (dk_at dksX1_otherStreet_1 5 rfl rfl)
theorem dX1_otherStreet_28 : decode cX1_otherStreet 28 = .ok (.astore 4, 2) := dk_58 4 (dk_at dksX1_otherStreet_1 8 rfl rfl)
theorem dX1_otherStreet_30 : decode cX1_otherStreet 30 = .ok (.aload 4, 2) := dk_25 4 (dk_at dksX1_otherStreet_1 10 rfl rfl)
theorem dX1_otherStreet_32 : decode cX1_otherStreet 32 = .ok (.invokevirtual 171, 3) := dk_182 0 171 (dk_at dksX1_otherStreet_1 12 rfl rfl)
theorem dX1_otherStreet_35 : decode cX1_otherStreet 35 = .ok (.iload_n 1, 1) := dk_27 (dk_at dksX1_otherStreet_1 15 rfl rfl)
theorem dX1_otherStreet_36 : decode cX1_otherStreet 36 = .ok (.if_icmp .ne 33, 3) := dk_160 0 33 (dk_at dksX1_otherStreet_1 16 rfl rfl)
theorem dX1_otherStreet_39 : decode cX1_otherStreet 39 = .ok (.aload 4, 2) := dk_25 4 (dk_at dksX1_otherStreet_1 19 rfl rfl)
theorem dX1_otherStreet_41 : decode cX1_otherStreet 41 = .ok (.invokevirtual 174, 3) := dk_182 0 174 (dk_at dksX1_otherStreet_1 21 rfl rfl)
theorem dX1_otherStreet_44 : decode cX1_otherStreet 44 = .ok (.aload_n 2, 1) := dk_44 (dk_at dksX1_otherStreet_2 0 rfl rfl)
theorem dX1_otherStreet_45 : decode cX1_otherStreet 45 = .ok (.getfield 249, 3) := dk_180 0 249 (dk_at dksX1_otherStreet_2 1 rfl rfl)
theorem dX1_otherStreet_48 : decode cX1_otherStreet 48 = .ok (.if_icmp .ne 21, 3) := dk_160 0 21 (dk_at dksX1_otherStreet_2 4 rfl rfl)
theorem dX1_otherStreet_51 : decode cX1_otherStreet 51 = .ok (.aload 4, 2) := dk_25 4 (dk_at dksX1_otherStreet_2 7 rfl rfl)
theorem dX1_otherStreet_53 : decode cX1_otherStreet 53 = .ok (.invokevirtual 190, 3) := dk_182 0 190 (dk_at dksX1_otherStreet_2 9 rfl rfl)
theorem dX1_otherStreet_56 : decode cX1_otherStreet 56 = .ok (.aload_n 2, 1) := dk_44 (dk_at dksX1_otherStreet_2 12 rfl rfl)
theorem dX1_otherStreet_57 : decode cX1_otherStreet 57 = .ok (.getfield 349, 3) := dk_180 1 93 (dk_at dksX1_otherStreet_2 13 rfl rfl)
theorem dX1_otherStreet_60 : decode cX1_otherStreet 60 = .ok (.if_icmp .eq 9, 3) := dk_159 0 9 (dk_at dksX1_otherStreet_2 16 rfl rfl)
theorem dX1_otherStreet_63 : decode cX1_otherStreet 63 = .ok (.aload 4, 2) := dk_25 4 (dk_at dksX1_otherStreet_2 19 rfl rfl)
theorem dX1_otherStreet_65 : decode cX1_otherStreet 65 = .ok (.invokevirtual 190, 3) := dk_182 0 190 (dk_at dksX1_otherStreet_2 21 rfl rfl)
theorem dX1_otherStreet_68 : decode cX1_otherStreet 68 = .ok (.ireturn, 1) := dk_172 (dk_at dksX1_otherStreet_3 0 rfl rfl)
theorem dX1_otherStreet_69 : decode cX1_otherStreet 69 = .ok (.iinc 3 1, 3) := dk_132 3 1 (dk_at dksX1_otherStreet_3 1 rfl rfl)
theorem dX1_otherStreet_72 : decode cX1_otherStreet 72 = .ok (.goto (-70), 3) := dk_167 255 186 (dk_at dksX1_otherStreet_3 4 rfl rfl)
theorem dX1_otherStreet_75 : decode cX1_otherStreet 75 = .ok (.iconst (-1), 1) := dk_2 (dk_at dksX1_otherStreet_3 7 rfl rfl)
theorem dX1_otherStreet_76 : decode cX1_otherStreet 76 = .ok (.ireturn, 1) := dk_172 (dk_at dksX1_otherStreet_3 8 rfl rfl)
theorem q66 : (Jvm.Cond.initialized "Dialectdepot") ∈ lw_all := lw_g (lw_at lw_m1 1 rfl) rfl
theorem q115 : (Jvm.Cond.instantiable "Dialectdepot" (18 : Nat)) ∈ lw_all := lw_g (lw_at lw_m1 50 rfl) rfl
theorem q117 : (Jvm.Cond.instanceMethod ({ cls := "Dialectdepot", name := "<init>", desc := "()V" } : Jvm.MethodName)) ∈ lw_all := lw_g (lw_at lw_m1 52 rfl) rfl
theorem q118 : (Jvm.Cond.code ({ cls := "Dialectdepot", name := "<init>", desc := "()V" } : Jvm.MethodName) prog_1_method_1_code (1 : Nat) (Option.none : Option Jvm.ClassFile.FieldType)) ∈ lw_all := lw_g (lw_at lw_m1 53 rfl) rfl
theorem q119 : (Jvm.Cond.methodLink "Dialectdepot" (3 : Nat) ({ cls := "java/lang/Object", name := "<init>", desc := "()V" } : Jvm.MethodName)) ∈ lw_all := lw_g (lw_at lw_m1 54 rfl) rfl
theorem q122 : (Jvm.Cond.static ({ cls := "Dialectdepot", name := "lambda$new$0", desc := "(I)I" } : Jvm.MethodName)) ∈ lw_all := lw_g (lw_at lw_m1 57 rfl) rfl
theorem q123 : (Jvm.Cond.code ({ cls := "Dialectdepot", name := "lambda$new$0", desc := "(I)I" } : Jvm.MethodName) prog_1_method_85_code (1 : Nat) (Option.some Jvm.ClassFile.FieldType.int)) ∈ lw_all := lw_g (lw_at lw_m1 58 rfl) rfl
theorem q124 : (Jvm.Cond.methodLink "Dialectdepot" (547 : Nat) ({ cls := "Dialectdepot$Change", name := "held", desc := "(I)I" } : Jvm.MethodName)) ∈ lw_all := lw_g (lw_at lw_m1 59 rfl) rfl
theorem q133 : (Jvm.Cond.static ({ cls := "Dialectdepot", name := "lambda$new$1", desc := "(I)I" } : Jvm.MethodName)) ∈ lw_all := lw_g (lw_at lw_m1 68 rfl) rfl
theorem q134 : (Jvm.Cond.code ({ cls := "Dialectdepot", name := "lambda$new$1", desc := "(I)I" } : Jvm.MethodName) prog_1_method_84_code (1 : Nat) (Option.some Jvm.ClassFile.FieldType.int)) ∈ lw_all := lw_g (lw_at lw_m1 69 rfl) rfl
theorem q135 : (Jvm.Cond.static ({ cls := "Dialectdepot", name := "lambda$new$2", desc := "(I)I" } : Jvm.MethodName)) ∈ lw_all := lw_g (lw_at lw_m1 70 rfl) rfl
theorem q136 : (Jvm.Cond.code ({ cls := "Dialectdepot", name := "lambda$new$2", desc := "(I)I" } : Jvm.MethodName) prog_1_method_83_code (1 : Nat) (Option.some Jvm.ClassFile.FieldType.int)) ∈ lw_all := lw_g (lw_at lw_m1 71 rfl) rfl
theorem q137 : (Jvm.Cond.static ({ cls := "Dialectdepot", name := "lambda$new$3", desc := "(I)I" } : Jvm.MethodName)) ∈ lw_all := lw_g (lw_at lw_m1 72 rfl) rfl
theorem q138 : (Jvm.Cond.code ({ cls := "Dialectdepot", name := "lambda$new$3", desc := "(I)I" } : Jvm.MethodName) prog_1_method_82_code (1 : Nat) (Option.some Jvm.ClassFile.FieldType.int)) ∈ lw_all := lw_g (lw_at lw_m1 73 rfl) rfl
theorem q139 : (Jvm.Cond.static ({ cls := "Dialectdepot", name := "lambda$new$4", desc := "(I)I" } : Jvm.MethodName)) ∈ lw_all := lw_g (lw_at lw_m1 74 rfl) rfl
theorem q140 : (Jvm.Cond.code ({ cls := "Dialectdepot", name := "lambda$new$4", desc := "(I)I" } : Jvm.MethodName) prog_1_method_81_code (1 : Nat) (Option.some Jvm.ClassFile.FieldType.int)) ∈ lw_all := lw_g (lw_at lw_m1 75 rfl) rfl
theorem q141 : (Jvm.Cond.methodLink "Dialectdepot" (544 : Nat) ({ cls := "java/lang/Integer", name := "signum", desc := "(I)I" } : Jvm.MethodName)) ∈ lw_all := lw_g (lw_at lw_m1 76 rfl) rfl
theorem q144 : (Jvm.Cond.classLink "Dialectdepot" (33 : Nat) "Dialectdepot$Weight") ∈ lw_all := lw_g (lw_at lw_m1 79 rfl) rfl
theorem q146 : (Jvm.Cond.privateMethod ({ cls := "Dialectdepot", name := "lambda$new$5", desc := "(LDialectdepot$Parcel;LDialectdepot$Carrier;I)I" } : Jvm.MethodName)) ∈ lw_tbl := lw_at lw_m1 81 rfl
theorem q147 : (Jvm.Cond.instanceMethod ({ cls := "Dialectdepot", name := "lambda$new$5", desc := "(LDialectdepot$Parcel;LDialectdepot$Carrier;I)I" } : Jvm.MethodName)) ∈ lw_all := lw_g (lw_at lw_m1 82 rfl) rfl
theorem q148 : (Jvm.Cond.code ({ cls := "Dialectdepot", name := "lambda$new$5", desc := "(LDialectdepot$Parcel;LDialectdepot$Carrier;I)I" } : Jvm.MethodName) prog_1_method_80_code (4 : Nat) (Option.some Jvm.ClassFile.FieldType.int)) ∈ lw_all := lw_g (lw_at lw_m1 83 rfl) rfl
theorem q149 : (Jvm.Cond.methodLink "Dialectdepot" (540 : Nat) ({ cls := "Dialectdepot", name := "usageWeight", desc := "(LDialectdepot$Parcel;I)I" } : Jvm.MethodName)) ∈ lw_all := lw_g (lw_at lw_m1 84 rfl) rfl
theorem q150 : (Jvm.Cond.privateMethod ({ cls := "Dialectdepot", name := "usageWeight", desc := "(LDialectdepot$Parcel;I)I" } : Jvm.MethodName)) ∈ lw_tbl := lw_at lw_m1 85 rfl
theorem q151 : (Jvm.Cond.instanceMethod ({ cls := "Dialectdepot", name := "usageWeight", desc := "(LDialectdepot$Parcel;I)I" } : Jvm.MethodName)) ∈ lw_all := lw_g (lw_at lw_m1 86 rfl) rfl
theorem q152 : (Jvm.Cond.code ({ cls := "Dialectdepot", name := "usageWeight", desc := "(LDialectdepot$Parcel;I)I" } : Jvm.MethodName) prog_1_method_40_code (7 : Nat) (Option.some Jvm.ClassFile.FieldType.int)) ∈ lw_all := lw_g (lw_at lw_m1 87 rfl) rfl
theorem q153 : (Jvm.Cond.interfaceEntry "Dialectdepot" (99 : Nat)) ∈ lw_tbl := lw_at lw_m1 88 rfl
theorem q154 : (Jvm.Cond.methodLink "Dialectdepot" (99 : Nat) ({ cls := "java/util/List", name := "get", desc := "(I)Ljava/lang/Object;" } : Jvm.MethodName)) ∈ lw_all := lw_g (lw_at lw_m1 89 rfl) rfl
theorem q173 : (Jvm.Cond.classLink "Dialectdepot" (113 : Nat) "Dialectdepot$Name") ∈ lw_all := lw_g (lw_at lw_m1 108 rfl) rfl
theorem q174 : (Jvm.Cond.methodLink "Dialectdepot" (360 : Nat) ({ cls := "Dialectdepot", name := "means", desc := "(ILDialectdepot$Parcel;I)Z" } : Jvm.MethodName)) ∈ lw_all := lw_g (lw_at lw_m1 109 rfl) rfl
theorem q175 : (Jvm.Cond.privateMethod ({ cls := "Dialectdepot", name := "means", desc := "(ILDialectdepot$Parcel;I)Z" } : Jvm.MethodName)) ∈ lw_tbl := lw_at lw_m1 110 rfl
theorem q176 : (Jvm.Cond.instanceMethod ({ cls := "Dialectdepot", name := "means", desc := "(ILDialectdepot$Parcel;I)Z" } : Jvm.MethodName)) ∈ lw_all := lw_g (lw_at lw_m1 111 rfl) rfl
theorem q177 : (Jvm.Cond.code ({ cls := "Dialectdepot", name := "means", desc := "(ILDialectdepot$Parcel;I)Z" } : Jvm.MethodName) prog_1_method_38_code (7 : Nat) (Option.some Jvm.ClassFile.FieldType.boolean)) ∈ lw_all := lw_g (lw_at lw_m1 112 rfl) rfl
theorem q178 : (Jvm.Cond.interfaceEntry "Dialectdepot" (85 : Nat)) ∈ lw_tbl := lw_at lw_m1 113 rfl
theorem q179 : (Jvm.Cond.methodLink "Dialectdepot" (85 : Nat) ({ cls := "java/util/List", name := "size", desc := "()I" } : Jvm.MethodName)) ∈ lw_all := lw_g (lw_at lw_m1 114 rfl) rfl
theorem q187 : (Jvm.Cond.classLink "Dialectdepot" (169 : Nat) "Dialectdepot$Usage") ∈ lw_all := lw_g (lw_at lw_m1 122 rfl) rfl
theorem q188 : (Jvm.Cond.methodLink "Dialectdepot" (354 : Nat) ({ cls := "Dialectdepot$Usage", name := "isOf", desc := "(III)Z" } : Jvm.MethodName)) ∈ lw_all := lw_g (lw_at lw_m1 123 rfl) rfl
theorem q192 : (Jvm.Cond.methodLink "Dialectdepot" (186 : Nat) ({ cls := "Dialectdepot$Usage", name := "covers", desc := "(I)Z" } : Jvm.MethodName)) ∈ lw_all := lw_g (lw_at lw_m1 127 rfl) rfl
theorem q196 : (Jvm.Cond.methodLink "Dialectdepot" (364 : Nat) ({ cls := "Dialectdepot", name := "uses", desc := "(III)Z" } : Jvm.MethodName)) ∈ lw_all := lw_g (lw_at lw_m1 131 rfl) rfl
theorem q197 : (Jvm.Cond.privateMethod ({ cls := "Dialectdepot", name := "uses", desc := "(III)Z" } : Jvm.MethodName)) ∈ lw_tbl := lw_at lw_m1 132 rfl
theorem q198 : (Jvm.Cond.instanceMethod ({ cls := "Dialectdepot", name := "uses", desc := "(III)Z" } : Jvm.MethodName)) ∈ lw_all := lw_g (lw_at lw_m1 133 rfl) rfl
theorem q199 : (Jvm.Cond.code ({ cls := "Dialectdepot", name := "uses", desc := "(III)Z" } : Jvm.MethodName) prog_1_method_39_code (6 : Nat) (Option.some Jvm.ClassFile.FieldType.boolean)) ∈ lw_all := lw_g (lw_at lw_m1 134 rfl) rfl
theorem q200 : (Jvm.Cond.privateMethod ({ cls := "Dialectdepot", name := "lambda$new$6", desc := "(LDialectdepot$Parcel;LDialectdepot$Carrier;I)I" } : Jvm.MethodName)) ∈ lw_tbl := lw_at lw_m1 135 rfl
theorem q201 : (Jvm.Cond.instanceMethod ({ cls := "Dialectdepot", name := "lambda$new$6", desc := "(LDialectdepot$Parcel;LDialectdepot$Carrier;I)I" } : Jvm.MethodName)) ∈ lw_all := lw_g (lw_at lw_m1 136 rfl) rfl
theorem q202 : (Jvm.Cond.code ({ cls := "Dialectdepot", name := "lambda$new$6", desc := "(LDialectdepot$Parcel;LDialectdepot$Carrier;I)I" } : Jvm.MethodName) prog_1_method_79_code (4 : Nat) (Option.some Jvm.ClassFile.FieldType.int)) ∈ lw_all := lw_g (lw_at lw_m1 137 rfl) rfl
theorem q203 : (Jvm.Cond.methodLink "Dialectdepot" (536 : Nat) ({ cls := "Dialectdepot", name := "lessonsOf", desc := "(LDialectdepot$Parcel;LDialectdepot$Carrier;I)I" } : Jvm.MethodName)) ∈ lw_all := lw_g (lw_at lw_m1 138 rfl) rfl
theorem q204 : (Jvm.Cond.privateMethod ({ cls := "Dialectdepot", name := "lessonsOf", desc := "(LDialectdepot$Parcel;LDialectdepot$Carrier;I)I" } : Jvm.MethodName)) ∈ lw_tbl := lw_at lw_m1 139 rfl
theorem q205 : (Jvm.Cond.instanceMethod ({ cls := "Dialectdepot", name := "lessonsOf", desc := "(LDialectdepot$Parcel;LDialectdepot$Carrier;I)I" } : Jvm.MethodName)) ∈ lw_all := lw_g (lw_at lw_m1 140 rfl) rfl
theorem q206 : (Jvm.Cond.code ({ cls := "Dialectdepot", name := "lessonsOf", desc := "(LDialectdepot$Parcel;LDialectdepot$Carrier;I)I" } : Jvm.MethodName) prog_1_method_41_code (6 : Nat) (Option.some Jvm.ClassFile.FieldType.int)) ∈ lw_all := lw_g (lw_at lw_m1 141 rfl) rfl
theorem q207 : (Jvm.Cond.methodLink "Dialectdepot" (214 : Nat) ({ cls := "Dialectdepot", name := "place", desc := "(III)I" } : Jvm.MethodName)) ∈ lw_all := lw_g (lw_at lw_m1 142 rfl) rfl
theorem q208 : (Jvm.Cond.static ({ cls := "Dialectdepot", name := "place", desc := "(III)I" } : Jvm.MethodName)) ∈ lw_all := lw_g (lw_at lw_m1 143 rfl) rfl
theorem q209 : (Jvm.Cond.code ({ cls := "Dialectdepot", name := "place", desc := "(III)I" } : Jvm.MethodName) prog_1_method_2_code (3 : Nat) (Option.some Jvm.ClassFile.FieldType.int)) ∈ lw_all := lw_g (lw_at lw_m1 144 rfl) rfl
theorem q210 : (Jvm.Cond.privateMethod ({ cls := "Dialectdepot", name := "lambda$new$7", desc := "(LDialectdepot$Parcel;LDialectdepot$Carrier;I)I" } : Jvm.MethodName)) ∈ lw_tbl := lw_at lw_m1 145 rfl
theorem q211 : (Jvm.Cond.instanceMethod ({ cls := "Dialectdepot", name := "lambda$new$7", desc := "(LDialectdepot$Parcel;LDialectdepot$Carrier;I)I" } : Jvm.MethodName)) ∈ lw_all := lw_g (lw_at lw_m1 146 rfl) rfl
theorem q212 : (Jvm.Cond.code ({ cls := "Dialectdepot", name := "lambda$new$7", desc := "(LDialectdepot$Parcel;LDialectdepot$Carrier;I)I" } : Jvm.MethodName) prog_1_method_78_code (4 : Nat) (Option.some Jvm.ClassFile.FieldType.int)) ∈ lw_all := lw_g (lw_at lw_m1 147 rfl) rfl
theorem q213 : (Jvm.Cond.static ({ cls := "Dialectdepot", name := "lambda$new$8", desc := "(LDialectdepot$Parcel;LDialectdepot$Carrier;I)I" } : Jvm.MethodName)) ∈ lw_all := lw_g (lw_at lw_m1 148 rfl) rfl
theorem q214 : (Jvm.Cond.code ({ cls := "Dialectdepot", name := "lambda$new$8", desc := "(LDialectdepot$Parcel;LDialectdepot$Carrier;I)I" } : Jvm.MethodName) prog_1_method_77_code (3 : Nat) (Option.some Jvm.ClassFile.FieldType.int)) ∈ lw_all := lw_g (lw_at lw_m1 149 rfl) rfl
theorem q215 : (Jvm.Cond.classLink "Dialectdepot" (47 : Nat) "java/util/ArrayList") ∈ lw_all := lw_g (lw_at lw_m1 150 rfl) rfl
theorem q217 : (Jvm.Cond.methodLink "Dialectdepot" (49 : Nat) ({ cls := "java/util/ArrayList", name := "<init>", desc := "()V" } : Jvm.MethodName)) ∈ lw_all := lw_g (lw_at lw_m1 152 rfl) rfl
theorem q241 : (Jvm.Cond.classLink "Dialectdepot" (69 : Nat) "java/lang/StringBuilder") ∈ lw_all := lw_g (lw_at lw_m1 176 rfl) rfl
theorem q243 : (Jvm.Cond.methodLink "Dialectdepot" (71 : Nat) ({ cls := "java/lang/StringBuilder", name := "<init>", desc := "()V" } : Jvm.MethodName)) ∈ lw_all := lw_g (lw_at lw_m1 178 rfl) rfl
theorem q274 : (Jvm.Cond.fieldLink "Dialectdepot" (13 : Nat) "Dialectdepot" "raises" "LDialectdepot$Change;") ∈ lw_all := lw_g (lw_at lw_m1 209 rfl) rfl
theorem q275 : (Jvm.Cond.fieldLink "Dialectdepot" (18 : Nat) "Dialectdepot" "lowers" "LDialectdepot$Change;") ∈ lw_all := lw_g (lw_at lw_m1 210 rfl) rfl
theorem q276 : (Jvm.Cond.fieldLink "Dialectdepot" (22 : Nat) "Dialectdepot" "tells" "LDialectdepot$Change;") ∈ lw_all := lw_g (lw_at lw_m1 211 rfl) rfl
theorem q277 : (Jvm.Cond.fieldLink "Dialectdepot" (26 : Nat) "Dialectdepot" "hears" "LDialectdepot$Change;") ∈ lw_all := lw_g (lw_at lw_m1 212 rfl) rfl
theorem q278 : (Jvm.Cond.fieldLink "Dialectdepot" (30 : Nat) "Dialectdepot" "fades" "LDialectdepot$Change;") ∈ lw_all := lw_g (lw_at lw_m1 213 rfl) rfl
theorem q279 : (Jvm.Cond.fieldLink "Dialectdepot" (43 : Nat) "Dialectdepot" "weights" "[LDialectdepot$Weight;") ∈ lw_all := lw_g (lw_at lw_m1 214 rfl) rfl
theorem q280 : (Jvm.Cond.fieldLink "Dialectdepot" (50 : Nat) "Dialectdepot" "names" "Ljava/util/List;") ∈ lw_all := lw_g (lw_at lw_m1 215 rfl) rfl
theorem q281 : (Jvm.Cond.fieldLink "Dialectdepot" (54 : Nat) "Dialectdepot" "usages" "Ljava/util/List;") ∈ lw_all := lw_g (lw_at lw_m1 216 rfl) rfl
theorem q282 : (Jvm.Cond.fieldLink "Dialectdepot" (57 : Nat) "Dialectdepot" "carriers" "Ljava/util/List;") ∈ lw_all := lw_g (lw_at lw_m1 217 rfl) rfl
theorem q283 : (Jvm.Cond.fieldLink "Dialectdepot" (60 : Nat) "Dialectdepot" "parcels" "Ljava/util/List;") ∈ lw_all := lw_g (lw_at lw_m1 218 rfl) rfl
theorem q284 : (Jvm.Cond.fieldLink "Dialectdepot" (63 : Nat) "Dialectdepot" "events" "Ljava/util/List;") ∈ lw_all := lw_g (lw_at lw_m1 219 rfl) rfl
theorem q285 : (Jvm.Cond.fieldLink "Dialectdepot" (66 : Nat) "Dialectdepot" "attempts" "Ljava/util/List;") ∈ lw_all := lw_g (lw_at lw_m1 220 rfl) rfl
theorem q286 : (Jvm.Cond.fieldLink "Dialectdepot" (72 : Nat) "Dialectdepot" "tape" "Ljava/lang/StringBuilder;") ∈ lw_all := lw_g (lw_at lw_m1 221 rfl) rfl
theorem q288 : (Jvm.Cond.fieldLink "Dialectdepot" (103 : Nat) "Dialectdepot" "streets" "I") ∈ lw_all := lw_g (lw_at lw_m1 223 rfl) rfl
theorem q289 : (Jvm.Cond.fieldLink "Dialectdepot" (430 : Nat) "Dialectdepot" "day" "I") ∈ lw_all := lw_g (lw_at lw_m1 224 rfl) rfl
theorem q290 : (Jvm.Cond.fieldLink "Dialectdepot" (400 : Nat) "Dialectdepot" "givenUp" "I") ∈ lw_all := lw_g (lw_at lw_m1 225 rfl) rfl
theorem q291 : (Jvm.Cond.fieldLink "Dialectdepot" (405 : Nat) "Dialectdepot" "known" "I") ∈ lw_all := lw_g (lw_at lw_m1 226 rfl) rfl
theorem q292 : (Jvm.Cond.fieldLink "Dialectdepot" (489 : Nat) "Dialectdepot" "delivered" "I") ∈ lw_all := lw_g (lw_at lw_m1 227 rfl) rfl
theorem q293 : (Jvm.Cond.laysFinal "Dialectdepot" "Dialectdepot" "raises" "LDialectdepot$Change;") ∈ lw_all := lw_g (lw_at lw_m1 228 rfl) rfl
theorem q294 : (Jvm.Cond.soleField "Dialectdepot" "raises") ∈ lw_all := lw_g (lw_at lw_m1 229 rfl) rfl
theorem q295 : (Jvm.Cond.laysFinal "Dialectdepot" "Dialectdepot" "lowers" "LDialectdepot$Change;") ∈ lw_all := lw_g (lw_at lw_m1 230 rfl) rfl
theorem q296 : (Jvm.Cond.soleField "Dialectdepot" "lowers") ∈ lw_all := lw_g (lw_at lw_m1 231 rfl) rfl
theorem q297 : (Jvm.Cond.laysFinal "Dialectdepot" "Dialectdepot" "tells" "LDialectdepot$Change;") ∈ lw_all := lw_g (lw_at lw_m1 232 rfl) rfl
theorem q298 : (Jvm.Cond.soleField "Dialectdepot" "tells") ∈ lw_all := lw_g (lw_at lw_m1 233 rfl) rfl
theorem q299 : (Jvm.Cond.laysFinal "Dialectdepot" "Dialectdepot" "hears" "LDialectdepot$Change;") ∈ lw_all := lw_g (lw_at lw_m1 234 rfl) rfl
theorem q300 : (Jvm.Cond.soleField "Dialectdepot" "hears") ∈ lw_all := lw_g (lw_at lw_m1 235 rfl) rfl
theorem q301 : (Jvm.Cond.laysFinal "Dialectdepot" "Dialectdepot" "fades" "LDialectdepot$Change;") ∈ lw_all := lw_g (lw_at lw_m1 236 rfl) rfl
theorem q302 : (Jvm.Cond.soleField "Dialectdepot" "fades") ∈ lw_all := lw_g (lw_at lw_m1 237 rfl) rfl
theorem q303 : (Jvm.Cond.laysFinal "Dialectdepot" "Dialectdepot" "weights" "[LDialectdepot$Weight;") ∈ lw_all := lw_g (lw_at lw_m1 238 rfl) rfl
theorem q304 : (Jvm.Cond.soleField "Dialectdepot" "weights") ∈ lw_all := lw_g (lw_at lw_m1 239 rfl) rfl
theorem q305 : (Jvm.Cond.laysFinal "Dialectdepot" "Dialectdepot" "names" "Ljava/util/List;") ∈ lw_all := lw_g (lw_at lw_m2 0 rfl) rfl
theorem q306 : (Jvm.Cond.soleField "Dialectdepot" "names") ∈ lw_all := lw_g (lw_at lw_m2 1 rfl) rfl
theorem q307 : (Jvm.Cond.laysFinal "Dialectdepot" "Dialectdepot" "usages" "Ljava/util/List;") ∈ lw_all := lw_g (lw_at lw_m2 2 rfl) rfl
theorem q308 : (Jvm.Cond.soleField "Dialectdepot" "usages") ∈ lw_all := lw_g (lw_at lw_m2 3 rfl) rfl
theorem q309 : (Jvm.Cond.laysFinal "Dialectdepot" "Dialectdepot" "carriers" "Ljava/util/List;") ∈ lw_all := lw_g (lw_at lw_m2 4 rfl) rfl
theorem q310 : (Jvm.Cond.soleField "Dialectdepot" "carriers") ∈ lw_all := lw_g (lw_at lw_m2 5 rfl) rfl
theorem q311 : (Jvm.Cond.laysFinal "Dialectdepot" "Dialectdepot" "parcels" "Ljava/util/List;") ∈ lw_all := lw_g (lw_at lw_m2 6 rfl) rfl
theorem q312 : (Jvm.Cond.soleField "Dialectdepot" "parcels") ∈ lw_all := lw_g (lw_at lw_m2 7 rfl) rfl
theorem q313 : (Jvm.Cond.laysFinal "Dialectdepot" "Dialectdepot" "events" "Ljava/util/List;") ∈ lw_all := lw_g (lw_at lw_m2 8 rfl) rfl
theorem q314 : (Jvm.Cond.soleField "Dialectdepot" "events") ∈ lw_all := lw_g (lw_at lw_m2 9 rfl) rfl
theorem q315 : (Jvm.Cond.laysFinal "Dialectdepot" "Dialectdepot" "attempts" "Ljava/util/List;") ∈ lw_all := lw_g (lw_at lw_m2 10 rfl) rfl
theorem q316 : (Jvm.Cond.soleField "Dialectdepot" "attempts") ∈ lw_all := lw_g (lw_at lw_m2 11 rfl) rfl
theorem q317 : (Jvm.Cond.laysFinal "Dialectdepot" "Dialectdepot" "tape" "Ljava/lang/StringBuilder;") ∈ lw_all := lw_g (lw_at lw_m2 12 rfl) rfl
theorem q318 : (Jvm.Cond.soleField "Dialectdepot" "tape") ∈ lw_all := lw_g (lw_at lw_m2 13 rfl) rfl
theorem q319 : (Jvm.Cond.lays "Dialectdepot" "Dialectdepot" "streets" "I") ∈ lw_all := lw_g (lw_at lw_m2 14 rfl) rfl
theorem q320 : (Jvm.Cond.soleField "Dialectdepot" "streets") ∈ lw_all := lw_g (lw_at lw_m2 15 rfl) rfl
theorem q321 : (Jvm.Cond.lays "Dialectdepot" "Dialectdepot" "day" "I") ∈ lw_all := lw_g (lw_at lw_m2 16 rfl) rfl
theorem q322 : (Jvm.Cond.soleField "Dialectdepot" "day") ∈ lw_all := lw_g (lw_at lw_m2 17 rfl) rfl
theorem q323 : (Jvm.Cond.lays "Dialectdepot" "Dialectdepot" "givenUp" "I") ∈ lw_all := lw_g (lw_at lw_m2 18 rfl) rfl
theorem q324 : (Jvm.Cond.soleField "Dialectdepot" "givenUp") ∈ lw_all := lw_g (lw_at lw_m2 19 rfl) rfl
theorem q325 : (Jvm.Cond.lays "Dialectdepot" "Dialectdepot" "known" "I") ∈ lw_all := lw_g (lw_at lw_m2 20 rfl) rfl
theorem q326 : (Jvm.Cond.soleField "Dialectdepot" "known") ∈ lw_all := lw_g (lw_at lw_m2 21 rfl) rfl
theorem q327 : (Jvm.Cond.lays "Dialectdepot" "Dialectdepot" "delivered" "I") ∈ lw_all := lw_g (lw_at lw_m2 22 rfl) rfl
theorem q328 : (Jvm.Cond.soleField "Dialectdepot" "delivered") ∈ lw_all := lw_g (lw_at lw_m2 23 rfl) rfl
theorem q329 : (Jvm.Cond.superclass "Dialectdepot" "java/lang/Object") ∈ lw_all := lw_g (lw_at lw_m2 24 rfl) rfl
theorem q331 : (Jvm.Cond.instanceMethod ({ cls := "Dialectdepot", name := "parcels", desc := "()I" } : Jvm.MethodName)) ∈ lw_all := lw_g (lw_at lw_m2 26 rfl) rfl
theorem q332 : (Jvm.Cond.selects "Dialectdepot" ({ cls := "Dialectdepot", name := "parcels", desc := "()I" } : Jvm.MethodName) ({ cls := "Dialectdepot", name := "parcels", desc := "()I" } : Jvm.MethodName)) ∈ lw_all := lw_g (lw_at lw_m2 27 rfl) rfl
theorem q333 : (Jvm.Cond.code ({ cls := "Dialectdepot", name := "parcels", desc := "()I" } : Jvm.MethodName) prog_1_method_29_code (1 : Nat) (Option.some Jvm.ClassFile.FieldType.int)) ∈ lw_all := lw_g (lw_at lw_m2 28 rfl) rfl
theorem q335 : (Jvm.Cond.instanceMethod ({ cls := "Dialectdepot", name := "day", desc := "()I" } : Jvm.MethodName)) ∈ lw_all := lw_g (lw_at lw_m2 30 rfl) rfl
theorem q336 : (Jvm.Cond.selects "Dialectdepot" ({ cls := "Dialectdepot", name := "day", desc := "()I" } : Jvm.MethodName) ({ cls := "Dialectdepot", name := "day", desc := "()I" } : Jvm.MethodName)) ∈ lw_all := lw_g (lw_at lw_m2 31 rfl) rfl
theorem q337 : (Jvm.Cond.code ({ cls := "Dialectdepot", name := "day", desc := "()I" } : Jvm.MethodName) prog_1_method_55_code (1 : Nat) (Option.some Jvm.ClassFile.FieldType.int)) ∈ lw_all := lw_g (lw_at lw_m2 32 rfl) rfl
theorem q339 : (Jvm.Cond.instanceMethod ({ cls := "Dialectdepot", name := "attempts", desc := "()I" } : Jvm.MethodName)) ∈ lw_all := lw_g (lw_at lw_m2 34 rfl) rfl
theorem q340 : (Jvm.Cond.selects "Dialectdepot" ({ cls := "Dialectdepot", name := "attempts", desc := "()I" } : Jvm.MethodName) ({ cls := "Dialectdepot", name := "attempts", desc := "()I" } : Jvm.MethodName)) ∈ lw_all := lw_g (lw_at lw_m2 35 rfl) rfl
theorem q341 : (Jvm.Cond.code ({ cls := "Dialectdepot", name := "attempts", desc := "()I" } : Jvm.MethodName) prog_1_method_56_code (1 : Nat) (Option.some Jvm.ClassFile.FieldType.int)) ∈ lw_all := lw_g (lw_at lw_m2 36 rfl) rfl
theorem q343 : (Jvm.Cond.instanceMethod ({ cls := "Dialectdepot", name := "givenUp", desc := "()I" } : Jvm.MethodName)) ∈ lw_all := lw_g (lw_at lw_m2 38 rfl) rfl
theorem q344 : (Jvm.Cond.selects "Dialectdepot" ({ cls := "Dialectdepot", name := "givenUp", desc := "()I" } : Jvm.MethodName) ({ cls := "Dialectdepot", name := "givenUp", desc := "()I" } : Jvm.MethodName)) ∈ lw_all := lw_g (lw_at lw_m2 39 rfl) rfl
theorem q345 : (Jvm.Cond.code ({ cls := "Dialectdepot", name := "givenUp", desc := "()I" } : Jvm.MethodName) prog_1_method_72_code (1 : Nat) (Option.some Jvm.ClassFile.FieldType.int)) ∈ lw_all := lw_g (lw_at lw_m2 40 rfl) rfl
theorem q347 : (Jvm.Cond.instanceMethod ({ cls := "Dialectdepot", name := "givenUpThoughKnown", desc := "()I" } : Jvm.MethodName)) ∈ lw_all := lw_g (lw_at lw_m2 42 rfl) rfl
theorem q348 : (Jvm.Cond.selects "Dialectdepot" ({ cls := "Dialectdepot", name := "givenUpThoughKnown", desc := "()I" } : Jvm.MethodName) ({ cls := "Dialectdepot", name := "givenUpThoughKnown", desc := "()I" } : Jvm.MethodName)) ∈ lw_all := lw_g (lw_at lw_m2 43 rfl) rfl
theorem q349 : (Jvm.Cond.code ({ cls := "Dialectdepot", name := "givenUpThoughKnown", desc := "()I" } : Jvm.MethodName) prog_1_method_73_code (1 : Nat) (Option.some Jvm.ClassFile.FieldType.int)) ∈ lw_all := lw_g (lw_at lw_m2 44 rfl) rfl
theorem q351 : (Jvm.Cond.instanceMethod ({ cls := "Dialectdepot", name := "errors", desc := "()I" } : Jvm.MethodName)) ∈ lw_all := lw_g (lw_at lw_m2 46 rfl) rfl
theorem q352 : (Jvm.Cond.selects "Dialectdepot" ({ cls := "Dialectdepot", name := "errors", desc := "()I" } : Jvm.MethodName) ({ cls := "Dialectdepot", name := "errors", desc := "()I" } : Jvm.MethodName)) ∈ lw_all := lw_g (lw_at lw_m2 47 rfl) rfl
theorem q353 : (Jvm.Cond.code ({ cls := "Dialectdepot", name := "errors", desc := "()I" } : Jvm.MethodName) prog_1_method_74_code (6 : Nat) (Option.some Jvm.ClassFile.FieldType.int)) ∈ lw_all := lw_g (lw_at lw_m2 48 rfl) rfl
theorem q354 : (Jvm.Cond.classLink "Dialectdepot" (524 : Nat) "[[I") ∈ lw_all := lw_g (lw_at lw_m2 49 rfl) rfl
theorem q356 : (Jvm.Cond.classLink "Dialectdepot" (526 : Nat) "Dialectdepot$Event") ∈ lw_all := lw_g (lw_at lw_m2 51 rfl) rfl
theorem q357 : (Jvm.Cond.classLink "Dialectdepot" (227 : Nat) "Dialectdepot$Told") ∈ lw_all := lw_g (lw_at lw_m2 52 rfl) rfl
theorem q358 : (Jvm.Cond.methodLink "Dialectdepot" (528 : Nat) ({ cls := "Dialectdepot$Told", name := "carrier", desc := "()I" } : Jvm.MethodName)) ∈ lw_all := lw_g (lw_at lw_m2 53 rfl) rfl
theorem q362 : (Jvm.Cond.methodLink "Dialectdepot" (529 : Nat) ({ cls := "Dialectdepot$Told", name := "place", desc := "()I" } : Jvm.MethodName)) ∈ lw_all := lw_g (lw_at lw_m2 57 rfl) rfl
theorem q366 : (Jvm.Cond.interfaceEntry "Dialectdepot" (222 : Nat)) ∈ lw_tbl := lw_at lw_m2 61 rfl
theorem q367 : (Jvm.Cond.methodLink "Dialectdepot" (222 : Nat) ({ cls := "Dialectdepot$Change", name := "of", desc := "(I)I" } : Jvm.MethodName)) ∈ lw_all := lw_g (lw_at lw_m2 62 rfl) rfl
theorem q370 : (Jvm.Cond.classLink "Dialectdepot" (409 : Nat) "Dialectdepot$Tried") ∈ lw_all := lw_g (lw_at lw_m2 65 rfl) rfl
theorem q371 : (Jvm.Cond.methodLink "Dialectdepot" (439 : Nat) ({ cls := "Dialectdepot", name := "learn", desc := "(LDialectdepot$Tried;[[I)V" } : Jvm.MethodName)) ∈ lw_all := lw_g (lw_at lw_m2 66 rfl) rfl
theorem q372 : (Jvm.Cond.privateMethod ({ cls := "Dialectdepot", name := "learn", desc := "(LDialectdepot$Tried;[[I)V" } : Jvm.MethodName)) ∈ lw_tbl := lw_at lw_m2 67 rfl
theorem q373 : (Jvm.Cond.instanceMethod ({ cls := "Dialectdepot", name := "learn", desc := "(LDialectdepot$Tried;[[I)V" } : Jvm.MethodName)) ∈ lw_all := lw_g (lw_at lw_m2 68 rfl) rfl
theorem q374 : (Jvm.Cond.code ({ cls := "Dialectdepot", name := "learn", desc := "(LDialectdepot$Tried;[[I)V" } : Jvm.MethodName) prog_1_method_48_code (4 : Nat) (Option.none : Option Jvm.ClassFile.FieldType)) ∈ lw_all := lw_g (lw_at lw_m2 69 rfl) rfl
theorem q375 : (Jvm.Cond.methodLink "Dialectdepot" (408 : Nat) ({ cls := "Dialectdepot$Tried", name := "isRight", desc := "()Z" } : Jvm.MethodName)) ∈ lw_all := lw_g (lw_at lw_m2 70 rfl) rfl
theorem q379 : (Jvm.Cond.methodLink "Dialectdepot" (413 : Nat) ({ cls := "Dialectdepot$Tried", name := "carrier", desc := "()I" } : Jvm.MethodName)) ∈ lw_all := lw_g (lw_at lw_m2 74 rfl) rfl
theorem q383 : (Jvm.Cond.methodLink "Dialectdepot" (416 : Nat) ({ cls := "Dialectdepot$Tried", name := "parcel", desc := "()LDialectdepot$Parcel;" } : Jvm.MethodName)) ∈ lw_all := lw_g (lw_at lw_m2 78 rfl) rfl
theorem q387 : (Jvm.Cond.methodLink "Dialectdepot" (420 : Nat) ({ cls := "Dialectdepot$Tried", name := "street", desc := "()I" } : Jvm.MethodName)) ∈ lw_all := lw_g (lw_at lw_m2 82 rfl) rfl
theorem q391 : (Jvm.Cond.methodLink "Dialectdepot" (421 : Nat) ({ cls := "Dialectdepot$Change", name := "all", desc := "(LDialectdepot$Change;[ILDialectdepot$Parcel;I)V" } : Jvm.MethodName)) ∈ lw_all := lw_g (lw_at lw_m2 86 rfl) rfl
theorem q397 : (Jvm.Cond.methodLink "Dialectdepot" (425 : Nat) ({ cls := "Dialectdepot$Tried", name := "listeners", desc := "()I" } : Jvm.MethodName)) ∈ lw_all := lw_g (lw_at lw_m2 92 rfl) rfl
theorem q401 : (Jvm.Cond.methodLink "Dialectdepot" (374 : Nat) ({ cls := "Dialectdepot", name := "has", desc := "(II)Z" } : Jvm.MethodName)) ∈ lw_all := lw_g (lw_at lw_m2 96 rfl) rfl
theorem q402 : (Jvm.Cond.static ({ cls := "Dialectdepot", name := "has", desc := "(II)Z" } : Jvm.MethodName)) ∈ lw_all := lw_g (lw_at lw_m2 97 rfl) rfl
theorem q403 : (Jvm.Cond.code ({ cls := "Dialectdepot", name := "has", desc := "(II)Z" } : Jvm.MethodName) prog_1_method_3_code (2 : Nat) (Option.some Jvm.ClassFile.FieldType.boolean)) ∈ lw_all := lw_g (lw_at lw_m2 98 rfl) rfl
theorem q404 : (Jvm.Cond.methodLink "Dialectdepot" (485 : Nat) ({ cls := "Dialectdepot", name := "forget", desc := "([[I)V" } : Jvm.MethodName)) ∈ lw_all := lw_g (lw_at lw_m2 99 rfl) rfl
theorem q405 : (Jvm.Cond.privateMethod ({ cls := "Dialectdepot", name := "forget", desc := "([[I)V" } : Jvm.MethodName)) ∈ lw_tbl := lw_at lw_m2 100 rfl
theorem q406 : (Jvm.Cond.instanceMethod ({ cls := "Dialectdepot", name := "forget", desc := "([[I)V" } : Jvm.MethodName)) ∈ lw_all := lw_g (lw_at lw_m2 101 rfl) rfl
theorem q407 : (Jvm.Cond.code ({ cls := "Dialectdepot", name := "forget", desc := "([[I)V" } : Jvm.MethodName) prog_1_method_54_code (7 : Nat) (Option.none : Option Jvm.ClassFile.FieldType)) ∈ lw_all := lw_g (lw_at lw_m2 102 rfl) rfl
theorem q408 : (Jvm.Cond.classLink "Dialectdepot" (196 : Nat) "Dialectdepot$Carrier") ∈ lw_all := lw_g (lw_at lw_m2 103 rfl) rfl
theorem q411 : (Jvm.Cond.instanceMethod ({ cls := "Dialectdepot", name := "meanAttempts", desc := "()D" } : Jvm.MethodName)) ∈ lw_all := lw_g (lw_at lw_m2 106 rfl) rfl
theorem q412 : (Jvm.Cond.selects "Dialectdepot" ({ cls := "Dialectdepot", name := "meanAttempts", desc := "()D" } : Jvm.MethodName) ({ cls := "Dialectdepot", name := "meanAttempts", desc := "()D" } : Jvm.MethodName)) ∈ lw_all := lw_g (lw_at lw_m2 107 rfl) rfl
theorem q413 : (Jvm.Cond.code ({ cls := "Dialectdepot", name := "meanAttempts", desc := "()D" } : Jvm.MethodName) prog_1_method_75_code (3 : Nat) (Option.some Jvm.ClassFile.FieldType.double)) ∈ lw_all := lw_g (lw_at lw_m2 108 rfl) rfl
theorem q414 : (Jvm.Cond.classLink "Dialectdepot" (305 : Nat) "Dialectdepot$Parcel") ∈ lw_all := lw_g (lw_at lw_m2 109 rfl) rfl
theorem q416 : (Jvm.Cond.instanceMethod ({ cls := "Dialectdepot", name := "deliveredShare", desc := "()F" } : Jvm.MethodName)) ∈ lw_all := lw_g (lw_at lw_m2 111 rfl) rfl
theorem q417 : (Jvm.Cond.selects "Dialectdepot" ({ cls := "Dialectdepot", name := "deliveredShare", desc := "()F" } : Jvm.MethodName) ({ cls := "Dialectdepot", name := "deliveredShare", desc := "()F" } : Jvm.MethodName)) ∈ lw_all := lw_g (lw_at lw_m2 112 rfl) rfl
theorem q418 : (Jvm.Cond.code ({ cls := "Dialectdepot", name := "deliveredShare", desc := "()F" } : Jvm.MethodName) prog_1_method_76_code (1 : Nat) (Option.some Jvm.ClassFile.FieldType.float)) ∈ lw_all := lw_g (lw_at lw_m2 113 rfl) rfl
theorem q419 : (Jvm.Cond.interfaceEntry "Dialectdepot" (530 : Nat)) ∈ lw_tbl := lw_at lw_m2 114 rfl
theorem q420 : (Jvm.Cond.methodLink "Dialectdepot" (530 : Nat) ({ cls := "java/util/List", name := "isEmpty", desc := "()Z" } : Jvm.MethodName)) ∈ lw_all := lw_g (lw_at lw_m2 115 rfl) rfl
theorem q433 : (Jvm.Cond.instanceMethod ({ cls := "Dialectdepot", name := "addStreet", desc := "()I" } : Jvm.MethodName)) ∈ lw_all := lw_g (lw_at lw_m2 128 rfl) rfl
theorem q434 : (Jvm.Cond.selects "Dialectdepot" ({ cls := "Dialectdepot", name := "addStreet", desc := "()I" } : Jvm.MethodName) ({ cls := "Dialectdepot", name := "addStreet", desc := "()I" } : Jvm.MethodName)) ∈ lw_all := lw_g (lw_at lw_m2 129 rfl) rfl
theorem q435 : (Jvm.Cond.code ({ cls := "Dialectdepot", name := "addStreet", desc := "()I" } : Jvm.MethodName) prog_1_method_11_code (1 : Nat) (Option.some Jvm.ClassFile.FieldType.int)) ∈ lw_all := lw_g (lw_at lw_m2 130 rfl) rfl
theorem q436 : (Jvm.Cond.methodLink "Dialectdepot" (110 : Nat) ({ cls := "Dialectdepot", name := "allow", desc := "(Z)V" } : Jvm.MethodName)) ∈ lw_all := lw_g (lw_at lw_m2 131 rfl) rfl
theorem q437 : (Jvm.Cond.static ({ cls := "Dialectdepot", name := "allow", desc := "(Z)V" } : Jvm.MethodName)) ∈ lw_all := lw_g (lw_at lw_m2 132 rfl) rfl
theorem q438 : (Jvm.Cond.code ({ cls := "Dialectdepot", name := "allow", desc := "(Z)V" } : Jvm.MethodName) prog_1_method_6_code (1 : Nat) (Option.none : Option Jvm.ClassFile.FieldType)) ∈ lw_all := lw_g (lw_at lw_m2 133 rfl) rfl
theorem q439 : (Jvm.Cond.classLink "Dialectdepot" (79 : Nat) "java/lang/IllegalStateException") ∈ lw_all := lw_g (lw_at lw_m2 134 rfl) rfl
theorem q489 : (Jvm.Cond.methodLink "Dialectdepot" (81 : Nat) ({ cls := "java/lang/IllegalStateException", name := "<init>", desc := "()V" } : Jvm.MethodName)) ∈ lw_all := lw_g (lw_at lw_m2 184 rfl) rfl
theorem q516 : (Jvm.Cond.instanceMethod ({ cls := "Dialectdepot", name := "addName", desc := "()I" } : Jvm.MethodName)) ∈ lw_all := lw_g (lw_at lw_m2 211 rfl) rfl
theorem q517 : (Jvm.Cond.selects "Dialectdepot" ({ cls := "Dialectdepot", name := "addName", desc := "()I" } : Jvm.MethodName) ({ cls := "Dialectdepot", name := "addName", desc := "()I" } : Jvm.MethodName)) ∈ lw_all := lw_g (lw_at lw_m2 212 rfl) rfl
theorem q518 : (Jvm.Cond.code ({ cls := "Dialectdepot", name := "addName", desc := "()I" } : Jvm.MethodName) prog_1_method_15_code (2 : Nat) (Option.some Jvm.ClassFile.FieldType.int)) ∈ lw_all := lw_g (lw_at lw_m2 213 rfl) rfl
theorem q519 : (Jvm.Cond.methodLink "Dialectdepot" (140 : Nat) ({ cls := "java/lang/StringBuilder", name := "toString", desc := "()Ljava/lang/String;" } : Jvm.MethodName)) ∈ lw_all := lw_g (lw_at lw_m2 214 rfl) rfl
theorem q747 : (Jvm.Cond.methodLink "Dialectdepot" (144 : Nat) ({ cls := "Dialectdepot", name := "isName", desc := "(Ljava/lang/String;)Z" } : Jvm.MethodName)) ∈ lw_all := lw_g (lw_at lw_m3 202 rfl) rfl
theorem q748 : (Jvm.Cond.static ({ cls := "Dialectdepot", name := "isName", desc := "(Ljava/lang/String;)Z" } : Jvm.MethodName)) ∈ lw_all := lw_g (lw_at lw_m3 203 rfl) rfl
theorem q749 : (Jvm.Cond.code ({ cls := "Dialectdepot", name := "isName", desc := "(Ljava/lang/String;)Z" } : Jvm.MethodName) prog_1_method_14_code (3 : Nat) (Option.some Jvm.ClassFile.FieldType.boolean)) ∈ lw_all := lw_g (lw_at lw_m3 204 rfl) rfl
theorem q750 : (Jvm.Cond.methodLink "Dialectdepot" (125 : Nat) ({ cls := "java/lang/String", name := "length", desc := "()I" } : Jvm.MethodName)) ∈ lw_all := lw_g (lw_at lw_m3 205 rfl) rfl
theorem q751 : (Jvm.Cond.methodLink "Dialectdepot" (91 : Nat) ({ cls := "Dialectdepot", name := "inRange", desc := "(III)Z" } : Jvm.MethodName)) ∈ lw_all := lw_g (lw_at lw_m3 206 rfl) rfl
theorem q752 : (Jvm.Cond.static ({ cls := "Dialectdepot", name := "inRange", desc := "(III)Z" } : Jvm.MethodName)) ∈ lw_all := lw_g (lw_at lw_m3 207 rfl) rfl
theorem q753 : (Jvm.Cond.code ({ cls := "Dialectdepot", name := "inRange", desc := "(III)Z" } : Jvm.MethodName) prog_1_method_4_code (3 : Nat) (Option.some Jvm.ClassFile.FieldType.boolean)) ∈ lw_all := lw_g (lw_at lw_m3 208 rfl) rfl
theorem q754 : (Jvm.Cond.stringRef "Dialectdepot" (128 : Nat) "or") ∈ lw_tbl := lw_at lw_m3 209 rfl
theorem q755 : (Jvm.Cond.methodLink "Dialectdepot" (119 : Nat) ({ cls := "java/lang/String", name := "equals", desc := "(Ljava/lang/Object;)Z" } : Jvm.MethodName)) ∈ lw_all := lw_g (lw_at lw_m3 210 rfl) rfl
theorem q763 : (Jvm.Cond.stringRef "Dialectdepot" (130 : Nat) "not") ∈ lw_tbl := lw_at lw_m3 218 rfl
theorem q764 : (Jvm.Cond.methodLink "Dialectdepot" (132 : Nat) ({ cls := "java/lang/String", name := "charAt", desc := "(I)C" } : Jvm.MethodName)) ∈ lw_all := lw_g (lw_at lw_m3 219 rfl) rfl
theorem q786 : (Jvm.Cond.methodLink "Dialectdepot" (136 : Nat) ({ cls := "Dialectdepot", name := "isLetter", desc := "(C)Z" } : Jvm.MethodName)) ∈ lw_all := lw_g (lw_at lw_m4 1 rfl) rfl
theorem q787 : (Jvm.Cond.static ({ cls := "Dialectdepot", name := "isLetter", desc := "(C)Z" } : Jvm.MethodName)) ∈ lw_all := lw_g (lw_at lw_m4 2 rfl) rfl
theorem q788 : (Jvm.Cond.code ({ cls := "Dialectdepot", name := "isLetter", desc := "(C)Z" } : Jvm.MethodName) prog_1_method_12_code (1 : Nat) (Option.some Jvm.ClassFile.FieldType.boolean)) ∈ lw_all := lw_g (lw_at lw_m4 3 rfl) rfl
theorem q789 : (Jvm.Cond.methodLink "Dialectdepot" (148 : Nat) ({ cls := "Dialectdepot", name := "nameOf", desc := "(Ljava/lang/String;)LDialectdepot$Name;" } : Jvm.MethodName)) ∈ lw_all := lw_g (lw_at lw_m4 4 rfl) rfl
theorem q790 : (Jvm.Cond.privateMethod ({ cls := "Dialectdepot", name := "nameOf", desc := "(Ljava/lang/String;)LDialectdepot$Name;" } : Jvm.MethodName)) ∈ lw_tbl := lw_at lw_m4 5 rfl
theorem q791 : (Jvm.Cond.instanceMethod ({ cls := "Dialectdepot", name := "nameOf", desc := "(Ljava/lang/String;)LDialectdepot$Name;" } : Jvm.MethodName)) ∈ lw_all := lw_g (lw_at lw_m4 6 rfl) rfl
theorem q792 : (Jvm.Cond.code ({ cls := "Dialectdepot", name := "nameOf", desc := "(Ljava/lang/String;)LDialectdepot$Name;" } : Jvm.MethodName) prog_1_method_13_code (3 : Nat) (Option.some (Jvm.ClassFile.FieldType.object "Dialectdepot$Name"))) ∈ lw_all := lw_g (lw_at lw_m4 7 rfl) rfl
theorem q794 : (Jvm.Cond.methodLink "Dialectdepot" (152 : Nat) ({ cls := "Dialectdepot$Name", name := "<init>", desc := "(ILjava/lang/String;)V" } : Jvm.MethodName)) ∈ lw_all := lw_g (lw_at lw_m4 9 rfl) rfl
theorem q801 : (Jvm.Cond.fieldLinkNest "Dialectdepot" (249 : Nat) "Dialectdepot$Name" "number" "I" "Dialectdepot") ∈ lw_tbl := lw_at lw_m4 16 rfl
theorem q803 : (Jvm.Cond.fieldLinkNest "Dialectdepot" (115 : Nat) "Dialectdepot$Name" "text" "Ljava/lang/String;" "Dialectdepot") ∈ lw_tbl := lw_at lw_m4 18 rfl
theorem q805 : (Jvm.Cond.fieldLinkNest "Dialectdepot" (498 : Nat) "Dialectdepot$Name" "claims" "Ljava/util/List;" "Dialectdepot") ∈ lw_tbl := lw_at lw_m4 20 rfl
theorem q807 : (Jvm.Cond.fieldLinkNest "Dialectdepot" (349 : Nat) "Dialectdepot$Name" "ruled" "I" "Dialectdepot") ∈ lw_tbl := lw_at lw_m4 22 rfl
theorem q808 : (Jvm.Cond.fieldLinkNest "Dialectdepot" (514 : Nat) "Dialectdepot$Name" "ruledOn" "I" "Dialectdepot") ∈ lw_tbl := lw_at lw_m4 23 rfl
theorem q810 : (Jvm.Cond.fieldLinkNest "Dialectdepot" (342 : Nat) "Dialectdepot$Name" "openedOn" "I" "Dialectdepot") ∈ lw_tbl := lw_at lw_m4 25 rfl
theorem q811 : (Jvm.Cond.fieldLinkNest "Dialectdepot" (521 : Nat) "Dialectdepot$Name" "isAppealed" "Z" "Dialectdepot") ∈ lw_tbl := lw_at lw_m4 26 rfl
theorem q827 : (Jvm.Cond.interfaceEntry "Dialectdepot" (155 : Nat)) ∈ lw_tbl := lw_at lw_m4 42 rfl
theorem q828 : (Jvm.Cond.methodLink "Dialectdepot" (155 : Nat) ({ cls := "java/util/List", name := "add", desc := "(Ljava/lang/Object;)Z" } : Jvm.MethodName)) ∈ lw_all := lw_g (lw_at lw_m4 43 rfl) rfl
theorem q855 : (Jvm.Cond.selects "Dialectdepot" ({ cls := "java/lang/Object", name := "getClass", desc := "()Ljava/lang/Class;" } : Jvm.MethodName) ({ cls := "java/lang/Object", name := "getClass", desc := "()Ljava/lang/Class;" } : Jvm.MethodName)) ∈ lw_all := lw_g (lw_at lw_m4 70 rfl) rfl
theorem q893 : (Jvm.Cond.methodLink "Dialectdepot" (158 : Nat) ({ cls := "java/lang/StringBuilder", name := "setLength", desc := "(I)V" } : Jvm.MethodName)) ∈ lw_all := lw_g (lw_at lw_m4 108 rfl) rfl
theorem q969 : (Jvm.Cond.instanceMethod ({ cls := "Dialectdepot", name := "addUsage", desc := "(IIIII)I" } : Jvm.MethodName)) ∈ lw_all := lw_g (lw_at lw_m4 184 rfl) rfl
theorem q970 : (Jvm.Cond.selects "Dialectdepot" ({ cls := "Dialectdepot", name := "addUsage", desc := "(IIIII)I" } : Jvm.MethodName) ({ cls := "Dialectdepot", name := "addUsage", desc := "(IIIII)I" } : Jvm.MethodName)) ∈ lw_all := lw_g (lw_at lw_m4 185 rfl) rfl
theorem q971 : (Jvm.Cond.code ({ cls := "Dialectdepot", name := "addUsage", desc := "(IIIII)I" } : Jvm.MethodName) prog_1_method_16_code (10 : Nat) (Option.some Jvm.ClassFile.FieldType.int)) ∈ lw_all := lw_g (lw_at lw_m4 186 rfl) rfl
theorem q972 : (Jvm.Cond.methodLink "Dialectdepot" (162 : Nat) ({ cls := "Dialectdepot", name := "at", desc := "(Ljava/util/List;I)Ljava/lang/Object;" } : Jvm.MethodName)) ∈ lw_all := lw_g (lw_at lw_m4 187 rfl) rfl
theorem q973 : (Jvm.Cond.static ({ cls := "Dialectdepot", name := "at", desc := "(Ljava/util/List;I)Ljava/lang/Object;" } : Jvm.MethodName)) ∈ lw_all := lw_g (lw_at lw_m4 188 rfl) rfl
theorem q974 : (Jvm.Cond.code ({ cls := "Dialectdepot", name := "at", desc := "(Ljava/util/List;I)Ljava/lang/Object;" } : Jvm.MethodName) prog_1_method_8_code (2 : Nat) (Option.some (Jvm.ClassFile.FieldType.object "java/lang/Object"))) ∈ lw_all := lw_g (lw_at lw_m4 189 rfl) rfl
theorem q975 : (Jvm.Cond.methodLink "Dialectdepot" (95 : Nat) ({ cls := "Dialectdepot", name := "requireIndex", desc := "(Z)V" } : Jvm.MethodName)) ∈ lw_all := lw_g (lw_at lw_m4 190 rfl) rfl
theorem q976 : (Jvm.Cond.static ({ cls := "Dialectdepot", name := "requireIndex", desc := "(Z)V" } : Jvm.MethodName)) ∈ lw_all := lw_g (lw_at lw_m4 191 rfl) rfl
theorem q977 : (Jvm.Cond.code ({ cls := "Dialectdepot", name := "requireIndex", desc := "(Z)V" } : Jvm.MethodName) prog_1_method_7_code (1 : Nat) (Option.none : Option Jvm.ClassFile.FieldType)) ∈ lw_all := lw_g (lw_at lw_m4 192 rfl) rfl
theorem q978 : (Jvm.Cond.classLink "Dialectdepot" (82 : Nat) "java/lang/IndexOutOfBoundsException") ∈ lw_all := lw_g (lw_at lw_m4 193 rfl) rfl
theorem q987 : (Jvm.Cond.methodLink "Dialectdepot" (84 : Nat) ({ cls := "java/lang/IndexOutOfBoundsException", name := "<init>", desc := "()V" } : Jvm.MethodName)) ∈ lw_all := lw_g (lw_at lw_m4 202 rfl) rfl
theorem q993 : (Jvm.Cond.methodLink "Dialectdepot" (166 : Nat) ({ cls := "Dialectdepot", name := "requireStreet", desc := "(I)V" } : Jvm.MethodName)) ∈ lw_all := lw_g (lw_at lw_m4 208 rfl) rfl
theorem q994 : (Jvm.Cond.privateMethod ({ cls := "Dialectdepot", name := "requireStreet", desc := "(I)V" } : Jvm.MethodName)) ∈ lw_tbl := lw_at lw_m4 209 rfl
theorem q995 : (Jvm.Cond.instanceMethod ({ cls := "Dialectdepot", name := "requireStreet", desc := "(I)V" } : Jvm.MethodName)) ∈ lw_all := lw_g (lw_at lw_m4 210 rfl) rfl
theorem q996 : (Jvm.Cond.code ({ cls := "Dialectdepot", name := "requireStreet", desc := "(I)V" } : Jvm.MethodName) prog_1_method_9_code (2 : Nat) (Option.none : Option Jvm.ClassFile.FieldType)) ∈ lw_all := lw_g (lw_at lw_m4 211 rfl) rfl
theorem q997 : (Jvm.Cond.methodLink "Dialectdepot" (107 : Nat) ({ cls := "Dialectdepot", name := "require", desc := "(Z)V" } : Jvm.MethodName)) ∈ lw_all := lw_g (lw_at lw_m4 212 rfl) rfl
theorem q998 : (Jvm.Cond.static ({ cls := "Dialectdepot", name := "require", desc := "(Z)V" } : Jvm.MethodName)) ∈ lw_all := lw_g (lw_at lw_m4 213 rfl) rfl
theorem q999 : (Jvm.Cond.code ({ cls := "Dialectdepot", name := "require", desc := "(Z)V" } : Jvm.MethodName) prog_1_method_5_code (1 : Nat) (Option.none : Option Jvm.ClassFile.FieldType)) ∈ lw_all := lw_g (lw_at lw_m4 214 rfl) rfl
theorem q1000 : (Jvm.Cond.classLink "Dialectdepot" (76 : Nat) "java/lang/IllegalArgumentException") ∈ lw_all := lw_g (lw_at lw_m4 215 rfl) rfl
theorem q1001 : (Jvm.Cond.methodLink "Dialectdepot" (78 : Nat) ({ cls := "java/lang/IllegalArgumentException", name := "<init>", desc := "()V" } : Jvm.MethodName)) ∈ lw_all := lw_g (lw_at lw_m4 216 rfl) rfl
theorem q1005 : (Jvm.Cond.methodLink "Dialectdepot" (171 : Nat) ({ cls := "Dialectdepot$Usage", name := "group", desc := "()I" } : Jvm.MethodName)) ∈ lw_all := lw_g (lw_at lw_m4 220 rfl) rfl
theorem q1009 : (Jvm.Cond.methodLink "Dialectdepot" (174 : Nat) ({ cls := "Dialectdepot$Usage", name := "name", desc := "()I" } : Jvm.MethodName)) ∈ lw_all := lw_g (lw_at lw_m4 224 rfl) rfl
theorem q1013 : (Jvm.Cond.methodLink "Dialectdepot" (177 : Nat) ({ cls := "Dialectdepot$Usage", name := "to", desc := "()I" } : Jvm.MethodName)) ∈ lw_all := lw_g (lw_at lw_m4 228 rfl) rfl
theorem q1017 : (Jvm.Cond.methodLink "Dialectdepot" (180 : Nat) ({ cls := "Dialectdepot$Usage", name := "from", desc := "()I" } : Jvm.MethodName)) ∈ lw_all := lw_g (lw_at lw_m4 232 rfl) rfl
theorem q1022 : (Jvm.Cond.methodLinkNest "Dialectdepot" (183 : Nat) ({ cls := "Dialectdepot$Usage", name := "<init>", desc := "(IIIII)V" } : Jvm.MethodName) "Dialectdepot") ∈ lw_tbl := lw_at lw_m4 237 rfl
theorem q1049 : (Jvm.Cond.instanceMethod ({ cls := "Dialectdepot", name := "streetFor", desc := "(III)I" } : Jvm.MethodName)) ∈ lw_all := lw_g (lw_at lw_m5 24 rfl) rfl
theorem q1050 : (Jvm.Cond.selects "Dialectdepot" ({ cls := "Dialectdepot", name := "streetFor", desc := "(III)I" } : Jvm.MethodName) ({ cls := "Dialectdepot", name := "streetFor", desc := "(III)I" } : Jvm.MethodName)) ∈ lw_all := lw_g (lw_at lw_m5 25 rfl) rfl
theorem q1051 : (Jvm.Cond.code ({ cls := "Dialectdepot", name := "streetFor", desc := "(III)I" } : Jvm.MethodName) prog_1_method_17_code (7 : Nat) (Option.some Jvm.ClassFile.FieldType.int)) ∈ lw_all := lw_g (lw_at lw_m5 26 rfl) rfl
theorem q1052 : (Jvm.Cond.methodLink "Dialectdepot" (190 : Nat) ({ cls := "Dialectdepot$Usage", name := "street", desc := "()I" } : Jvm.MethodName)) ∈ lw_all := lw_g (lw_at lw_m5 27 rfl) rfl
theorem q1060 : (Jvm.Cond.instanceMethod ({ cls := "Dialectdepot", name := "addCarrier", desc := "(II)I" } : Jvm.MethodName)) ∈ lw_all := lw_g (lw_at lw_m5 35 rfl) rfl
theorem q1061 : (Jvm.Cond.selects "Dialectdepot" ({ cls := "Dialectdepot", name := "addCarrier", desc := "(II)I" } : Jvm.MethodName) ({ cls := "Dialectdepot", name := "addCarrier", desc := "(II)I" } : Jvm.MethodName)) ∈ lw_all := lw_g (lw_at lw_m5 36 rfl) rfl
theorem q1062 : (Jvm.Cond.code ({ cls := "Dialectdepot", name := "addCarrier", desc := "(II)I" } : Jvm.MethodName) prog_1_method_19_code (3 : Nat) (Option.some Jvm.ClassFile.FieldType.int)) ∈ lw_all := lw_g (lw_at lw_m5 37 rfl) rfl
theorem q1063 : (Jvm.Cond.methodLink "Dialectdepot" (193 : Nat) ({ cls := "Dialectdepot", name := "isRound", desc := "(I)Z" } : Jvm.MethodName)) ∈ lw_all := lw_g (lw_at lw_m5 38 rfl) rfl
theorem q1064 : (Jvm.Cond.privateMethod ({ cls := "Dialectdepot", name := "isRound", desc := "(I)Z" } : Jvm.MethodName)) ∈ lw_tbl := lw_at lw_m5 39 rfl
theorem q1065 : (Jvm.Cond.instanceMethod ({ cls := "Dialectdepot", name := "isRound", desc := "(I)Z" } : Jvm.MethodName)) ∈ lw_all := lw_g (lw_at lw_m5 40 rfl) rfl
theorem q1066 : (Jvm.Cond.code ({ cls := "Dialectdepot", name := "isRound", desc := "(I)Z" } : Jvm.MethodName) prog_1_method_18_code (2 : Nat) (Option.some Jvm.ClassFile.FieldType.boolean)) ∈ lw_all := lw_g (lw_at lw_m5 41 rfl) rfl
theorem q1068 : (Jvm.Cond.methodLink "Dialectdepot" (198 : Nat) ({ cls := "Dialectdepot$Carrier", name := "<init>", desc := "(III)V" } : Jvm.MethodName)) ∈ lw_all := lw_g (lw_at lw_m5 43 rfl) rfl
theorem q1075 : (Jvm.Cond.fieldLinkNest "Dialectdepot" (429 : Nat) "Dialectdepot$Carrier" "number" "I" "Dialectdepot") ∈ lw_tbl := lw_at lw_m5 50 rfl
theorem q1077 : (Jvm.Cond.fieldLinkNest "Dialectdepot" (210 : Nat) "Dialectdepot$Carrier" "lessons" "[I" "Dialectdepot") ∈ lw_tbl := lw_at lw_m5 52 rfl
theorem q1079 : (Jvm.Cond.fieldLinkNest "Dialectdepot" (371 : Nat) "Dialectdepot$Carrier" "given" "Ljava/util/List;" "Dialectdepot") ∈ lw_tbl := lw_at lw_m5 54 rfl
theorem q1081 : (Jvm.Cond.fieldLinkNest "Dialectdepot" (392 : Nat) "Dialectdepot$Carrier" "streets" "Ljava/util/List;" "Dialectdepot") ∈ lw_tbl := lw_at lw_m5 56 rfl
theorem q1083 : (Jvm.Cond.fieldLinkNest "Dialectdepot" (201 : Nat) "Dialectdepot$Carrier" "round" "I" "Dialectdepot") ∈ lw_tbl := lw_at lw_m5 58 rfl
theorem q1085 : (Jvm.Cond.fieldLinkNest "Dialectdepot" (204 : Nat) "Dialectdepot$Carrier" "room" "I" "Dialectdepot") ∈ lw_tbl := lw_at lw_m5 60 rfl
theorem q1103 : (Jvm.Cond.instanceMethod ({ cls := "Dialectdepot", name := "setRound", desc := "(II)I" } : Jvm.MethodName)) ∈ lw_all := lw_g (lw_at lw_m5 78 rfl) rfl
theorem q1104 : (Jvm.Cond.selects "Dialectdepot" ({ cls := "Dialectdepot", name := "setRound", desc := "(II)I" } : Jvm.MethodName) ({ cls := "Dialectdepot", name := "setRound", desc := "(II)I" } : Jvm.MethodName)) ∈ lw_all := lw_g (lw_at lw_m5 79 rfl) rfl
theorem q1105 : (Jvm.Cond.code ({ cls := "Dialectdepot", name := "setRound", desc := "(II)I" } : Jvm.MethodName) prog_1_method_20_code (5 : Nat) (Option.some Jvm.ClassFile.FieldType.int)) ∈ lw_all := lw_g (lw_at lw_m5 80 rfl) rfl
theorem q1110 : (Jvm.Cond.instanceMethod ({ cls := "Dialectdepot", name := "setRoom", desc := "(II)I" } : Jvm.MethodName)) ∈ lw_all := lw_g (lw_at lw_m5 85 rfl) rfl
theorem q1111 : (Jvm.Cond.selects "Dialectdepot" ({ cls := "Dialectdepot", name := "setRoom", desc := "(II)I" } : Jvm.MethodName) ({ cls := "Dialectdepot", name := "setRoom", desc := "(II)I" } : Jvm.MethodName)) ∈ lw_all := lw_g (lw_at lw_m5 86 rfl) rfl
theorem q1112 : (Jvm.Cond.code ({ cls := "Dialectdepot", name := "setRoom", desc := "(II)I" } : Jvm.MethodName) prog_1_method_21_code (5 : Nat) (Option.some Jvm.ClassFile.FieldType.int)) ∈ lw_all := lw_g (lw_at lw_m5 87 rfl) rfl
theorem q1117 : (Jvm.Cond.instanceMethod ({ cls := "Dialectdepot", name := "lesson", desc := "(IIII)I" } : Jvm.MethodName)) ∈ lw_all := lw_g (lw_at lw_m5 92 rfl) rfl
theorem q1118 : (Jvm.Cond.selects "Dialectdepot" ({ cls := "Dialectdepot", name := "lesson", desc := "(IIII)I" } : Jvm.MethodName) ({ cls := "Dialectdepot", name := "lesson", desc := "(IIII)I" } : Jvm.MethodName)) ∈ lw_all := lw_g (lw_at lw_m5 93 rfl) rfl
theorem q1119 : (Jvm.Cond.code ({ cls := "Dialectdepot", name := "lesson", desc := "(IIII)I" } : Jvm.MethodName) prog_1_method_22_code (7 : Nat) (Option.some Jvm.ClassFile.FieldType.int)) ∈ lw_all := lw_g (lw_at lw_m5 94 rfl) rfl
theorem q1120 : (Jvm.Cond.methodLink "Dialectdepot" (207 : Nat) ({ cls := "Dialectdepot", name := "requireGroup", desc := "(I)V" } : Jvm.MethodName)) ∈ lw_all := lw_g (lw_at lw_m5 95 rfl) rfl
theorem q1121 : (Jvm.Cond.static ({ cls := "Dialectdepot", name := "requireGroup", desc := "(I)V" } : Jvm.MethodName)) ∈ lw_all := lw_g (lw_at lw_m5 96 rfl) rfl
theorem q1122 : (Jvm.Cond.code ({ cls := "Dialectdepot", name := "requireGroup", desc := "(I)V" } : Jvm.MethodName) prog_1_method_10_code (1 : Nat) (Option.none : Option Jvm.ClassFile.FieldType)) ∈ lw_all := lw_g (lw_at lw_m5 97 rfl) rfl
theorem q1127 : (Jvm.Cond.instanceMethod ({ cls := "Dialectdepot", name := "tell", desc := "(IIII)I" } : Jvm.MethodName)) ∈ lw_all := lw_g (lw_at lw_m5 102 rfl) rfl
theorem q1128 : (Jvm.Cond.selects "Dialectdepot" ({ cls := "Dialectdepot", name := "tell", desc := "(IIII)I" } : Jvm.MethodName) ({ cls := "Dialectdepot", name := "tell", desc := "(IIII)I" } : Jvm.MethodName)) ∈ lw_all := lw_g (lw_at lw_m5 103 rfl) rfl
theorem q1129 : (Jvm.Cond.code ({ cls := "Dialectdepot", name := "tell", desc := "(IIII)I" } : Jvm.MethodName) prog_1_method_23_code (8 : Nat) (Option.some Jvm.ClassFile.FieldType.int)) ∈ lw_all := lw_g (lw_at lw_m5 104 rfl) rfl
theorem q1130 : (Jvm.Cond.methodLink "Dialectdepot" (218 : Nat) ({ cls := "Dialectdepot", name := "lesson", desc := "(IIII)I" } : Jvm.MethodName)) ∈ lw_all := lw_g (lw_at lw_m5 105 rfl) rfl
theorem q1132 : (Jvm.Cond.methodLinkNest "Dialectdepot" (229 : Nat) ({ cls := "Dialectdepot$Told", name := "<init>", desc := "(II)V" } : Jvm.MethodName) "Dialectdepot") ∈ lw_tbl := lw_at lw_m5 107 rfl
theorem q1147 : (Jvm.Cond.instanceMethod ({ cls := "Dialectdepot", name := "feed", desc := "(II)I" } : Jvm.MethodName)) ∈ lw_all := lw_g (lw_at lw_m5 122 rfl) rfl
theorem q1148 : (Jvm.Cond.selects "Dialectdepot" ({ cls := "Dialectdepot", name := "feed", desc := "(II)I" } : Jvm.MethodName) ({ cls := "Dialectdepot", name := "feed", desc := "(II)I" } : Jvm.MethodName)) ∈ lw_all := lw_g (lw_at lw_m5 123 rfl) rfl
theorem q1149 : (Jvm.Cond.code ({ cls := "Dialectdepot", name := "feed", desc := "(II)I" } : Jvm.MethodName) prog_1_method_24_code (6 : Nat) (Option.some Jvm.ClassFile.FieldType.int)) ∈ lw_all := lw_g (lw_at lw_m5 124 rfl) rfl
theorem q1150 : (Jvm.Cond.methodLink "Dialectdepot" (232 : Nat) ({ cls := "java/lang/StringBuilder", name := "<init>", desc := "(I)V" } : Jvm.MethodName)) ∈ lw_all := lw_g (lw_at lw_m5 125 rfl) rfl
theorem q1153 : (Jvm.Cond.methodLink "Dialectdepot" (234 : Nat) ({ cls := "java/lang/StringBuilder", name := "append", desc := "(C)Ljava/lang/StringBuilder;" } : Jvm.MethodName)) ∈ lw_all := lw_g (lw_at lw_m5 128 rfl) rfl
theorem q1166 : (Jvm.Cond.methodLink "Dialectdepot" (238 : Nat) ({ cls := "java/lang/StringBuilder", name := "length", desc := "()I" } : Jvm.MethodName)) ∈ lw_all := lw_g (lw_at lw_m5 141 rfl) rfl
theorem q1167 : (Jvm.Cond.methodLink "Dialectdepot" (239 : Nat) ({ cls := "java/lang/StringBuilder", name := "append", desc := "(Ljava/lang/CharSequence;)Ljava/lang/StringBuilder;" } : Jvm.MethodName)) ∈ lw_all := lw_g (lw_at lw_m5 142 rfl) rfl
theorem q1270 : (Jvm.Cond.instanceMethod ({ cls := "Dialectdepot", name := "post", desc := "(IIII)I" } : Jvm.MethodName)) ∈ lw_all := lw_g (lw_at lw_m6 5 rfl) rfl
theorem q1271 : (Jvm.Cond.selects "Dialectdepot" ({ cls := "Dialectdepot", name := "post", desc := "(IIII)I" } : Jvm.MethodName) ({ cls := "Dialectdepot", name := "post", desc := "(IIII)I" } : Jvm.MethodName)) ∈ lw_all := lw_g (lw_at lw_m6 6 rfl) rfl
theorem q1272 : (Jvm.Cond.codeWith ({ cls := "Dialectdepot", name := "post", desc := "(IIII)I" } : Jvm.MethodName) prog_1_method_28_code (8 : Nat) (Option.some Jvm.ClassFile.FieldType.int) [((66 : Nat), (114 : Nat), (125 : Nat), (270 : Nat)), ((66 : Nat), (114 : Nat), (145 : Nat), (0 : Nat)), ((125 : Nat), (134 : Nat), (145 : Nat), (0 : Nat)), ((145 : Nat), (147 : Nat), (145 : Nat), (0 : Nat))]) ∈ lw_all := lw_g (lw_at lw_m6 7 rfl) rfl
theorem q1273 : (Jvm.Cond.classLink "Dialectdepot" (270 : Nat) "Dialectdepot$Fault") ∈ lw_all := lw_g (lw_at lw_m6 8 rfl) rfl
theorem q1275 : (Jvm.Cond.methodLink "Dialectdepot" (307 : Nat) ({ cls := "Dialectdepot", name := "read", desc := "()LDialectdepot$Address;" } : Jvm.MethodName)) ∈ lw_all := lw_g (lw_at lw_m6 10 rfl) rfl
theorem q1276 : (Jvm.Cond.privateMethod ({ cls := "Dialectdepot", name := "read", desc := "()LDialectdepot$Address;" } : Jvm.MethodName)) ∈ lw_tbl := lw_at lw_m6 11 rfl
theorem q1277 : (Jvm.Cond.instanceMethod ({ cls := "Dialectdepot", name := "read", desc := "()LDialectdepot$Address;" } : Jvm.MethodName)) ∈ lw_all := lw_g (lw_at lw_m6 12 rfl) rfl
theorem q1278 : (Jvm.Cond.code ({ cls := "Dialectdepot", name := "read", desc := "()LDialectdepot$Address;" } : Jvm.MethodName) prog_1_method_27_code (6 : Nat) (Option.some (Jvm.ClassFile.FieldType.object "Dialectdepot$Address"))) ∈ lw_all := lw_g (lw_at lw_m6 13 rfl) rfl
theorem q1279 : (Jvm.Cond.classLink "Dialectdepot" (261 : Nat) "Dialectdepot$Words") ∈ lw_all := lw_g (lw_at lw_m6 14 rfl) rfl
theorem q1281 : (Jvm.Cond.methodLinkNest "Dialectdepot" (277 : Nat) ({ cls := "Dialectdepot$Words", name := "<init>", desc := "(LDialectdepot;)V" } : Jvm.MethodName) "Dialectdepot") ∈ lw_tbl := lw_at lw_m6 16 rfl
theorem q1292 : (Jvm.Cond.classLink "Dialectdepot" (253 : Nat) "Dialectdepot$Address") ∈ lw_all := lw_g (lw_at lw_m6 27 rfl) rfl
theorem q1294 : (Jvm.Cond.methodLinkNest "Dialectdepot" (280 : Nat) ({ cls := "Dialectdepot$Address", name := "<init>", desc := "()V" } : Jvm.MethodName) "Dialectdepot") ∈ lw_tbl := lw_at lw_m6 29 rfl
theorem q1300 : (Jvm.Cond.fieldLinkNest "Dialectdepot" (281 : Nat) "Dialectdepot$Address" "wanted" "[I" "Dialectdepot") ∈ lw_tbl := lw_at lw_m6 35 rfl
theorem q1303 : (Jvm.Cond.fieldLinkNest "Dialectdepot" (288 : Nat) "Dialectdepot$Address" "many" "I" "Dialectdepot") ∈ lw_tbl := lw_at lw_m6 38 rfl
theorem q1305 : (Jvm.Cond.fieldLinkNest "Dialectdepot" (301 : Nat) "Dialectdepot$Address" "unwanted" "I" "Dialectdepot") ∈ lw_tbl := lw_at lw_m6 40 rfl
theorem q1313 : (Jvm.Cond.methodLink "Dialectdepot" (284 : Nat) ({ cls := "Dialectdepot", name := "readName", desc := "(LDialectdepot$Words;LDialectdepot$Address;)I" } : Jvm.MethodName)) ∈ lw_all := lw_g (lw_at lw_m6 48 rfl) rfl
theorem q1314 : (Jvm.Cond.privateMethod ({ cls := "Dialectdepot", name := "readName", desc := "(LDialectdepot$Words;LDialectdepot$Address;)I" } : Jvm.MethodName)) ∈ lw_tbl := lw_at lw_m6 49 rfl
theorem q1315 : (Jvm.Cond.instanceMethod ({ cls := "Dialectdepot", name := "readName", desc := "(LDialectdepot$Words;LDialectdepot$Address;)I" } : Jvm.MethodName)) ∈ lw_all := lw_g (lw_at lw_m6 50 rfl) rfl
theorem q1316 : (Jvm.Cond.codeWith ({ cls := "Dialectdepot", name := "readName", desc := "(LDialectdepot$Words;LDialectdepot$Address;)I" } : Jvm.MethodName) prog_1_method_26_code (5 : Nat) (Option.some Jvm.ClassFile.FieldType.int) [((5 : Nat), (11 : Nat), (12 : Nat), (246 : Nat)), ((5 : Nat), (11 : Nat), (12 : Nat), (257 : Nat))]) ∈ lw_all := lw_g (lw_at lw_m6 51 rfl) rfl
theorem q1317 : (Jvm.Cond.classLink "Dialectdepot" (246 : Nat) "Dialectdepot$Strange") ∈ lw_all := lw_g (lw_at lw_m6 52 rfl) rfl
theorem q1318 : (Jvm.Cond.classLink "Dialectdepot" (257 : Nat) "Dialectdepot$Repeated") ∈ lw_all := lw_g (lw_at lw_m6 53 rfl) rfl
theorem q1319 : (Jvm.Cond.methodLink "Dialectdepot" (260 : Nat) ({ cls := "Dialectdepot$Words", name := "must", desc := "()LDialectdepot$Word;" } : Jvm.MethodName)) ∈ lw_all := lw_g (lw_at lw_m6 54 rfl) rfl
theorem q1408 : (Jvm.Cond.methodLink "Dialectdepot" (266 : Nat) ({ cls := "Dialectdepot", name := "freshName", desc := "(LDialectdepot$Word;LDialectdepot$Address;)I" } : Jvm.MethodName)) ∈ lw_all := lw_g (lw_at lw_m6 143 rfl) rfl
theorem q1409 : (Jvm.Cond.privateMethod ({ cls := "Dialectdepot", name := "freshName", desc := "(LDialectdepot$Word;LDialectdepot$Address;)I" } : Jvm.MethodName)) ∈ lw_tbl := lw_at lw_m6 144 rfl
theorem q1410 : (Jvm.Cond.instanceMethod ({ cls := "Dialectdepot", name := "freshName", desc := "(LDialectdepot$Word;LDialectdepot$Address;)I" } : Jvm.MethodName)) ∈ lw_all := lw_g (lw_at lw_m6 145 rfl) rfl
theorem q1411 : (Jvm.Cond.code ({ cls := "Dialectdepot", name := "freshName", desc := "(LDialectdepot$Word;LDialectdepot$Address;)I" } : Jvm.MethodName) prog_1_method_25_code (4 : Nat) (Option.some Jvm.ClassFile.FieldType.int)) ∈ lw_all := lw_g (lw_at lw_m6 146 rfl) rfl
theorem q1412 : (Jvm.Cond.methodLink "Dialectdepot" (242 : Nat) ({ cls := "Dialectdepot$Word", name := "text", desc := "()Ljava/lang/String;" } : Jvm.MethodName)) ∈ lw_all := lw_g (lw_at lw_m6 147 rfl) rfl
theorem q1424 : (Jvm.Cond.methodLinkNest "Dialectdepot" (248 : Nat) ({ cls := "Dialectdepot$Strange", name := "<init>", desc := "()V" } : Jvm.MethodName) "Dialectdepot") ∈ lw_tbl := lw_at lw_m6 159 rfl
theorem q1430 : (Jvm.Cond.methodLink "Dialectdepot" (252 : Nat) ({ cls := "Dialectdepot$Address", name := "wants", desc := "(I)Z" } : Jvm.MethodName)) ∈ lw_all := lw_g (lw_at lw_m6 165 rfl) rfl
theorem q1442 : (Jvm.Cond.methodLinkNest "Dialectdepot" (259 : Nat) ({ cls := "Dialectdepot$Repeated", name := "<init>", desc := "()V" } : Jvm.MethodName) "Dialectdepot") ∈ lw_tbl := lw_at lw_m6 177 rfl
theorem q1448 : (Jvm.Cond.methodLink "Dialectdepot" (272 : Nat) ({ cls := "Dialectdepot$Word", name := "place", desc := "()I" } : Jvm.MethodName)) ∈ lw_all := lw_g (lw_at lw_m6 183 rfl) rfl
theorem q1452 : (Jvm.Cond.methodLink "Dialectdepot" (274 : Nat) ({ cls := "Dialectdepot$Fault", name := "<init>", desc := "(ILjava/lang/Exception;)V" } : Jvm.MethodName)) ∈ lw_all := lw_g (lw_at lw_m6 187 rfl) rfl
theorem q1461 : (Jvm.Cond.methodLink "Dialectdepot" (291 : Nat) ({ cls := "Dialectdepot$Words", name := "hasNext", desc := "()Z" } : Jvm.MethodName)) ∈ lw_all := lw_g (lw_at lw_m6 196 rfl) rfl
theorem q1462 : (Jvm.Cond.methodLink "Dialectdepot" (295 : Nat) ({ cls := "Dialectdepot$Words", name := "next", desc := "()LDialectdepot$Word;" } : Jvm.MethodName)) ∈ lw_all := lw_g (lw_at lw_m6 197 rfl) rfl
theorem q1463 : (Jvm.Cond.methodLink "Dialectdepot" (298 : Nat) ({ cls := "Dialectdepot$Word", name := "is", desc := "(Ljava/lang/String;)Z" } : Jvm.MethodName)) ∈ lw_all := lw_g (lw_at lw_m6 198 rfl) rfl
theorem q1468 : (Jvm.Cond.methodLink "Dialectdepot" (304 : Nat) ({ cls := "Dialectdepot$Fault", name := "<init>", desc := "(II)V" } : Jvm.MethodName)) ∈ lw_all := lw_g (lw_at lw_m6 203 rfl) rfl
theorem q1469 : (Jvm.Cond.methodLink "Dialectdepot" (311 : Nat) ({ cls := "Dialectdepot$Parcel", name := "<init>", desc := "(ILDialectdepot$Address;IIII)V" } : Jvm.MethodName)) ∈ lw_all := lw_g (lw_at lw_m6 204 rfl) rfl
theorem q1474 : (Jvm.Cond.fieldLinkNest "Dialectdepot" (492 : Nat) "Dialectdepot$Parcel" "number" "I" "Dialectdepot") ∈ lw_tbl := lw_at lw_m6 209 rfl
theorem q1477 : (Jvm.Cond.fieldLinkNest "Dialectdepot" (352 : Nat) "Dialectdepot$Parcel" "group" "I" "Dialectdepot") ∈ lw_tbl := lw_at lw_m6 212 rfl
theorem q1479 : (Jvm.Cond.fieldLinkNest "Dialectdepot" (357 : Nat) "Dialectdepot$Parcel" "age" "I" "Dialectdepot") ∈ lw_tbl := lw_at lw_m6 214 rfl
theorem q1481 : (Jvm.Cond.fieldLinkNest "Dialectdepot" (403 : Nat) "Dialectdepot$Parcel" "street" "I" "Dialectdepot") ∈ lw_tbl := lw_at lw_m6 216 rfl
theorem q1485 : (Jvm.Cond.fieldLinkNest "Dialectdepot" (338 : Nat) "Dialectdepot$Parcel" "address" "LDialectdepot$Address;" "Dialectdepot") ∈ lw_tbl := lw_at lw_m6 220 rfl
theorem q1487 : (Jvm.Cond.fieldLinkNest "Dialectdepot" (533 : Nat) "Dialectdepot$Parcel" "tried" "[I" "Dialectdepot") ∈ lw_tbl := lw_at lw_m6 222 rfl
theorem q1489 : (Jvm.Cond.fieldLinkNest "Dialectdepot" (317 : Nat) "Dialectdepot$Parcel" "state" "I" "Dialectdepot") ∈ lw_tbl := lw_at lw_m6 224 rfl
theorem q1491 : (Jvm.Cond.fieldLinkNest "Dialectdepot" (320 : Nat) "Dialectdepot$Parcel" "back" "I" "Dialectdepot") ∈ lw_tbl := lw_at lw_m6 226 rfl
theorem q1492 : (Jvm.Cond.fieldLinkNest "Dialectdepot" (335 : Nat) "Dialectdepot$Parcel" "waited" "I" "Dialectdepot") ∈ lw_tbl := lw_at lw_m6 227 rfl
theorem q1493 : (Jvm.Cond.fieldLinkNest "Dialectdepot" (388 : Nat) "Dialectdepot$Parcel" "wasOut" "Z" "Dialectdepot") ∈ lw_tbl := lw_at lw_m6 228 rfl
theorem q1495 : (Jvm.Cond.fieldLinkNest "Dialectdepot" (323 : Nat) "Dialectdepot$Parcel" "latest" "LDialectdepot$Back;" "Dialectdepot") ∈ lw_tbl := lw_at lw_m6 230 rfl
theorem q1521 : (Jvm.Cond.methodLink "Dialectdepot" (314 : Nat) ({ cls := "Dialectdepot$Fault", name := "told", desc := "()I" } : Jvm.MethodName)) ∈ lw_all := lw_g (lw_at lw_m7 16 rfl) rfl
theorem q1537 : (Jvm.Cond.instanceMethod ({ cls := "Dialectdepot", name := "stateOf", desc := "(I)I" } : Jvm.MethodName)) ∈ lw_all := lw_g (lw_at lw_m7 32 rfl) rfl
theorem q1538 : (Jvm.Cond.selects "Dialectdepot" ({ cls := "Dialectdepot", name := "stateOf", desc := "(I)I" } : Jvm.MethodName) ({ cls := "Dialectdepot", name := "stateOf", desc := "(I)I" } : Jvm.MethodName)) ∈ lw_all := lw_g (lw_at lw_m7 33 rfl) rfl
theorem q1539 : (Jvm.Cond.code ({ cls := "Dialectdepot", name := "stateOf", desc := "(I)I" } : Jvm.MethodName) prog_1_method_30_code (2 : Nat) (Option.some Jvm.ClassFile.FieldType.int)) ∈ lw_all := lw_g (lw_at lw_m7 34 rfl) rfl
theorem q1544 : (Jvm.Cond.instanceMethod ({ cls := "Dialectdepot", name := "timesBack", desc := "(I)I" } : Jvm.MethodName)) ∈ lw_all := lw_g (lw_at lw_m7 39 rfl) rfl
theorem q1545 : (Jvm.Cond.selects "Dialectdepot" ({ cls := "Dialectdepot", name := "timesBack", desc := "(I)I" } : Jvm.MethodName) ({ cls := "Dialectdepot", name := "timesBack", desc := "(I)I" } : Jvm.MethodName)) ∈ lw_all := lw_g (lw_at lw_m7 40 rfl) rfl
theorem q1546 : (Jvm.Cond.code ({ cls := "Dialectdepot", name := "timesBack", desc := "(I)I" } : Jvm.MethodName) prog_1_method_31_code (2 : Nat) (Option.some Jvm.ClassFile.FieldType.int)) ∈ lw_all := lw_g (lw_at lw_m7 41 rfl) rfl
theorem q1551 : (Jvm.Cond.instanceMethod ({ cls := "Dialectdepot", name := "whyBack", desc := "(I)I" } : Jvm.MethodName)) ∈ lw_all := lw_g (lw_at lw_m7 46 rfl) rfl
theorem q1552 : (Jvm.Cond.selects "Dialectdepot" ({ cls := "Dialectdepot", name := "whyBack", desc := "(I)I" } : Jvm.MethodName) ({ cls := "Dialectdepot", name := "whyBack", desc := "(I)I" } : Jvm.MethodName)) ∈ lw_all := lw_g (lw_at lw_m7 47 rfl) rfl
theorem q1553 : (Jvm.Cond.code ({ cls := "Dialectdepot", name := "whyBack", desc := "(I)I" } : Jvm.MethodName) prog_1_method_32_code (3 : Nat) (Option.some Jvm.ClassFile.FieldType.int)) ∈ lw_all := lw_g (lw_at lw_m7 48 rfl) rfl
theorem q1554 : (Jvm.Cond.methodLink "Dialectdepot" (327 : Nat) ({ cls := "Dialectdepot$Back", name := "getCause", desc := "()Ljava/lang/Throwable;" } : Jvm.MethodName)) ∈ lw_all := lw_g (lw_at lw_m7 49 rfl) rfl
theorem q1557 : (Jvm.Cond.classLink "Dialectdepot" (333 : Nat) "Dialectdepot$WrongStreet") ∈ lw_all := lw_g (lw_at lw_m7 52 rfl) rfl
theorem q1562 : (Jvm.Cond.instanceMethod ({ cls := "Dialectdepot", name := "daysWaited", desc := "(I)I" } : Jvm.MethodName)) ∈ lw_all := lw_g (lw_at lw_m7 57 rfl) rfl
theorem q1563 : (Jvm.Cond.selects "Dialectdepot" ({ cls := "Dialectdepot", name := "daysWaited", desc := "(I)I" } : Jvm.MethodName) ({ cls := "Dialectdepot", name := "daysWaited", desc := "(I)I" } : Jvm.MethodName)) ∈ lw_all := lw_g (lw_at lw_m7 58 rfl) rfl
theorem q1564 : (Jvm.Cond.code ({ cls := "Dialectdepot", name := "daysWaited", desc := "(I)I" } : Jvm.MethodName) prog_1_method_33_code (2 : Nat) (Option.some Jvm.ClassFile.FieldType.int)) ∈ lw_all := lw_g (lw_at lw_m7 59 rfl) rfl
theorem q1569 : (Jvm.Cond.instanceMethod ({ cls := "Dialectdepot", name := "isWanted", desc := "(II)Z" } : Jvm.MethodName)) ∈ lw_all := lw_g (lw_at lw_m7 64 rfl) rfl
theorem q1570 : (Jvm.Cond.selects "Dialectdepot" ({ cls := "Dialectdepot", name := "isWanted", desc := "(II)Z" } : Jvm.MethodName) ({ cls := "Dialectdepot", name := "isWanted", desc := "(II)Z" } : Jvm.MethodName)) ∈ lw_all := lw_g (lw_at lw_m7 65 rfl) rfl
theorem q1571 : (Jvm.Cond.code ({ cls := "Dialectdepot", name := "isWanted", desc := "(II)Z" } : Jvm.MethodName) prog_1_method_34_code (5 : Nat) (Option.some Jvm.ClassFile.FieldType.boolean)) ∈ lw_all := lw_g (lw_at lw_m7 66 rfl) rfl
theorem q1576 : (Jvm.Cond.instanceMethod ({ cls := "Dialectdepot", name := "unwantedName", desc := "(I)I" } : Jvm.MethodName)) ∈ lw_all := lw_g (lw_at lw_m7 71 rfl) rfl
theorem q1577 : (Jvm.Cond.selects "Dialectdepot" ({ cls := "Dialectdepot", name := "unwantedName", desc := "(I)I" } : Jvm.MethodName) ({ cls := "Dialectdepot", name := "unwantedName", desc := "(I)I" } : Jvm.MethodName)) ∈ lw_all := lw_g (lw_at lw_m7 72 rfl) rfl
theorem q1578 : (Jvm.Cond.code ({ cls := "Dialectdepot", name := "unwantedName", desc := "(I)I" } : Jvm.MethodName) prog_1_method_35_code (2 : Nat) (Option.some Jvm.ClassFile.FieldType.int)) ∈ lw_all := lw_g (lw_at lw_m7 73 rfl) rfl
theorem q1583 : (Jvm.Cond.instanceMethod ({ cls := "Dialectdepot", name := "isHeld", desc := "(I)Z" } : Jvm.MethodName)) ∈ lw_all := lw_g (lw_at lw_m7 78 rfl) rfl
theorem q1584 : (Jvm.Cond.selects "Dialectdepot" ({ cls := "Dialectdepot", name := "isHeld", desc := "(I)Z" } : Jvm.MethodName) ({ cls := "Dialectdepot", name := "isHeld", desc := "(I)Z" } : Jvm.MethodName)) ∈ lw_all := lw_g (lw_at lw_m7 79 rfl) rfl
theorem q1585 : (Jvm.Cond.code ({ cls := "Dialectdepot", name := "isHeld", desc := "(I)Z" } : Jvm.MethodName) prog_1_method_37_code (2 : Nat) (Option.some Jvm.ClassFile.FieldType.boolean)) ∈ lw_all := lw_g (lw_at lw_m7 80 rfl) rfl
theorem q1586 : (Jvm.Cond.methodLink "Dialectdepot" (345 : Nat) ({ cls := "Dialectdepot", name := "isKept", desc := "(LDialectdepot$Parcel;)Z" } : Jvm.MethodName)) ∈ lw_all := lw_g (lw_at lw_m7 81 rfl) rfl
theorem q1587 : (Jvm.Cond.privateMethod ({ cls := "Dialectdepot", name := "isKept", desc := "(LDialectdepot$Parcel;)Z" } : Jvm.MethodName)) ∈ lw_tbl := lw_at lw_m7 82 rfl
theorem q1588 : (Jvm.Cond.instanceMethod ({ cls := "Dialectdepot", name := "isKept", desc := "(LDialectdepot$Parcel;)Z" } : Jvm.MethodName)) ∈ lw_all := lw_g (lw_at lw_m7 83 rfl) rfl
theorem q1589 : (Jvm.Cond.code ({ cls := "Dialectdepot", name := "isKept", desc := "(LDialectdepot$Parcel;)Z" } : Jvm.MethodName) prog_1_method_36_code (4 : Nat) (Option.some Jvm.ClassFile.FieldType.boolean)) ∈ lw_all := lw_g (lw_at lw_m7 84 rfl) rfl
theorem q1594 : (Jvm.Cond.instanceMethod ({ cls := "Dialectdepot", name := "score", desc := "(III)I" } : Jvm.MethodName)) ∈ lw_all := lw_g (lw_at lw_m7 89 rfl) rfl
theorem q1595 : (Jvm.Cond.selects "Dialectdepot" ({ cls := "Dialectdepot", name := "score", desc := "(III)I" } : Jvm.MethodName) ({ cls := "Dialectdepot", name := "score", desc := "(III)I" } : Jvm.MethodName)) ∈ lw_all := lw_g (lw_at lw_m7 90 rfl) rfl
theorem q1596 : (Jvm.Cond.code ({ cls := "Dialectdepot", name := "score", desc := "(III)I" } : Jvm.MethodName) prog_1_method_42_code (6 : Nat) (Option.some Jvm.ClassFile.FieldType.int)) ∈ lw_all := lw_g (lw_at lw_m7 91 rfl) rfl
theorem q1597 : (Jvm.Cond.methodLink "Dialectdepot" (367 : Nat) ({ cls := "Dialectdepot$Weight", name := "sum", desc := "([LDialectdepot$Weight;LDialectdepot$Parcel;LDialectdepot$Carrier;I)I" } : Jvm.MethodName)) ∈ lw_all := lw_g (lw_at lw_m7 92 rfl) rfl
theorem q1608 : (Jvm.Cond.instanceMethod ({ cls := "Dialectdepot", name := "choiceFor", desc := "(I)I" } : Jvm.MethodName)) ∈ lw_all := lw_g (lw_at lw_m7 103 rfl) rfl
theorem q1609 : (Jvm.Cond.selects "Dialectdepot" ({ cls := "Dialectdepot", name := "choiceFor", desc := "(I)I" } : Jvm.MethodName) ({ cls := "Dialectdepot", name := "choiceFor", desc := "(I)I" } : Jvm.MethodName)) ∈ lw_all := lw_g (lw_at lw_m7 104 rfl) rfl
theorem q1610 : (Jvm.Cond.code ({ cls := "Dialectdepot", name := "choiceFor", desc := "(I)I" } : Jvm.MethodName) prog_1_method_44_code (2 : Nat) (Option.some Jvm.ClassFile.FieldType.int)) ∈ lw_all := lw_g (lw_at lw_m7 105 rfl) rfl
theorem q1611 : (Jvm.Cond.methodLink "Dialectdepot" (384 : Nat) ({ cls := "Dialectdepot", name := "choose", desc := "(LDialectdepot$Parcel;Z)I" } : Jvm.MethodName)) ∈ lw_all := lw_g (lw_at lw_m7 106 rfl) rfl
theorem q1612 : (Jvm.Cond.privateMethod ({ cls := "Dialectdepot", name := "choose", desc := "(LDialectdepot$Parcel;Z)I" } : Jvm.MethodName)) ∈ lw_tbl := lw_at lw_m7 107 rfl
theorem q1613 : (Jvm.Cond.instanceMethod ({ cls := "Dialectdepot", name := "choose", desc := "(LDialectdepot$Parcel;Z)I" } : Jvm.MethodName)) ∈ lw_all := lw_g (lw_at lw_m7 108 rfl) rfl
theorem q1614 : (Jvm.Cond.code ({ cls := "Dialectdepot", name := "choose", desc := "(LDialectdepot$Parcel;Z)I" } : Jvm.MethodName) prog_1_method_43_code (9 : Nat) (Option.some Jvm.ClassFile.FieldType.int)) ∈ lw_all := lw_g (lw_at lw_m7 109 rfl) rfl
theorem q1615 : (Jvm.Cond.methodLink "Dialectdepot" (378 : Nat) ({ cls := "java/lang/Math", name := "max", desc := "(II)I" } : Jvm.MethodName)) ∈ lw_all := lw_g (lw_at lw_m7 110 rfl) rfl
theorem q1620 : (Jvm.Cond.instanceMethod ({ cls := "Dialectdepot", name := "nextDay", desc := "()I" } : Jvm.MethodName)) ∈ lw_all := lw_g (lw_at lw_m7 115 rfl) rfl
theorem q1621 : (Jvm.Cond.selects "Dialectdepot" ({ cls := "Dialectdepot", name := "nextDay", desc := "()I" } : Jvm.MethodName) ({ cls := "Dialectdepot", name := "nextDay", desc := "()I" } : Jvm.MethodName)) ∈ lw_all := lw_g (lw_at lw_m7 116 rfl) rfl
theorem q1622 : (Jvm.Cond.code ({ cls := "Dialectdepot", name := "nextDay", desc := "()I" } : Jvm.MethodName) prog_1_method_53_code (4 : Nat) (Option.some Jvm.ClassFile.FieldType.int)) ∈ lw_all := lw_g (lw_at lw_m7 117 rfl) rfl
theorem q1623 : (Jvm.Cond.methodLink "Dialectdepot" (472 : Nat) ({ cls := "Dialectdepot", name := "giveOut", desc := "()V" } : Jvm.MethodName)) ∈ lw_all := lw_g (lw_at lw_m7 118 rfl) rfl
theorem q1624 : (Jvm.Cond.privateMethod ({ cls := "Dialectdepot", name := "giveOut", desc := "()V" } : Jvm.MethodName)) ∈ lw_tbl := lw_at lw_m7 119 rfl
theorem q1625 : (Jvm.Cond.instanceMethod ({ cls := "Dialectdepot", name := "giveOut", desc := "()V" } : Jvm.MethodName)) ∈ lw_all := lw_g (lw_at lw_m7 120 rfl) rfl
theorem q1626 : (Jvm.Cond.code ({ cls := "Dialectdepot", name := "giveOut", desc := "()V" } : Jvm.MethodName) prog_1_method_45_code (5 : Nat) (Option.none : Option Jvm.ClassFile.FieldType)) ∈ lw_all := lw_g (lw_at lw_m7 121 rfl) rfl
theorem q1627 : (Jvm.Cond.methodLink "Dialectdepot" (394 : Nat) ({ cls := "java/lang/Integer", name := "valueOf", desc := "(I)Ljava/lang/Integer;" } : Jvm.MethodName)) ∈ lw_all := lw_g (lw_at lw_m7 122 rfl) rfl
theorem q1647 : (Jvm.Cond.methodLink "Dialectdepot" (475 : Nat) ({ cls := "Dialectdepot", name := "deliverAll", desc := "()I" } : Jvm.MethodName)) ∈ lw_all := lw_g (lw_at lw_m7 142 rfl) rfl
theorem q1648 : (Jvm.Cond.privateMethod ({ cls := "Dialectdepot", name := "deliverAll", desc := "()I" } : Jvm.MethodName)) ∈ lw_tbl := lw_at lw_m7 143 rfl
theorem q1649 : (Jvm.Cond.instanceMethod ({ cls := "Dialectdepot", name := "deliverAll", desc := "()I" } : Jvm.MethodName)) ∈ lw_all := lw_g (lw_at lw_m7 144 rfl) rfl
theorem q1650 : (Jvm.Cond.codeWith ({ cls := "Dialectdepot", name := "deliverAll", desc := "()I" } : Jvm.MethodName) prog_1_method_52_code (11 : Nat) (Option.some Jvm.ClassFile.FieldType.int) [((95 : Nat), (106 : Nat), (120 : Nat), (328 : Nat)), ((95 : Nat), (106 : Nat), (152 : Nat), (0 : Nat)), ((120 : Nat), (138 : Nat), (152 : Nat), (0 : Nat)), ((152 : Nat), (154 : Nat), (152 : Nat), (0 : Nat))]) ∈ lw_all := lw_g (lw_at lw_m7 145 rfl) rfl
theorem q1651 : (Jvm.Cond.classLink "Dialectdepot" (328 : Nat) "Dialectdepot$Back") ∈ lw_all := lw_g (lw_at lw_m7 146 rfl) rfl
theorem q1652 : (Jvm.Cond.methodLink "Dialectdepot" (451 : Nat) ({ cls := "Dialectdepot", name := "lessons", desc := "()[[I" } : Jvm.MethodName)) ∈ lw_all := lw_g (lw_at lw_m7 147 rfl) rfl
theorem q1653 : (Jvm.Cond.privateMethod ({ cls := "Dialectdepot", name := "lessons", desc := "()[[I" } : Jvm.MethodName)) ∈ lw_tbl := lw_at lw_m7 148 rfl
theorem q1654 : (Jvm.Cond.instanceMethod ({ cls := "Dialectdepot", name := "lessons", desc := "()[[I" } : Jvm.MethodName)) ∈ lw_all := lw_g (lw_at lw_m7 149 rfl) rfl
theorem q1655 : (Jvm.Cond.code ({ cls := "Dialectdepot", name := "lessons", desc := "()[[I" } : Jvm.MethodName) prog_1_method_49_code (3 : Nat) (Option.some (Jvm.ClassFile.FieldType.array (Jvm.ClassFile.FieldType.array Jvm.ClassFile.FieldType.int)))) ∈ lw_all := lw_g (lw_at lw_m7 150 rfl) rfl
theorem q1656 : (Jvm.Cond.classLink "Dialectdepot" (428 : Nat) "[I") ∈ lw_all := lw_g (lw_at lw_m7 151 rfl) rfl
theorem q1657 : (Jvm.Cond.classLink "Dialectdepot" (395 : Nat) "java/lang/Integer") ∈ lw_all := lw_g (lw_at lw_m7 152 rfl) rfl
theorem q1658 : (Jvm.Cond.methodLink "Dialectdepot" (454 : Nat) ({ cls := "java/lang/Integer", name := "intValue", desc := "()I" } : Jvm.MethodName)) ∈ lw_all := lw_g (lw_at lw_m7 153 rfl) rfl
theorem q1662 : (Jvm.Cond.methodLink "Dialectdepot" (457 : Nat) ({ cls := "Dialectdepot", name := "go", desc := "(LDialectdepot$Parcel;I)V" } : Jvm.MethodName)) ∈ lw_all := lw_g (lw_at lw_m7 157 rfl) rfl
theorem q1663 : (Jvm.Cond.privateMethod ({ cls := "Dialectdepot", name := "go", desc := "(LDialectdepot$Parcel;I)V" } : Jvm.MethodName)) ∈ lw_tbl := lw_at lw_m7 158 rfl
theorem q1664 : (Jvm.Cond.instanceMethod ({ cls := "Dialectdepot", name := "go", desc := "(LDialectdepot$Parcel;I)V" } : Jvm.MethodName)) ∈ lw_all := lw_g (lw_at lw_m7 159 rfl) rfl
theorem q1665 : (Jvm.Cond.codeWith ({ cls := "Dialectdepot", name := "go", desc := "(LDialectdepot$Parcel;I)V" } : Jvm.MethodName) prog_1_method_51_code (4 : Nat) (Option.none : Option Jvm.ClassFile.FieldType) [((0 : Nat), (9 : Nat), (12 : Nat), (333 : Nat)), ((0 : Nat), (9 : Nat), (12 : Nat), (446 : Nat))]) ∈ lw_all := lw_g (lw_at lw_m7 160 rfl) rfl
theorem q1666 : (Jvm.Cond.classLink "Dialectdepot" (446 : Nat) "Dialectdepot$Nobody") ∈ lw_all := lw_g (lw_at lw_m7 161 rfl) rfl
theorem q1667 : (Jvm.Cond.methodLink "Dialectdepot" (443 : Nat) ({ cls := "Dialectdepot$Parcel", name := "leave", desc := "(II)V" } : Jvm.MethodName)) ∈ lw_all := lw_g (lw_at lw_m7 162 rfl) rfl
theorem q1701 : (Jvm.Cond.methodLink "Dialectdepot" (448 : Nat) ({ cls := "Dialectdepot$Parcel", name := "bringBack", desc := "(ILjava/lang/Exception;)V" } : Jvm.MethodName)) ∈ lw_all := lw_g (lw_at lw_m7 196 rfl) rfl
theorem q1720 : (Jvm.Cond.methodLink "Dialectdepot" (461 : Nat) ({ cls := "Dialectdepot", name := "note", desc := "(LDialectdepot$Carrier;LDialectdepot$Parcel;I[[I)V" } : Jvm.MethodName)) ∈ lw_all := lw_g (lw_at lw_m7 215 rfl) rfl
theorem q1721 : (Jvm.Cond.privateMethod ({ cls := "Dialectdepot", name := "note", desc := "(LDialectdepot$Carrier;LDialectdepot$Parcel;I[[I)V" } : Jvm.MethodName)) ∈ lw_tbl := lw_at lw_m7 216 rfl
theorem q1722 : (Jvm.Cond.instanceMethod ({ cls := "Dialectdepot", name := "note", desc := "(LDialectdepot$Carrier;LDialectdepot$Parcel;I[[I)V" } : Jvm.MethodName)) ∈ lw_all := lw_g (lw_at lw_m7 217 rfl) rfl
theorem q1723 : (Jvm.Cond.code ({ cls := "Dialectdepot", name := "note", desc := "(LDialectdepot$Carrier;LDialectdepot$Parcel;I[[I)V" } : Jvm.MethodName) prog_1_method_50_code (6 : Nat) (Option.none : Option Jvm.ClassFile.FieldType)) ∈ lw_all := lw_g (lw_at lw_m7 218 rfl) rfl
theorem q1725 : (Jvm.Cond.methodLink "Dialectdepot" (433 : Nat) ({ cls := "Dialectdepot", name := "listeners", desc := "(LDialectdepot$Carrier;I)I" } : Jvm.MethodName)) ∈ lw_all := lw_g (lw_at lw_m7 220 rfl) rfl
theorem q1726 : (Jvm.Cond.privateMethod ({ cls := "Dialectdepot", name := "listeners", desc := "(LDialectdepot$Carrier;I)I" } : Jvm.MethodName)) ∈ lw_tbl := lw_at lw_m7 221 rfl
theorem q1727 : (Jvm.Cond.instanceMethod ({ cls := "Dialectdepot", name := "listeners", desc := "(LDialectdepot$Carrier;I)I" } : Jvm.MethodName)) ∈ lw_all := lw_g (lw_at lw_m7 222 rfl) rfl
theorem q1728 : (Jvm.Cond.code ({ cls := "Dialectdepot", name := "listeners", desc := "(LDialectdepot$Carrier;I)I" } : Jvm.MethodName) prog_1_method_47_code (5 : Nat) (Option.some Jvm.ClassFile.FieldType.int)) ∈ lw_all := lw_g (lw_at lw_m7 223 rfl) rfl
theorem q1729 : (Jvm.Cond.methodLinkNest "Dialectdepot" (436 : Nat) ({ cls := "Dialectdepot$Tried", name := "<init>", desc := "(LDialectdepot$Parcel;IIIZI)V" } : Jvm.MethodName) "Dialectdepot") ∈ lw_tbl := lw_at lw_m7 224 rfl
theorem q1752 : (Jvm.Cond.methodLink "Dialectdepot" (465 : Nat) ({ cls := "Dialectdepot", name := "giveUp", desc := "(LDialectdepot$Parcel;)V" } : Jvm.MethodName)) ∈ lw_all := lw_g (lw_at lw_m8 7 rfl) rfl
theorem q1753 : (Jvm.Cond.privateMethod ({ cls := "Dialectdepot", name := "giveUp", desc := "(LDialectdepot$Parcel;)V" } : Jvm.MethodName)) ∈ lw_tbl := lw_at lw_m8 8 rfl
theorem q1754 : (Jvm.Cond.instanceMethod ({ cls := "Dialectdepot", name := "giveUp", desc := "(LDialectdepot$Parcel;)V" } : Jvm.MethodName)) ∈ lw_all := lw_g (lw_at lw_m8 9 rfl) rfl
theorem q1755 : (Jvm.Cond.code ({ cls := "Dialectdepot", name := "giveUp", desc := "(LDialectdepot$Parcel;)V" } : Jvm.MethodName) prog_1_method_46_code (5 : Nat) (Option.none : Option Jvm.ClassFile.FieldType)) ∈ lw_all := lw_g (lw_at lw_m8 10 rfl) rfl
theorem q1756 : (Jvm.Cond.interfaceEntry "Dialectdepot" (469 : Nat)) ∈ lw_tbl := lw_at lw_m8 11 rfl
theorem q1757 : (Jvm.Cond.methodLink "Dialectdepot" (469 : Nat) ({ cls := "java/util/List", name := "clear", desc := "()V" } : Jvm.MethodName)) ∈ lw_all := lw_g (lw_at lw_m8 12 rfl) rfl
theorem q1765 : (Jvm.Cond.methodLink "Dialectdepot" (478 : Nat) ({ cls := "Dialectdepot", name := "rule", desc := "(LDialectdepot$Name;)V" } : Jvm.MethodName)) ∈ lw_all := lw_g (lw_at lw_m8 20 rfl) rfl
theorem q1766 : (Jvm.Cond.privateMethod ({ cls := "Dialectdepot", name := "rule", desc := "(LDialectdepot$Name;)V" } : Jvm.MethodName)) ∈ lw_tbl := lw_at lw_m8 21 rfl
theorem q1767 : (Jvm.Cond.instanceMethod ({ cls := "Dialectdepot", name := "rule", desc := "(LDialectdepot$Name;)V" } : Jvm.MethodName)) ∈ lw_all := lw_g (lw_at lw_m8 22 rfl) rfl
theorem q1768 : (Jvm.Cond.code ({ cls := "Dialectdepot", name := "rule", desc := "(LDialectdepot$Name;)V" } : Jvm.MethodName) prog_1_method_69_code (5 : Nat) (Option.none : Option Jvm.ClassFile.FieldType)) ∈ lw_all := lw_g (lw_at lw_m8 23 rfl) rfl
theorem q1769 : (Jvm.Cond.classLink "Dialectdepot" (501 : Nat) "Dialectdepot$Claim") ∈ lw_all := lw_g (lw_at lw_m8 24 rfl) rfl
theorem q1770 : (Jvm.Cond.methodLink "Dialectdepot" (510 : Nat) ({ cls := "Dialectdepot$Claim", name := "street", desc := "()I" } : Jvm.MethodName)) ∈ lw_all := lw_g (lw_at lw_m8 25 rfl) rfl
theorem q1774 : (Jvm.Cond.methodLink "Dialectdepot" (511 : Nat) ({ cls := "Dialectdepot", name := "countFor", desc := "(II)I" } : Jvm.MethodName)) ∈ lw_all := lw_g (lw_at lw_m8 29 rfl) rfl
theorem q1775 : (Jvm.Cond.privateMethod ({ cls := "Dialectdepot", name := "countFor", desc := "(II)I" } : Jvm.MethodName)) ∈ lw_tbl := lw_at lw_m8 30 rfl
theorem q1776 : (Jvm.Cond.instanceMethod ({ cls := "Dialectdepot", name := "countFor", desc := "(II)I" } : Jvm.MethodName)) ∈ lw_all := lw_g (lw_at lw_m8 31 rfl) rfl
theorem q1777 : (Jvm.Cond.code ({ cls := "Dialectdepot", name := "countFor", desc := "(II)I" } : Jvm.MethodName) prog_1_method_67_code (6 : Nat) (Option.some Jvm.ClassFile.FieldType.int)) ∈ lw_all := lw_g (lw_at lw_m8 32 rfl) rfl
theorem q1778 : (Jvm.Cond.classLink "Dialectdepot" (482 : Nat) "Dialectdepot$Forgotten") ∈ lw_all := lw_g (lw_at lw_m8 33 rfl) rfl
theorem q1780 : (Jvm.Cond.methodLinkNest "Dialectdepot" (484 : Nat) ({ cls := "Dialectdepot$Forgotten", name := "<init>", desc := "()V" } : Jvm.MethodName) "Dialectdepot") ∈ lw_tbl := lw_at lw_m8 35 rfl
theorem q1789 : (Jvm.Cond.instanceMethod ({ cls := "Dialectdepot", name := "attemptParcel", desc := "(I)I" } : Jvm.MethodName)) ∈ lw_all := lw_g (lw_at lw_m8 44 rfl) rfl
theorem q1790 : (Jvm.Cond.selects "Dialectdepot" ({ cls := "Dialectdepot", name := "attemptParcel", desc := "(I)I" } : Jvm.MethodName) ({ cls := "Dialectdepot", name := "attemptParcel", desc := "(I)I" } : Jvm.MethodName)) ∈ lw_all := lw_g (lw_at lw_m8 45 rfl) rfl
theorem q1791 : (Jvm.Cond.code ({ cls := "Dialectdepot", name := "attemptParcel", desc := "(I)I" } : Jvm.MethodName) prog_1_method_57_code (2 : Nat) (Option.some Jvm.ClassFile.FieldType.int)) ∈ lw_all := lw_g (lw_at lw_m8 46 rfl) rfl
theorem q1796 : (Jvm.Cond.instanceMethod ({ cls := "Dialectdepot", name := "attemptCarrier", desc := "(I)I" } : Jvm.MethodName)) ∈ lw_all := lw_g (lw_at lw_m8 51 rfl) rfl
theorem q1797 : (Jvm.Cond.selects "Dialectdepot" ({ cls := "Dialectdepot", name := "attemptCarrier", desc := "(I)I" } : Jvm.MethodName) ({ cls := "Dialectdepot", name := "attemptCarrier", desc := "(I)I" } : Jvm.MethodName)) ∈ lw_all := lw_g (lw_at lw_m8 52 rfl) rfl
theorem q1798 : (Jvm.Cond.code ({ cls := "Dialectdepot", name := "attemptCarrier", desc := "(I)I" } : Jvm.MethodName) prog_1_method_58_code (2 : Nat) (Option.some Jvm.ClassFile.FieldType.int)) ∈ lw_all := lw_g (lw_at lw_m8 53 rfl) rfl
theorem q1803 : (Jvm.Cond.instanceMethod ({ cls := "Dialectdepot", name := "attemptStreet", desc := "(I)I" } : Jvm.MethodName)) ∈ lw_all := lw_g (lw_at lw_m8 58 rfl) rfl
theorem q1804 : (Jvm.Cond.selects "Dialectdepot" ({ cls := "Dialectdepot", name := "attemptStreet", desc := "(I)I" } : Jvm.MethodName) ({ cls := "Dialectdepot", name := "attemptStreet", desc := "(I)I" } : Jvm.MethodName)) ∈ lw_all := lw_g (lw_at lw_m8 59 rfl) rfl
theorem q1805 : (Jvm.Cond.code ({ cls := "Dialectdepot", name := "attemptStreet", desc := "(I)I" } : Jvm.MethodName) prog_1_method_59_code (2 : Nat) (Option.some Jvm.ClassFile.FieldType.int)) ∈ lw_all := lw_g (lw_at lw_m8 60 rfl) rfl
theorem q1810 : (Jvm.Cond.instanceMethod ({ cls := "Dialectdepot", name := "attemptDay", desc := "(I)I" } : Jvm.MethodName)) ∈ lw_all := lw_g (lw_at lw_m8 65 rfl) rfl
theorem q1811 : (Jvm.Cond.selects "Dialectdepot" ({ cls := "Dialectdepot", name := "attemptDay", desc := "(I)I" } : Jvm.MethodName) ({ cls := "Dialectdepot", name := "attemptDay", desc := "(I)I" } : Jvm.MethodName)) ∈ lw_all := lw_g (lw_at lw_m8 66 rfl) rfl
theorem q1812 : (Jvm.Cond.code ({ cls := "Dialectdepot", name := "attemptDay", desc := "(I)I" } : Jvm.MethodName) prog_1_method_60_code (2 : Nat) (Option.some Jvm.ClassFile.FieldType.int)) ∈ lw_all := lw_g (lw_at lw_m8 67 rfl) rfl
theorem q1813 : (Jvm.Cond.methodLink "Dialectdepot" (493 : Nat) ({ cls := "Dialectdepot$Tried", name := "day", desc := "()I" } : Jvm.MethodName)) ∈ lw_all := lw_g (lw_at lw_m8 68 rfl) rfl
theorem q1821 : (Jvm.Cond.instanceMethod ({ cls := "Dialectdepot", name := "wasDelivered", desc := "(I)Z" } : Jvm.MethodName)) ∈ lw_all := lw_g (lw_at lw_m8 76 rfl) rfl
theorem q1822 : (Jvm.Cond.selects "Dialectdepot" ({ cls := "Dialectdepot", name := "wasDelivered", desc := "(I)Z" } : Jvm.MethodName) ({ cls := "Dialectdepot", name := "wasDelivered", desc := "(I)Z" } : Jvm.MethodName)) ∈ lw_all := lw_g (lw_at lw_m8 77 rfl) rfl
theorem q1823 : (Jvm.Cond.code ({ cls := "Dialectdepot", name := "wasDelivered", desc := "(I)Z" } : Jvm.MethodName) prog_1_method_61_code (2 : Nat) (Option.some Jvm.ClassFile.FieldType.boolean)) ∈ lw_all := lw_g (lw_at lw_m8 78 rfl) rfl
theorem q1828 : (Jvm.Cond.instanceMethod ({ cls := "Dialectdepot", name := "claim", desc := "(III)I" } : Jvm.MethodName)) ∈ lw_all := lw_g (lw_at lw_m8 83 rfl) rfl
theorem q1829 : (Jvm.Cond.selects "Dialectdepot" ({ cls := "Dialectdepot", name := "claim", desc := "(III)I" } : Jvm.MethodName) ({ cls := "Dialectdepot", name := "claim", desc := "(III)I" } : Jvm.MethodName)) ∈ lw_all := lw_g (lw_at lw_m8 84 rfl) rfl
theorem q1830 : (Jvm.Cond.code ({ cls := "Dialectdepot", name := "claim", desc := "(III)I" } : Jvm.MethodName) prog_1_method_62_code (5 : Nat) (Option.some Jvm.ClassFile.FieldType.int)) ∈ lw_all := lw_g (lw_at lw_m8 85 rfl) rfl
theorem q1831 : (Jvm.Cond.methodLink "Dialectdepot" (495 : Nat) ({ cls := "Dialectdepot$Name", name := "claimOf", desc := "(I)I" } : Jvm.MethodName)) ∈ lw_all := lw_g (lw_at lw_m8 86 rfl) rfl
theorem q1845 : (Jvm.Cond.methodLinkNest "Dialectdepot" (503 : Nat) ({ cls := "Dialectdepot$Claim", name := "<init>", desc := "(II)V" } : Jvm.MethodName) "Dialectdepot") ∈ lw_tbl := lw_at lw_m8 100 rfl
theorem q1856 : (Jvm.Cond.methodLink "Dialectdepot" (504 : Nat) ({ cls := "Dialectdepot$Name", name := "argue", desc := "(I)V" } : Jvm.MethodName)) ∈ lw_all := lw_g (lw_at lw_m8 111 rfl) rfl
theorem q1865 : (Jvm.Cond.instanceMethod ({ cls := "Dialectdepot", name := "withdraw", desc := "(II)I" } : Jvm.MethodName)) ∈ lw_all := lw_g (lw_at lw_m8 120 rfl) rfl
theorem q1866 : (Jvm.Cond.selects "Dialectdepot" ({ cls := "Dialectdepot", name := "withdraw", desc := "(II)I" } : Jvm.MethodName) ({ cls := "Dialectdepot", name := "withdraw", desc := "(II)I" } : Jvm.MethodName)) ∈ lw_all := lw_g (lw_at lw_m8 121 rfl) rfl
theorem q1867 : (Jvm.Cond.code ({ cls := "Dialectdepot", name := "withdraw", desc := "(II)I" } : Jvm.MethodName) prog_1_method_63_code (6 : Nat) (Option.some Jvm.ClassFile.FieldType.int)) ∈ lw_all := lw_g (lw_at lw_m8 122 rfl) rfl
theorem q1868 : (Jvm.Cond.interfaceEntry "Dialectdepot" (507 : Nat)) ∈ lw_tbl := lw_at lw_m8 123 rfl
theorem q1869 : (Jvm.Cond.methodLink "Dialectdepot" (507 : Nat) ({ cls := "java/util/List", name := "remove", desc := "(I)Ljava/lang/Object;" } : Jvm.MethodName)) ∈ lw_all := lw_g (lw_at lw_m8 124 rfl) rfl
theorem q1886 : (Jvm.Cond.instanceMethod ({ cls := "Dialectdepot", name := "claimOf", desc := "(II)I" } : Jvm.MethodName)) ∈ lw_all := lw_g (lw_at lw_m8 141 rfl) rfl
theorem q1887 : (Jvm.Cond.selects "Dialectdepot" ({ cls := "Dialectdepot", name := "claimOf", desc := "(II)I" } : Jvm.MethodName) ({ cls := "Dialectdepot", name := "claimOf", desc := "(II)I" } : Jvm.MethodName)) ∈ lw_all := lw_g (lw_at lw_m8 142 rfl) rfl
theorem q1888 : (Jvm.Cond.code ({ cls := "Dialectdepot", name := "claimOf", desc := "(II)I" } : Jvm.MethodName) prog_1_method_64_code (5 : Nat) (Option.some Jvm.ClassFile.FieldType.int)) ∈ lw_all := lw_g (lw_at lw_m8 143 rfl) rfl
theorem q1893 : (Jvm.Cond.instanceMethod ({ cls := "Dialectdepot", name := "disputeDay", desc := "(I)I" } : Jvm.MethodName)) ∈ lw_all := lw_g (lw_at lw_m8 148 rfl) rfl
theorem q1894 : (Jvm.Cond.selects "Dialectdepot" ({ cls := "Dialectdepot", name := "disputeDay", desc := "(I)I" } : Jvm.MethodName) ({ cls := "Dialectdepot", name := "disputeDay", desc := "(I)I" } : Jvm.MethodName)) ∈ lw_all := lw_g (lw_at lw_m8 149 rfl) rfl
theorem q1895 : (Jvm.Cond.code ({ cls := "Dialectdepot", name := "disputeDay", desc := "(I)I" } : Jvm.MethodName) prog_1_method_65_code (2 : Nat) (Option.some Jvm.ClassFile.FieldType.int)) ∈ lw_all := lw_g (lw_at lw_m8 150 rfl) rfl
theorem q1900 : (Jvm.Cond.instanceMethod ({ cls := "Dialectdepot", name := "ruledStreet", desc := "(I)I" } : Jvm.MethodName)) ∈ lw_all := lw_g (lw_at lw_m8 155 rfl) rfl
theorem q1901 : (Jvm.Cond.selects "Dialectdepot" ({ cls := "Dialectdepot", name := "ruledStreet", desc := "(I)I" } : Jvm.MethodName) ({ cls := "Dialectdepot", name := "ruledStreet", desc := "(I)I" } : Jvm.MethodName)) ∈ lw_all := lw_g (lw_at lw_m8 156 rfl) rfl
theorem q1902 : (Jvm.Cond.code ({ cls := "Dialectdepot", name := "ruledStreet", desc := "(I)I" } : Jvm.MethodName) prog_1_method_66_code (2 : Nat) (Option.some Jvm.ClassFile.FieldType.int)) ∈ lw_all := lw_g (lw_at lw_m8 157 rfl) rfl
theorem q1907 : (Jvm.Cond.instanceMethod ({ cls := "Dialectdepot", name := "evidence", desc := "(II)I" } : Jvm.MethodName)) ∈ lw_all := lw_g (lw_at lw_m8 162 rfl) rfl
theorem q1908 : (Jvm.Cond.selects "Dialectdepot" ({ cls := "Dialectdepot", name := "evidence", desc := "(II)I" } : Jvm.MethodName) ({ cls := "Dialectdepot", name := "evidence", desc := "(II)I" } : Jvm.MethodName)) ∈ lw_all := lw_g (lw_at lw_m8 163 rfl) rfl
theorem q1909 : (Jvm.Cond.code ({ cls := "Dialectdepot", name := "evidence", desc := "(II)I" } : Jvm.MethodName) prog_1_method_68_code (4 : Nat) (Option.some Jvm.ClassFile.FieldType.int)) ∈ lw_all := lw_g (lw_at lw_m8 164 rfl) rfl
theorem q1914 : (Jvm.Cond.instanceMethod ({ cls := "Dialectdepot", name := "appeal", desc := "(II)Z" } : Jvm.MethodName)) ∈ lw_all := lw_g (lw_at lw_m8 169 rfl) rfl
theorem q1915 : (Jvm.Cond.selects "Dialectdepot" ({ cls := "Dialectdepot", name := "appeal", desc := "(II)Z" } : Jvm.MethodName) ({ cls := "Dialectdepot", name := "appeal", desc := "(II)Z" } : Jvm.MethodName)) ∈ lw_all := lw_g (lw_at lw_m8 170 rfl) rfl
theorem q1916 : (Jvm.Cond.code ({ cls := "Dialectdepot", name := "appeal", desc := "(II)Z" } : Jvm.MethodName) prog_1_method_71_code (6 : Nat) (Option.some Jvm.ClassFile.FieldType.boolean)) ∈ lw_all := lw_g (lw_at lw_m8 171 rfl) rfl
theorem q1917 : (Jvm.Cond.methodLink "Dialectdepot" (517 : Nat) ({ cls := "Dialectdepot", name := "otherStreet", desc := "(ILDialectdepot$Name;)I" } : Jvm.MethodName)) ∈ lw_all := lw_g (lw_at lw_m8 172 rfl) rfl
theorem q1918 : (Jvm.Cond.privateMethod ({ cls := "Dialectdepot", name := "otherStreet", desc := "(ILDialectdepot$Name;)I" } : Jvm.MethodName)) ∈ lw_tbl := lw_at lw_m8 173 rfl
theorem q1919 : (Jvm.Cond.instanceMethod ({ cls := "Dialectdepot", name := "otherStreet", desc := "(ILDialectdepot$Name;)I" } : Jvm.MethodName)) ∈ lw_all := lw_g (lw_at lw_m8 174 rfl) rfl
theorem q1920 : (Jvm.Cond.code ({ cls := "Dialectdepot", name := "otherStreet", desc := "(ILDialectdepot$Name;)I" } : Jvm.MethodName) prog_1_method_70_code (5 : Nat) (Option.some Jvm.ClassFile.FieldType.int)) ∈ lw_all := lw_g (lw_at lw_m8 175 rfl) rfl
theorem q2442 : (Jvm.Cond.castable "Dialectdepot" "java/lang/Object") ∈ lw_tbl := lw_at lw_m10 217 rfl
theorem in_X1 : ∀ w ∈ wsX10, w ∈ lw_all := lw_in wsX10 [293, 295, 297, 299, 301, 303, 305, 307, 309, 311, 313, 315, 317, 319, 321, 323, 325, 327] (by decide +kernel) (by decide +kernel)
