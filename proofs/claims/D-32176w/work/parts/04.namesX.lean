/-! Dialectdepot$Change -/
set_option maxRecDepth 100000
def RX2 : String := "Dialectdepot$Change"
abbrev cX2_held : ByteArray := prog_5_method_2_code
def yX2_held : MethodName := ⟨RX2, "held", "(I)I"⟩
def dkwX2_held_0 : List UInt8 := [16, 247, 16, 9, 26, 184, 0, 3, 184, 0, 9, 172]
abbrev dktX2_held_0 : List UInt8 := dkwX2_held_0 ++ []
theorem dksX2_held_0 : cX2_held.data.toList.drop 0 = dktX2_held_0 := by decide +kernel
theorem dX2_held_0 : decode cX2_held 0 = .ok (.bipush (-9), 2) := dk_16 247 (dk_at dksX2_held_0 0 rfl rfl)
theorem dX2_held_2 : decode cX2_held 2 = .ok (.bipush 9, 2) := dk_16 9 (dk_at dksX2_held_0 2 rfl rfl)
theorem dX2_held_4 : decode cX2_held 4 = .ok (.iload_n 0, 1) := dk_26 (dk_at dksX2_held_0 4 rfl rfl)
theorem dX2_held_5 : decode cX2_held 5 = .ok (.invokestatic 3, 3) := dk_184 0 3 (dk_at dksX2_held_0 5 rfl rfl)
theorem dX2_held_8 : decode cX2_held 8 = .ok (.invokestatic 9, 3) := dk_184 0 9 (dk_at dksX2_held_0 8 rfl rfl)
theorem dX2_held_11 : decode cX2_held 11 = .ok (.ireturn, 1) := dk_172 (dk_at dksX2_held_0 11 rfl rfl)
abbrev cX2_all : ByteArray := prog_5_method_3_code
def yX2_all : MethodName := ⟨RX2, "all", "(LDialectdepot$Change;[ILDialectdepot$Parcel;I)V"⟩
def dkwX2_all_2 : List UInt8 := [79, 132, 4, 1, 167, 255, 207, 177]
abbrev dktX2_all_2 : List UInt8 := dkwX2_all_2 ++ []
def dkwX2_all_1 : List UInt8 := [46, 44, 180, 0, 28, 29, 184, 0, 31, 54, 5, 43, 21, 5, 42, 43, 21, 5, 46, 185, 0, 35, 2, 0]
abbrev dktX2_all_1 : List UInt8 := dkwX2_all_1 ++ dktX2_all_2
def dkwX2_all_0 : List UInt8 := [3, 54, 4, 21, 4, 44, 180, 0, 12, 180, 0, 18, 162, 0, 43, 44, 180, 0, 12, 180, 0, 24, 21, 4]
abbrev dktX2_all_0 : List UInt8 := dkwX2_all_0 ++ dktX2_all_1
theorem dksX2_all_0 : cX2_all.data.toList.drop 0 = dktX2_all_0 := by decide +kernel
theorem dksX2_all_1 : cX2_all.data.toList.drop 24 = dktX2_all_1 := dk_seg dksX2_all_0 24 rfl rfl
theorem dksX2_all_2 : cX2_all.data.toList.drop 48 = dktX2_all_2 := dk_seg dksX2_all_1 24 rfl rfl
theorem dX2_all_0 : decode cX2_all 0 = .ok (.iconst 0, 1) := dk_3 (dk_at dksX2_all_0 0 rfl rfl)
theorem dX2_all_1 : decode cX2_all 1 = .ok (.istore 4, 2) := dk_54 4 (dk_at dksX2_all_0 1 rfl rfl)
theorem dX2_all_3 : decode cX2_all 3 = .ok (.iload 4, 2) := dk_21 4 (dk_at dksX2_all_0 3 rfl rfl)
theorem dX2_all_5 : decode cX2_all 5 = .ok (.aload_n 2, 1) := dk_44 (dk_at dksX2_all_0 5 rfl rfl)
theorem dX2_all_6 : decode cX2_all 6 = .ok (.getfield 12, 3) := dk_180 0 12 (dk_at dksX2_all_0 6 rfl rfl)
theorem dX2_all_9 : decode cX2_all 9 = .ok (.getfield 18, 3) := dk_180 0 18 (dk_at dksX2_all_0 9 rfl rfl)
theorem dX2_all_12 : decode cX2_all 12 = .ok (.if_icmp .ge 43, 3) := dk_162 0 43 (dk_at dksX2_all_0 12 rfl rfl)
theorem dX2_all_15 : decode cX2_all 15 = .ok (.aload_n 2, 1) := dk_44 (dk_at dksX2_all_0 15 rfl rfl)
theorem dX2_all_16 : decode cX2_all 16 = .ok (.getfield 12, 3) := dk_180 0 12 (dk_at dksX2_all_0 16 rfl rfl)
theorem dX2_all_19 : decode cX2_all 19 = .ok (.getfield 24, 3) := dk_180 0 24 (dk_at dksX2_all_0 19 rfl rfl)
theorem dX2_all_22 : decode cX2_all 22 = .ok (.iload 4, 2) := dk_21 4 (dk_at dksX2_all_0 22 rfl rfl)
theorem dX2_all_24 : decode cX2_all 24 = .ok (.iaload, 1) := dk_46 (dk_at dksX2_all_1 0 rfl rfl)
theorem dX2_all_25 : decode cX2_all 25 = .ok (.aload_n 2, 1) := dk_44 (dk_at dksX2_all_1 1 rfl rfl)
theorem dX2_all_26 : decode cX2_all 26 = .ok (.getfield 28, 3) := dk_180 0 28 (dk_at dksX2_all_1 2 rfl rfl)
theorem dX2_all_29 : decode cX2_all 29 = .ok (.iload_n 3, 1) := dk_29 (dk_at dksX2_all_1 5 rfl rfl)
theorem dX2_all_30 : decode cX2_all 30 = .ok (.invokestatic 31, 3) := dk_184 0 31 (dk_at dksX2_all_1 6 rfl rfl)
theorem dX2_all_33 : decode cX2_all 33 = .ok (.istore 5, 2) := dk_54 5 (dk_at dksX2_all_1 9 rfl rfl)
theorem dX2_all_35 : decode cX2_all 35 = .ok (.aload_n 1, 1) := dk_43 (dk_at dksX2_all_1 11 rfl rfl)
theorem dX2_all_36 : decode cX2_all 36 = .ok (.iload 5, 2) := dk_21 5 (dk_at dksX2_all_1 12 rfl rfl)
theorem dX2_all_38 : decode cX2_all 38 = .ok (.aload_n 0, 1) := dk_42 (dk_at dksX2_all_1 14 rfl rfl)
theorem dX2_all_39 : decode cX2_all 39 = .ok (.aload_n 1, 1) := dk_43 (dk_at dksX2_all_1 15 rfl rfl)
theorem dX2_all_40 : decode cX2_all 40 = .ok (.iload 5, 2) := dk_21 5 (dk_at dksX2_all_1 16 rfl rfl)
theorem dX2_all_42 : decode cX2_all 42 = .ok (.iaload, 1) := dk_46 (dk_at dksX2_all_1 18 rfl rfl)
theorem dX2_all_43 : decode cX2_all 43 = .ok (.invokeinterface 35 2, 5) := by decide +kernel
theorem dX2_all_48 : decode cX2_all 48 = .ok (.iastore, 1) := dk_79 (dk_at dksX2_all_2 0 rfl rfl)
theorem dX2_all_49 : decode cX2_all 49 = .ok (.iinc 4 1, 3) := dk_132 4 1 (dk_at dksX2_all_2 1 rfl rfl)
theorem dX2_all_52 : decode cX2_all 52 = .ok (.goto (-49), 3) := dk_167 255 207 (dk_at dksX2_all_2 4 rfl rfl)
theorem dX2_all_55 : decode cX2_all 55 = .ok (.return_, 1) := dk_177 (dk_at dksX2_all_2 7 rfl rfl)
theorem q67 : (Jvm.Cond.initialized "Dialectdepot$Change") ∈ lw_all := lw_g (lw_at lw_m1 2 rfl) rfl
theorem q125 : (Jvm.Cond.static ({ cls := "Dialectdepot$Change", name := "held", desc := "(I)I" } : Jvm.MethodName)) ∈ lw_all := lw_g (lw_at lw_m1 60 rfl) rfl
theorem q126 : (Jvm.Cond.code ({ cls := "Dialectdepot$Change", name := "held", desc := "(I)I" } : Jvm.MethodName) prog_5_method_2_code (1 : Nat) (Option.some Jvm.ClassFile.FieldType.int)) ∈ lw_all := lw_g (lw_at lw_m1 61 rfl) rfl
theorem q127 : (Jvm.Cond.methodLink "Dialectdepot$Change" (3 : Nat) ({ cls := "java/lang/Math", name := "min", desc := "(II)I" } : Jvm.MethodName)) ∈ lw_all := lw_g (lw_at lw_m1 62 rfl) rfl
theorem q130 : (Jvm.Cond.methodLink "Dialectdepot$Change" (9 : Nat) ({ cls := "java/lang/Math", name := "max", desc := "(II)I" } : Jvm.MethodName)) ∈ lw_all := lw_g (lw_at lw_m1 65 rfl) rfl
theorem q368 : (Jvm.Cond.interfaceMethod "Dialectdepot$Change" "Dialectdepot$Change" "of" "(I)I") ∈ lw_tbl := lw_at lw_m2 63 rfl
theorem q369 : (Jvm.Cond.declares ({ cls := "Dialectdepot$Change", name := "of", desc := "(I)I" } : Jvm.MethodName)) ∈ lw_tbl := lw_at lw_m2 64 rfl
theorem q392 : (Jvm.Cond.static ({ cls := "Dialectdepot$Change", name := "all", desc := "(LDialectdepot$Change;[ILDialectdepot$Parcel;I)V" } : Jvm.MethodName)) ∈ lw_all := lw_g (lw_at lw_m2 87 rfl) rfl
theorem q393 : (Jvm.Cond.code ({ cls := "Dialectdepot$Change", name := "all", desc := "(LDialectdepot$Change;[ILDialectdepot$Parcel;I)V" } : Jvm.MethodName) prog_5_method_3_code (6 : Nat) (Option.none : Option Jvm.ClassFile.FieldType)) ∈ lw_all := lw_g (lw_at lw_m2 88 rfl) rfl
theorem q394 : (Jvm.Cond.methodLinkNest "Dialectdepot$Change" (31 : Nat) ({ cls := "Dialectdepot", name := "place", desc := "(III)I" } : Jvm.MethodName) "Dialectdepot") ∈ lw_tbl := lw_at lw_m2 89 rfl
theorem q395 : (Jvm.Cond.interfaceEntry "Dialectdepot$Change" (35 : Nat)) ∈ lw_tbl := lw_at lw_m2 90 rfl
theorem q396 : (Jvm.Cond.methodLink "Dialectdepot$Change" (35 : Nat) ({ cls := "Dialectdepot$Change", name := "of", desc := "(I)I" } : Jvm.MethodName)) ∈ lw_all := lw_g (lw_at lw_m2 91 rfl) rfl
theorem q1299 : (Jvm.Cond.fieldLinkNest "Dialectdepot$Change" (24 : Nat) "Dialectdepot$Address" "wanted" "[I" "Dialectdepot") ∈ lw_tbl := lw_at lw_m6 34 rfl
theorem q1302 : (Jvm.Cond.fieldLinkNest "Dialectdepot$Change" (18 : Nat) "Dialectdepot$Address" "many" "I" "Dialectdepot") ∈ lw_tbl := lw_at lw_m6 37 rfl
theorem q1476 : (Jvm.Cond.fieldLinkNest "Dialectdepot$Change" (28 : Nat) "Dialectdepot$Parcel" "group" "I" "Dialectdepot") ∈ lw_tbl := lw_at lw_m6 211 rfl
theorem q1484 : (Jvm.Cond.fieldLinkNest "Dialectdepot$Change" (12 : Nat) "Dialectdepot$Parcel" "address" "LDialectdepot$Address;" "Dialectdepot") ∈ lw_tbl := lw_at lw_m6 219 rfl
/-! Dialectdepot$Name -/
set_option maxRecDepth 100000
def RX4 : String := "Dialectdepot$Name"
def TX4 : u_T := fun k => match k with
  | 0 => ("Dialectdepot$Name", "number", "I", true)
  | 1 => ("Dialectdepot$Name", "text", "Ljava/lang/String;", true)
  | 2 => ("Dialectdepot$Name", "claims", "Ljava/util/List;", true)
  | 3 => ("Dialectdepot$Name", "ruled", "I", false)
  | 4 => ("Dialectdepot$Name", "ruledOn", "I", false)
  | 5 => ("Dialectdepot$Name", "openedOn", "I", false)
  | _ => ("Dialectdepot$Name", "isAppealed", "Z", false)
def tyX4 : Nat → FieldType := fun k => match k with
  | 0 => .int
  | 1 => .object "java/lang/String"
  | 2 => .object "java/util/List"
  | 3 => .int
  | 4 => .int
  | 5 => .int
  | _ => .boolean
abbrev wsX40 : List Cond := u_ws RX4 TX4 7
theorem nmX4 : ∀ a, a < 7 → ∀ b, b < 7 → a ≠ b → (TX4 a).2.1 ≠ (TX4 b).2.1 := by decide +kernel
theorem tyX4_ok : ∀ k, k < 7 → parseFieldDescriptor (TX4 k).2.2.1 = some (tyX4 k) := by decide +kernel
abbrev cX4_init : ByteArray := prog_10_method_1_code
def yX4_init : MethodName := ⟨RX4, "<init>", "(ILjava/lang/String;)V"⟩
def dkwX4_init_1 : List UInt8 := [181, 0, 22, 42, 27, 181, 0, 25, 42, 44, 181, 0, 28, 177]
abbrev dktX4_init_1 : List UInt8 := dkwX4_init_1 ++ []
def dkwX4_init_0 : List UInt8 := [42, 183, 0, 3, 42, 187, 0, 9, 89, 183, 0, 11, 181, 0, 12, 42, 2, 181, 0, 18, 42, 2]
abbrev dktX4_init_0 : List UInt8 := dkwX4_init_0 ++ dktX4_init_1
theorem dksX4_init_0 : cX4_init.data.toList.drop 0 = dktX4_init_0 := by decide +kernel
theorem dksX4_init_1 : cX4_init.data.toList.drop 22 = dktX4_init_1 := dk_seg dksX4_init_0 22 rfl rfl
theorem dX4_init_0 : decode cX4_init 0 = .ok (.aload_n 0, 1) := dk_42 (dk_at dksX4_init_0 0 rfl rfl)
theorem dX4_init_1 : decode cX4_init 1 = .ok (.invokespecial 3, 3) := dk_183 0 3 (dk_at dksX4_init_0 1 rfl rfl)
theorem dX4_init_4 : decode cX4_init 4 = .ok (.aload_n 0, 1) := dk_42 (dk_at dksX4_init_0 4 rfl rfl)
theorem dX4_init_5 : decode cX4_init 5 = .ok (.new 9, 3) := dk_187 0 9 (dk_at dksX4_init_0 5 rfl rfl)
theorem dX4_init_8 : decode cX4_init 8 = .ok (.dup, 1) := dk_89 (dk_at dksX4_init_0 8 rfl rfl)
theorem dX4_init_9 : decode cX4_init 9 = .ok (.invokespecial 11, 3) := dk_183 0 11 (dk_at dksX4_init_0 9 rfl rfl)
theorem dX4_init_12 : decode cX4_init 12 = .ok (.putfield 12, 3) := dk_181 0 12 (dk_at dksX4_init_0 12 rfl rfl)
theorem dX4_init_15 : decode cX4_init 15 = .ok (.aload_n 0, 1) := dk_42 (dk_at dksX4_init_0 15 rfl rfl)
theorem dX4_init_16 : decode cX4_init 16 = .ok (.iconst (-1), 1) := dk_2 (dk_at dksX4_init_0 16 rfl rfl)
theorem dX4_init_17 : decode cX4_init 17 = .ok (.putfield 18, 3) := dk_181 0 18 (dk_at dksX4_init_0 17 rfl rfl)
theorem dX4_init_20 : decode cX4_init 20 = .ok (.aload_n 0, 1) := dk_42 (dk_at dksX4_init_0 20 rfl rfl)
theorem dX4_init_21 : decode cX4_init 21 = .ok (.iconst (-1), 1) := dk_2 (dk_at dksX4_init_0 21 rfl rfl)
theorem dX4_init_22 : decode cX4_init 22 = .ok (.putfield 22, 3) := dk_181 0 22 (dk_at dksX4_init_1 0 rfl rfl)
theorem dX4_init_25 : decode cX4_init 25 = .ok (.aload_n 0, 1) := dk_42 (dk_at dksX4_init_1 3 rfl rfl)
theorem dX4_init_26 : decode cX4_init 26 = .ok (.iload_n 1, 1) := dk_27 (dk_at dksX4_init_1 4 rfl rfl)
theorem dX4_init_27 : decode cX4_init 27 = .ok (.putfield 25, 3) := dk_181 0 25 (dk_at dksX4_init_1 5 rfl rfl)
theorem dX4_init_30 : decode cX4_init 30 = .ok (.aload_n 0, 1) := dk_42 (dk_at dksX4_init_1 8 rfl rfl)
theorem dX4_init_31 : decode cX4_init 31 = .ok (.aload_n 2, 1) := dk_44 (dk_at dksX4_init_1 9 rfl rfl)
theorem dX4_init_32 : decode cX4_init 32 = .ok (.putfield 28, 3) := dk_181 0 28 (dk_at dksX4_init_1 10 rfl rfl)
theorem dX4_init_35 : decode cX4_init 35 = .ok (.return_, 1) := dk_177 (dk_at dksX4_init_1 13 rfl rfl)
abbrev cX4_claimOf : ByteArray := prog_10_method_2_code
def yX4_claimOf : MethodName := ⟨RX4, "claimOf", "(I)I"⟩
def dkwX4_claimOf_2 : List UInt8 := [172]
abbrev dktX4_claimOf_2 : List UInt8 := dkwX4_claimOf_2 ++ []
def dkwX4_claimOf_1 : List UInt8 := [185, 0, 38, 2, 0, 192, 0, 42, 182, 0, 44, 27, 160, 0, 5, 28, 172, 132, 2, 1, 167, 255, 218, 2]
abbrev dktX4_claimOf_1 : List UInt8 := dkwX4_claimOf_1 ++ dktX4_claimOf_2
def dkwX4_claimOf_0 : List UInt8 := [3, 61, 28, 42, 180, 0, 12, 185, 0, 32, 1, 0, 162, 0, 31, 42, 180, 0, 12, 28]
abbrev dktX4_claimOf_0 : List UInt8 := dkwX4_claimOf_0 ++ dktX4_claimOf_1
theorem dksX4_claimOf_0 : cX4_claimOf.data.toList.drop 0 = dktX4_claimOf_0 := by decide +kernel
theorem dksX4_claimOf_1 : cX4_claimOf.data.toList.drop 20 = dktX4_claimOf_1 := dk_seg dksX4_claimOf_0 20 rfl rfl
theorem dksX4_claimOf_2 : cX4_claimOf.data.toList.drop 44 = dktX4_claimOf_2 := dk_seg dksX4_claimOf_1 24 rfl rfl
theorem dX4_claimOf_0 : decode cX4_claimOf 0 = .ok (.iconst 0, 1) := dk_3 (dk_at dksX4_claimOf_0 0 rfl rfl)
theorem dX4_claimOf_1 : decode cX4_claimOf 1 = .ok (.istore_n 2, 1) := dk_61 (dk_at dksX4_claimOf_0 1 rfl rfl)
theorem dX4_claimOf_2 : decode cX4_claimOf 2 = .ok (.iload_n 2, 1) := dk_28 (dk_at dksX4_claimOf_0 2 rfl rfl)
theorem dX4_claimOf_3 : decode cX4_claimOf 3 = .ok (.aload_n 0, 1) := dk_42 (dk_at dksX4_claimOf_0 3 rfl rfl)
theorem dX4_claimOf_4 : decode cX4_claimOf 4 = .ok (.getfield 12, 3) := dk_180 0 12 (dk_at dksX4_claimOf_0 4 rfl rfl)
theorem dX4_claimOf_7 : decode cX4_claimOf 7 = .ok (.invokeinterface 32 1, 5) := by decide +kernel
theorem dX4_claimOf_12 : decode cX4_claimOf 12 = .ok (.if_icmp .ge 31, 3) := dk_162 0 31 (dk_at dksX4_claimOf_0 12 rfl rfl)
theorem dX4_claimOf_15 : decode cX4_claimOf 15 = .ok (.aload_n 0, 1) := dk_42 (dk_at dksX4_claimOf_0 15 rfl rfl)
theorem dX4_claimOf_16 : decode cX4_claimOf 16 = .ok (.getfield 12, 3) := dk_180 0 12 (dk_at dksX4_claimOf_0 16 rfl rfl)
theorem dX4_claimOf_19 : decode cX4_claimOf 19 = .ok (.iload_n 2, 1) := dk_28 (dk_at dksX4_claimOf_0 19 rfl rfl)
theorem dX4_claimOf_20 : decode cX4_claimOf 20 = .ok (.invokeinterface 38 2, 5) := by decide +kernel
theorem dX4_claimOf_25 : decode cX4_claimOf 25 = .ok (.checkcast 42, 3) := dk_192 0 42 (dk_at dksX4_claimOf_1 5 rfl rfl)
theorem dX4_claimOf_28 : decode cX4_claimOf 28 = .ok (.invokevirtual 44, 3) := dk_182 0 44 (dk_at dksX4_claimOf_1 8 rfl rfl)
theorem dX4_claimOf_31 : decode cX4_claimOf 31 = .ok (.iload_n 1, 1) := dk_27 (dk_at dksX4_claimOf_1 11 rfl rfl)
theorem dX4_claimOf_32 : decode cX4_claimOf 32 = .ok (.if_icmp .ne 5, 3) := dk_160 0 5 (dk_at dksX4_claimOf_1 12 rfl rfl)
theorem dX4_claimOf_35 : decode cX4_claimOf 35 = .ok (.iload_n 2, 1) := dk_28 (dk_at dksX4_claimOf_1 15 rfl rfl)
theorem dX4_claimOf_36 : decode cX4_claimOf 36 = .ok (.ireturn, 1) := dk_172 (dk_at dksX4_claimOf_1 16 rfl rfl)
theorem dX4_claimOf_37 : decode cX4_claimOf 37 = .ok (.iinc 2 1, 3) := dk_132 2 1 (dk_at dksX4_claimOf_1 17 rfl rfl)
theorem dX4_claimOf_40 : decode cX4_claimOf 40 = .ok (.goto (-38), 3) := dk_167 255 218 (dk_at dksX4_claimOf_1 20 rfl rfl)
theorem dX4_claimOf_43 : decode cX4_claimOf 43 = .ok (.iconst (-1), 1) := dk_2 (dk_at dksX4_claimOf_1 23 rfl rfl)
theorem dX4_claimOf_44 : decode cX4_claimOf 44 = .ok (.ireturn, 1) := dk_172 (dk_at dksX4_claimOf_2 0 rfl rfl)
abbrev cX4_argue : ByteArray := prog_10_method_3_code
def yX4_argue : MethodName := ⟨RX4, "argue", "(I)V"⟩
def dkwX4_argue_4 : List UInt8 := [42, 180, 0, 22, 181, 0, 22, 177]
abbrev dktX4_argue_4 : List UInt8 := dkwX4_argue_4 ++ []
def dkwX4_argue_3 : List UInt8 := [167, 255, 195, 42, 28, 154, 0, 7, 2, 167, 0, 19, 42, 180, 0, 22, 2, 160, 0, 7, 27, 167, 0, 7]
abbrev dktX4_argue_3 : List UInt8 := dkwX4_argue_3 ++ dktX4_argue_4
def dkwX4_argue_2 : List UInt8 := [185, 0, 38, 2, 0, 192, 0, 42, 182, 0, 47, 159, 0, 7, 4, 167, 0, 4, 3, 61, 132, 3, 1]
abbrev dktX4_argue_2 : List UInt8 := dkwX4_argue_2 ++ dktX4_argue_3
def dkwX4_argue_1 : List UInt8 := [180, 0, 12, 29, 185, 0, 38, 2, 0, 192, 0, 42, 182, 0, 47, 42, 180, 0, 12, 3]
abbrev dktX4_argue_1 : List UInt8 := dkwX4_argue_1 ++ dktX4_argue_2
def dkwX4_argue_0 : List UInt8 := [3, 61, 4, 62, 29, 42, 180, 0, 12, 185, 0, 32, 1, 0, 162, 0, 54, 28, 154, 0, 38, 42]
abbrev dktX4_argue_0 : List UInt8 := dkwX4_argue_0 ++ dktX4_argue_1
theorem dksX4_argue_0 : cX4_argue.data.toList.drop 0 = dktX4_argue_0 := by decide +kernel
theorem dksX4_argue_1 : cX4_argue.data.toList.drop 22 = dktX4_argue_1 := dk_seg dksX4_argue_0 22 rfl rfl
theorem dksX4_argue_2 : cX4_argue.data.toList.drop 42 = dktX4_argue_2 := dk_seg dksX4_argue_1 20 rfl rfl
theorem dksX4_argue_3 : cX4_argue.data.toList.drop 65 = dktX4_argue_3 := dk_seg dksX4_argue_2 23 rfl rfl
theorem dksX4_argue_4 : cX4_argue.data.toList.drop 89 = dktX4_argue_4 := dk_seg dksX4_argue_3 24 rfl rfl
theorem dX4_argue_0 : decode cX4_argue 0 = .ok (.iconst 0, 1) := dk_3 (dk_at dksX4_argue_0 0 rfl rfl)
theorem dX4_argue_1 : decode cX4_argue 1 = .ok (.istore_n 2, 1) := dk_61 (dk_at dksX4_argue_0 1 rfl rfl)
theorem dX4_argue_2 : decode cX4_argue 2 = .ok (.iconst 1, 1) := dk_4 (dk_at dksX4_argue_0 2 rfl rfl)
theorem dX4_argue_3 : decode cX4_argue 3 = .ok (.istore_n 3, 1) := dk_62 (dk_at dksX4_argue_0 3 rfl rfl)
theorem dX4_argue_4 : decode cX4_argue 4 = .ok (.iload_n 3, 1) := dk_29 (dk_at dksX4_argue_0 4 rfl rfl)
theorem dX4_argue_5 : decode cX4_argue 5 = .ok (.aload_n 0, 1) := dk_42 (dk_at dksX4_argue_0 5 rfl rfl)
theorem dX4_argue_6 : decode cX4_argue 6 = .ok (.getfield 12, 3) := dk_180 0 12 (dk_at dksX4_argue_0 6 rfl rfl)
theorem dX4_argue_9 : decode cX4_argue 9 = .ok (.invokeinterface 32 1, 5) := by decide +kernel
theorem dX4_argue_14 : decode cX4_argue 14 = .ok (.if_icmp .ge 54, 3) := dk_162 0 54 (dk_at dksX4_argue_0 14 rfl rfl)
theorem dX4_argue_17 : decode cX4_argue 17 = .ok (.iload_n 2, 1) := dk_28 (dk_at dksX4_argue_0 17 rfl rfl)
theorem dX4_argue_18 : decode cX4_argue 18 = .ok (.ifCond .ne 38, 3) := dk_154 0 38 (dk_at dksX4_argue_0 18 rfl rfl)
theorem dX4_argue_21 : decode cX4_argue 21 = .ok (.aload_n 0, 1) := dk_42 (dk_at dksX4_argue_0 21 rfl rfl)
theorem dX4_argue_22 : decode cX4_argue 22 = .ok (.getfield 12, 3) := dk_180 0 12 (dk_at dksX4_argue_1 0 rfl rfl)
theorem dX4_argue_25 : decode cX4_argue 25 = .ok (.iload_n 3, 1) := dk_29 (dk_at dksX4_argue_1 3 rfl rfl)
theorem dX4_argue_26 : decode cX4_argue 26 = .ok (.invokeinterface 38 2, 5) := by decide +kernel
theorem dX4_argue_31 : decode cX4_argue 31 = .ok (.checkcast 42, 3) := dk_192 0 42 (dk_at dksX4_argue_1 9 rfl rfl)
theorem dX4_argue_34 : decode cX4_argue 34 = .ok (.invokevirtual 47, 3) := dk_182 0 47 (dk_at dksX4_argue_1 12 rfl rfl)
theorem dX4_argue_37 : decode cX4_argue 37 = .ok (.aload_n 0, 1) := dk_42 (dk_at dksX4_argue_1 15 rfl rfl)
theorem dX4_argue_38 : decode cX4_argue 38 = .ok (.getfield 12, 3) := dk_180 0 12 (dk_at dksX4_argue_1 16 rfl rfl)
theorem dX4_argue_41 : decode cX4_argue 41 = .ok (.iconst 0, 1) := dk_3 (dk_at dksX4_argue_1 19 rfl rfl)
theorem dX4_argue_42 : decode cX4_argue 42 = .ok (.invokeinterface 38 2, 5) := by decide +kernel
theorem dX4_argue_47 : decode cX4_argue 47 = .ok (.checkcast 42, 3) := dk_192 0 42 (dk_at dksX4_argue_2 5 rfl rfl)
theorem dX4_argue_50 : decode cX4_argue 50 = .ok (.invokevirtual 47, 3) := dk_182 0 47 (dk_at dksX4_argue_2 8 rfl rfl)
theorem dX4_argue_53 : decode cX4_argue 53 = .ok (.if_icmp .eq 7, 3) := dk_159 0 7 (dk_at dksX4_argue_2 11 rfl rfl)
theorem dX4_argue_56 : decode cX4_argue 56 = .ok (.iconst 1, 1) := dk_4 (dk_at dksX4_argue_2 14 rfl rfl)
theorem dX4_argue_57 : decode cX4_argue 57 = .ok (.goto 4, 3) := dk_167 0 4 (dk_at dksX4_argue_2 15 rfl rfl)
theorem dX4_argue_60 : decode cX4_argue 60 = .ok (.iconst 0, 1) := dk_3 (dk_at dksX4_argue_2 18 rfl rfl)
theorem dX4_argue_61 : decode cX4_argue 61 = .ok (.istore_n 2, 1) := dk_61 (dk_at dksX4_argue_2 19 rfl rfl)
theorem dX4_argue_62 : decode cX4_argue 62 = .ok (.iinc 3 1, 3) := dk_132 3 1 (dk_at dksX4_argue_2 20 rfl rfl)
theorem dX4_argue_65 : decode cX4_argue 65 = .ok (.goto (-61), 3) := dk_167 255 195 (dk_at dksX4_argue_3 0 rfl rfl)
theorem dX4_argue_68 : decode cX4_argue 68 = .ok (.aload_n 0, 1) := dk_42 (dk_at dksX4_argue_3 3 rfl rfl)
theorem dX4_argue_69 : decode cX4_argue 69 = .ok (.iload_n 2, 1) := dk_28 (dk_at dksX4_argue_3 4 rfl rfl)
theorem dX4_argue_70 : decode cX4_argue 70 = .ok (.ifCond .ne 7, 3) := dk_154 0 7 (dk_at dksX4_argue_3 5 rfl rfl)
theorem dX4_argue_73 : decode cX4_argue 73 = .ok (.iconst (-1), 1) := dk_2 (dk_at dksX4_argue_3 8 rfl rfl)
theorem dX4_argue_74 : decode cX4_argue 74 = .ok (.goto 19, 3) := dk_167 0 19 (dk_at dksX4_argue_3 9 rfl rfl)
theorem dX4_argue_77 : decode cX4_argue 77 = .ok (.aload_n 0, 1) := dk_42 (dk_at dksX4_argue_3 12 rfl rfl)
theorem dX4_argue_78 : decode cX4_argue 78 = .ok (.getfield 22, 3) := dk_180 0 22 (dk_at dksX4_argue_3 13 rfl rfl)
theorem dX4_argue_81 : decode cX4_argue 81 = .ok (.iconst (-1), 1) := dk_2 (dk_at dksX4_argue_3 16 rfl rfl)
theorem dX4_argue_82 : decode cX4_argue 82 = .ok (.if_icmp .ne 7, 3) := dk_160 0 7 (dk_at dksX4_argue_3 17 rfl rfl)
theorem dX4_argue_85 : decode cX4_argue 85 = .ok (.iload_n 1, 1) := dk_27 (dk_at dksX4_argue_3 20 rfl rfl)
theorem dX4_argue_86 : decode cX4_argue 86 = .ok (.goto 7, 3) := dk_167 0 7 (dk_at dksX4_argue_3 21 rfl rfl)
theorem dX4_argue_89 : decode cX4_argue 89 = .ok (.aload_n 0, 1) := dk_42 (dk_at dksX4_argue_4 0 rfl rfl)
theorem dX4_argue_90 : decode cX4_argue 90 = .ok (.getfield 22, 3) := dk_180 0 22 (dk_at dksX4_argue_4 1 rfl rfl)
theorem dX4_argue_93 : decode cX4_argue 93 = .ok (.putfield 22, 3) := dk_181 0 22 (dk_at dksX4_argue_4 4 rfl rfl)
theorem dX4_argue_96 : decode cX4_argue 96 = .ok (.return_, 1) := dk_177 (dk_at dksX4_argue_4 7 rfl rfl)
theorem q90 : (Jvm.Cond.initialized "Dialectdepot$Name") ∈ lw_all := lw_g (lw_at lw_m1 25 rfl) rfl
theorem q793 : (Jvm.Cond.instantiable "Dialectdepot$Name" (7 : Nat)) ∈ lw_all := lw_g (lw_at lw_m4 8 rfl) rfl
theorem q795 : (Jvm.Cond.instanceMethod ({ cls := "Dialectdepot$Name", name := "<init>", desc := "(ILjava/lang/String;)V" } : Jvm.MethodName)) ∈ lw_all := lw_g (lw_at lw_m4 10 rfl) rfl
theorem q796 : (Jvm.Cond.code ({ cls := "Dialectdepot$Name", name := "<init>", desc := "(ILjava/lang/String;)V" } : Jvm.MethodName) prog_10_method_1_code (3 : Nat) (Option.none : Option Jvm.ClassFile.FieldType)) ∈ lw_all := lw_g (lw_at lw_m4 11 rfl) rfl
theorem q797 : (Jvm.Cond.methodLink "Dialectdepot$Name" (3 : Nat) ({ cls := "java/lang/Object", name := "<init>", desc := "()V" } : Jvm.MethodName)) ∈ lw_all := lw_g (lw_at lw_m4 12 rfl) rfl
theorem q798 : (Jvm.Cond.classLink "Dialectdepot$Name" (9 : Nat) "java/util/ArrayList") ∈ lw_all := lw_g (lw_at lw_m4 13 rfl) rfl
theorem q799 : (Jvm.Cond.methodLink "Dialectdepot$Name" (11 : Nat) ({ cls := "java/util/ArrayList", name := "<init>", desc := "()V" } : Jvm.MethodName)) ∈ lw_all := lw_g (lw_at lw_m4 14 rfl) rfl
theorem q800 : (Jvm.Cond.fieldLink "Dialectdepot$Name" (25 : Nat) "Dialectdepot$Name" "number" "I") ∈ lw_all := lw_g (lw_at lw_m4 15 rfl) rfl
theorem q802 : (Jvm.Cond.fieldLink "Dialectdepot$Name" (28 : Nat) "Dialectdepot$Name" "text" "Ljava/lang/String;") ∈ lw_all := lw_g (lw_at lw_m4 17 rfl) rfl
theorem q804 : (Jvm.Cond.fieldLink "Dialectdepot$Name" (12 : Nat) "Dialectdepot$Name" "claims" "Ljava/util/List;") ∈ lw_all := lw_g (lw_at lw_m4 19 rfl) rfl
theorem q806 : (Jvm.Cond.fieldLink "Dialectdepot$Name" (18 : Nat) "Dialectdepot$Name" "ruled" "I") ∈ lw_all := lw_g (lw_at lw_m4 21 rfl) rfl
theorem q809 : (Jvm.Cond.fieldLink "Dialectdepot$Name" (22 : Nat) "Dialectdepot$Name" "openedOn" "I") ∈ lw_all := lw_g (lw_at lw_m4 24 rfl) rfl
theorem q812 : (Jvm.Cond.laysFinal "Dialectdepot$Name" "Dialectdepot$Name" "number" "I") ∈ lw_all := lw_g (lw_at lw_m4 27 rfl) rfl
theorem q813 : (Jvm.Cond.soleField "Dialectdepot$Name" "number") ∈ lw_all := lw_g (lw_at lw_m4 28 rfl) rfl
theorem q814 : (Jvm.Cond.laysFinal "Dialectdepot$Name" "Dialectdepot$Name" "text" "Ljava/lang/String;") ∈ lw_all := lw_g (lw_at lw_m4 29 rfl) rfl
theorem q815 : (Jvm.Cond.soleField "Dialectdepot$Name" "text") ∈ lw_all := lw_g (lw_at lw_m4 30 rfl) rfl
theorem q816 : (Jvm.Cond.laysFinal "Dialectdepot$Name" "Dialectdepot$Name" "claims" "Ljava/util/List;") ∈ lw_all := lw_g (lw_at lw_m4 31 rfl) rfl
theorem q817 : (Jvm.Cond.soleField "Dialectdepot$Name" "claims") ∈ lw_all := lw_g (lw_at lw_m4 32 rfl) rfl
theorem q818 : (Jvm.Cond.lays "Dialectdepot$Name" "Dialectdepot$Name" "ruled" "I") ∈ lw_all := lw_g (lw_at lw_m4 33 rfl) rfl
theorem q819 : (Jvm.Cond.soleField "Dialectdepot$Name" "ruled") ∈ lw_all := lw_g (lw_at lw_m4 34 rfl) rfl
theorem q820 : (Jvm.Cond.lays "Dialectdepot$Name" "Dialectdepot$Name" "ruledOn" "I") ∈ lw_all := lw_g (lw_at lw_m4 35 rfl) rfl
theorem q821 : (Jvm.Cond.soleField "Dialectdepot$Name" "ruledOn") ∈ lw_all := lw_g (lw_at lw_m4 36 rfl) rfl
theorem q822 : (Jvm.Cond.lays "Dialectdepot$Name" "Dialectdepot$Name" "openedOn" "I") ∈ lw_all := lw_g (lw_at lw_m4 37 rfl) rfl
theorem q823 : (Jvm.Cond.soleField "Dialectdepot$Name" "openedOn") ∈ lw_all := lw_g (lw_at lw_m4 38 rfl) rfl
theorem q824 : (Jvm.Cond.lays "Dialectdepot$Name" "Dialectdepot$Name" "isAppealed" "Z") ∈ lw_all := lw_g (lw_at lw_m4 39 rfl) rfl
theorem q825 : (Jvm.Cond.soleField "Dialectdepot$Name" "isAppealed") ∈ lw_all := lw_g (lw_at lw_m4 40 rfl) rfl
theorem q826 : (Jvm.Cond.superclass "Dialectdepot$Name" "java/lang/Object") ∈ lw_all := lw_g (lw_at lw_m4 41 rfl) rfl
theorem q862 : (Jvm.Cond.selects "Dialectdepot$Name" ({ cls := "java/lang/Object", name := "getClass", desc := "()Ljava/lang/Class;" } : Jvm.MethodName) ({ cls := "java/lang/Object", name := "getClass", desc := "()Ljava/lang/Class;" } : Jvm.MethodName)) ∈ lw_all := lw_g (lw_at lw_m4 77 rfl) rfl
theorem q1832 : (Jvm.Cond.instanceMethod ({ cls := "Dialectdepot$Name", name := "claimOf", desc := "(I)I" } : Jvm.MethodName)) ∈ lw_all := lw_g (lw_at lw_m8 87 rfl) rfl
theorem q1833 : (Jvm.Cond.selects "Dialectdepot$Name" ({ cls := "Dialectdepot$Name", name := "claimOf", desc := "(I)I" } : Jvm.MethodName) ({ cls := "Dialectdepot$Name", name := "claimOf", desc := "(I)I" } : Jvm.MethodName)) ∈ lw_all := lw_g (lw_at lw_m8 88 rfl) rfl
theorem q1834 : (Jvm.Cond.code ({ cls := "Dialectdepot$Name", name := "claimOf", desc := "(I)I" } : Jvm.MethodName) prog_10_method_2_code (3 : Nat) (Option.some Jvm.ClassFile.FieldType.int)) ∈ lw_all := lw_g (lw_at lw_m8 89 rfl) rfl
theorem q1835 : (Jvm.Cond.interfaceEntry "Dialectdepot$Name" (32 : Nat)) ∈ lw_tbl := lw_at lw_m8 90 rfl
theorem q1836 : (Jvm.Cond.methodLink "Dialectdepot$Name" (32 : Nat) ({ cls := "java/util/List", name := "size", desc := "()I" } : Jvm.MethodName)) ∈ lw_all := lw_g (lw_at lw_m8 91 rfl) rfl
theorem q1837 : (Jvm.Cond.interfaceEntry "Dialectdepot$Name" (38 : Nat)) ∈ lw_tbl := lw_at lw_m8 92 rfl
theorem q1838 : (Jvm.Cond.methodLink "Dialectdepot$Name" (38 : Nat) ({ cls := "java/util/List", name := "get", desc := "(I)Ljava/lang/Object;" } : Jvm.MethodName)) ∈ lw_all := lw_g (lw_at lw_m8 93 rfl) rfl
theorem q1839 : (Jvm.Cond.classLink "Dialectdepot$Name" (42 : Nat) "Dialectdepot$Claim") ∈ lw_all := lw_g (lw_at lw_m8 94 rfl) rfl
theorem q1840 : (Jvm.Cond.methodLink "Dialectdepot$Name" (44 : Nat) ({ cls := "Dialectdepot$Claim", name := "group", desc := "()I" } : Jvm.MethodName)) ∈ lw_all := lw_g (lw_at lw_m8 95 rfl) rfl
theorem q1857 : (Jvm.Cond.instanceMethod ({ cls := "Dialectdepot$Name", name := "argue", desc := "(I)V" } : Jvm.MethodName)) ∈ lw_all := lw_g (lw_at lw_m8 112 rfl) rfl
theorem q1858 : (Jvm.Cond.selects "Dialectdepot$Name" ({ cls := "Dialectdepot$Name", name := "argue", desc := "(I)V" } : Jvm.MethodName) ({ cls := "Dialectdepot$Name", name := "argue", desc := "(I)V" } : Jvm.MethodName)) ∈ lw_all := lw_g (lw_at lw_m8 113 rfl) rfl
theorem q1859 : (Jvm.Cond.code ({ cls := "Dialectdepot$Name", name := "argue", desc := "(I)V" } : Jvm.MethodName) prog_10_method_3_code (4 : Nat) (Option.none : Option Jvm.ClassFile.FieldType)) ∈ lw_all := lw_g (lw_at lw_m8 114 rfl) rfl
theorem q1860 : (Jvm.Cond.methodLink "Dialectdepot$Name" (47 : Nat) ({ cls := "Dialectdepot$Claim", name := "street", desc := "()I" } : Jvm.MethodName)) ∈ lw_all := lw_g (lw_at lw_m8 115 rfl) rfl
theorem q2449 : (Jvm.Cond.castable "Dialectdepot$Name" "java/lang/Object") ∈ lw_tbl := lw_at lw_m10 224 rfl
theorem in_X4 : ∀ w ∈ wsX40, w ∈ lw_all := lw_in wsX40 [812, 814, 816, 818, 820, 822, 824] (by decide +kernel) (by decide +kernel)
/-! Dialectdepot$Usage -/
set_option maxRecDepth 100000
def RX5 : String := "Dialectdepot$Usage"
def TX5 : u_T := fun k => match k with
  | 0 => ("Dialectdepot$Usage", "group", "I", true)
  | 1 => ("Dialectdepot$Usage", "name", "I", true)
  | 2 => ("Dialectdepot$Usage", "street", "I", true)
  | 3 => ("Dialectdepot$Usage", "from", "I", true)
  | _ => ("Dialectdepot$Usage", "to", "I", true)
def tyX5 : Nat → FieldType := fun k => match k with
  | 0 => .int
  | 1 => .int
  | 2 => .int
  | 3 => .int
  | _ => .int
abbrev wsX50 : List Cond := u_ws RX5 TX5 5
theorem nmX5 : ∀ a, a < 5 → ∀ b, b < 5 → a ≠ b → (TX5 a).2.1 ≠ (TX5 b).2.1 := by decide +kernel
theorem tyX5_ok : ∀ k, k < 5 → parseFieldDescriptor (TX5 k).2.2.1 = some (tyX5 k) := by decide +kernel
abbrev cX5_isOf : ByteArray := prog_17_method_3_code
def yX5_isOf : MethodName := ⟨RX5, "isOf", "(III)Z"⟩
def dkwX5_isOf_1 : List UInt8 := [4, 167, 0, 4, 3, 172]
abbrev dktX5_isOf_1 : List UInt8 := dkwX5_isOf_1 ++ []
def dkwX5_isOf_0 : List UInt8 := [42, 180, 0, 7, 27, 160, 0, 23, 42, 180, 0, 13, 28, 160, 0, 15, 42, 180, 0, 16, 29, 160, 0, 7]
abbrev dktX5_isOf_0 : List UInt8 := dkwX5_isOf_0 ++ dktX5_isOf_1
theorem dksX5_isOf_0 : cX5_isOf.data.toList.drop 0 = dktX5_isOf_0 := by decide +kernel
theorem dksX5_isOf_1 : cX5_isOf.data.toList.drop 24 = dktX5_isOf_1 := dk_seg dksX5_isOf_0 24 rfl rfl
theorem dX5_isOf_0 : decode cX5_isOf 0 = .ok (.aload_n 0, 1) := dk_42 (dk_at dksX5_isOf_0 0 rfl rfl)
theorem dX5_isOf_1 : decode cX5_isOf 1 = .ok (.getfield 7, 3) := dk_180 0 7 (dk_at dksX5_isOf_0 1 rfl rfl)
theorem dX5_isOf_4 : decode cX5_isOf 4 = .ok (.iload_n 1, 1) := dk_27 (dk_at dksX5_isOf_0 4 rfl rfl)
theorem dX5_isOf_5 : decode cX5_isOf 5 = .ok (.if_icmp .ne 23, 3) := dk_160 0 23 (dk_at dksX5_isOf_0 5 rfl rfl)
theorem dX5_isOf_8 : decode cX5_isOf 8 = .ok (.aload_n 0, 1) := dk_42 (dk_at dksX5_isOf_0 8 rfl rfl)
theorem dX5_isOf_9 : decode cX5_isOf 9 = .ok (.getfield 13, 3) := dk_180 0 13 (dk_at dksX5_isOf_0 9 rfl rfl)
theorem dX5_isOf_12 : decode cX5_isOf 12 = .ok (.iload_n 2, 1) := dk_28 (dk_at dksX5_isOf_0 12 rfl rfl)
theorem dX5_isOf_13 : decode cX5_isOf 13 = .ok (.if_icmp .ne 15, 3) := dk_160 0 15 (dk_at dksX5_isOf_0 13 rfl rfl)
theorem dX5_isOf_16 : decode cX5_isOf 16 = .ok (.aload_n 0, 1) := dk_42 (dk_at dksX5_isOf_0 16 rfl rfl)
theorem dX5_isOf_17 : decode cX5_isOf 17 = .ok (.getfield 16, 3) := dk_180 0 16 (dk_at dksX5_isOf_0 17 rfl rfl)
theorem dX5_isOf_20 : decode cX5_isOf 20 = .ok (.iload_n 3, 1) := dk_29 (dk_at dksX5_isOf_0 20 rfl rfl)
theorem dX5_isOf_21 : decode cX5_isOf 21 = .ok (.if_icmp .ne 7, 3) := dk_160 0 7 (dk_at dksX5_isOf_0 21 rfl rfl)
theorem dX5_isOf_24 : decode cX5_isOf 24 = .ok (.iconst 1, 1) := dk_4 (dk_at dksX5_isOf_1 0 rfl rfl)
theorem dX5_isOf_25 : decode cX5_isOf 25 = .ok (.goto 4, 3) := dk_167 0 4 (dk_at dksX5_isOf_1 1 rfl rfl)
theorem dX5_isOf_28 : decode cX5_isOf 28 = .ok (.iconst 0, 1) := dk_3 (dk_at dksX5_isOf_1 4 rfl rfl)
theorem dX5_isOf_29 : decode cX5_isOf 29 = .ok (.ireturn, 1) := dk_172 (dk_at dksX5_isOf_1 5 rfl rfl)
abbrev cX5_covers : ByteArray := prog_17_method_2_code
def yX5_covers : MethodName := ⟨RX5, "covers", "(I)Z"⟩
def dkwX5_covers_0 : List UInt8 := [42, 180, 0, 19, 27, 163, 0, 15, 27, 42, 180, 0, 22, 163, 0, 7, 4, 167, 0, 4, 3, 172]
abbrev dktX5_covers_0 : List UInt8 := dkwX5_covers_0 ++ []
theorem dksX5_covers_0 : cX5_covers.data.toList.drop 0 = dktX5_covers_0 := by decide +kernel
theorem dX5_covers_0 : decode cX5_covers 0 = .ok (.aload_n 0, 1) := dk_42 (dk_at dksX5_covers_0 0 rfl rfl)
theorem dX5_covers_1 : decode cX5_covers 1 = .ok (.getfield 19, 3) := dk_180 0 19 (dk_at dksX5_covers_0 1 rfl rfl)
theorem dX5_covers_4 : decode cX5_covers 4 = .ok (.iload_n 1, 1) := dk_27 (dk_at dksX5_covers_0 4 rfl rfl)
theorem dX5_covers_5 : decode cX5_covers 5 = .ok (.if_icmp .gt 15, 3) := dk_163 0 15 (dk_at dksX5_covers_0 5 rfl rfl)
theorem dX5_covers_8 : decode cX5_covers 8 = .ok (.iload_n 1, 1) := dk_27 (dk_at dksX5_covers_0 8 rfl rfl)
theorem dX5_covers_9 : decode cX5_covers 9 = .ok (.aload_n 0, 1) := dk_42 (dk_at dksX5_covers_0 9 rfl rfl)
theorem dX5_covers_10 : decode cX5_covers 10 = .ok (.getfield 22, 3) := dk_180 0 22 (dk_at dksX5_covers_0 10 rfl rfl)
theorem dX5_covers_13 : decode cX5_covers 13 = .ok (.if_icmp .gt 7, 3) := dk_163 0 7 (dk_at dksX5_covers_0 13 rfl rfl)
theorem dX5_covers_16 : decode cX5_covers 16 = .ok (.iconst 1, 1) := dk_4 (dk_at dksX5_covers_0 16 rfl rfl)
theorem dX5_covers_17 : decode cX5_covers 17 = .ok (.goto 4, 3) := dk_167 0 4 (dk_at dksX5_covers_0 17 rfl rfl)
theorem dX5_covers_20 : decode cX5_covers 20 = .ok (.iconst 0, 1) := dk_3 (dk_at dksX5_covers_0 20 rfl rfl)
theorem dX5_covers_21 : decode cX5_covers 21 = .ok (.ireturn, 1) := dk_172 (dk_at dksX5_covers_0 21 rfl rfl)
abbrev cX5_group : ByteArray := prog_17_method_7_code
def yX5_group : MethodName := ⟨RX5, "group", "()I"⟩
theorem dX5_group_0 : decode cX5_group 0 = .ok (.aload_n 0, 1) := by decide +kernel
theorem dX5_group_1 : decode cX5_group 1 = .ok (.getfield 7, 3) := by decide +kernel
theorem dX5_group_4 : decode cX5_group 4 = .ok (.ireturn, 1) := by decide +kernel
abbrev cX5_name : ByteArray := prog_17_method_8_code
def yX5_name : MethodName := ⟨RX5, "name", "()I"⟩
theorem dX5_name_0 : decode cX5_name 0 = .ok (.aload_n 0, 1) := by decide +kernel
theorem dX5_name_1 : decode cX5_name 1 = .ok (.getfield 13, 3) := by decide +kernel
theorem dX5_name_4 : decode cX5_name 4 = .ok (.ireturn, 1) := by decide +kernel
abbrev cX5_to : ByteArray := prog_17_method_11_code
def yX5_to : MethodName := ⟨RX5, "to", "()I"⟩
theorem dX5_to_0 : decode cX5_to 0 = .ok (.aload_n 0, 1) := by decide +kernel
theorem dX5_to_1 : decode cX5_to 1 = .ok (.getfield 22, 3) := by decide +kernel
theorem dX5_to_4 : decode cX5_to 4 = .ok (.ireturn, 1) := by decide +kernel
abbrev cX5_from : ByteArray := prog_17_method_10_code
def yX5_from : MethodName := ⟨RX5, "from", "()I"⟩
theorem dX5_from_0 : decode cX5_from 0 = .ok (.aload_n 0, 1) := by decide +kernel
theorem dX5_from_1 : decode cX5_from 1 = .ok (.getfield 19, 3) := by decide +kernel
theorem dX5_from_4 : decode cX5_from 4 = .ok (.ireturn, 1) := by decide +kernel
abbrev cX5_init : ByteArray := prog_17_method_1_code
def yX5_init : MethodName := ⟨RX5, "<init>", "(IIIII)V"⟩
def dkwX5_init_1 : List UInt8 := [181, 0, 19, 42, 21, 5, 181, 0, 22, 177]
abbrev dktX5_init_1 : List UInt8 := dkwX5_init_1 ++ []
def dkwX5_init_0 : List UInt8 := [42, 183, 0, 1, 42, 27, 181, 0, 7, 42, 28, 181, 0, 13, 42, 29, 181, 0, 16, 42, 21, 4]
abbrev dktX5_init_0 : List UInt8 := dkwX5_init_0 ++ dktX5_init_1
theorem dksX5_init_0 : cX5_init.data.toList.drop 0 = dktX5_init_0 := by decide +kernel
theorem dksX5_init_1 : cX5_init.data.toList.drop 22 = dktX5_init_1 := dk_seg dksX5_init_0 22 rfl rfl
theorem dX5_init_0 : decode cX5_init 0 = .ok (.aload_n 0, 1) := dk_42 (dk_at dksX5_init_0 0 rfl rfl)
theorem dX5_init_1 : decode cX5_init 1 = .ok (.invokespecial 1, 3) := dk_183 0 1 (dk_at dksX5_init_0 1 rfl rfl)
theorem dX5_init_4 : decode cX5_init 4 = .ok (.aload_n 0, 1) := dk_42 (dk_at dksX5_init_0 4 rfl rfl)
theorem dX5_init_5 : decode cX5_init 5 = .ok (.iload_n 1, 1) := dk_27 (dk_at dksX5_init_0 5 rfl rfl)
theorem dX5_init_6 : decode cX5_init 6 = .ok (.putfield 7, 3) := dk_181 0 7 (dk_at dksX5_init_0 6 rfl rfl)
theorem dX5_init_9 : decode cX5_init 9 = .ok (.aload_n 0, 1) := dk_42 (dk_at dksX5_init_0 9 rfl rfl)
theorem dX5_init_10 : decode cX5_init 10 = .ok (.iload_n 2, 1) := dk_28 (dk_at dksX5_init_0 10 rfl rfl)
theorem dX5_init_11 : decode cX5_init 11 = .ok (.putfield 13, 3) := dk_181 0 13 (dk_at dksX5_init_0 11 rfl rfl)
theorem dX5_init_14 : decode cX5_init 14 = .ok (.aload_n 0, 1) := dk_42 (dk_at dksX5_init_0 14 rfl rfl)
theorem dX5_init_15 : decode cX5_init 15 = .ok (.iload_n 3, 1) := dk_29 (dk_at dksX5_init_0 15 rfl rfl)
theorem dX5_init_16 : decode cX5_init 16 = .ok (.putfield 16, 3) := dk_181 0 16 (dk_at dksX5_init_0 16 rfl rfl)
theorem dX5_init_19 : decode cX5_init 19 = .ok (.aload_n 0, 1) := dk_42 (dk_at dksX5_init_0 19 rfl rfl)
theorem dX5_init_20 : decode cX5_init 20 = .ok (.iload 4, 2) := dk_21 4 (dk_at dksX5_init_0 20 rfl rfl)
theorem dX5_init_22 : decode cX5_init 22 = .ok (.putfield 19, 3) := dk_181 0 19 (dk_at dksX5_init_1 0 rfl rfl)
theorem dX5_init_25 : decode cX5_init 25 = .ok (.aload_n 0, 1) := dk_42 (dk_at dksX5_init_1 3 rfl rfl)
theorem dX5_init_26 : decode cX5_init 26 = .ok (.iload 5, 2) := dk_21 5 (dk_at dksX5_init_1 4 rfl rfl)
theorem dX5_init_28 : decode cX5_init 28 = .ok (.putfield 22, 3) := dk_181 0 22 (dk_at dksX5_init_1 6 rfl rfl)
theorem dX5_init_31 : decode cX5_init 31 = .ok (.return_, 1) := dk_177 (dk_at dksX5_init_1 9 rfl rfl)
abbrev cX5_street : ByteArray := prog_17_method_9_code
def yX5_street : MethodName := ⟨RX5, "street", "()I"⟩
theorem dX5_street_0 : decode cX5_street 0 = .ok (.aload_n 0, 1) := by decide +kernel
theorem dX5_street_1 : decode cX5_street 1 = .ok (.getfield 16, 3) := by decide +kernel
theorem dX5_street_4 : decode cX5_street 4 = .ok (.ireturn, 1) := by decide +kernel
theorem q95 : (Jvm.Cond.initialized "Dialectdepot$Usage") ∈ lw_all := lw_g (lw_at lw_m1 30 rfl) rfl
theorem q189 : (Jvm.Cond.instanceMethod ({ cls := "Dialectdepot$Usage", name := "isOf", desc := "(III)Z" } : Jvm.MethodName)) ∈ lw_all := lw_g (lw_at lw_m1 124 rfl) rfl
theorem q190 : (Jvm.Cond.selects "Dialectdepot$Usage" ({ cls := "Dialectdepot$Usage", name := "isOf", desc := "(III)Z" } : Jvm.MethodName) ({ cls := "Dialectdepot$Usage", name := "isOf", desc := "(III)Z" } : Jvm.MethodName)) ∈ lw_all := lw_g (lw_at lw_m1 125 rfl) rfl
theorem q191 : (Jvm.Cond.code ({ cls := "Dialectdepot$Usage", name := "isOf", desc := "(III)Z" } : Jvm.MethodName) prog_17_method_3_code (4 : Nat) (Option.some Jvm.ClassFile.FieldType.boolean)) ∈ lw_all := lw_g (lw_at lw_m1 126 rfl) rfl
theorem q193 : (Jvm.Cond.instanceMethod ({ cls := "Dialectdepot$Usage", name := "covers", desc := "(I)Z" } : Jvm.MethodName)) ∈ lw_all := lw_g (lw_at lw_m1 128 rfl) rfl
theorem q194 : (Jvm.Cond.selects "Dialectdepot$Usage" ({ cls := "Dialectdepot$Usage", name := "covers", desc := "(I)Z" } : Jvm.MethodName) ({ cls := "Dialectdepot$Usage", name := "covers", desc := "(I)Z" } : Jvm.MethodName)) ∈ lw_all := lw_g (lw_at lw_m1 129 rfl) rfl
theorem q195 : (Jvm.Cond.code ({ cls := "Dialectdepot$Usage", name := "covers", desc := "(I)Z" } : Jvm.MethodName) prog_17_method_2_code (2 : Nat) (Option.some Jvm.ClassFile.FieldType.boolean)) ∈ lw_all := lw_g (lw_at lw_m1 130 rfl) rfl
theorem q869 : (Jvm.Cond.selects "Dialectdepot$Usage" ({ cls := "java/lang/Object", name := "getClass", desc := "()Ljava/lang/Class;" } : Jvm.MethodName) ({ cls := "java/lang/Object", name := "getClass", desc := "()Ljava/lang/Class;" } : Jvm.MethodName)) ∈ lw_all := lw_g (lw_at lw_m4 84 rfl) rfl
theorem q1006 : (Jvm.Cond.instanceMethod ({ cls := "Dialectdepot$Usage", name := "group", desc := "()I" } : Jvm.MethodName)) ∈ lw_all := lw_g (lw_at lw_m4 221 rfl) rfl
theorem q1007 : (Jvm.Cond.selects "Dialectdepot$Usage" ({ cls := "Dialectdepot$Usage", name := "group", desc := "()I" } : Jvm.MethodName) ({ cls := "Dialectdepot$Usage", name := "group", desc := "()I" } : Jvm.MethodName)) ∈ lw_all := lw_g (lw_at lw_m4 222 rfl) rfl
theorem q1008 : (Jvm.Cond.code ({ cls := "Dialectdepot$Usage", name := "group", desc := "()I" } : Jvm.MethodName) prog_17_method_7_code (1 : Nat) (Option.some Jvm.ClassFile.FieldType.int)) ∈ lw_all := lw_g (lw_at lw_m4 223 rfl) rfl
theorem q1010 : (Jvm.Cond.instanceMethod ({ cls := "Dialectdepot$Usage", name := "name", desc := "()I" } : Jvm.MethodName)) ∈ lw_all := lw_g (lw_at lw_m4 225 rfl) rfl
theorem q1011 : (Jvm.Cond.selects "Dialectdepot$Usage" ({ cls := "Dialectdepot$Usage", name := "name", desc := "()I" } : Jvm.MethodName) ({ cls := "Dialectdepot$Usage", name := "name", desc := "()I" } : Jvm.MethodName)) ∈ lw_all := lw_g (lw_at lw_m4 226 rfl) rfl
theorem q1012 : (Jvm.Cond.code ({ cls := "Dialectdepot$Usage", name := "name", desc := "()I" } : Jvm.MethodName) prog_17_method_8_code (1 : Nat) (Option.some Jvm.ClassFile.FieldType.int)) ∈ lw_all := lw_g (lw_at lw_m4 227 rfl) rfl
theorem q1014 : (Jvm.Cond.instanceMethod ({ cls := "Dialectdepot$Usage", name := "to", desc := "()I" } : Jvm.MethodName)) ∈ lw_all := lw_g (lw_at lw_m4 229 rfl) rfl
theorem q1015 : (Jvm.Cond.selects "Dialectdepot$Usage" ({ cls := "Dialectdepot$Usage", name := "to", desc := "()I" } : Jvm.MethodName) ({ cls := "Dialectdepot$Usage", name := "to", desc := "()I" } : Jvm.MethodName)) ∈ lw_all := lw_g (lw_at lw_m4 230 rfl) rfl
theorem q1016 : (Jvm.Cond.code ({ cls := "Dialectdepot$Usage", name := "to", desc := "()I" } : Jvm.MethodName) prog_17_method_11_code (1 : Nat) (Option.some Jvm.ClassFile.FieldType.int)) ∈ lw_all := lw_g (lw_at lw_m4 231 rfl) rfl
theorem q1018 : (Jvm.Cond.instanceMethod ({ cls := "Dialectdepot$Usage", name := "from", desc := "()I" } : Jvm.MethodName)) ∈ lw_all := lw_g (lw_at lw_m4 233 rfl) rfl
theorem q1019 : (Jvm.Cond.selects "Dialectdepot$Usage" ({ cls := "Dialectdepot$Usage", name := "from", desc := "()I" } : Jvm.MethodName) ({ cls := "Dialectdepot$Usage", name := "from", desc := "()I" } : Jvm.MethodName)) ∈ lw_all := lw_g (lw_at lw_m4 234 rfl) rfl
theorem q1020 : (Jvm.Cond.code ({ cls := "Dialectdepot$Usage", name := "from", desc := "()I" } : Jvm.MethodName) prog_17_method_10_code (1 : Nat) (Option.some Jvm.ClassFile.FieldType.int)) ∈ lw_all := lw_g (lw_at lw_m4 235 rfl) rfl
theorem q1021 : (Jvm.Cond.instantiable "Dialectdepot$Usage" (5 : Nat)) ∈ lw_all := lw_g (lw_at lw_m4 236 rfl) rfl
theorem q1023 : (Jvm.Cond.instanceMethod ({ cls := "Dialectdepot$Usage", name := "<init>", desc := "(IIIII)V" } : Jvm.MethodName)) ∈ lw_all := lw_g (lw_at lw_m4 238 rfl) rfl
theorem q1024 : (Jvm.Cond.code ({ cls := "Dialectdepot$Usage", name := "<init>", desc := "(IIIII)V" } : Jvm.MethodName) prog_17_method_1_code (6 : Nat) (Option.none : Option Jvm.ClassFile.FieldType)) ∈ lw_all := lw_g (lw_at lw_m4 239 rfl) rfl
theorem q1025 : (Jvm.Cond.methodLink "Dialectdepot$Usage" (1 : Nat) ({ cls := "java/lang/Record", name := "<init>", desc := "()V" } : Jvm.MethodName)) ∈ lw_all := lw_g (lw_at lw_m5 0 rfl) rfl
theorem q1029 : (Jvm.Cond.fieldLink "Dialectdepot$Usage" (7 : Nat) "Dialectdepot$Usage" "group" "I") ∈ lw_all := lw_g (lw_at lw_m5 4 rfl) rfl
theorem q1030 : (Jvm.Cond.fieldLink "Dialectdepot$Usage" (13 : Nat) "Dialectdepot$Usage" "name" "I") ∈ lw_all := lw_g (lw_at lw_m5 5 rfl) rfl
theorem q1031 : (Jvm.Cond.fieldLink "Dialectdepot$Usage" (16 : Nat) "Dialectdepot$Usage" "street" "I") ∈ lw_all := lw_g (lw_at lw_m5 6 rfl) rfl
theorem q1032 : (Jvm.Cond.fieldLink "Dialectdepot$Usage" (19 : Nat) "Dialectdepot$Usage" "from" "I") ∈ lw_all := lw_g (lw_at lw_m5 7 rfl) rfl
theorem q1033 : (Jvm.Cond.fieldLink "Dialectdepot$Usage" (22 : Nat) "Dialectdepot$Usage" "to" "I") ∈ lw_all := lw_g (lw_at lw_m5 8 rfl) rfl
theorem q1034 : (Jvm.Cond.laysFinal "Dialectdepot$Usage" "Dialectdepot$Usage" "group" "I") ∈ lw_all := lw_g (lw_at lw_m5 9 rfl) rfl
theorem q1035 : (Jvm.Cond.soleField "Dialectdepot$Usage" "group") ∈ lw_all := lw_g (lw_at lw_m5 10 rfl) rfl
theorem q1036 : (Jvm.Cond.laysFinal "Dialectdepot$Usage" "Dialectdepot$Usage" "name" "I") ∈ lw_all := lw_g (lw_at lw_m5 11 rfl) rfl
theorem q1037 : (Jvm.Cond.soleField "Dialectdepot$Usage" "name") ∈ lw_all := lw_g (lw_at lw_m5 12 rfl) rfl
theorem q1038 : (Jvm.Cond.laysFinal "Dialectdepot$Usage" "Dialectdepot$Usage" "street" "I") ∈ lw_all := lw_g (lw_at lw_m5 13 rfl) rfl
theorem q1039 : (Jvm.Cond.soleField "Dialectdepot$Usage" "street") ∈ lw_all := lw_g (lw_at lw_m5 14 rfl) rfl
theorem q1040 : (Jvm.Cond.laysFinal "Dialectdepot$Usage" "Dialectdepot$Usage" "from" "I") ∈ lw_all := lw_g (lw_at lw_m5 15 rfl) rfl
theorem q1041 : (Jvm.Cond.soleField "Dialectdepot$Usage" "from") ∈ lw_all := lw_g (lw_at lw_m5 16 rfl) rfl
theorem q1042 : (Jvm.Cond.laysFinal "Dialectdepot$Usage" "Dialectdepot$Usage" "to" "I") ∈ lw_all := lw_g (lw_at lw_m5 17 rfl) rfl
theorem q1043 : (Jvm.Cond.soleField "Dialectdepot$Usage" "to") ∈ lw_all := lw_g (lw_at lw_m5 18 rfl) rfl
theorem q1044 : (Jvm.Cond.superclass "Dialectdepot$Usage" "java/lang/Record") ∈ lw_all := lw_g (lw_at lw_m5 19 rfl) rfl
theorem q1053 : (Jvm.Cond.instanceMethod ({ cls := "Dialectdepot$Usage", name := "street", desc := "()I" } : Jvm.MethodName)) ∈ lw_all := lw_g (lw_at lw_m5 28 rfl) rfl
theorem q1054 : (Jvm.Cond.selects "Dialectdepot$Usage" ({ cls := "Dialectdepot$Usage", name := "street", desc := "()I" } : Jvm.MethodName) ({ cls := "Dialectdepot$Usage", name := "street", desc := "()I" } : Jvm.MethodName)) ∈ lw_all := lw_g (lw_at lw_m5 29 rfl) rfl
theorem q1055 : (Jvm.Cond.code ({ cls := "Dialectdepot$Usage", name := "street", desc := "()I" } : Jvm.MethodName) prog_17_method_9_code (1 : Nat) (Option.some Jvm.ClassFile.FieldType.int)) ∈ lw_all := lw_g (lw_at lw_m5 30 rfl) rfl
theorem q2453 : (Jvm.Cond.castable "Dialectdepot$Usage" "java/lang/Object") ∈ lw_tbl := lw_at lw_m10 228 rfl
theorem in_X5 : ∀ w ∈ wsX50, w ∈ lw_all := lw_in wsX50 [1034, 1036, 1038, 1040, 1042] (by decide +kernel) (by decide +kernel)
/-! Dialectdepot$Carrier -/
set_option maxRecDepth 100000
def RX6 : String := "Dialectdepot$Carrier"
def TX6 : u_T := fun k => match k with
  | 0 => ("Dialectdepot$Carrier", "number", "I", true)
  | 1 => ("Dialectdepot$Carrier", "lessons", "[I", true)
  | 2 => ("Dialectdepot$Carrier", "given", "Ljava/util/List;", true)
  | 3 => ("Dialectdepot$Carrier", "streets", "Ljava/util/List;", true)
  | 4 => ("Dialectdepot$Carrier", "round", "I", false)
  | _ => ("Dialectdepot$Carrier", "room", "I", false)
def tyX6 : Nat → FieldType := fun k => match k with
  | 0 => .int
  | 1 => .array .int
  | 2 => .object "java/util/List"
  | 3 => .object "java/util/List"
  | 4 => .int
  | _ => .int
abbrev wsX60 : List Cond := u_ws RX6 TX6 6
theorem nmX6 : ∀ a, a < 6 → ∀ b, b < 6 → a ≠ b → (TX6 a).2.1 ≠ (TX6 b).2.1 := by decide +kernel
theorem tyX6_ok : ∀ k, k < 6 → parseFieldDescriptor (TX6 k).2.2.1 = some (tyX6 k) := by decide +kernel
abbrev cX6_init : ByteArray := prog_4_method_1_code
def yX6_init : MethodName := ⟨RX6, "<init>", "(III)V"⟩
def dkwX6_init_2 : List UInt8 := [181, 0, 32, 177]
abbrev dktX6_init_2 : List UInt8 := dkwX6_init_2 ++ []
def dkwX6_init_1 : List UInt8 := [42, 187, 0, 15, 89, 183, 0, 17, 181, 0, 22, 42, 27, 181, 0, 25, 42, 28, 181, 0, 29, 42, 29]
abbrev dktX6_init_1 : List UInt8 := dkwX6_init_1 ++ dktX6_init_2
def dkwX6_init_0 : List UInt8 := [42, 183, 0, 3, 42, 17, 1, 128, 188, 10, 181, 0, 9, 42, 187, 0, 15, 89, 183, 0, 17, 181, 0, 18]
abbrev dktX6_init_0 : List UInt8 := dkwX6_init_0 ++ dktX6_init_1
theorem dksX6_init_0 : cX6_init.data.toList.drop 0 = dktX6_init_0 := by decide +kernel
theorem dksX6_init_1 : cX6_init.data.toList.drop 24 = dktX6_init_1 := dk_seg dksX6_init_0 24 rfl rfl
theorem dksX6_init_2 : cX6_init.data.toList.drop 47 = dktX6_init_2 := dk_seg dksX6_init_1 23 rfl rfl
theorem dX6_init_0 : decode cX6_init 0 = .ok (.aload_n 0, 1) := dk_42 (dk_at dksX6_init_0 0 rfl rfl)
theorem dX6_init_1 : decode cX6_init 1 = .ok (.invokespecial 3, 3) := dk_183 0 3 (dk_at dksX6_init_0 1 rfl rfl)
theorem dX6_init_4 : decode cX6_init 4 = .ok (.aload_n 0, 1) := dk_42 (dk_at dksX6_init_0 4 rfl rfl)
theorem dX6_init_5 : decode cX6_init 5 = .ok (.sipush 384, 3) := dk_17 1 128 (dk_at dksX6_init_0 5 rfl rfl)
theorem dX6_init_8 : decode cX6_init 8 = .ok (.newarray .int, 2) := dk_188_10 (dk_at dksX6_init_0 8 rfl rfl)
theorem dX6_init_10 : decode cX6_init 10 = .ok (.putfield 9, 3) := dk_181 0 9 (dk_at dksX6_init_0 10 rfl rfl)
theorem dX6_init_13 : decode cX6_init 13 = .ok (.aload_n 0, 1) := dk_42 (dk_at dksX6_init_0 13 rfl rfl)
theorem dX6_init_14 : decode cX6_init 14 = .ok (.new 15, 3) := dk_187 0 15 (dk_at dksX6_init_0 14 rfl rfl)
theorem dX6_init_17 : decode cX6_init 17 = .ok (.dup, 1) := dk_89 (dk_at dksX6_init_0 17 rfl rfl)
theorem dX6_init_18 : decode cX6_init 18 = .ok (.invokespecial 17, 3) := dk_183 0 17 (dk_at dksX6_init_0 18 rfl rfl)
theorem dX6_init_21 : decode cX6_init 21 = .ok (.putfield 18, 3) := dk_181 0 18 (dk_at dksX6_init_0 21 rfl rfl)
theorem dX6_init_24 : decode cX6_init 24 = .ok (.aload_n 0, 1) := dk_42 (dk_at dksX6_init_1 0 rfl rfl)
theorem dX6_init_25 : decode cX6_init 25 = .ok (.new 15, 3) := dk_187 0 15 (dk_at dksX6_init_1 1 rfl rfl)
theorem dX6_init_28 : decode cX6_init 28 = .ok (.dup, 1) := dk_89 (dk_at dksX6_init_1 4 rfl rfl)
theorem dX6_init_29 : decode cX6_init 29 = .ok (.invokespecial 17, 3) := dk_183 0 17 (dk_at dksX6_init_1 5 rfl rfl)
theorem dX6_init_32 : decode cX6_init 32 = .ok (.putfield 22, 3) := dk_181 0 22 (dk_at dksX6_init_1 8 rfl rfl)
theorem dX6_init_35 : decode cX6_init 35 = .ok (.aload_n 0, 1) := dk_42 (dk_at dksX6_init_1 11 rfl rfl)
theorem dX6_init_36 : decode cX6_init 36 = .ok (.iload_n 1, 1) := dk_27 (dk_at dksX6_init_1 12 rfl rfl)
theorem dX6_init_37 : decode cX6_init 37 = .ok (.putfield 25, 3) := dk_181 0 25 (dk_at dksX6_init_1 13 rfl rfl)
theorem dX6_init_40 : decode cX6_init 40 = .ok (.aload_n 0, 1) := dk_42 (dk_at dksX6_init_1 16 rfl rfl)
theorem dX6_init_41 : decode cX6_init 41 = .ok (.iload_n 2, 1) := dk_28 (dk_at dksX6_init_1 17 rfl rfl)
theorem dX6_init_42 : decode cX6_init 42 = .ok (.putfield 29, 3) := dk_181 0 29 (dk_at dksX6_init_1 18 rfl rfl)
theorem dX6_init_45 : decode cX6_init 45 = .ok (.aload_n 0, 1) := dk_42 (dk_at dksX6_init_1 21 rfl rfl)
theorem dX6_init_46 : decode cX6_init 46 = .ok (.iload_n 3, 1) := dk_29 (dk_at dksX6_init_1 22 rfl rfl)
theorem dX6_init_47 : decode cX6_init 47 = .ok (.putfield 32, 3) := dk_181 0 32 (dk_at dksX6_init_2 0 rfl rfl)
theorem dX6_init_50 : decode cX6_init 50 = .ok (.return_, 1) := dk_177 (dk_at dksX6_init_2 3 rfl rfl)
theorem q96 : (Jvm.Cond.initialized "Dialectdepot$Carrier") ∈ lw_all := lw_g (lw_at lw_m1 31 rfl) rfl
theorem q858 : (Jvm.Cond.selects "Dialectdepot$Carrier" ({ cls := "java/lang/Object", name := "getClass", desc := "()Ljava/lang/Class;" } : Jvm.MethodName) ({ cls := "java/lang/Object", name := "getClass", desc := "()Ljava/lang/Class;" } : Jvm.MethodName)) ∈ lw_all := lw_g (lw_at lw_m4 73 rfl) rfl
theorem q1067 : (Jvm.Cond.instantiable "Dialectdepot$Carrier" (6 : Nat)) ∈ lw_all := lw_g (lw_at lw_m5 42 rfl) rfl
theorem q1069 : (Jvm.Cond.instanceMethod ({ cls := "Dialectdepot$Carrier", name := "<init>", desc := "(III)V" } : Jvm.MethodName)) ∈ lw_all := lw_g (lw_at lw_m5 44 rfl) rfl
theorem q1070 : (Jvm.Cond.code ({ cls := "Dialectdepot$Carrier", name := "<init>", desc := "(III)V" } : Jvm.MethodName) prog_4_method_1_code (4 : Nat) (Option.none : Option Jvm.ClassFile.FieldType)) ∈ lw_all := lw_g (lw_at lw_m5 45 rfl) rfl
theorem q1071 : (Jvm.Cond.methodLink "Dialectdepot$Carrier" (3 : Nat) ({ cls := "java/lang/Object", name := "<init>", desc := "()V" } : Jvm.MethodName)) ∈ lw_all := lw_g (lw_at lw_m5 46 rfl) rfl
theorem q1072 : (Jvm.Cond.classLink "Dialectdepot$Carrier" (15 : Nat) "java/util/ArrayList") ∈ lw_all := lw_g (lw_at lw_m5 47 rfl) rfl
theorem q1073 : (Jvm.Cond.methodLink "Dialectdepot$Carrier" (17 : Nat) ({ cls := "java/util/ArrayList", name := "<init>", desc := "()V" } : Jvm.MethodName)) ∈ lw_all := lw_g (lw_at lw_m5 48 rfl) rfl
theorem q1074 : (Jvm.Cond.fieldLink "Dialectdepot$Carrier" (25 : Nat) "Dialectdepot$Carrier" "number" "I") ∈ lw_all := lw_g (lw_at lw_m5 49 rfl) rfl
theorem q1076 : (Jvm.Cond.fieldLink "Dialectdepot$Carrier" (9 : Nat) "Dialectdepot$Carrier" "lessons" "[I") ∈ lw_all := lw_g (lw_at lw_m5 51 rfl) rfl
theorem q1078 : (Jvm.Cond.fieldLink "Dialectdepot$Carrier" (18 : Nat) "Dialectdepot$Carrier" "given" "Ljava/util/List;") ∈ lw_all := lw_g (lw_at lw_m5 53 rfl) rfl
theorem q1080 : (Jvm.Cond.fieldLink "Dialectdepot$Carrier" (22 : Nat) "Dialectdepot$Carrier" "streets" "Ljava/util/List;") ∈ lw_all := lw_g (lw_at lw_m5 55 rfl) rfl
theorem q1082 : (Jvm.Cond.fieldLink "Dialectdepot$Carrier" (29 : Nat) "Dialectdepot$Carrier" "round" "I") ∈ lw_all := lw_g (lw_at lw_m5 57 rfl) rfl
theorem q1084 : (Jvm.Cond.fieldLink "Dialectdepot$Carrier" (32 : Nat) "Dialectdepot$Carrier" "room" "I") ∈ lw_all := lw_g (lw_at lw_m5 59 rfl) rfl
theorem q1086 : (Jvm.Cond.laysFinal "Dialectdepot$Carrier" "Dialectdepot$Carrier" "number" "I") ∈ lw_all := lw_g (lw_at lw_m5 61 rfl) rfl
theorem q1087 : (Jvm.Cond.soleField "Dialectdepot$Carrier" "number") ∈ lw_all := lw_g (lw_at lw_m5 62 rfl) rfl
theorem q1088 : (Jvm.Cond.laysFinal "Dialectdepot$Carrier" "Dialectdepot$Carrier" "lessons" "[I") ∈ lw_all := lw_g (lw_at lw_m5 63 rfl) rfl
theorem q1089 : (Jvm.Cond.soleField "Dialectdepot$Carrier" "lessons") ∈ lw_all := lw_g (lw_at lw_m5 64 rfl) rfl
theorem q1090 : (Jvm.Cond.laysFinal "Dialectdepot$Carrier" "Dialectdepot$Carrier" "given" "Ljava/util/List;") ∈ lw_all := lw_g (lw_at lw_m5 65 rfl) rfl
theorem q1091 : (Jvm.Cond.soleField "Dialectdepot$Carrier" "given") ∈ lw_all := lw_g (lw_at lw_m5 66 rfl) rfl
theorem q1092 : (Jvm.Cond.laysFinal "Dialectdepot$Carrier" "Dialectdepot$Carrier" "streets" "Ljava/util/List;") ∈ lw_all := lw_g (lw_at lw_m5 67 rfl) rfl
theorem q1093 : (Jvm.Cond.soleField "Dialectdepot$Carrier" "streets") ∈ lw_all := lw_g (lw_at lw_m5 68 rfl) rfl
theorem q1094 : (Jvm.Cond.lays "Dialectdepot$Carrier" "Dialectdepot$Carrier" "round" "I") ∈ lw_all := lw_g (lw_at lw_m5 69 rfl) rfl
theorem q1095 : (Jvm.Cond.soleField "Dialectdepot$Carrier" "round") ∈ lw_all := lw_g (lw_at lw_m5 70 rfl) rfl
theorem q1096 : (Jvm.Cond.lays "Dialectdepot$Carrier" "Dialectdepot$Carrier" "room" "I") ∈ lw_all := lw_g (lw_at lw_m5 71 rfl) rfl
theorem q1097 : (Jvm.Cond.soleField "Dialectdepot$Carrier" "room") ∈ lw_all := lw_g (lw_at lw_m5 72 rfl) rfl
theorem q1098 : (Jvm.Cond.superclass "Dialectdepot$Carrier" "java/lang/Object") ∈ lw_all := lw_g (lw_at lw_m5 73 rfl) rfl
theorem q2454 : (Jvm.Cond.castable "Dialectdepot$Carrier" "java/lang/Object") ∈ lw_tbl := lw_at lw_m10 229 rfl
theorem in_X6 : ∀ w ∈ wsX60, w ∈ lw_all := lw_in wsX60 [1086, 1088, 1090, 1092, 1094, 1096] (by decide +kernel) (by decide +kernel)
/-! Dialectdepot$Told -/
set_option maxRecDepth 100000
def RX7 : String := "Dialectdepot$Told"
def TX7 : u_T := fun k => match k with
  | 0 => ("Dialectdepot$Told", "carrier", "I", true)
  | _ => ("Dialectdepot$Told", "place", "I", true)
def tyX7 : Nat → FieldType := fun k => match k with
  | 0 => .int
  | _ => .int
abbrev wsX70 : List Cond := u_ws RX7 TX7 2
theorem nmX7 : ∀ a, a < 2 → ∀ b, b < 2 → a ≠ b → (TX7 a).2.1 ≠ (TX7 b).2.1 := by decide +kernel
theorem tyX7_ok : ∀ k, k < 2 → parseFieldDescriptor (TX7 k).2.2.1 = some (tyX7 k) := by decide +kernel
abbrev cX7_carrier : ByteArray := prog_15_method_5_code
def yX7_carrier : MethodName := ⟨RX7, "carrier", "()I"⟩
theorem dX7_carrier_0 : decode cX7_carrier 0 = .ok (.aload_n 0, 1) := by decide +kernel
theorem dX7_carrier_1 : decode cX7_carrier 1 = .ok (.getfield 7, 3) := by decide +kernel
theorem dX7_carrier_4 : decode cX7_carrier 4 = .ok (.ireturn, 1) := by decide +kernel
abbrev cX7_place : ByteArray := prog_15_method_6_code
def yX7_place : MethodName := ⟨RX7, "place", "()I"⟩
theorem dX7_place_0 : decode cX7_place 0 = .ok (.aload_n 0, 1) := by decide +kernel
theorem dX7_place_1 : decode cX7_place 1 = .ok (.getfield 13, 3) := by decide +kernel
theorem dX7_place_4 : decode cX7_place 4 = .ok (.ireturn, 1) := by decide +kernel
abbrev cX7_init : ByteArray := prog_15_method_1_code
def yX7_init : MethodName := ⟨RX7, "<init>", "(II)V"⟩
def dkwX7_init_0 : List UInt8 := [42, 183, 0, 1, 42, 27, 181, 0, 7, 42, 28, 181, 0, 13, 177]
abbrev dktX7_init_0 : List UInt8 := dkwX7_init_0 ++ []
theorem dksX7_init_0 : cX7_init.data.toList.drop 0 = dktX7_init_0 := by decide +kernel
theorem dX7_init_0 : decode cX7_init 0 = .ok (.aload_n 0, 1) := dk_42 (dk_at dksX7_init_0 0 rfl rfl)
theorem dX7_init_1 : decode cX7_init 1 = .ok (.invokespecial 1, 3) := dk_183 0 1 (dk_at dksX7_init_0 1 rfl rfl)
theorem dX7_init_4 : decode cX7_init 4 = .ok (.aload_n 0, 1) := dk_42 (dk_at dksX7_init_0 4 rfl rfl)
theorem dX7_init_5 : decode cX7_init 5 = .ok (.iload_n 1, 1) := dk_27 (dk_at dksX7_init_0 5 rfl rfl)
theorem dX7_init_6 : decode cX7_init 6 = .ok (.putfield 7, 3) := dk_181 0 7 (dk_at dksX7_init_0 6 rfl rfl)
theorem dX7_init_9 : decode cX7_init 9 = .ok (.aload_n 0, 1) := dk_42 (dk_at dksX7_init_0 9 rfl rfl)
theorem dX7_init_10 : decode cX7_init 10 = .ok (.iload_n 2, 1) := dk_28 (dk_at dksX7_init_0 10 rfl rfl)
theorem dX7_init_11 : decode cX7_init 11 = .ok (.putfield 13, 3) := dk_181 0 13 (dk_at dksX7_init_0 11 rfl rfl)
theorem dX7_init_14 : decode cX7_init 14 = .ok (.return_, 1) := dk_177 (dk_at dksX7_init_0 14 rfl rfl)
theorem q97 : (Jvm.Cond.initialized "Dialectdepot$Told") ∈ lw_all := lw_g (lw_at lw_m1 32 rfl) rfl
theorem q359 : (Jvm.Cond.instanceMethod ({ cls := "Dialectdepot$Told", name := "carrier", desc := "()I" } : Jvm.MethodName)) ∈ lw_all := lw_g (lw_at lw_m2 54 rfl) rfl
theorem q360 : (Jvm.Cond.selects "Dialectdepot$Told" ({ cls := "Dialectdepot$Told", name := "carrier", desc := "()I" } : Jvm.MethodName) ({ cls := "Dialectdepot$Told", name := "carrier", desc := "()I" } : Jvm.MethodName)) ∈ lw_all := lw_g (lw_at lw_m2 55 rfl) rfl
theorem q361 : (Jvm.Cond.code ({ cls := "Dialectdepot$Told", name := "carrier", desc := "()I" } : Jvm.MethodName) prog_15_method_5_code (1 : Nat) (Option.some Jvm.ClassFile.FieldType.int)) ∈ lw_all := lw_g (lw_at lw_m2 56 rfl) rfl
theorem q363 : (Jvm.Cond.instanceMethod ({ cls := "Dialectdepot$Told", name := "place", desc := "()I" } : Jvm.MethodName)) ∈ lw_all := lw_g (lw_at lw_m2 58 rfl) rfl
theorem q364 : (Jvm.Cond.selects "Dialectdepot$Told" ({ cls := "Dialectdepot$Told", name := "place", desc := "()I" } : Jvm.MethodName) ({ cls := "Dialectdepot$Told", name := "place", desc := "()I" } : Jvm.MethodName)) ∈ lw_all := lw_g (lw_at lw_m2 59 rfl) rfl
theorem q365 : (Jvm.Cond.code ({ cls := "Dialectdepot$Told", name := "place", desc := "()I" } : Jvm.MethodName) prog_15_method_6_code (1 : Nat) (Option.some Jvm.ClassFile.FieldType.int)) ∈ lw_all := lw_g (lw_at lw_m2 60 rfl) rfl
theorem q867 : (Jvm.Cond.selects "Dialectdepot$Told" ({ cls := "java/lang/Object", name := "getClass", desc := "()Ljava/lang/Class;" } : Jvm.MethodName) ({ cls := "java/lang/Object", name := "getClass", desc := "()Ljava/lang/Class;" } : Jvm.MethodName)) ∈ lw_all := lw_g (lw_at lw_m4 82 rfl) rfl
theorem q1131 : (Jvm.Cond.instantiable "Dialectdepot$Told" (2 : Nat)) ∈ lw_all := lw_g (lw_at lw_m5 106 rfl) rfl
theorem q1133 : (Jvm.Cond.instanceMethod ({ cls := "Dialectdepot$Told", name := "<init>", desc := "(II)V" } : Jvm.MethodName)) ∈ lw_all := lw_g (lw_at lw_m5 108 rfl) rfl
theorem q1134 : (Jvm.Cond.code ({ cls := "Dialectdepot$Told", name := "<init>", desc := "(II)V" } : Jvm.MethodName) prog_15_method_1_code (3 : Nat) (Option.none : Option Jvm.ClassFile.FieldType)) ∈ lw_all := lw_g (lw_at lw_m5 109 rfl) rfl
theorem q1135 : (Jvm.Cond.methodLink "Dialectdepot$Told" (1 : Nat) ({ cls := "java/lang/Record", name := "<init>", desc := "()V" } : Jvm.MethodName)) ∈ lw_all := lw_g (lw_at lw_m5 110 rfl) rfl
theorem q1136 : (Jvm.Cond.fieldLink "Dialectdepot$Told" (7 : Nat) "Dialectdepot$Told" "carrier" "I") ∈ lw_all := lw_g (lw_at lw_m5 111 rfl) rfl
theorem q1137 : (Jvm.Cond.fieldLink "Dialectdepot$Told" (13 : Nat) "Dialectdepot$Told" "place" "I") ∈ lw_all := lw_g (lw_at lw_m5 112 rfl) rfl
theorem q1138 : (Jvm.Cond.laysFinal "Dialectdepot$Told" "Dialectdepot$Told" "carrier" "I") ∈ lw_all := lw_g (lw_at lw_m5 113 rfl) rfl
theorem q1139 : (Jvm.Cond.soleField "Dialectdepot$Told" "carrier") ∈ lw_all := lw_g (lw_at lw_m5 114 rfl) rfl
theorem q1140 : (Jvm.Cond.laysFinal "Dialectdepot$Told" "Dialectdepot$Told" "place" "I") ∈ lw_all := lw_g (lw_at lw_m5 115 rfl) rfl
theorem q1141 : (Jvm.Cond.soleField "Dialectdepot$Told" "place") ∈ lw_all := lw_g (lw_at lw_m5 116 rfl) rfl
theorem q1142 : (Jvm.Cond.superclass "Dialectdepot$Told" "java/lang/Record") ∈ lw_all := lw_g (lw_at lw_m5 117 rfl) rfl
theorem q2438 : (Jvm.Cond.castable "Dialectdepot$Told" "Dialectdepot$Event") ∈ lw_tbl := lw_at lw_m10 213 rfl
theorem q2455 : (Jvm.Cond.castable "Dialectdepot$Told" "java/lang/Object") ∈ lw_tbl := lw_at lw_m10 230 rfl
theorem in_X7 : ∀ w ∈ wsX70, w ∈ lw_all := lw_in wsX70 [1138, 1140] (by decide +kernel) (by decide +kernel)
/-! Dialectdepot$Parcel -/
set_option maxRecDepth 100000
def RX8 : String := "Dialectdepot$Parcel"
def TX8 : u_T := fun k => match k with
  | 0 => ("Dialectdepot$Parcel", "number", "I", true)
  | 1 => ("Dialectdepot$Parcel", "group", "I", true)
  | 2 => ("Dialectdepot$Parcel", "age", "I", true)
  | 3 => ("Dialectdepot$Parcel", "street", "I", true)
  | 4 => ("Dialectdepot$Parcel", "from", "I", true)
  | 5 => ("Dialectdepot$Parcel", "address", "LDialectdepot$Address;", true)
  | 6 => ("Dialectdepot$Parcel", "tried", "[I", true)
  | 7 => ("Dialectdepot$Parcel", "state", "I", false)
  | 8 => ("Dialectdepot$Parcel", "back", "I", false)
  | 9 => ("Dialectdepot$Parcel", "waited", "I", false)
  | 10 => ("Dialectdepot$Parcel", "wasOut", "Z", false)
  | _ => ("Dialectdepot$Parcel", "latest", "LDialectdepot$Back;", false)
def tyX8 : Nat → FieldType := fun k => match k with
  | 0 => .int
  | 1 => .int
  | 2 => .int
  | 3 => .int
  | 4 => .int
  | 5 => .object "Dialectdepot$Address"
  | 6 => .array .int
  | 7 => .int
  | 8 => .int
  | 9 => .int
  | 10 => .boolean
  | _ => .object "Dialectdepot$Back"
abbrev wsX80 : List Cond := u_ws RX8 TX8 12
theorem nmX8 : ∀ a, a < 12 → ∀ b, b < 12 → a ≠ b → (TX8 a).2.1 ≠ (TX8 b).2.1 := by decide +kernel
theorem tyX8_ok : ∀ k, k < 12 → parseFieldDescriptor (TX8 k).2.2.1 = some (tyX8 k) := by decide +kernel
abbrev cX8_init : ByteArray := prog_12_method_1_code
def yX8_init : MethodName := ⟨RX8, "<init>", "(ILDialectdepot$Address;IIII)V"⟩
def dkwX8_init_1 : List UInt8 := [181, 0, 23, 42, 21, 4, 181, 0, 26, 42, 21, 5, 181, 0, 29, 42, 21, 6, 181, 0, 32, 177]
abbrev dktX8_init_1 : List UInt8 := dkwX8_init_1 ++ []
def dkwX8_init_0 : List UInt8 := [42, 183, 0, 3, 42, 16, 8, 188, 10, 181, 0, 9, 42, 27, 181, 0, 15, 42, 44, 181, 0, 19, 42, 29]
abbrev dktX8_init_0 : List UInt8 := dkwX8_init_0 ++ dktX8_init_1
theorem dksX8_init_0 : cX8_init.data.toList.drop 0 = dktX8_init_0 := by decide +kernel
theorem dksX8_init_1 : cX8_init.data.toList.drop 24 = dktX8_init_1 := dk_seg dksX8_init_0 24 rfl rfl
theorem dX8_init_0 : decode cX8_init 0 = .ok (.aload_n 0, 1) := dk_42 (dk_at dksX8_init_0 0 rfl rfl)
theorem dX8_init_1 : decode cX8_init 1 = .ok (.invokespecial 3, 3) := dk_183 0 3 (dk_at dksX8_init_0 1 rfl rfl)
theorem dX8_init_4 : decode cX8_init 4 = .ok (.aload_n 0, 1) := dk_42 (dk_at dksX8_init_0 4 rfl rfl)
theorem dX8_init_5 : decode cX8_init 5 = .ok (.bipush 8, 2) := dk_16 8 (dk_at dksX8_init_0 5 rfl rfl)
theorem dX8_init_7 : decode cX8_init 7 = .ok (.newarray .int, 2) := dk_188_10 (dk_at dksX8_init_0 7 rfl rfl)
theorem dX8_init_9 : decode cX8_init 9 = .ok (.putfield 9, 3) := dk_181 0 9 (dk_at dksX8_init_0 9 rfl rfl)
theorem dX8_init_12 : decode cX8_init 12 = .ok (.aload_n 0, 1) := dk_42 (dk_at dksX8_init_0 12 rfl rfl)
theorem dX8_init_13 : decode cX8_init 13 = .ok (.iload_n 1, 1) := dk_27 (dk_at dksX8_init_0 13 rfl rfl)
theorem dX8_init_14 : decode cX8_init 14 = .ok (.putfield 15, 3) := dk_181 0 15 (dk_at dksX8_init_0 14 rfl rfl)
theorem dX8_init_17 : decode cX8_init 17 = .ok (.aload_n 0, 1) := dk_42 (dk_at dksX8_init_0 17 rfl rfl)
theorem dX8_init_18 : decode cX8_init 18 = .ok (.aload_n 2, 1) := dk_44 (dk_at dksX8_init_0 18 rfl rfl)
theorem dX8_init_19 : decode cX8_init 19 = .ok (.putfield 19, 3) := dk_181 0 19 (dk_at dksX8_init_0 19 rfl rfl)
theorem dX8_init_22 : decode cX8_init 22 = .ok (.aload_n 0, 1) := dk_42 (dk_at dksX8_init_0 22 rfl rfl)
theorem dX8_init_23 : decode cX8_init 23 = .ok (.iload_n 3, 1) := dk_29 (dk_at dksX8_init_0 23 rfl rfl)
theorem dX8_init_24 : decode cX8_init 24 = .ok (.putfield 23, 3) := dk_181 0 23 (dk_at dksX8_init_1 0 rfl rfl)
theorem dX8_init_27 : decode cX8_init 27 = .ok (.aload_n 0, 1) := dk_42 (dk_at dksX8_init_1 3 rfl rfl)
theorem dX8_init_28 : decode cX8_init 28 = .ok (.iload 4, 2) := dk_21 4 (dk_at dksX8_init_1 4 rfl rfl)
theorem dX8_init_30 : decode cX8_init 30 = .ok (.putfield 26, 3) := dk_181 0 26 (dk_at dksX8_init_1 6 rfl rfl)
theorem dX8_init_33 : decode cX8_init 33 = .ok (.aload_n 0, 1) := dk_42 (dk_at dksX8_init_1 9 rfl rfl)
theorem dX8_init_34 : decode cX8_init 34 = .ok (.iload 5, 2) := dk_21 5 (dk_at dksX8_init_1 10 rfl rfl)
theorem dX8_init_36 : decode cX8_init 36 = .ok (.putfield 29, 3) := dk_181 0 29 (dk_at dksX8_init_1 12 rfl rfl)
theorem dX8_init_39 : decode cX8_init 39 = .ok (.aload_n 0, 1) := dk_42 (dk_at dksX8_init_1 15 rfl rfl)
theorem dX8_init_40 : decode cX8_init 40 = .ok (.iload 6, 2) := dk_21 6 (dk_at dksX8_init_1 16 rfl rfl)
theorem dX8_init_42 : decode cX8_init 42 = .ok (.putfield 32, 3) := dk_181 0 32 (dk_at dksX8_init_1 18 rfl rfl)
theorem dX8_init_45 : decode cX8_init 45 = .ok (.return_, 1) := dk_177 (dk_at dksX8_init_1 21 rfl rfl)
abbrev cX8_leave : ByteArray := prog_12_method_2_code
def yX8_leave : MethodName := ⟨RX8, "leave", "(II)V"⟩
def dkwX8_leave_1 : List UInt8 := [187, 0, 38, 89, 183, 0, 40, 191, 42, 4, 181, 0, 41, 177]
abbrev dktX8_leave_1 : List UInt8 := dkwX8_leave_1 ++ []
def dkwX8_leave_0 : List UInt8 := [27, 42, 180, 0, 29, 159, 0, 11, 187, 0, 35, 89, 183, 0, 37, 191, 28, 42, 180, 0, 32, 162, 0, 11]
abbrev dktX8_leave_0 : List UInt8 := dkwX8_leave_0 ++ dktX8_leave_1
theorem dksX8_leave_0 : cX8_leave.data.toList.drop 0 = dktX8_leave_0 := by decide +kernel
theorem dksX8_leave_1 : cX8_leave.data.toList.drop 24 = dktX8_leave_1 := dk_seg dksX8_leave_0 24 rfl rfl
theorem dX8_leave_0 : decode cX8_leave 0 = .ok (.iload_n 1, 1) := dk_27 (dk_at dksX8_leave_0 0 rfl rfl)
theorem dX8_leave_1 : decode cX8_leave 1 = .ok (.aload_n 0, 1) := dk_42 (dk_at dksX8_leave_0 1 rfl rfl)
theorem dX8_leave_2 : decode cX8_leave 2 = .ok (.getfield 29, 3) := dk_180 0 29 (dk_at dksX8_leave_0 2 rfl rfl)
theorem dX8_leave_5 : decode cX8_leave 5 = .ok (.if_icmp .eq 11, 3) := dk_159 0 11 (dk_at dksX8_leave_0 5 rfl rfl)
theorem dX8_leave_8 : decode cX8_leave 8 = .ok (.new 35, 3) := dk_187 0 35 (dk_at dksX8_leave_0 8 rfl rfl)
theorem dX8_leave_11 : decode cX8_leave 11 = .ok (.dup, 1) := dk_89 (dk_at dksX8_leave_0 11 rfl rfl)
theorem dX8_leave_12 : decode cX8_leave 12 = .ok (.invokespecial 37, 3) := dk_183 0 37 (dk_at dksX8_leave_0 12 rfl rfl)
theorem dX8_leave_15 : decode cX8_leave 15 = .ok (.athrow, 1) := dk_191 (dk_at dksX8_leave_0 15 rfl rfl)
theorem dX8_leave_16 : decode cX8_leave 16 = .ok (.iload_n 2, 1) := dk_28 (dk_at dksX8_leave_0 16 rfl rfl)
theorem dX8_leave_17 : decode cX8_leave 17 = .ok (.aload_n 0, 1) := dk_42 (dk_at dksX8_leave_0 17 rfl rfl)
theorem dX8_leave_18 : decode cX8_leave 18 = .ok (.getfield 32, 3) := dk_180 0 32 (dk_at dksX8_leave_0 18 rfl rfl)
theorem dX8_leave_21 : decode cX8_leave 21 = .ok (.if_icmp .ge 11, 3) := dk_162 0 11 (dk_at dksX8_leave_0 21 rfl rfl)
theorem dX8_leave_24 : decode cX8_leave 24 = .ok (.new 38, 3) := dk_187 0 38 (dk_at dksX8_leave_1 0 rfl rfl)
theorem dX8_leave_27 : decode cX8_leave 27 = .ok (.dup, 1) := dk_89 (dk_at dksX8_leave_1 3 rfl rfl)
theorem dX8_leave_28 : decode cX8_leave 28 = .ok (.invokespecial 40, 3) := dk_183 0 40 (dk_at dksX8_leave_1 4 rfl rfl)
theorem dX8_leave_31 : decode cX8_leave 31 = .ok (.athrow, 1) := dk_191 (dk_at dksX8_leave_1 7 rfl rfl)
theorem dX8_leave_32 : decode cX8_leave 32 = .ok (.aload_n 0, 1) := dk_42 (dk_at dksX8_leave_1 8 rfl rfl)
theorem dX8_leave_33 : decode cX8_leave 33 = .ok (.iconst 1, 1) := dk_4 (dk_at dksX8_leave_1 9 rfl rfl)
theorem dX8_leave_34 : decode cX8_leave 34 = .ok (.putfield 41, 3) := dk_181 0 41 (dk_at dksX8_leave_1 10 rfl rfl)
theorem dX8_leave_37 : decode cX8_leave 37 = .ok (.return_, 1) := dk_177 (dk_at dksX8_leave_1 13 rfl rfl)
abbrev cX8_bringBack : ByteArray := prog_12_method_3_code
def yX8_bringBack : MethodName := ⟨RX8, "bringBack", "(ILjava/lang/Exception;)V"⟩
def dkwX8_bringBack_1 : List UInt8 := [89, 44, 183, 0, 49, 181, 0, 52, 42, 180, 0, 52, 191]
abbrev dktX8_bringBack_1 : List UInt8 := dkwX8_bringBack_1 ++ []
def dkwX8_bringBack_0 : List UInt8 := [42, 89, 180, 0, 44, 4, 96, 181, 0, 44, 42, 180, 0, 9, 27, 92, 46, 4, 96, 79, 42, 187, 0, 47]
abbrev dktX8_bringBack_0 : List UInt8 := dkwX8_bringBack_0 ++ dktX8_bringBack_1
theorem dksX8_bringBack_0 : cX8_bringBack.data.toList.drop 0 = dktX8_bringBack_0 := by decide +kernel
theorem dksX8_bringBack_1 : cX8_bringBack.data.toList.drop 24 = dktX8_bringBack_1 := dk_seg dksX8_bringBack_0 24 rfl rfl
theorem dX8_bringBack_0 : decode cX8_bringBack 0 = .ok (.aload_n 0, 1) := dk_42 (dk_at dksX8_bringBack_0 0 rfl rfl)
theorem dX8_bringBack_1 : decode cX8_bringBack 1 = .ok (.dup, 1) := dk_89 (dk_at dksX8_bringBack_0 1 rfl rfl)
theorem dX8_bringBack_2 : decode cX8_bringBack 2 = .ok (.getfield 44, 3) := dk_180 0 44 (dk_at dksX8_bringBack_0 2 rfl rfl)
theorem dX8_bringBack_5 : decode cX8_bringBack 5 = .ok (.iconst 1, 1) := dk_4 (dk_at dksX8_bringBack_0 5 rfl rfl)
theorem dX8_bringBack_6 : decode cX8_bringBack 6 = .ok (.iadd, 1) := dk_96 (dk_at dksX8_bringBack_0 6 rfl rfl)
theorem dX8_bringBack_7 : decode cX8_bringBack 7 = .ok (.putfield 44, 3) := dk_181 0 44 (dk_at dksX8_bringBack_0 7 rfl rfl)
theorem dX8_bringBack_10 : decode cX8_bringBack 10 = .ok (.aload_n 0, 1) := dk_42 (dk_at dksX8_bringBack_0 10 rfl rfl)
theorem dX8_bringBack_11 : decode cX8_bringBack 11 = .ok (.getfield 9, 3) := dk_180 0 9 (dk_at dksX8_bringBack_0 11 rfl rfl)
theorem dX8_bringBack_14 : decode cX8_bringBack 14 = .ok (.iload_n 1, 1) := dk_27 (dk_at dksX8_bringBack_0 14 rfl rfl)
theorem dX8_bringBack_15 : decode cX8_bringBack 15 = .ok (.dup2, 1) := dk_92 (dk_at dksX8_bringBack_0 15 rfl rfl)
theorem dX8_bringBack_16 : decode cX8_bringBack 16 = .ok (.iaload, 1) := dk_46 (dk_at dksX8_bringBack_0 16 rfl rfl)
theorem dX8_bringBack_17 : decode cX8_bringBack 17 = .ok (.iconst 1, 1) := dk_4 (dk_at dksX8_bringBack_0 17 rfl rfl)
theorem dX8_bringBack_18 : decode cX8_bringBack 18 = .ok (.iadd, 1) := dk_96 (dk_at dksX8_bringBack_0 18 rfl rfl)
theorem dX8_bringBack_19 : decode cX8_bringBack 19 = .ok (.iastore, 1) := dk_79 (dk_at dksX8_bringBack_0 19 rfl rfl)
theorem dX8_bringBack_20 : decode cX8_bringBack 20 = .ok (.aload_n 0, 1) := dk_42 (dk_at dksX8_bringBack_0 20 rfl rfl)
theorem dX8_bringBack_21 : decode cX8_bringBack 21 = .ok (.new 47, 3) := dk_187 0 47 (dk_at dksX8_bringBack_0 21 rfl rfl)
theorem dX8_bringBack_24 : decode cX8_bringBack 24 = .ok (.dup, 1) := dk_89 (dk_at dksX8_bringBack_1 0 rfl rfl)
theorem dX8_bringBack_25 : decode cX8_bringBack 25 = .ok (.aload_n 2, 1) := dk_44 (dk_at dksX8_bringBack_1 1 rfl rfl)
theorem dX8_bringBack_26 : decode cX8_bringBack 26 = .ok (.invokespecial 49, 3) := dk_183 0 49 (dk_at dksX8_bringBack_1 2 rfl rfl)
theorem dX8_bringBack_29 : decode cX8_bringBack 29 = .ok (.putfield 52, 3) := dk_181 0 52 (dk_at dksX8_bringBack_1 5 rfl rfl)
theorem dX8_bringBack_32 : decode cX8_bringBack 32 = .ok (.aload_n 0, 1) := dk_42 (dk_at dksX8_bringBack_1 8 rfl rfl)
theorem dX8_bringBack_33 : decode cX8_bringBack 33 = .ok (.getfield 52, 3) := dk_180 0 52 (dk_at dksX8_bringBack_1 9 rfl rfl)
theorem dX8_bringBack_36 : decode cX8_bringBack 36 = .ok (.athrow, 1) := dk_191 (dk_at dksX8_bringBack_1 12 rfl rfl)
theorem q98 : (Jvm.Cond.initialized "Dialectdepot$Parcel") ∈ lw_all := lw_g (lw_at lw_m1 33 rfl) rfl
theorem q864 : (Jvm.Cond.selects "Dialectdepot$Parcel" ({ cls := "java/lang/Object", name := "getClass", desc := "()Ljava/lang/Class;" } : Jvm.MethodName) ({ cls := "java/lang/Object", name := "getClass", desc := "()Ljava/lang/Class;" } : Jvm.MethodName)) ∈ lw_all := lw_g (lw_at lw_m4 79 rfl) rfl
theorem q1274 : (Jvm.Cond.instantiable "Dialectdepot$Parcel" (12 : Nat)) ∈ lw_all := lw_g (lw_at lw_m6 9 rfl) rfl
theorem q1470 : (Jvm.Cond.instanceMethod ({ cls := "Dialectdepot$Parcel", name := "<init>", desc := "(ILDialectdepot$Address;IIII)V" } : Jvm.MethodName)) ∈ lw_all := lw_g (lw_at lw_m6 205 rfl) rfl
theorem q1471 : (Jvm.Cond.code ({ cls := "Dialectdepot$Parcel", name := "<init>", desc := "(ILDialectdepot$Address;IIII)V" } : Jvm.MethodName) prog_12_method_1_code (7 : Nat) (Option.none : Option Jvm.ClassFile.FieldType)) ∈ lw_all := lw_g (lw_at lw_m6 206 rfl) rfl
theorem q1472 : (Jvm.Cond.methodLink "Dialectdepot$Parcel" (3 : Nat) ({ cls := "java/lang/Object", name := "<init>", desc := "()V" } : Jvm.MethodName)) ∈ lw_all := lw_g (lw_at lw_m6 207 rfl) rfl
theorem q1473 : (Jvm.Cond.fieldLink "Dialectdepot$Parcel" (15 : Nat) "Dialectdepot$Parcel" "number" "I") ∈ lw_all := lw_g (lw_at lw_m6 208 rfl) rfl
theorem q1475 : (Jvm.Cond.fieldLink "Dialectdepot$Parcel" (23 : Nat) "Dialectdepot$Parcel" "group" "I") ∈ lw_all := lw_g (lw_at lw_m6 210 rfl) rfl
theorem q1478 : (Jvm.Cond.fieldLink "Dialectdepot$Parcel" (26 : Nat) "Dialectdepot$Parcel" "age" "I") ∈ lw_all := lw_g (lw_at lw_m6 213 rfl) rfl
theorem q1480 : (Jvm.Cond.fieldLink "Dialectdepot$Parcel" (29 : Nat) "Dialectdepot$Parcel" "street" "I") ∈ lw_all := lw_g (lw_at lw_m6 215 rfl) rfl
theorem q1482 : (Jvm.Cond.fieldLink "Dialectdepot$Parcel" (32 : Nat) "Dialectdepot$Parcel" "from" "I") ∈ lw_all := lw_g (lw_at lw_m6 217 rfl) rfl
theorem q1483 : (Jvm.Cond.fieldLink "Dialectdepot$Parcel" (19 : Nat) "Dialectdepot$Parcel" "address" "LDialectdepot$Address;") ∈ lw_all := lw_g (lw_at lw_m6 218 rfl) rfl
theorem q1486 : (Jvm.Cond.fieldLink "Dialectdepot$Parcel" (9 : Nat) "Dialectdepot$Parcel" "tried" "[I") ∈ lw_all := lw_g (lw_at lw_m6 221 rfl) rfl
theorem q1488 : (Jvm.Cond.fieldLink "Dialectdepot$Parcel" (41 : Nat) "Dialectdepot$Parcel" "state" "I") ∈ lw_all := lw_g (lw_at lw_m6 223 rfl) rfl
theorem q1490 : (Jvm.Cond.fieldLink "Dialectdepot$Parcel" (44 : Nat) "Dialectdepot$Parcel" "back" "I") ∈ lw_all := lw_g (lw_at lw_m6 225 rfl) rfl
theorem q1494 : (Jvm.Cond.fieldLink "Dialectdepot$Parcel" (52 : Nat) "Dialectdepot$Parcel" "latest" "LDialectdepot$Back;") ∈ lw_all := lw_g (lw_at lw_m6 229 rfl) rfl
theorem q1496 : (Jvm.Cond.laysFinal "Dialectdepot$Parcel" "Dialectdepot$Parcel" "number" "I") ∈ lw_all := lw_g (lw_at lw_m6 231 rfl) rfl
theorem q1497 : (Jvm.Cond.soleField "Dialectdepot$Parcel" "number") ∈ lw_all := lw_g (lw_at lw_m6 232 rfl) rfl
theorem q1498 : (Jvm.Cond.laysFinal "Dialectdepot$Parcel" "Dialectdepot$Parcel" "group" "I") ∈ lw_all := lw_g (lw_at lw_m6 233 rfl) rfl
theorem q1499 : (Jvm.Cond.soleField "Dialectdepot$Parcel" "group") ∈ lw_all := lw_g (lw_at lw_m6 234 rfl) rfl
theorem q1500 : (Jvm.Cond.laysFinal "Dialectdepot$Parcel" "Dialectdepot$Parcel" "age" "I") ∈ lw_all := lw_g (lw_at lw_m6 235 rfl) rfl
theorem q1501 : (Jvm.Cond.soleField "Dialectdepot$Parcel" "age") ∈ lw_all := lw_g (lw_at lw_m6 236 rfl) rfl
theorem q1502 : (Jvm.Cond.laysFinal "Dialectdepot$Parcel" "Dialectdepot$Parcel" "street" "I") ∈ lw_all := lw_g (lw_at lw_m6 237 rfl) rfl
theorem q1503 : (Jvm.Cond.soleField "Dialectdepot$Parcel" "street") ∈ lw_all := lw_g (lw_at lw_m6 238 rfl) rfl
theorem q1504 : (Jvm.Cond.laysFinal "Dialectdepot$Parcel" "Dialectdepot$Parcel" "from" "I") ∈ lw_all := lw_g (lw_at lw_m6 239 rfl) rfl
theorem q1505 : (Jvm.Cond.soleField "Dialectdepot$Parcel" "from") ∈ lw_all := lw_g (lw_at lw_m7 0 rfl) rfl
theorem q1506 : (Jvm.Cond.laysFinal "Dialectdepot$Parcel" "Dialectdepot$Parcel" "address" "LDialectdepot$Address;") ∈ lw_all := lw_g (lw_at lw_m7 1 rfl) rfl
theorem q1507 : (Jvm.Cond.soleField "Dialectdepot$Parcel" "address") ∈ lw_all := lw_g (lw_at lw_m7 2 rfl) rfl
theorem q1508 : (Jvm.Cond.laysFinal "Dialectdepot$Parcel" "Dialectdepot$Parcel" "tried" "[I") ∈ lw_all := lw_g (lw_at lw_m7 3 rfl) rfl
theorem q1509 : (Jvm.Cond.soleField "Dialectdepot$Parcel" "tried") ∈ lw_all := lw_g (lw_at lw_m7 4 rfl) rfl
theorem q1510 : (Jvm.Cond.lays "Dialectdepot$Parcel" "Dialectdepot$Parcel" "state" "I") ∈ lw_all := lw_g (lw_at lw_m7 5 rfl) rfl
theorem q1511 : (Jvm.Cond.soleField "Dialectdepot$Parcel" "state") ∈ lw_all := lw_g (lw_at lw_m7 6 rfl) rfl
theorem q1512 : (Jvm.Cond.lays "Dialectdepot$Parcel" "Dialectdepot$Parcel" "back" "I") ∈ lw_all := lw_g (lw_at lw_m7 7 rfl) rfl
theorem q1513 : (Jvm.Cond.soleField "Dialectdepot$Parcel" "back") ∈ lw_all := lw_g (lw_at lw_m7 8 rfl) rfl
theorem q1514 : (Jvm.Cond.lays "Dialectdepot$Parcel" "Dialectdepot$Parcel" "waited" "I") ∈ lw_all := lw_g (lw_at lw_m7 9 rfl) rfl
theorem q1515 : (Jvm.Cond.soleField "Dialectdepot$Parcel" "waited") ∈ lw_all := lw_g (lw_at lw_m7 10 rfl) rfl
theorem q1516 : (Jvm.Cond.lays "Dialectdepot$Parcel" "Dialectdepot$Parcel" "wasOut" "Z") ∈ lw_all := lw_g (lw_at lw_m7 11 rfl) rfl
theorem q1517 : (Jvm.Cond.soleField "Dialectdepot$Parcel" "wasOut") ∈ lw_all := lw_g (lw_at lw_m7 12 rfl) rfl
theorem q1518 : (Jvm.Cond.lays "Dialectdepot$Parcel" "Dialectdepot$Parcel" "latest" "LDialectdepot$Back;") ∈ lw_all := lw_g (lw_at lw_m7 13 rfl) rfl
theorem q1519 : (Jvm.Cond.soleField "Dialectdepot$Parcel" "latest") ∈ lw_all := lw_g (lw_at lw_m7 14 rfl) rfl
theorem q1520 : (Jvm.Cond.superclass "Dialectdepot$Parcel" "java/lang/Object") ∈ lw_all := lw_g (lw_at lw_m7 15 rfl) rfl
theorem q1668 : (Jvm.Cond.instanceMethod ({ cls := "Dialectdepot$Parcel", name := "leave", desc := "(II)V" } : Jvm.MethodName)) ∈ lw_all := lw_g (lw_at lw_m7 163 rfl) rfl
theorem q1669 : (Jvm.Cond.selects "Dialectdepot$Parcel" ({ cls := "Dialectdepot$Parcel", name := "leave", desc := "(II)V" } : Jvm.MethodName) ({ cls := "Dialectdepot$Parcel", name := "leave", desc := "(II)V" } : Jvm.MethodName)) ∈ lw_all := lw_g (lw_at lw_m7 164 rfl) rfl
theorem q1670 : (Jvm.Cond.code ({ cls := "Dialectdepot$Parcel", name := "leave", desc := "(II)V" } : Jvm.MethodName) prog_12_method_2_code (3 : Nat) (Option.none : Option Jvm.ClassFile.FieldType)) ∈ lw_all := lw_g (lw_at lw_m7 165 rfl) rfl
theorem q1671 : (Jvm.Cond.classLink "Dialectdepot$Parcel" (35 : Nat) "Dialectdepot$WrongStreet") ∈ lw_all := lw_g (lw_at lw_m7 166 rfl) rfl
theorem q1680 : (Jvm.Cond.methodLinkNest "Dialectdepot$Parcel" (37 : Nat) ({ cls := "Dialectdepot$WrongStreet", name := "<init>", desc := "()V" } : Jvm.MethodName) "Dialectdepot") ∈ lw_tbl := lw_at lw_m7 175 rfl
theorem q1686 : (Jvm.Cond.classLink "Dialectdepot$Parcel" (38 : Nat) "Dialectdepot$Nobody") ∈ lw_all := lw_g (lw_at lw_m7 181 rfl) rfl
theorem q1695 : (Jvm.Cond.methodLinkNest "Dialectdepot$Parcel" (40 : Nat) ({ cls := "Dialectdepot$Nobody", name := "<init>", desc := "()V" } : Jvm.MethodName) "Dialectdepot") ∈ lw_tbl := lw_at lw_m7 190 rfl
theorem q1702 : (Jvm.Cond.instanceMethod ({ cls := "Dialectdepot$Parcel", name := "bringBack", desc := "(ILjava/lang/Exception;)V" } : Jvm.MethodName)) ∈ lw_all := lw_g (lw_at lw_m7 197 rfl) rfl
theorem q1703 : (Jvm.Cond.selects "Dialectdepot$Parcel" ({ cls := "Dialectdepot$Parcel", name := "bringBack", desc := "(ILjava/lang/Exception;)V" } : Jvm.MethodName) ({ cls := "Dialectdepot$Parcel", name := "bringBack", desc := "(ILjava/lang/Exception;)V" } : Jvm.MethodName)) ∈ lw_all := lw_g (lw_at lw_m7 198 rfl) rfl
theorem q1704 : (Jvm.Cond.code ({ cls := "Dialectdepot$Parcel", name := "bringBack", desc := "(ILjava/lang/Exception;)V" } : Jvm.MethodName) prog_12_method_3_code (3 : Nat) (Option.none : Option Jvm.ClassFile.FieldType)) ∈ lw_all := lw_g (lw_at lw_m7 199 rfl) rfl
theorem q1705 : (Jvm.Cond.classLink "Dialectdepot$Parcel" (47 : Nat) "Dialectdepot$Back") ∈ lw_all := lw_g (lw_at lw_m7 200 rfl) rfl
theorem q1714 : (Jvm.Cond.methodLink "Dialectdepot$Parcel" (49 : Nat) ({ cls := "Dialectdepot$Back", name := "<init>", desc := "(Ljava/lang/Exception;)V" } : Jvm.MethodName)) ∈ lw_all := lw_g (lw_at lw_m7 209 rfl) rfl
theorem q2456 : (Jvm.Cond.castable "Dialectdepot$Parcel" "java/lang/Object") ∈ lw_tbl := lw_at lw_m10 231 rfl
theorem in_X8 : ∀ w ∈ wsX80, w ∈ lw_all := lw_in wsX80 [1496, 1498, 1500, 1502, 1504, 1506, 1508, 1510, 1512, 1514, 1516, 1518] (by decide +kernel) (by decide +kernel)
/-! Dialectdepot$Words -/
set_option maxRecDepth 100000
def RX9 : String := "Dialectdepot$Words"
def TX9 : u_T := fun k => match k with
  | 0 => ("Dialectdepot$Words", "at", "I", false)
  | _ => ("Dialectdepot$Words", "this$0", "LDialectdepot;", true)
def tyX9 : Nat → FieldType := fun k => match k with
  | 0 => .int
  | _ => .object "Dialectdepot"
abbrev wsX90 : List Cond := u_ws RX9 TX9 2
theorem nmX9 : ∀ a, a < 2 → ∀ b, b < 2 → a ≠ b → (TX9 a).2.1 ≠ (TX9 b).2.1 := by decide +kernel
theorem tyX9_ok : ∀ k, k < 2 → parseFieldDescriptor (TX9 k).2.2.1 = some (tyX9 k) := by decide +kernel
abbrev cX9_init : ByteArray := prog_20_method_1_code
def yX9_init : MethodName := ⟨RX9, "<init>", "(LDialectdepot;)V"⟩
def dkwX9_init_0 : List UInt8 := [42, 43, 181, 0, 3, 42, 183, 0, 9, 177]
abbrev dktX9_init_0 : List UInt8 := dkwX9_init_0 ++ []
theorem dksX9_init_0 : cX9_init.data.toList.drop 0 = dktX9_init_0 := by decide +kernel
theorem dX9_init_0 : decode cX9_init 0 = .ok (.aload_n 0, 1) := dk_42 (dk_at dksX9_init_0 0 rfl rfl)
theorem dX9_init_1 : decode cX9_init 1 = .ok (.aload_n 1, 1) := dk_43 (dk_at dksX9_init_0 1 rfl rfl)
theorem dX9_init_2 : decode cX9_init 2 = .ok (.putfield 3, 3) := dk_181 0 3 (dk_at dksX9_init_0 2 rfl rfl)
theorem dX9_init_5 : decode cX9_init 5 = .ok (.aload_n 0, 1) := dk_42 (dk_at dksX9_init_0 5 rfl rfl)
theorem dX9_init_6 : decode cX9_init 6 = .ok (.invokespecial 9, 3) := dk_183 0 9 (dk_at dksX9_init_0 6 rfl rfl)
theorem dX9_init_9 : decode cX9_init 9 = .ok (.return_, 1) := dk_177 (dk_at dksX9_init_0 9 rfl rfl)
abbrev cX9_must : ByteArray := prog_20_method_4_code
def yX9_must : MethodName := ⟨RX9, "must", "()LDialectdepot$Word;"⟩
def dkwX9_must_1 : List UInt8 := [183, 0, 51, 191, 42, 182, 0, 54, 176]
abbrev dktX9_must_1 : List UInt8 := dkwX9_must_1 ++ []
def dkwX9_must_0 : List UInt8 := [42, 182, 0, 33, 154, 0, 22, 187, 0, 49, 89, 42, 180, 0, 3, 180, 0, 19, 182, 0, 23, 4]
abbrev dktX9_must_0 : List UInt8 := dkwX9_must_0 ++ dktX9_must_1
theorem dksX9_must_0 : cX9_must.data.toList.drop 0 = dktX9_must_0 := by decide +kernel
theorem dksX9_must_1 : cX9_must.data.toList.drop 22 = dktX9_must_1 := dk_seg dksX9_must_0 22 rfl rfl
theorem dX9_must_0 : decode cX9_must 0 = .ok (.aload_n 0, 1) := dk_42 (dk_at dksX9_must_0 0 rfl rfl)
theorem dX9_must_1 : decode cX9_must 1 = .ok (.invokevirtual 33, 3) := dk_182 0 33 (dk_at dksX9_must_0 1 rfl rfl)
theorem dX9_must_4 : decode cX9_must 4 = .ok (.ifCond .ne 22, 3) := dk_154 0 22 (dk_at dksX9_must_0 4 rfl rfl)
theorem dX9_must_7 : decode cX9_must 7 = .ok (.new 49, 3) := dk_187 0 49 (dk_at dksX9_must_0 7 rfl rfl)
theorem dX9_must_10 : decode cX9_must 10 = .ok (.dup, 1) := dk_89 (dk_at dksX9_must_0 10 rfl rfl)
theorem dX9_must_11 : decode cX9_must 11 = .ok (.aload_n 0, 1) := dk_42 (dk_at dksX9_must_0 11 rfl rfl)
theorem dX9_must_12 : decode cX9_must 12 = .ok (.getfield 3, 3) := dk_180 0 3 (dk_at dksX9_must_0 12 rfl rfl)
theorem dX9_must_15 : decode cX9_must 15 = .ok (.getfield 19, 3) := dk_180 0 19 (dk_at dksX9_must_0 15 rfl rfl)
theorem dX9_must_18 : decode cX9_must 18 = .ok (.invokevirtual 23, 3) := dk_182 0 23 (dk_at dksX9_must_0 18 rfl rfl)
theorem dX9_must_21 : decode cX9_must 21 = .ok (.iconst 1, 1) := dk_4 (dk_at dksX9_must_0 21 rfl rfl)
theorem dX9_must_22 : decode cX9_must 22 = .ok (.invokespecial 51, 3) := dk_183 0 51 (dk_at dksX9_must_1 0 rfl rfl)
theorem dX9_must_25 : decode cX9_must 25 = .ok (.athrow, 1) := dk_191 (dk_at dksX9_must_1 3 rfl rfl)
theorem dX9_must_26 : decode cX9_must 26 = .ok (.aload_n 0, 1) := dk_42 (dk_at dksX9_must_1 4 rfl rfl)
theorem dX9_must_27 : decode cX9_must 27 = .ok (.invokevirtual 54, 3) := dk_182 0 54 (dk_at dksX9_must_1 5 rfl rfl)
theorem dX9_must_30 : decode cX9_must 30 = .ok (.areturn, 1) := dk_176 (dk_at dksX9_must_1 8 rfl rfl)
abbrev cX9_hasNext : ByteArray := prog_20_method_2_code
def yX9_hasNext : MethodName := ⟨RX9, "hasNext", "()Z"⟩
def dkwX9_hasNext_3 : List UInt8 := [3, 172]
abbrev dktX9_hasNext_3 : List UInt8 := dkwX9_hasNext_3 ++ []
def dkwX9_hasNext_2 : List UInt8 := [167, 255, 210, 42, 180, 0, 15, 42, 180, 0, 3, 180, 0, 19, 182, 0, 23, 162, 0, 7, 4, 167, 0, 4]
abbrev dktX9_hasNext_2 : List UInt8 := dkwX9_hasNext_2 ++ dktX9_hasNext_3
def dkwX9_hasNext_1 : List UInt8 := [42, 180, 0, 15, 182, 0, 29, 16, 32, 160, 0, 16, 42, 89, 180, 0, 15, 4, 96, 181, 0, 15]
abbrev dktX9_hasNext_1 : List UInt8 := dkwX9_hasNext_1 ++ dktX9_hasNext_2
def dkwX9_hasNext_0 : List UInt8 := [42, 180, 0, 15, 42, 180, 0, 3, 180, 0, 19, 182, 0, 23, 162, 0, 35, 42, 180, 0, 3, 180, 0, 19]
abbrev dktX9_hasNext_0 : List UInt8 := dkwX9_hasNext_0 ++ dktX9_hasNext_1
theorem dksX9_hasNext_0 : cX9_hasNext.data.toList.drop 0 = dktX9_hasNext_0 := by decide +kernel
theorem dksX9_hasNext_1 : cX9_hasNext.data.toList.drop 24 = dktX9_hasNext_1 := dk_seg dksX9_hasNext_0 24 rfl rfl
theorem dksX9_hasNext_2 : cX9_hasNext.data.toList.drop 46 = dktX9_hasNext_2 := dk_seg dksX9_hasNext_1 22 rfl rfl
theorem dksX9_hasNext_3 : cX9_hasNext.data.toList.drop 70 = dktX9_hasNext_3 := dk_seg dksX9_hasNext_2 24 rfl rfl
theorem dX9_hasNext_0 : decode cX9_hasNext 0 = .ok (.aload_n 0, 1) := dk_42 (dk_at dksX9_hasNext_0 0 rfl rfl)
theorem dX9_hasNext_1 : decode cX9_hasNext 1 = .ok (.getfield 15, 3) := dk_180 0 15 (dk_at dksX9_hasNext_0 1 rfl rfl)
theorem dX9_hasNext_4 : decode cX9_hasNext 4 = .ok (.aload_n 0, 1) := dk_42 (dk_at dksX9_hasNext_0 4 rfl rfl)
theorem dX9_hasNext_5 : decode cX9_hasNext 5 = .ok (.getfield 3, 3) := dk_180 0 3 (dk_at dksX9_hasNext_0 5 rfl rfl)
theorem dX9_hasNext_8 : decode cX9_hasNext 8 = .ok (.getfield 19, 3) := dk_180 0 19 (dk_at dksX9_hasNext_0 8 rfl rfl)
theorem dX9_hasNext_11 : decode cX9_hasNext 11 = .ok (.invokevirtual 23, 3) := dk_182 0 23 (dk_at dksX9_hasNext_0 11 rfl rfl)
theorem dX9_hasNext_14 : decode cX9_hasNext 14 = .ok (.if_icmp .ge 35, 3) := dk_162 0 35 (dk_at dksX9_hasNext_0 14 rfl rfl)
theorem dX9_hasNext_17 : decode cX9_hasNext 17 = .ok (.aload_n 0, 1) := dk_42 (dk_at dksX9_hasNext_0 17 rfl rfl)
theorem dX9_hasNext_18 : decode cX9_hasNext 18 = .ok (.getfield 3, 3) := dk_180 0 3 (dk_at dksX9_hasNext_0 18 rfl rfl)
theorem dX9_hasNext_21 : decode cX9_hasNext 21 = .ok (.getfield 19, 3) := dk_180 0 19 (dk_at dksX9_hasNext_0 21 rfl rfl)
theorem dX9_hasNext_24 : decode cX9_hasNext 24 = .ok (.aload_n 0, 1) := dk_42 (dk_at dksX9_hasNext_1 0 rfl rfl)
theorem dX9_hasNext_25 : decode cX9_hasNext 25 = .ok (.getfield 15, 3) := dk_180 0 15 (dk_at dksX9_hasNext_1 1 rfl rfl)
theorem dX9_hasNext_28 : decode cX9_hasNext 28 = .ok (.invokevirtual 29, 3) := dk_182 0 29 (dk_at dksX9_hasNext_1 4 rfl rfl)
theorem dX9_hasNext_31 : decode cX9_hasNext 31 = .ok (.bipush 32, 2) := dk_16 32 (dk_at dksX9_hasNext_1 7 rfl rfl)
theorem dX9_hasNext_33 : decode cX9_hasNext 33 = .ok (.if_icmp .ne 16, 3) := dk_160 0 16 (dk_at dksX9_hasNext_1 9 rfl rfl)
theorem dX9_hasNext_36 : decode cX9_hasNext 36 = .ok (.aload_n 0, 1) := dk_42 (dk_at dksX9_hasNext_1 12 rfl rfl)
theorem dX9_hasNext_37 : decode cX9_hasNext 37 = .ok (.dup, 1) := dk_89 (dk_at dksX9_hasNext_1 13 rfl rfl)
theorem dX9_hasNext_38 : decode cX9_hasNext 38 = .ok (.getfield 15, 3) := dk_180 0 15 (dk_at dksX9_hasNext_1 14 rfl rfl)
theorem dX9_hasNext_41 : decode cX9_hasNext 41 = .ok (.iconst 1, 1) := dk_4 (dk_at dksX9_hasNext_1 17 rfl rfl)
theorem dX9_hasNext_42 : decode cX9_hasNext 42 = .ok (.iadd, 1) := dk_96 (dk_at dksX9_hasNext_1 18 rfl rfl)
theorem dX9_hasNext_43 : decode cX9_hasNext 43 = .ok (.putfield 15, 3) := dk_181 0 15 (dk_at dksX9_hasNext_1 19 rfl rfl)
theorem dX9_hasNext_46 : decode cX9_hasNext 46 = .ok (.goto (-46), 3) := dk_167 255 210 (dk_at dksX9_hasNext_2 0 rfl rfl)
theorem dX9_hasNext_49 : decode cX9_hasNext 49 = .ok (.aload_n 0, 1) := dk_42 (dk_at dksX9_hasNext_2 3 rfl rfl)
theorem dX9_hasNext_50 : decode cX9_hasNext 50 = .ok (.getfield 15, 3) := dk_180 0 15 (dk_at dksX9_hasNext_2 4 rfl rfl)
theorem dX9_hasNext_53 : decode cX9_hasNext 53 = .ok (.aload_n 0, 1) := dk_42 (dk_at dksX9_hasNext_2 7 rfl rfl)
theorem dX9_hasNext_54 : decode cX9_hasNext 54 = .ok (.getfield 3, 3) := dk_180 0 3 (dk_at dksX9_hasNext_2 8 rfl rfl)
theorem dX9_hasNext_57 : decode cX9_hasNext 57 = .ok (.getfield 19, 3) := dk_180 0 19 (dk_at dksX9_hasNext_2 11 rfl rfl)
theorem dX9_hasNext_60 : decode cX9_hasNext 60 = .ok (.invokevirtual 23, 3) := dk_182 0 23 (dk_at dksX9_hasNext_2 14 rfl rfl)
theorem dX9_hasNext_63 : decode cX9_hasNext 63 = .ok (.if_icmp .ge 7, 3) := dk_162 0 7 (dk_at dksX9_hasNext_2 17 rfl rfl)
theorem dX9_hasNext_66 : decode cX9_hasNext 66 = .ok (.iconst 1, 1) := dk_4 (dk_at dksX9_hasNext_2 20 rfl rfl)
theorem dX9_hasNext_67 : decode cX9_hasNext 67 = .ok (.goto 4, 3) := dk_167 0 4 (dk_at dksX9_hasNext_2 21 rfl rfl)
theorem dX9_hasNext_70 : decode cX9_hasNext 70 = .ok (.iconst 0, 1) := dk_3 (dk_at dksX9_hasNext_3 0 rfl rfl)
theorem dX9_hasNext_71 : decode cX9_hasNext 71 = .ok (.ireturn, 1) := dk_172 (dk_at dksX9_hasNext_3 1 rfl rfl)
abbrev cX9_next : ByteArray := prog_20_method_3_code
def yX9_next : MethodName := ⟨RX9, "next", "()LDialectdepot$Word;"⟩
def dkwX9_next_3 : List UInt8 := [89, 27, 42, 180, 0, 3, 180, 0, 19, 27, 42, 180, 0, 15, 182, 0, 42, 183, 0, 46, 176]
abbrev dktX9_next_3 : List UInt8 := dkwX9_next_3 ++ []
def dkwX9_next_2 : List UInt8 := [182, 0, 29, 16, 32, 159, 0, 16, 42, 89, 180, 0, 15, 4, 96, 181, 0, 15, 167, 255, 210, 187, 0, 40]
abbrev dktX9_next_2 : List UInt8 := dkwX9_next_2 ++ dktX9_next_3
def dkwX9_next_1 : List UInt8 := [42, 180, 0, 3, 180, 0, 19, 182, 0, 23, 162, 0, 35, 42, 180, 0, 3, 180, 0, 19, 42, 180, 0, 15]
abbrev dktX9_next_1 : List UInt8 := dkwX9_next_1 ++ dktX9_next_2
def dkwX9_next_0 : List UInt8 := [42, 182, 0, 33, 154, 0, 11, 187, 0, 37, 89, 183, 0, 39, 191, 42, 180, 0, 15, 60, 42, 180, 0, 15]
abbrev dktX9_next_0 : List UInt8 := dkwX9_next_0 ++ dktX9_next_1
theorem dksX9_next_0 : cX9_next.data.toList.drop 0 = dktX9_next_0 := by decide +kernel
theorem dksX9_next_1 : cX9_next.data.toList.drop 24 = dktX9_next_1 := dk_seg dksX9_next_0 24 rfl rfl
theorem dksX9_next_2 : cX9_next.data.toList.drop 48 = dktX9_next_2 := dk_seg dksX9_next_1 24 rfl rfl
theorem dksX9_next_3 : cX9_next.data.toList.drop 72 = dktX9_next_3 := dk_seg dksX9_next_2 24 rfl rfl
theorem dX9_next_0 : decode cX9_next 0 = .ok (.aload_n 0, 1) := dk_42 (dk_at dksX9_next_0 0 rfl rfl)
theorem dX9_next_1 : decode cX9_next 1 = .ok (.invokevirtual 33, 3) := dk_182 0 33 (dk_at dksX9_next_0 1 rfl rfl)
theorem dX9_next_4 : decode cX9_next 4 = .ok (.ifCond .ne 11, 3) := dk_154 0 11 (dk_at dksX9_next_0 4 rfl rfl)
theorem dX9_next_7 : decode cX9_next 7 = .ok (.new 37, 3) := dk_187 0 37 (dk_at dksX9_next_0 7 rfl rfl)
theorem dX9_next_10 : decode cX9_next 10 = .ok (.dup, 1) := dk_89 (dk_at dksX9_next_0 10 rfl rfl)
theorem dX9_next_11 : decode cX9_next 11 = .ok (.invokespecial 39, 3) := dk_183 0 39 (dk_at dksX9_next_0 11 rfl rfl)
theorem dX9_next_14 : decode cX9_next 14 = .ok (.athrow, 1) := dk_191 (dk_at dksX9_next_0 14 rfl rfl)
theorem dX9_next_15 : decode cX9_next 15 = .ok (.aload_n 0, 1) := dk_42 (dk_at dksX9_next_0 15 rfl rfl)
theorem dX9_next_16 : decode cX9_next 16 = .ok (.getfield 15, 3) := dk_180 0 15 (dk_at dksX9_next_0 16 rfl rfl)
theorem dX9_next_19 : decode cX9_next 19 = .ok (.istore_n 1, 1) := dk_60 (dk_at dksX9_next_0 19 rfl rfl)
theorem dX9_next_20 : decode cX9_next 20 = .ok (.aload_n 0, 1) := dk_42 (dk_at dksX9_next_0 20 rfl rfl)
theorem dX9_next_21 : decode cX9_next 21 = .ok (.getfield 15, 3) := dk_180 0 15 (dk_at dksX9_next_0 21 rfl rfl)
theorem dX9_next_24 : decode cX9_next 24 = .ok (.aload_n 0, 1) := dk_42 (dk_at dksX9_next_1 0 rfl rfl)
theorem dX9_next_25 : decode cX9_next 25 = .ok (.getfield 3, 3) := dk_180 0 3 (dk_at dksX9_next_1 1 rfl rfl)
theorem dX9_next_28 : decode cX9_next 28 = .ok (.getfield 19, 3) := dk_180 0 19 (dk_at dksX9_next_1 4 rfl rfl)
theorem dX9_next_31 : decode cX9_next 31 = .ok (.invokevirtual 23, 3) := dk_182 0 23 (dk_at dksX9_next_1 7 rfl rfl)
theorem dX9_next_34 : decode cX9_next 34 = .ok (.if_icmp .ge 35, 3) := dk_162 0 35 (dk_at dksX9_next_1 10 rfl rfl)
theorem dX9_next_37 : decode cX9_next 37 = .ok (.aload_n 0, 1) := dk_42 (dk_at dksX9_next_1 13 rfl rfl)
theorem dX9_next_38 : decode cX9_next 38 = .ok (.getfield 3, 3) := dk_180 0 3 (dk_at dksX9_next_1 14 rfl rfl)
theorem dX9_next_41 : decode cX9_next 41 = .ok (.getfield 19, 3) := dk_180 0 19 (dk_at dksX9_next_1 17 rfl rfl)
theorem dX9_next_44 : decode cX9_next 44 = .ok (.aload_n 0, 1) := dk_42 (dk_at dksX9_next_1 20 rfl rfl)
theorem dX9_next_45 : decode cX9_next 45 = .ok (.getfield 15, 3) := dk_180 0 15 (dk_at dksX9_next_1 21 rfl rfl)
theorem dX9_next_48 : decode cX9_next 48 = .ok (.invokevirtual 29, 3) := dk_182 0 29 (dk_at dksX9_next_2 0 rfl rfl)
theorem dX9_next_51 : decode cX9_next 51 = .ok (.bipush 32, 2) := dk_16 32 (dk_at dksX9_next_2 3 rfl rfl)
theorem dX9_next_53 : decode cX9_next 53 = .ok (.if_icmp .eq 16, 3) := dk_159 0 16 (dk_at dksX9_next_2 5 rfl rfl)
theorem dX9_next_56 : decode cX9_next 56 = .ok (.aload_n 0, 1) := dk_42 (dk_at dksX9_next_2 8 rfl rfl)
theorem dX9_next_57 : decode cX9_next 57 = .ok (.dup, 1) := dk_89 (dk_at dksX9_next_2 9 rfl rfl)
theorem dX9_next_58 : decode cX9_next 58 = .ok (.getfield 15, 3) := dk_180 0 15 (dk_at dksX9_next_2 10 rfl rfl)
theorem dX9_next_61 : decode cX9_next 61 = .ok (.iconst 1, 1) := dk_4 (dk_at dksX9_next_2 13 rfl rfl)
theorem dX9_next_62 : decode cX9_next 62 = .ok (.iadd, 1) := dk_96 (dk_at dksX9_next_2 14 rfl rfl)
theorem dX9_next_63 : decode cX9_next 63 = .ok (.putfield 15, 3) := dk_181 0 15 (dk_at dksX9_next_2 15 rfl rfl)
theorem dX9_next_66 : decode cX9_next 66 = .ok (.goto (-46), 3) := dk_167 255 210 (dk_at dksX9_next_2 18 rfl rfl)
theorem dX9_next_69 : decode cX9_next 69 = .ok (.new 40, 3) := dk_187 0 40 (dk_at dksX9_next_2 21 rfl rfl)
theorem dX9_next_72 : decode cX9_next 72 = .ok (.dup, 1) := dk_89 (dk_at dksX9_next_3 0 rfl rfl)
theorem dX9_next_73 : decode cX9_next 73 = .ok (.iload_n 1, 1) := dk_27 (dk_at dksX9_next_3 1 rfl rfl)
theorem dX9_next_74 : decode cX9_next 74 = .ok (.aload_n 0, 1) := dk_42 (dk_at dksX9_next_3 2 rfl rfl)
theorem dX9_next_75 : decode cX9_next 75 = .ok (.getfield 3, 3) := dk_180 0 3 (dk_at dksX9_next_3 3 rfl rfl)
theorem dX9_next_78 : decode cX9_next 78 = .ok (.getfield 19, 3) := dk_180 0 19 (dk_at dksX9_next_3 6 rfl rfl)
theorem dX9_next_81 : decode cX9_next 81 = .ok (.iload_n 1, 1) := dk_27 (dk_at dksX9_next_3 9 rfl rfl)
theorem dX9_next_82 : decode cX9_next 82 = .ok (.aload_n 0, 1) := dk_42 (dk_at dksX9_next_3 10 rfl rfl)
theorem dX9_next_83 : decode cX9_next 83 = .ok (.getfield 15, 3) := dk_180 0 15 (dk_at dksX9_next_3 11 rfl rfl)
theorem dX9_next_86 : decode cX9_next 86 = .ok (.invokevirtual 42, 3) := dk_182 0 42 (dk_at dksX9_next_3 14 rfl rfl)
theorem dX9_next_89 : decode cX9_next 89 = .ok (.invokespecial 46, 3) := dk_183 0 46 (dk_at dksX9_next_3 17 rfl rfl)
theorem dX9_next_92 : decode cX9_next 92 = .ok (.areturn, 1) := dk_176 (dk_at dksX9_next_3 20 rfl rfl)
theorem q99 : (Jvm.Cond.initialized "Dialectdepot$Words") ∈ lw_all := lw_g (lw_at lw_m1 34 rfl) rfl
theorem q287 : (Jvm.Cond.fieldLinkNest "Dialectdepot$Words" (19 : Nat) "Dialectdepot" "tape" "Ljava/lang/StringBuilder;" "Dialectdepot") ∈ lw_tbl := lw_at lw_m1 222 rfl
theorem q871 : (Jvm.Cond.selects "Dialectdepot$Words" ({ cls := "java/lang/Object", name := "getClass", desc := "()Ljava/lang/Class;" } : Jvm.MethodName) ({ cls := "java/lang/Object", name := "getClass", desc := "()Ljava/lang/Class;" } : Jvm.MethodName)) ∈ lw_all := lw_g (lw_at lw_m4 86 rfl) rfl
theorem q1280 : (Jvm.Cond.instantiable "Dialectdepot$Words" (2 : Nat)) ∈ lw_all := lw_g (lw_at lw_m6 15 rfl) rfl
theorem q1282 : (Jvm.Cond.instanceMethod ({ cls := "Dialectdepot$Words", name := "<init>", desc := "(LDialectdepot;)V" } : Jvm.MethodName)) ∈ lw_all := lw_g (lw_at lw_m6 17 rfl) rfl
theorem q1283 : (Jvm.Cond.code ({ cls := "Dialectdepot$Words", name := "<init>", desc := "(LDialectdepot;)V" } : Jvm.MethodName) prog_20_method_1_code (2 : Nat) (Option.none : Option Jvm.ClassFile.FieldType)) ∈ lw_all := lw_g (lw_at lw_m6 18 rfl) rfl
theorem q1284 : (Jvm.Cond.methodLink "Dialectdepot$Words" (9 : Nat) ({ cls := "java/lang/Object", name := "<init>", desc := "()V" } : Jvm.MethodName)) ∈ lw_all := lw_g (lw_at lw_m6 19 rfl) rfl
theorem q1285 : (Jvm.Cond.fieldLink "Dialectdepot$Words" (15 : Nat) "Dialectdepot$Words" "at" "I") ∈ lw_all := lw_g (lw_at lw_m6 20 rfl) rfl
theorem q1286 : (Jvm.Cond.fieldLink "Dialectdepot$Words" (3 : Nat) "Dialectdepot$Words" "this$0" "LDialectdepot;") ∈ lw_all := lw_g (lw_at lw_m6 21 rfl) rfl
theorem q1287 : (Jvm.Cond.lays "Dialectdepot$Words" "Dialectdepot$Words" "at" "I") ∈ lw_all := lw_g (lw_at lw_m6 22 rfl) rfl
theorem q1288 : (Jvm.Cond.soleField "Dialectdepot$Words" "at") ∈ lw_all := lw_g (lw_at lw_m6 23 rfl) rfl
theorem q1289 : (Jvm.Cond.laysFinal "Dialectdepot$Words" "Dialectdepot$Words" "this$0" "LDialectdepot;") ∈ lw_all := lw_g (lw_at lw_m6 24 rfl) rfl
theorem q1290 : (Jvm.Cond.soleField "Dialectdepot$Words" "this$0") ∈ lw_all := lw_g (lw_at lw_m6 25 rfl) rfl
theorem q1291 : (Jvm.Cond.superclass "Dialectdepot$Words" "java/lang/Object") ∈ lw_all := lw_g (lw_at lw_m6 26 rfl) rfl
theorem q1320 : (Jvm.Cond.instanceMethod ({ cls := "Dialectdepot$Words", name := "must", desc := "()LDialectdepot$Word;" } : Jvm.MethodName)) ∈ lw_all := lw_g (lw_at lw_m6 55 rfl) rfl
theorem q1321 : (Jvm.Cond.selects "Dialectdepot$Words" ({ cls := "Dialectdepot$Words", name := "must", desc := "()LDialectdepot$Word;" } : Jvm.MethodName) ({ cls := "Dialectdepot$Words", name := "must", desc := "()LDialectdepot$Word;" } : Jvm.MethodName)) ∈ lw_all := lw_g (lw_at lw_m6 56 rfl) rfl
theorem q1322 : (Jvm.Cond.code ({ cls := "Dialectdepot$Words", name := "must", desc := "()LDialectdepot$Word;" } : Jvm.MethodName) prog_20_method_4_code (1 : Nat) (Option.some (Jvm.ClassFile.FieldType.object "Dialectdepot$Word"))) ∈ lw_all := lw_g (lw_at lw_m6 57 rfl) rfl
theorem q1323 : (Jvm.Cond.methodLink "Dialectdepot$Words" (33 : Nat) ({ cls := "Dialectdepot$Words", name := "hasNext", desc := "()Z" } : Jvm.MethodName)) ∈ lw_all := lw_g (lw_at lw_m6 58 rfl) rfl
theorem q1324 : (Jvm.Cond.instanceMethod ({ cls := "Dialectdepot$Words", name := "hasNext", desc := "()Z" } : Jvm.MethodName)) ∈ lw_all := lw_g (lw_at lw_m6 59 rfl) rfl
theorem q1325 : (Jvm.Cond.selects "Dialectdepot$Words" ({ cls := "Dialectdepot$Words", name := "hasNext", desc := "()Z" } : Jvm.MethodName) ({ cls := "Dialectdepot$Words", name := "hasNext", desc := "()Z" } : Jvm.MethodName)) ∈ lw_all := lw_g (lw_at lw_m6 60 rfl) rfl
theorem q1326 : (Jvm.Cond.code ({ cls := "Dialectdepot$Words", name := "hasNext", desc := "()Z" } : Jvm.MethodName) prog_20_method_2_code (1 : Nat) (Option.some Jvm.ClassFile.FieldType.boolean)) ∈ lw_all := lw_g (lw_at lw_m6 61 rfl) rfl
theorem q1327 : (Jvm.Cond.methodLink "Dialectdepot$Words" (23 : Nat) ({ cls := "java/lang/StringBuilder", name := "length", desc := "()I" } : Jvm.MethodName)) ∈ lw_all := lw_g (lw_at lw_m6 62 rfl) rfl
theorem q1328 : (Jvm.Cond.methodLink "Dialectdepot$Words" (29 : Nat) ({ cls := "java/lang/StringBuilder", name := "charAt", desc := "(I)C" } : Jvm.MethodName)) ∈ lw_all := lw_g (lw_at lw_m6 63 rfl) rfl
theorem q1329 : (Jvm.Cond.classLink "Dialectdepot$Words" (49 : Nat) "Dialectdepot$Fault") ∈ lw_all := lw_g (lw_at lw_m6 64 rfl) rfl
theorem q1338 : (Jvm.Cond.methodLink "Dialectdepot$Words" (51 : Nat) ({ cls := "Dialectdepot$Fault", name := "<init>", desc := "(II)V" } : Jvm.MethodName)) ∈ lw_all := lw_g (lw_at lw_m6 73 rfl) rfl
theorem q1350 : (Jvm.Cond.methodLink "Dialectdepot$Words" (54 : Nat) ({ cls := "Dialectdepot$Words", name := "next", desc := "()LDialectdepot$Word;" } : Jvm.MethodName)) ∈ lw_all := lw_g (lw_at lw_m6 85 rfl) rfl
theorem q1351 : (Jvm.Cond.instanceMethod ({ cls := "Dialectdepot$Words", name := "next", desc := "()LDialectdepot$Word;" } : Jvm.MethodName)) ∈ lw_all := lw_g (lw_at lw_m6 86 rfl) rfl
theorem q1352 : (Jvm.Cond.selects "Dialectdepot$Words" ({ cls := "Dialectdepot$Words", name := "next", desc := "()LDialectdepot$Word;" } : Jvm.MethodName) ({ cls := "Dialectdepot$Words", name := "next", desc := "()LDialectdepot$Word;" } : Jvm.MethodName)) ∈ lw_all := lw_g (lw_at lw_m6 87 rfl) rfl
theorem q1353 : (Jvm.Cond.code ({ cls := "Dialectdepot$Words", name := "next", desc := "()LDialectdepot$Word;" } : Jvm.MethodName) prog_20_method_3_code (2 : Nat) (Option.some (Jvm.ClassFile.FieldType.object "Dialectdepot$Word"))) ∈ lw_all := lw_g (lw_at lw_m6 88 rfl) rfl
theorem q1354 : (Jvm.Cond.classLink "Dialectdepot$Words" (37 : Nat) "java/util/NoSuchElementException") ∈ lw_all := lw_g (lw_at lw_m6 89 rfl) rfl
theorem q1363 : (Jvm.Cond.methodLink "Dialectdepot$Words" (39 : Nat) ({ cls := "java/util/NoSuchElementException", name := "<init>", desc := "()V" } : Jvm.MethodName)) ∈ lw_all := lw_g (lw_at lw_m6 98 rfl) rfl
theorem q1369 : (Jvm.Cond.classLink "Dialectdepot$Words" (40 : Nat) "Dialectdepot$Word") ∈ lw_all := lw_g (lw_at lw_m6 104 rfl) rfl
theorem q1371 : (Jvm.Cond.methodLink "Dialectdepot$Words" (42 : Nat) ({ cls := "java/lang/StringBuilder", name := "substring", desc := "(II)Ljava/lang/String;" } : Jvm.MethodName)) ∈ lw_all := lw_g (lw_at lw_m6 106 rfl) rfl
theorem q1397 : (Jvm.Cond.methodLinkNest "Dialectdepot$Words" (46 : Nat) ({ cls := "Dialectdepot$Word", name := "<init>", desc := "(ILjava/lang/String;)V" } : Jvm.MethodName) "Dialectdepot") ∈ lw_tbl := lw_at lw_m6 132 rfl
theorem q2457 : (Jvm.Cond.castable "Dialectdepot$Words" "java/lang/Object") ∈ lw_tbl := lw_at lw_m10 232 rfl
theorem in_X9 : ∀ w ∈ wsX90, w ∈ lw_all := lw_in wsX90 [1287, 1289] (by decide +kernel) (by decide +kernel)
/-! Dialectdepot$Address -/
set_option maxRecDepth 100000
def RX10 : String := "Dialectdepot$Address"
def TX10 : u_T := fun k => match k with
  | 0 => ("Dialectdepot$Address", "wanted", "[I", true)
  | 1 => ("Dialectdepot$Address", "many", "I", false)
  | _ => ("Dialectdepot$Address", "unwanted", "I", false)
def tyX10 : Nat → FieldType := fun k => match k with
  | 0 => .array .int
  | 1 => .int
  | _ => .int
abbrev wsX100 : List Cond := u_ws RX10 TX10 3
theorem nmX10 : ∀ a, a < 3 → ∀ b, b < 3 → a ≠ b → (TX10 a).2.1 ≠ (TX10 b).2.1 := by decide +kernel
theorem tyX10_ok : ∀ k, k < 3 → parseFieldDescriptor (TX10 k).2.2.1 = some (tyX10 k) := by decide +kernel
abbrev cX10_init : ByteArray := prog_2_method_1_code
def yX10_init : MethodName := ⟨RX10, "<init>", "()V"⟩
def dkwX10_init_0 : List UInt8 := [42, 183, 0, 3, 42, 6, 188, 10, 181, 0, 9, 42, 2, 181, 0, 15, 177]
abbrev dktX10_init_0 : List UInt8 := dkwX10_init_0 ++ []
theorem dksX10_init_0 : cX10_init.data.toList.drop 0 = dktX10_init_0 := by decide +kernel
theorem dX10_init_0 : decode cX10_init 0 = .ok (.aload_n 0, 1) := dk_42 (dk_at dksX10_init_0 0 rfl rfl)
theorem dX10_init_1 : decode cX10_init 1 = .ok (.invokespecial 3, 3) := dk_183 0 3 (dk_at dksX10_init_0 1 rfl rfl)
theorem dX10_init_4 : decode cX10_init 4 = .ok (.aload_n 0, 1) := dk_42 (dk_at dksX10_init_0 4 rfl rfl)
theorem dX10_init_5 : decode cX10_init 5 = .ok (.iconst 3, 1) := dk_6 (dk_at dksX10_init_0 5 rfl rfl)
theorem dX10_init_6 : decode cX10_init 6 = .ok (.newarray .int, 2) := dk_188_10 (dk_at dksX10_init_0 6 rfl rfl)
theorem dX10_init_8 : decode cX10_init 8 = .ok (.putfield 9, 3) := dk_181 0 9 (dk_at dksX10_init_0 8 rfl rfl)
theorem dX10_init_11 : decode cX10_init 11 = .ok (.aload_n 0, 1) := dk_42 (dk_at dksX10_init_0 11 rfl rfl)
theorem dX10_init_12 : decode cX10_init 12 = .ok (.iconst (-1), 1) := dk_2 (dk_at dksX10_init_0 12 rfl rfl)
theorem dX10_init_13 : decode cX10_init 13 = .ok (.putfield 15, 3) := dk_181 0 15 (dk_at dksX10_init_0 13 rfl rfl)
theorem dX10_init_16 : decode cX10_init 16 = .ok (.return_, 1) := dk_177 (dk_at dksX10_init_0 16 rfl rfl)
abbrev cX10_wants : ByteArray := prog_2_method_2_code
def yX10_wants : MethodName := ⟨RX10, "wants", "(I)Z"⟩
def dkwX10_wants_1 : List UInt8 := [160, 0, 7, 4, 167, 0, 4, 3, 61, 132, 3, 1, 167, 255, 225, 28, 172]
abbrev dktX10_wants_1 : List UInt8 := dkwX10_wants_1 ++ []
def dkwX10_wants_0 : List UInt8 := [3, 61, 3, 62, 29, 42, 180, 0, 19, 162, 0, 29, 28, 154, 0, 13, 42, 180, 0, 9, 29, 46, 27]
abbrev dktX10_wants_0 : List UInt8 := dkwX10_wants_0 ++ dktX10_wants_1
theorem dksX10_wants_0 : cX10_wants.data.toList.drop 0 = dktX10_wants_0 := by decide +kernel
theorem dksX10_wants_1 : cX10_wants.data.toList.drop 23 = dktX10_wants_1 := dk_seg dksX10_wants_0 23 rfl rfl
theorem dX10_wants_0 : decode cX10_wants 0 = .ok (.iconst 0, 1) := dk_3 (dk_at dksX10_wants_0 0 rfl rfl)
theorem dX10_wants_1 : decode cX10_wants 1 = .ok (.istore_n 2, 1) := dk_61 (dk_at dksX10_wants_0 1 rfl rfl)
theorem dX10_wants_2 : decode cX10_wants 2 = .ok (.iconst 0, 1) := dk_3 (dk_at dksX10_wants_0 2 rfl rfl)
theorem dX10_wants_3 : decode cX10_wants 3 = .ok (.istore_n 3, 1) := dk_62 (dk_at dksX10_wants_0 3 rfl rfl)
theorem dX10_wants_4 : decode cX10_wants 4 = .ok (.iload_n 3, 1) := dk_29 (dk_at dksX10_wants_0 4 rfl rfl)
theorem dX10_wants_5 : decode cX10_wants 5 = .ok (.aload_n 0, 1) := dk_42 (dk_at dksX10_wants_0 5 rfl rfl)
theorem dX10_wants_6 : decode cX10_wants 6 = .ok (.getfield 19, 3) := dk_180 0 19 (dk_at dksX10_wants_0 6 rfl rfl)
theorem dX10_wants_9 : decode cX10_wants 9 = .ok (.if_icmp .ge 29, 3) := dk_162 0 29 (dk_at dksX10_wants_0 9 rfl rfl)
theorem dX10_wants_12 : decode cX10_wants 12 = .ok (.iload_n 2, 1) := dk_28 (dk_at dksX10_wants_0 12 rfl rfl)
theorem dX10_wants_13 : decode cX10_wants 13 = .ok (.ifCond .ne 13, 3) := dk_154 0 13 (dk_at dksX10_wants_0 13 rfl rfl)
theorem dX10_wants_16 : decode cX10_wants 16 = .ok (.aload_n 0, 1) := dk_42 (dk_at dksX10_wants_0 16 rfl rfl)
theorem dX10_wants_17 : decode cX10_wants 17 = .ok (.getfield 9, 3) := dk_180 0 9 (dk_at dksX10_wants_0 17 rfl rfl)
theorem dX10_wants_20 : decode cX10_wants 20 = .ok (.iload_n 3, 1) := dk_29 (dk_at dksX10_wants_0 20 rfl rfl)
theorem dX10_wants_21 : decode cX10_wants 21 = .ok (.iaload, 1) := dk_46 (dk_at dksX10_wants_0 21 rfl rfl)
theorem dX10_wants_22 : decode cX10_wants 22 = .ok (.iload_n 1, 1) := dk_27 (dk_at dksX10_wants_0 22 rfl rfl)
theorem dX10_wants_23 : decode cX10_wants 23 = .ok (.if_icmp .ne 7, 3) := dk_160 0 7 (dk_at dksX10_wants_1 0 rfl rfl)
theorem dX10_wants_26 : decode cX10_wants 26 = .ok (.iconst 1, 1) := dk_4 (dk_at dksX10_wants_1 3 rfl rfl)
theorem dX10_wants_27 : decode cX10_wants 27 = .ok (.goto 4, 3) := dk_167 0 4 (dk_at dksX10_wants_1 4 rfl rfl)
theorem dX10_wants_30 : decode cX10_wants 30 = .ok (.iconst 0, 1) := dk_3 (dk_at dksX10_wants_1 7 rfl rfl)
theorem dX10_wants_31 : decode cX10_wants 31 = .ok (.istore_n 2, 1) := dk_61 (dk_at dksX10_wants_1 8 rfl rfl)
theorem dX10_wants_32 : decode cX10_wants 32 = .ok (.iinc 3 1, 3) := dk_132 3 1 (dk_at dksX10_wants_1 9 rfl rfl)
theorem dX10_wants_35 : decode cX10_wants 35 = .ok (.goto (-31), 3) := dk_167 255 225 (dk_at dksX10_wants_1 12 rfl rfl)
theorem dX10_wants_38 : decode cX10_wants 38 = .ok (.iload_n 2, 1) := dk_28 (dk_at dksX10_wants_1 15 rfl rfl)
theorem dX10_wants_39 : decode cX10_wants 39 = .ok (.ireturn, 1) := dk_172 (dk_at dksX10_wants_1 16 rfl rfl)
theorem q100 : (Jvm.Cond.initialized "Dialectdepot$Address") ∈ lw_all := lw_g (lw_at lw_m1 35 rfl) rfl
theorem q856 : (Jvm.Cond.selects "Dialectdepot$Address" ({ cls := "java/lang/Object", name := "getClass", desc := "()Ljava/lang/Class;" } : Jvm.MethodName) ({ cls := "java/lang/Object", name := "getClass", desc := "()Ljava/lang/Class;" } : Jvm.MethodName)) ∈ lw_all := lw_g (lw_at lw_m4 71 rfl) rfl
theorem q1293 : (Jvm.Cond.instantiable "Dialectdepot$Address" (3 : Nat)) ∈ lw_all := lw_g (lw_at lw_m6 28 rfl) rfl
theorem q1295 : (Jvm.Cond.instanceMethod ({ cls := "Dialectdepot$Address", name := "<init>", desc := "()V" } : Jvm.MethodName)) ∈ lw_all := lw_g (lw_at lw_m6 30 rfl) rfl
theorem q1296 : (Jvm.Cond.code ({ cls := "Dialectdepot$Address", name := "<init>", desc := "()V" } : Jvm.MethodName) prog_2_method_1_code (1 : Nat) (Option.none : Option Jvm.ClassFile.FieldType)) ∈ lw_all := lw_g (lw_at lw_m6 31 rfl) rfl
theorem q1297 : (Jvm.Cond.methodLink "Dialectdepot$Address" (3 : Nat) ({ cls := "java/lang/Object", name := "<init>", desc := "()V" } : Jvm.MethodName)) ∈ lw_all := lw_g (lw_at lw_m6 32 rfl) rfl
theorem q1298 : (Jvm.Cond.fieldLink "Dialectdepot$Address" (9 : Nat) "Dialectdepot$Address" "wanted" "[I") ∈ lw_all := lw_g (lw_at lw_m6 33 rfl) rfl
theorem q1301 : (Jvm.Cond.fieldLink "Dialectdepot$Address" (19 : Nat) "Dialectdepot$Address" "many" "I") ∈ lw_all := lw_g (lw_at lw_m6 36 rfl) rfl
theorem q1304 : (Jvm.Cond.fieldLink "Dialectdepot$Address" (15 : Nat) "Dialectdepot$Address" "unwanted" "I") ∈ lw_all := lw_g (lw_at lw_m6 39 rfl) rfl
theorem q1306 : (Jvm.Cond.laysFinal "Dialectdepot$Address" "Dialectdepot$Address" "wanted" "[I") ∈ lw_all := lw_g (lw_at lw_m6 41 rfl) rfl
theorem q1307 : (Jvm.Cond.soleField "Dialectdepot$Address" "wanted") ∈ lw_all := lw_g (lw_at lw_m6 42 rfl) rfl
theorem q1308 : (Jvm.Cond.lays "Dialectdepot$Address" "Dialectdepot$Address" "many" "I") ∈ lw_all := lw_g (lw_at lw_m6 43 rfl) rfl
theorem q1309 : (Jvm.Cond.soleField "Dialectdepot$Address" "many") ∈ lw_all := lw_g (lw_at lw_m6 44 rfl) rfl
theorem q1310 : (Jvm.Cond.lays "Dialectdepot$Address" "Dialectdepot$Address" "unwanted" "I") ∈ lw_all := lw_g (lw_at lw_m6 45 rfl) rfl
theorem q1311 : (Jvm.Cond.soleField "Dialectdepot$Address" "unwanted") ∈ lw_all := lw_g (lw_at lw_m6 46 rfl) rfl
theorem q1312 : (Jvm.Cond.superclass "Dialectdepot$Address" "java/lang/Object") ∈ lw_all := lw_g (lw_at lw_m6 47 rfl) rfl
theorem q1431 : (Jvm.Cond.instanceMethod ({ cls := "Dialectdepot$Address", name := "wants", desc := "(I)Z" } : Jvm.MethodName)) ∈ lw_all := lw_g (lw_at lw_m6 166 rfl) rfl
theorem q1432 : (Jvm.Cond.selects "Dialectdepot$Address" ({ cls := "Dialectdepot$Address", name := "wants", desc := "(I)Z" } : Jvm.MethodName) ({ cls := "Dialectdepot$Address", name := "wants", desc := "(I)Z" } : Jvm.MethodName)) ∈ lw_all := lw_g (lw_at lw_m6 167 rfl) rfl
theorem q1433 : (Jvm.Cond.code ({ cls := "Dialectdepot$Address", name := "wants", desc := "(I)Z" } : Jvm.MethodName) prog_2_method_2_code (4 : Nat) (Option.some Jvm.ClassFile.FieldType.boolean)) ∈ lw_all := lw_g (lw_at lw_m6 168 rfl) rfl
theorem q2458 : (Jvm.Cond.castable "Dialectdepot$Address" "java/lang/Object") ∈ lw_tbl := lw_at lw_m10 233 rfl
theorem in_X10 : ∀ w ∈ wsX100, w ∈ lw_all := lw_in wsX100 [1306, 1308, 1310] (by decide +kernel) (by decide +kernel)
/-! Dialectdepot$Fault -/
set_option maxRecDepth 100000
def RX11 : String := "Dialectdepot$Fault"
def TX11 : u_T := fun k => match k with
  | 0 => ("java/lang/Throwable", "cause", "Ljava/lang/Throwable;", false)
  | 1 => ("java/lang/Throwable", "stackTrace", "[Ljava/lang/StackTraceElement;", false)
  | 2 => ("java/lang/Throwable", "suppressedExceptions", "Ljava/util/List;", false)
  | 3 => ("java/lang/Throwable", "detailMessage", "Ljava/lang/String;", false)
  | 4 => ("java/lang/Throwable", "backtrace", "Ljava/lang/Object;", false)
  | 5 => ("java/lang/Throwable", "depth", "I", false)
  | 6 => ("Dialectdepot$Fault", "place", "I", true)
  | _ => ("Dialectdepot$Fault", "kind", "I", true)
def tyX11 : Nat → FieldType := fun k => match k with
  | 0 => .object "java/lang/Throwable"
  | 1 => .array (.object "java/lang/StackTraceElement")
  | 2 => .object "java/util/List"
  | 3 => .object "java/lang/String"
  | 4 => .object "java/lang/Object"
  | 5 => .int
  | 6 => .int
  | _ => .int
abbrev wsX110 : List Cond := u_ws RX11 TX11 8
theorem nmX11 : ∀ a, a < 8 → ∀ b, b < 8 → a ≠ b → (TX11 a).2.1 ≠ (TX11 b).2.1 := by decide +kernel
theorem tyX11_ok : ∀ k, k < 8 → parseFieldDescriptor (TX11 k).2.2.1 = some (tyX11 k) := by decide +kernel
abbrev cX11_init : ByteArray := prog_8_method_1_code
def yX11_init : MethodName := ⟨RX11, "<init>", "(II)V"⟩
def dkwX11_init_0 : List UInt8 := [42, 183, 0, 3, 42, 27, 181, 0, 9, 42, 28, 181, 0, 15, 177]
abbrev dktX11_init_0 : List UInt8 := dkwX11_init_0 ++ []
theorem dksX11_init_0 : cX11_init.data.toList.drop 0 = dktX11_init_0 := by decide +kernel
theorem dX11_init_0 : decode cX11_init 0 = .ok (.aload_n 0, 1) := dk_42 (dk_at dksX11_init_0 0 rfl rfl)
theorem dX11_init_1 : decode cX11_init 1 = .ok (.invokespecial 3, 3) := dk_183 0 3 (dk_at dksX11_init_0 1 rfl rfl)
theorem dX11_init_4 : decode cX11_init 4 = .ok (.aload_n 0, 1) := dk_42 (dk_at dksX11_init_0 4 rfl rfl)
theorem dX11_init_5 : decode cX11_init 5 = .ok (.iload_n 1, 1) := dk_27 (dk_at dksX11_init_0 5 rfl rfl)
theorem dX11_init_6 : decode cX11_init 6 = .ok (.putfield 9, 3) := dk_181 0 9 (dk_at dksX11_init_0 6 rfl rfl)
theorem dX11_init_9 : decode cX11_init 9 = .ok (.aload_n 0, 1) := dk_42 (dk_at dksX11_init_0 9 rfl rfl)
theorem dX11_init_10 : decode cX11_init 10 = .ok (.iload_n 2, 1) := dk_28 (dk_at dksX11_init_0 10 rfl rfl)
theorem dX11_init_11 : decode cX11_init 11 = .ok (.putfield 15, 3) := dk_181 0 15 (dk_at dksX11_init_0 11 rfl rfl)
theorem dX11_init_14 : decode cX11_init 14 = .ok (.return_, 1) := dk_177 (dk_at dksX11_init_0 14 rfl rfl)
abbrev cX11_init_2 : ByteArray := prog_8_method_2_code
def yX11_init_2 : MethodName := ⟨RX11, "<init>", "(ILjava/lang/Exception;)V"⟩
def dkwX11_init_2_0 : List UInt8 := [42, 1, 44, 183, 0, 18, 42, 27, 181, 0, 9, 42, 2, 181, 0, 15, 177]
abbrev dktX11_init_2_0 : List UInt8 := dkwX11_init_2_0 ++ []
theorem dksX11_init_2_0 : cX11_init_2.data.toList.drop 0 = dktX11_init_2_0 := by decide +kernel
theorem dX11_init_2_0 : decode cX11_init_2 0 = .ok (.aload_n 0, 1) := dk_42 (dk_at dksX11_init_2_0 0 rfl rfl)
theorem dX11_init_2_1 : decode cX11_init_2 1 = .ok (.aconst_null, 1) := dk_1 (dk_at dksX11_init_2_0 1 rfl rfl)
theorem dX11_init_2_2 : decode cX11_init_2 2 = .ok (.aload_n 2, 1) := dk_44 (dk_at dksX11_init_2_0 2 rfl rfl)
theorem dX11_init_2_3 : decode cX11_init_2 3 = .ok (.invokespecial 18, 3) := dk_183 0 18 (dk_at dksX11_init_2_0 3 rfl rfl)
theorem dX11_init_2_6 : decode cX11_init_2 6 = .ok (.aload_n 0, 1) := dk_42 (dk_at dksX11_init_2_0 6 rfl rfl)
theorem dX11_init_2_7 : decode cX11_init_2 7 = .ok (.iload_n 1, 1) := dk_27 (dk_at dksX11_init_2_0 7 rfl rfl)
theorem dX11_init_2_8 : decode cX11_init_2 8 = .ok (.putfield 9, 3) := dk_181 0 9 (dk_at dksX11_init_2_0 8 rfl rfl)
theorem dX11_init_2_11 : decode cX11_init_2 11 = .ok (.aload_n 0, 1) := dk_42 (dk_at dksX11_init_2_0 11 rfl rfl)
theorem dX11_init_2_12 : decode cX11_init_2 12 = .ok (.iconst (-1), 1) := dk_2 (dk_at dksX11_init_2_0 12 rfl rfl)
theorem dX11_init_2_13 : decode cX11_init_2 13 = .ok (.putfield 15, 3) := dk_181 0 15 (dk_at dksX11_init_2_0 13 rfl rfl)
theorem dX11_init_2_16 : decode cX11_init_2 16 = .ok (.return_, 1) := dk_177 (dk_at dksX11_init_2_0 16 rfl rfl)
abbrev cX11_told : ByteArray := prog_8_method_3_code
def yX11_told : MethodName := ⟨RX11, "told", "()I"⟩
def dkwX11_told_1 : List UInt8 := [182, 0, 21, 193, 0, 27, 153, 0, 7, 6, 167, 0, 7, 42, 180, 0, 15, 100, 172]
abbrev dktX11_told_1 : List UInt8 := dkwX11_told_1 ++ []
def dkwX11_told_0 : List UInt8 := [16, 246, 42, 180, 0, 9, 104, 42, 182, 0, 21, 193, 0, 25, 153, 0, 7, 5, 167, 0, 21, 42]
abbrev dktX11_told_0 : List UInt8 := dkwX11_told_0 ++ dktX11_told_1
theorem dksX11_told_0 : cX11_told.data.toList.drop 0 = dktX11_told_0 := by decide +kernel
theorem dksX11_told_1 : cX11_told.data.toList.drop 22 = dktX11_told_1 := dk_seg dksX11_told_0 22 rfl rfl
theorem dX11_told_0 : decode cX11_told 0 = .ok (.bipush (-10), 2) := dk_16 246 (dk_at dksX11_told_0 0 rfl rfl)
theorem dX11_told_2 : decode cX11_told 2 = .ok (.aload_n 0, 1) := dk_42 (dk_at dksX11_told_0 2 rfl rfl)
theorem dX11_told_3 : decode cX11_told 3 = .ok (.getfield 9, 3) := dk_180 0 9 (dk_at dksX11_told_0 3 rfl rfl)
theorem dX11_told_6 : decode cX11_told 6 = .ok (.imul, 1) := dk_104 (dk_at dksX11_told_0 6 rfl rfl)
theorem dX11_told_7 : decode cX11_told 7 = .ok (.aload_n 0, 1) := dk_42 (dk_at dksX11_told_0 7 rfl rfl)
theorem dX11_told_8 : decode cX11_told 8 = .ok (.invokevirtual 21, 3) := dk_182 0 21 (dk_at dksX11_told_0 8 rfl rfl)
theorem dX11_told_11 : decode cX11_told 11 = .ok (.instanceof 25, 3) := dk_193 0 25 (dk_at dksX11_told_0 11 rfl rfl)
theorem dX11_told_14 : decode cX11_told 14 = .ok (.ifCond .eq 7, 3) := dk_153 0 7 (dk_at dksX11_told_0 14 rfl rfl)
theorem dX11_told_17 : decode cX11_told 17 = .ok (.iconst 2, 1) := dk_5 (dk_at dksX11_told_0 17 rfl rfl)
theorem dX11_told_18 : decode cX11_told 18 = .ok (.goto 21, 3) := dk_167 0 21 (dk_at dksX11_told_0 18 rfl rfl)
theorem dX11_told_21 : decode cX11_told 21 = .ok (.aload_n 0, 1) := dk_42 (dk_at dksX11_told_0 21 rfl rfl)
theorem dX11_told_22 : decode cX11_told 22 = .ok (.invokevirtual 21, 3) := dk_182 0 21 (dk_at dksX11_told_1 0 rfl rfl)
theorem dX11_told_25 : decode cX11_told 25 = .ok (.instanceof 27, 3) := dk_193 0 27 (dk_at dksX11_told_1 3 rfl rfl)
theorem dX11_told_28 : decode cX11_told 28 = .ok (.ifCond .eq 7, 3) := dk_153 0 7 (dk_at dksX11_told_1 6 rfl rfl)
theorem dX11_told_31 : decode cX11_told 31 = .ok (.iconst 3, 1) := dk_6 (dk_at dksX11_told_1 9 rfl rfl)
theorem dX11_told_32 : decode cX11_told 32 = .ok (.goto 7, 3) := dk_167 0 7 (dk_at dksX11_told_1 10 rfl rfl)
theorem dX11_told_35 : decode cX11_told 35 = .ok (.aload_n 0, 1) := dk_42 (dk_at dksX11_told_1 13 rfl rfl)
theorem dX11_told_36 : decode cX11_told 36 = .ok (.getfield 15, 3) := dk_180 0 15 (dk_at dksX11_told_1 14 rfl rfl)
theorem dX11_told_39 : decode cX11_told 39 = .ok (.isub, 1) := dk_100 (dk_at dksX11_told_1 17 rfl rfl)
theorem dX11_told_40 : decode cX11_told 40 = .ok (.ireturn, 1) := dk_172 (dk_at dksX11_told_1 18 rfl rfl)
theorem q101 : (Jvm.Cond.initialized "Dialectdepot$Fault") ∈ lw_all := lw_g (lw_at lw_m1 36 rfl) rfl
theorem q473 : (Jvm.Cond.selects "Dialectdepot$Fault" ({ cls := "java/lang/Throwable", name := "fillInStackTrace", desc := "()Ljava/lang/Throwable;" } : Jvm.MethodName) ({ cls := "java/lang/Throwable", name := "fillInStackTrace", desc := "()Ljava/lang/Throwable;" } : Jvm.MethodName)) ∈ lw_all := lw_g (lw_at lw_m2 168 rfl) rfl
theorem q860 : (Jvm.Cond.selects "Dialectdepot$Fault" ({ cls := "java/lang/Object", name := "getClass", desc := "()Ljava/lang/Class;" } : Jvm.MethodName) ({ cls := "java/lang/Object", name := "getClass", desc := "()Ljava/lang/Class;" } : Jvm.MethodName)) ∈ lw_all := lw_g (lw_at lw_m4 75 rfl) rfl
theorem q1330 : (Jvm.Cond.instantiable "Dialectdepot$Fault" (8 : Nat)) ∈ lw_all := lw_g (lw_at lw_m6 65 rfl) rfl
theorem q1331 : (Jvm.Cond.castable "Dialectdepot$Fault" "Dialectdepot$Fault") ∈ lw_tbl := lw_at lw_m6 66 rfl
theorem q1332 : (Jvm.Cond.selects "Dialectdepot$Fault" ({ cls := "java/lang/Throwable", name := "fillInStackTrace", desc := "(I)Ljava/lang/Throwable;" } : Jvm.MethodName) ({ cls := "java/lang/Throwable", name := "fillInStackTrace", desc := "(I)Ljava/lang/Throwable;" } : Jvm.MethodName)) ∈ lw_all := lw_g (lw_at lw_m6 67 rfl) rfl
theorem q1333 : (Jvm.Cond.lays "Dialectdepot$Fault" "java/lang/Throwable" "cause" "Ljava/lang/Throwable;") ∈ lw_all := lw_g (lw_at lw_m6 68 rfl) rfl
theorem q1334 : (Jvm.Cond.lays "Dialectdepot$Fault" "java/lang/Throwable" "stackTrace" "[Ljava/lang/StackTraceElement;") ∈ lw_all := lw_g (lw_at lw_m6 69 rfl) rfl
theorem q1335 : (Jvm.Cond.lays "Dialectdepot$Fault" "java/lang/Throwable" "suppressedExceptions" "Ljava/util/List;") ∈ lw_all := lw_g (lw_at lw_m6 70 rfl) rfl
theorem q1336 : (Jvm.Cond.lays "Dialectdepot$Fault" "java/lang/Throwable" "detailMessage" "Ljava/lang/String;") ∈ lw_all := lw_g (lw_at lw_m6 71 rfl) rfl
theorem q1337 : (Jvm.Cond.lays "Dialectdepot$Fault" "java/lang/Throwable" "backtrace" "Ljava/lang/Object;") ∈ lw_all := lw_g (lw_at lw_m6 72 rfl) rfl
theorem q1339 : (Jvm.Cond.instanceMethod ({ cls := "Dialectdepot$Fault", name := "<init>", desc := "(II)V" } : Jvm.MethodName)) ∈ lw_all := lw_g (lw_at lw_m6 74 rfl) rfl
theorem q1340 : (Jvm.Cond.code ({ cls := "Dialectdepot$Fault", name := "<init>", desc := "(II)V" } : Jvm.MethodName) prog_8_method_1_code (3 : Nat) (Option.none : Option Jvm.ClassFile.FieldType)) ∈ lw_all := lw_g (lw_at lw_m6 75 rfl) rfl
theorem q1341 : (Jvm.Cond.methodLink "Dialectdepot$Fault" (3 : Nat) ({ cls := "java/lang/Exception", name := "<init>", desc := "()V" } : Jvm.MethodName)) ∈ lw_all := lw_g (lw_at lw_m6 76 rfl) rfl
theorem q1342 : (Jvm.Cond.fieldLink "Dialectdepot$Fault" (9 : Nat) "Dialectdepot$Fault" "place" "I") ∈ lw_all := lw_g (lw_at lw_m6 77 rfl) rfl
theorem q1343 : (Jvm.Cond.fieldLink "Dialectdepot$Fault" (15 : Nat) "Dialectdepot$Fault" "kind" "I") ∈ lw_all := lw_g (lw_at lw_m6 78 rfl) rfl
theorem q1344 : (Jvm.Cond.laysFinal "Dialectdepot$Fault" "Dialectdepot$Fault" "place" "I") ∈ lw_all := lw_g (lw_at lw_m6 79 rfl) rfl
theorem q1345 : (Jvm.Cond.soleField "Dialectdepot$Fault" "place") ∈ lw_all := lw_g (lw_at lw_m6 80 rfl) rfl
theorem q1346 : (Jvm.Cond.laysFinal "Dialectdepot$Fault" "Dialectdepot$Fault" "kind" "I") ∈ lw_all := lw_g (lw_at lw_m6 81 rfl) rfl
theorem q1347 : (Jvm.Cond.soleField "Dialectdepot$Fault" "kind") ∈ lw_all := lw_g (lw_at lw_m6 82 rfl) rfl
theorem q1348 : (Jvm.Cond.lays "Dialectdepot$Fault" "java/lang/Throwable" "depth" "I") ∈ lw_all := lw_g (lw_at lw_m6 83 rfl) rfl
theorem q1349 : (Jvm.Cond.superclass "Dialectdepot$Fault" "java/lang/Exception") ∈ lw_all := lw_g (lw_at lw_m6 84 rfl) rfl
theorem q1453 : (Jvm.Cond.instanceMethod ({ cls := "Dialectdepot$Fault", name := "<init>", desc := "(ILjava/lang/Exception;)V" } : Jvm.MethodName)) ∈ lw_all := lw_g (lw_at lw_m6 188 rfl) rfl
theorem q1454 : (Jvm.Cond.code ({ cls := "Dialectdepot$Fault", name := "<init>", desc := "(ILjava/lang/Exception;)V" } : Jvm.MethodName) prog_8_method_2_code (3 : Nat) (Option.none : Option Jvm.ClassFile.FieldType)) ∈ lw_all := lw_g (lw_at lw_m6 189 rfl) rfl
theorem q1455 : (Jvm.Cond.methodLink "Dialectdepot$Fault" (18 : Nat) ({ cls := "java/lang/Exception", name := "<init>", desc := "(Ljava/lang/String;Ljava/lang/Throwable;)V" } : Jvm.MethodName)) ∈ lw_all := lw_g (lw_at lw_m6 190 rfl) rfl
theorem q1522 : (Jvm.Cond.instanceMethod ({ cls := "Dialectdepot$Fault", name := "told", desc := "()I" } : Jvm.MethodName)) ∈ lw_all := lw_g (lw_at lw_m7 17 rfl) rfl
theorem q1523 : (Jvm.Cond.selects "Dialectdepot$Fault" ({ cls := "Dialectdepot$Fault", name := "told", desc := "()I" } : Jvm.MethodName) ({ cls := "Dialectdepot$Fault", name := "told", desc := "()I" } : Jvm.MethodName)) ∈ lw_all := lw_g (lw_at lw_m7 18 rfl) rfl
theorem q1524 : (Jvm.Cond.code ({ cls := "Dialectdepot$Fault", name := "told", desc := "()I" } : Jvm.MethodName) prog_8_method_3_code (1 : Nat) (Option.some Jvm.ClassFile.FieldType.int)) ∈ lw_all := lw_g (lw_at lw_m7 19 rfl) rfl
theorem q1525 : (Jvm.Cond.methodLink "Dialectdepot$Fault" (21 : Nat) ({ cls := "Dialectdepot$Fault", name := "getCause", desc := "()Ljava/lang/Throwable;" } : Jvm.MethodName)) ∈ lw_all := lw_g (lw_at lw_m7 20 rfl) rfl
theorem q1526 : (Jvm.Cond.sameMethod "Dialectdepot$Fault" "java/lang/Throwable" "getCause" "()Ljava/lang/Throwable;") ∈ lw_all := lw_g (lw_at lw_m7 21 rfl) rfl
theorem q1528 : (Jvm.Cond.selects "Dialectdepot$Fault" ({ cls := "Dialectdepot$Fault", name := "getCause", desc := "()Ljava/lang/Throwable;" } : Jvm.MethodName) ({ cls := "java/lang/Throwable", name := "getCause", desc := "()Ljava/lang/Throwable;" } : Jvm.MethodName)) ∈ lw_all := lw_g (lw_at lw_m7 23 rfl) rfl
theorem q1531 : (Jvm.Cond.classLink "Dialectdepot$Fault" (25 : Nat) "Dialectdepot$Strange") ∈ lw_all := lw_g (lw_at lw_m7 26 rfl) rfl
theorem q1532 : (Jvm.Cond.classLink "Dialectdepot$Fault" (27 : Nat) "Dialectdepot$Repeated") ∈ lw_all := lw_g (lw_at lw_m7 27 rfl) rfl
theorem q2459 : (Jvm.Cond.castable "Dialectdepot$Fault" "java/lang/Object") ∈ lw_tbl := lw_at lw_m10 234 rfl
theorem in_X11 : ∀ w ∈ wsX110, w ∈ lw_all := lw_in wsX110 [1333, 1334, 1335, 1336, 1337, 1348, 1344, 1346] (by decide +kernel) (by decide +kernel)
/-! Dialectdepot$Word -/
set_option maxRecDepth 100000
def RX12 : String := "Dialectdepot$Word"
def TX12 : u_T := fun k => match k with
  | 0 => ("Dialectdepot$Word", "place", "I", true)
  | _ => ("Dialectdepot$Word", "text", "Ljava/lang/String;", true)
def tyX12 : Nat → FieldType := fun k => match k with
  | 0 => .int
  | _ => .object "java/lang/String"
abbrev wsX120 : List Cond := u_ws RX12 TX12 2
theorem nmX12 : ∀ a, a < 2 → ∀ b, b < 2 → a ≠ b → (TX12 a).2.1 ≠ (TX12 b).2.1 := by decide +kernel
theorem tyX12_ok : ∀ k, k < 2 → parseFieldDescriptor (TX12 k).2.2.1 = some (tyX12 k) := by decide +kernel
abbrev cX12_init : ByteArray := prog_19_method_1_code
def yX12_init : MethodName := ⟨RX12, "<init>", "(ILjava/lang/String;)V"⟩
def dkwX12_init_0 : List UInt8 := [42, 183, 0, 1, 42, 27, 181, 0, 7, 42, 44, 181, 0, 13, 177]
abbrev dktX12_init_0 : List UInt8 := dkwX12_init_0 ++ []
theorem dksX12_init_0 : cX12_init.data.toList.drop 0 = dktX12_init_0 := by decide +kernel
theorem dX12_init_0 : decode cX12_init 0 = .ok (.aload_n 0, 1) := dk_42 (dk_at dksX12_init_0 0 rfl rfl)
theorem dX12_init_1 : decode cX12_init 1 = .ok (.invokespecial 1, 3) := dk_183 0 1 (dk_at dksX12_init_0 1 rfl rfl)
theorem dX12_init_4 : decode cX12_init 4 = .ok (.aload_n 0, 1) := dk_42 (dk_at dksX12_init_0 4 rfl rfl)
theorem dX12_init_5 : decode cX12_init 5 = .ok (.iload_n 1, 1) := dk_27 (dk_at dksX12_init_0 5 rfl rfl)
theorem dX12_init_6 : decode cX12_init 6 = .ok (.putfield 7, 3) := dk_181 0 7 (dk_at dksX12_init_0 6 rfl rfl)
theorem dX12_init_9 : decode cX12_init 9 = .ok (.aload_n 0, 1) := dk_42 (dk_at dksX12_init_0 9 rfl rfl)
theorem dX12_init_10 : decode cX12_init 10 = .ok (.aload_n 2, 1) := dk_44 (dk_at dksX12_init_0 10 rfl rfl)
theorem dX12_init_11 : decode cX12_init 11 = .ok (.putfield 13, 3) := dk_181 0 13 (dk_at dksX12_init_0 11 rfl rfl)
theorem dX12_init_14 : decode cX12_init 14 = .ok (.return_, 1) := dk_177 (dk_at dksX12_init_0 14 rfl rfl)
abbrev cX12_text : ByteArray := prog_19_method_7_code
def yX12_text : MethodName := ⟨RX12, "text", "()Ljava/lang/String;"⟩
theorem dX12_text_0 : decode cX12_text 0 = .ok (.aload_n 0, 1) := by decide +kernel
theorem dX12_text_1 : decode cX12_text 1 = .ok (.getfield 13, 3) := by decide +kernel
theorem dX12_text_4 : decode cX12_text 4 = .ok (.areturn, 1) := by decide +kernel
abbrev cX12_place : ByteArray := prog_19_method_6_code
def yX12_place : MethodName := ⟨RX12, "place", "()I"⟩
theorem dX12_place_0 : decode cX12_place 0 = .ok (.aload_n 0, 1) := by decide +kernel
theorem dX12_place_1 : decode cX12_place 1 = .ok (.getfield 7, 3) := by decide +kernel
theorem dX12_place_4 : decode cX12_place 4 = .ok (.ireturn, 1) := by decide +kernel
abbrev cX12_is : ByteArray := prog_19_method_2_code
def yX12_is : MethodName := ⟨RX12, "is", "(Ljava/lang/String;)Z"⟩
def dkwX12_is_0 : List UInt8 := [42, 180, 0, 13, 43, 182, 0, 17, 172]
abbrev dktX12_is_0 : List UInt8 := dkwX12_is_0 ++ []
theorem dksX12_is_0 : cX12_is.data.toList.drop 0 = dktX12_is_0 := by decide +kernel
theorem dX12_is_0 : decode cX12_is 0 = .ok (.aload_n 0, 1) := dk_42 (dk_at dksX12_is_0 0 rfl rfl)
theorem dX12_is_1 : decode cX12_is 1 = .ok (.getfield 13, 3) := dk_180 0 13 (dk_at dksX12_is_0 1 rfl rfl)
theorem dX12_is_4 : decode cX12_is 4 = .ok (.aload_n 1, 1) := dk_43 (dk_at dksX12_is_0 4 rfl rfl)
theorem dX12_is_5 : decode cX12_is 5 = .ok (.invokevirtual 17, 3) := dk_182 0 17 (dk_at dksX12_is_0 5 rfl rfl)
theorem dX12_is_8 : decode cX12_is 8 = .ok (.ireturn, 1) := dk_172 (dk_at dksX12_is_0 8 rfl rfl)
theorem q103 : (Jvm.Cond.initialized "Dialectdepot$Word") ∈ lw_all := lw_g (lw_at lw_m1 38 rfl) rfl
theorem q870 : (Jvm.Cond.selects "Dialectdepot$Word" ({ cls := "java/lang/Object", name := "getClass", desc := "()Ljava/lang/Class;" } : Jvm.MethodName) ({ cls := "java/lang/Object", name := "getClass", desc := "()Ljava/lang/Class;" } : Jvm.MethodName)) ∈ lw_all := lw_g (lw_at lw_m4 85 rfl) rfl
theorem q1370 : (Jvm.Cond.instantiable "Dialectdepot$Word" (2 : Nat)) ∈ lw_all := lw_g (lw_at lw_m6 105 rfl) rfl
theorem q1398 : (Jvm.Cond.instanceMethod ({ cls := "Dialectdepot$Word", name := "<init>", desc := "(ILjava/lang/String;)V" } : Jvm.MethodName)) ∈ lw_all := lw_g (lw_at lw_m6 133 rfl) rfl
theorem q1399 : (Jvm.Cond.code ({ cls := "Dialectdepot$Word", name := "<init>", desc := "(ILjava/lang/String;)V" } : Jvm.MethodName) prog_19_method_1_code (3 : Nat) (Option.none : Option Jvm.ClassFile.FieldType)) ∈ lw_all := lw_g (lw_at lw_m6 134 rfl) rfl
theorem q1400 : (Jvm.Cond.methodLink "Dialectdepot$Word" (1 : Nat) ({ cls := "java/lang/Record", name := "<init>", desc := "()V" } : Jvm.MethodName)) ∈ lw_all := lw_g (lw_at lw_m6 135 rfl) rfl
theorem q1401 : (Jvm.Cond.fieldLink "Dialectdepot$Word" (7 : Nat) "Dialectdepot$Word" "place" "I") ∈ lw_all := lw_g (lw_at lw_m6 136 rfl) rfl
theorem q1402 : (Jvm.Cond.fieldLink "Dialectdepot$Word" (13 : Nat) "Dialectdepot$Word" "text" "Ljava/lang/String;") ∈ lw_all := lw_g (lw_at lw_m6 137 rfl) rfl
theorem q1403 : (Jvm.Cond.laysFinal "Dialectdepot$Word" "Dialectdepot$Word" "place" "I") ∈ lw_all := lw_g (lw_at lw_m6 138 rfl) rfl
theorem q1404 : (Jvm.Cond.soleField "Dialectdepot$Word" "place") ∈ lw_all := lw_g (lw_at lw_m6 139 rfl) rfl
theorem q1405 : (Jvm.Cond.laysFinal "Dialectdepot$Word" "Dialectdepot$Word" "text" "Ljava/lang/String;") ∈ lw_all := lw_g (lw_at lw_m6 140 rfl) rfl
theorem q1406 : (Jvm.Cond.soleField "Dialectdepot$Word" "text") ∈ lw_all := lw_g (lw_at lw_m6 141 rfl) rfl
theorem q1407 : (Jvm.Cond.superclass "Dialectdepot$Word" "java/lang/Record") ∈ lw_all := lw_g (lw_at lw_m6 142 rfl) rfl
theorem q1413 : (Jvm.Cond.instanceMethod ({ cls := "Dialectdepot$Word", name := "text", desc := "()Ljava/lang/String;" } : Jvm.MethodName)) ∈ lw_all := lw_g (lw_at lw_m6 148 rfl) rfl
theorem q1414 : (Jvm.Cond.selects "Dialectdepot$Word" ({ cls := "Dialectdepot$Word", name := "text", desc := "()Ljava/lang/String;" } : Jvm.MethodName) ({ cls := "Dialectdepot$Word", name := "text", desc := "()Ljava/lang/String;" } : Jvm.MethodName)) ∈ lw_all := lw_g (lw_at lw_m6 149 rfl) rfl
theorem q1415 : (Jvm.Cond.code ({ cls := "Dialectdepot$Word", name := "text", desc := "()Ljava/lang/String;" } : Jvm.MethodName) prog_19_method_7_code (1 : Nat) (Option.some (Jvm.ClassFile.FieldType.object "java/lang/String"))) ∈ lw_all := lw_g (lw_at lw_m6 150 rfl) rfl
theorem q1449 : (Jvm.Cond.instanceMethod ({ cls := "Dialectdepot$Word", name := "place", desc := "()I" } : Jvm.MethodName)) ∈ lw_all := lw_g (lw_at lw_m6 184 rfl) rfl
theorem q1450 : (Jvm.Cond.selects "Dialectdepot$Word" ({ cls := "Dialectdepot$Word", name := "place", desc := "()I" } : Jvm.MethodName) ({ cls := "Dialectdepot$Word", name := "place", desc := "()I" } : Jvm.MethodName)) ∈ lw_all := lw_g (lw_at lw_m6 185 rfl) rfl
theorem q1451 : (Jvm.Cond.code ({ cls := "Dialectdepot$Word", name := "place", desc := "()I" } : Jvm.MethodName) prog_19_method_6_code (1 : Nat) (Option.some Jvm.ClassFile.FieldType.int)) ∈ lw_all := lw_g (lw_at lw_m6 186 rfl) rfl
theorem q1464 : (Jvm.Cond.instanceMethod ({ cls := "Dialectdepot$Word", name := "is", desc := "(Ljava/lang/String;)Z" } : Jvm.MethodName)) ∈ lw_all := lw_g (lw_at lw_m6 199 rfl) rfl
theorem q1465 : (Jvm.Cond.selects "Dialectdepot$Word" ({ cls := "Dialectdepot$Word", name := "is", desc := "(Ljava/lang/String;)Z" } : Jvm.MethodName) ({ cls := "Dialectdepot$Word", name := "is", desc := "(Ljava/lang/String;)Z" } : Jvm.MethodName)) ∈ lw_all := lw_g (lw_at lw_m6 200 rfl) rfl
theorem q1466 : (Jvm.Cond.code ({ cls := "Dialectdepot$Word", name := "is", desc := "(Ljava/lang/String;)Z" } : Jvm.MethodName) prog_19_method_2_code (2 : Nat) (Option.some Jvm.ClassFile.FieldType.boolean)) ∈ lw_all := lw_g (lw_at lw_m6 201 rfl) rfl
theorem q1467 : (Jvm.Cond.methodLink "Dialectdepot$Word" (17 : Nat) ({ cls := "java/lang/String", name := "equals", desc := "(Ljava/lang/Object;)Z" } : Jvm.MethodName)) ∈ lw_all := lw_g (lw_at lw_m6 202 rfl) rfl
theorem q2461 : (Jvm.Cond.castable "Dialectdepot$Word" "java/lang/Object") ∈ lw_tbl := lw_at lw_m10 236 rfl
theorem in_X12 : ∀ w ∈ wsX120, w ∈ lw_all := lw_in wsX120 [1403, 1405] (by decide +kernel) (by decide +kernel)
/-! Dialectdepot$Strange -/
set_option maxRecDepth 100000
def RX13 : String := "Dialectdepot$Strange"
def TX13 : u_T := fun k => match k with
  | 0 => ("java/lang/Throwable", "cause", "Ljava/lang/Throwable;", false)
  | 1 => ("java/lang/Throwable", "stackTrace", "[Ljava/lang/StackTraceElement;", false)
  | 2 => ("java/lang/Throwable", "suppressedExceptions", "Ljava/util/List;", false)
  | 3 => ("java/lang/Throwable", "detailMessage", "Ljava/lang/String;", false)
  | 4 => ("java/lang/Throwable", "backtrace", "Ljava/lang/Object;", false)
  | _ => ("java/lang/Throwable", "depth", "I", false)
def tyX13 : Nat → FieldType := fun k => match k with
  | 0 => .object "java/lang/Throwable"
  | 1 => .array (.object "java/lang/StackTraceElement")
  | 2 => .object "java/util/List"
  | 3 => .object "java/lang/String"
  | 4 => .object "java/lang/Object"
  | _ => .int
abbrev wsX130 : List Cond := u_ws RX13 TX13 6
theorem nmX13 : ∀ a, a < 6 → ∀ b, b < 6 → a ≠ b → (TX13 a).2.1 ≠ (TX13 b).2.1 := by decide +kernel
theorem tyX13_ok : ∀ k, k < 6 → parseFieldDescriptor (TX13 k).2.2.1 = some (tyX13 k) := by decide +kernel
abbrev cX13_init : ByteArray := prog_14_method_1_code
def yX13_init : MethodName := ⟨RX13, "<init>", "()V"⟩
theorem dX13_init_0 : decode cX13_init 0 = .ok (.aload_n 0, 1) := by decide +kernel
theorem dX13_init_1 : decode cX13_init 1 = .ok (.invokespecial 1, 3) := by decide +kernel
theorem dX13_init_4 : decode cX13_init 4 = .ok (.return_, 1) := by decide +kernel
theorem q104 : (Jvm.Cond.initialized "Dialectdepot$Strange") ∈ lw_all := lw_g (lw_at lw_m1 39 rfl) rfl
theorem q476 : (Jvm.Cond.selects "Dialectdepot$Strange" ({ cls := "java/lang/Throwable", name := "fillInStackTrace", desc := "()Ljava/lang/Throwable;" } : Jvm.MethodName) ({ cls := "java/lang/Throwable", name := "fillInStackTrace", desc := "()Ljava/lang/Throwable;" } : Jvm.MethodName)) ∈ lw_all := lw_g (lw_at lw_m2 171 rfl) rfl
theorem q866 : (Jvm.Cond.selects "Dialectdepot$Strange" ({ cls := "java/lang/Object", name := "getClass", desc := "()Ljava/lang/Class;" } : Jvm.MethodName) ({ cls := "java/lang/Object", name := "getClass", desc := "()Ljava/lang/Class;" } : Jvm.MethodName)) ∈ lw_all := lw_g (lw_at lw_m4 81 rfl) rfl
theorem q1416 : (Jvm.Cond.instantiable "Dialectdepot$Strange" (6 : Nat)) ∈ lw_all := lw_g (lw_at lw_m6 151 rfl) rfl
theorem q1417 : (Jvm.Cond.castable "Dialectdepot$Strange" "Dialectdepot$Strange") ∈ lw_tbl := lw_at lw_m6 152 rfl
theorem q1418 : (Jvm.Cond.selects "Dialectdepot$Strange" ({ cls := "java/lang/Throwable", name := "fillInStackTrace", desc := "(I)Ljava/lang/Throwable;" } : Jvm.MethodName) ({ cls := "java/lang/Throwable", name := "fillInStackTrace", desc := "(I)Ljava/lang/Throwable;" } : Jvm.MethodName)) ∈ lw_all := lw_g (lw_at lw_m6 153 rfl) rfl
theorem q1419 : (Jvm.Cond.lays "Dialectdepot$Strange" "java/lang/Throwable" "cause" "Ljava/lang/Throwable;") ∈ lw_all := lw_g (lw_at lw_m6 154 rfl) rfl
theorem q1420 : (Jvm.Cond.lays "Dialectdepot$Strange" "java/lang/Throwable" "stackTrace" "[Ljava/lang/StackTraceElement;") ∈ lw_all := lw_g (lw_at lw_m6 155 rfl) rfl
theorem q1421 : (Jvm.Cond.lays "Dialectdepot$Strange" "java/lang/Throwable" "suppressedExceptions" "Ljava/util/List;") ∈ lw_all := lw_g (lw_at lw_m6 156 rfl) rfl
theorem q1422 : (Jvm.Cond.lays "Dialectdepot$Strange" "java/lang/Throwable" "detailMessage" "Ljava/lang/String;") ∈ lw_all := lw_g (lw_at lw_m6 157 rfl) rfl
theorem q1423 : (Jvm.Cond.lays "Dialectdepot$Strange" "java/lang/Throwable" "backtrace" "Ljava/lang/Object;") ∈ lw_all := lw_g (lw_at lw_m6 158 rfl) rfl
theorem q1425 : (Jvm.Cond.instanceMethod ({ cls := "Dialectdepot$Strange", name := "<init>", desc := "()V" } : Jvm.MethodName)) ∈ lw_all := lw_g (lw_at lw_m6 160 rfl) rfl
theorem q1426 : (Jvm.Cond.code ({ cls := "Dialectdepot$Strange", name := "<init>", desc := "()V" } : Jvm.MethodName) prog_14_method_1_code (1 : Nat) (Option.none : Option Jvm.ClassFile.FieldType)) ∈ lw_all := lw_g (lw_at lw_m6 161 rfl) rfl
theorem q1427 : (Jvm.Cond.methodLink "Dialectdepot$Strange" (1 : Nat) ({ cls := "java/lang/Exception", name := "<init>", desc := "()V" } : Jvm.MethodName)) ∈ lw_all := lw_g (lw_at lw_m6 162 rfl) rfl
theorem q1428 : (Jvm.Cond.lays "Dialectdepot$Strange" "java/lang/Throwable" "depth" "I") ∈ lw_all := lw_g (lw_at lw_m6 163 rfl) rfl
theorem q1429 : (Jvm.Cond.superclass "Dialectdepot$Strange" "java/lang/Exception") ∈ lw_all := lw_g (lw_at lw_m6 164 rfl) rfl
theorem q2462 : (Jvm.Cond.castable "Dialectdepot$Strange" "java/lang/Object") ∈ lw_tbl := lw_at lw_m10 237 rfl
theorem in_X13 : ∀ w ∈ wsX130, w ∈ lw_all := lw_in wsX130 [1419, 1420, 1421, 1422, 1423, 1428] (by decide +kernel) (by decide +kernel)
/-! Dialectdepot$Repeated -/
set_option maxRecDepth 100000
def RX14 : String := "Dialectdepot$Repeated"
def TX14 : u_T := fun k => match k with
  | 0 => ("java/lang/Throwable", "cause", "Ljava/lang/Throwable;", false)
  | 1 => ("java/lang/Throwable", "stackTrace", "[Ljava/lang/StackTraceElement;", false)
  | 2 => ("java/lang/Throwable", "suppressedExceptions", "Ljava/util/List;", false)
  | 3 => ("java/lang/Throwable", "detailMessage", "Ljava/lang/String;", false)
  | 4 => ("java/lang/Throwable", "backtrace", "Ljava/lang/Object;", false)
  | _ => ("java/lang/Throwable", "depth", "I", false)
def tyX14 : Nat → FieldType := fun k => match k with
  | 0 => .object "java/lang/Throwable"
  | 1 => .array (.object "java/lang/StackTraceElement")
  | 2 => .object "java/util/List"
  | 3 => .object "java/lang/String"
  | 4 => .object "java/lang/Object"
  | _ => .int
abbrev wsX140 : List Cond := u_ws RX14 TX14 6
theorem nmX14 : ∀ a, a < 6 → ∀ b, b < 6 → a ≠ b → (TX14 a).2.1 ≠ (TX14 b).2.1 := by decide +kernel
theorem tyX14_ok : ∀ k, k < 6 → parseFieldDescriptor (TX14 k).2.2.1 = some (tyX14 k) := by decide +kernel
abbrev cX14_init : ByteArray := prog_13_method_1_code
def yX14_init : MethodName := ⟨RX14, "<init>", "()V"⟩
theorem dX14_init_0 : decode cX14_init 0 = .ok (.aload_n 0, 1) := by decide +kernel
theorem dX14_init_1 : decode cX14_init 1 = .ok (.invokespecial 1, 3) := by decide +kernel
theorem dX14_init_4 : decode cX14_init 4 = .ok (.return_, 1) := by decide +kernel
theorem q105 : (Jvm.Cond.initialized "Dialectdepot$Repeated") ∈ lw_all := lw_g (lw_at lw_m1 40 rfl) rfl
theorem q475 : (Jvm.Cond.selects "Dialectdepot$Repeated" ({ cls := "java/lang/Throwable", name := "fillInStackTrace", desc := "()Ljava/lang/Throwable;" } : Jvm.MethodName) ({ cls := "java/lang/Throwable", name := "fillInStackTrace", desc := "()Ljava/lang/Throwable;" } : Jvm.MethodName)) ∈ lw_all := lw_g (lw_at lw_m2 170 rfl) rfl
theorem q865 : (Jvm.Cond.selects "Dialectdepot$Repeated" ({ cls := "java/lang/Object", name := "getClass", desc := "()Ljava/lang/Class;" } : Jvm.MethodName) ({ cls := "java/lang/Object", name := "getClass", desc := "()Ljava/lang/Class;" } : Jvm.MethodName)) ∈ lw_all := lw_g (lw_at lw_m4 80 rfl) rfl
theorem q1434 : (Jvm.Cond.instantiable "Dialectdepot$Repeated" (6 : Nat)) ∈ lw_all := lw_g (lw_at lw_m6 169 rfl) rfl
theorem q1435 : (Jvm.Cond.castable "Dialectdepot$Repeated" "Dialectdepot$Repeated") ∈ lw_tbl := lw_at lw_m6 170 rfl
theorem q1436 : (Jvm.Cond.selects "Dialectdepot$Repeated" ({ cls := "java/lang/Throwable", name := "fillInStackTrace", desc := "(I)Ljava/lang/Throwable;" } : Jvm.MethodName) ({ cls := "java/lang/Throwable", name := "fillInStackTrace", desc := "(I)Ljava/lang/Throwable;" } : Jvm.MethodName)) ∈ lw_all := lw_g (lw_at lw_m6 171 rfl) rfl
theorem q1437 : (Jvm.Cond.lays "Dialectdepot$Repeated" "java/lang/Throwable" "cause" "Ljava/lang/Throwable;") ∈ lw_all := lw_g (lw_at lw_m6 172 rfl) rfl
theorem q1438 : (Jvm.Cond.lays "Dialectdepot$Repeated" "java/lang/Throwable" "stackTrace" "[Ljava/lang/StackTraceElement;") ∈ lw_all := lw_g (lw_at lw_m6 173 rfl) rfl
theorem q1439 : (Jvm.Cond.lays "Dialectdepot$Repeated" "java/lang/Throwable" "suppressedExceptions" "Ljava/util/List;") ∈ lw_all := lw_g (lw_at lw_m6 174 rfl) rfl
theorem q1440 : (Jvm.Cond.lays "Dialectdepot$Repeated" "java/lang/Throwable" "detailMessage" "Ljava/lang/String;") ∈ lw_all := lw_g (lw_at lw_m6 175 rfl) rfl
theorem q1441 : (Jvm.Cond.lays "Dialectdepot$Repeated" "java/lang/Throwable" "backtrace" "Ljava/lang/Object;") ∈ lw_all := lw_g (lw_at lw_m6 176 rfl) rfl
theorem q1443 : (Jvm.Cond.instanceMethod ({ cls := "Dialectdepot$Repeated", name := "<init>", desc := "()V" } : Jvm.MethodName)) ∈ lw_all := lw_g (lw_at lw_m6 178 rfl) rfl
theorem q1444 : (Jvm.Cond.code ({ cls := "Dialectdepot$Repeated", name := "<init>", desc := "()V" } : Jvm.MethodName) prog_13_method_1_code (1 : Nat) (Option.none : Option Jvm.ClassFile.FieldType)) ∈ lw_all := lw_g (lw_at lw_m6 179 rfl) rfl
theorem q1445 : (Jvm.Cond.methodLink "Dialectdepot$Repeated" (1 : Nat) ({ cls := "java/lang/Exception", name := "<init>", desc := "()V" } : Jvm.MethodName)) ∈ lw_all := lw_g (lw_at lw_m6 180 rfl) rfl
theorem q1446 : (Jvm.Cond.lays "Dialectdepot$Repeated" "java/lang/Throwable" "depth" "I") ∈ lw_all := lw_g (lw_at lw_m6 181 rfl) rfl
theorem q1447 : (Jvm.Cond.superclass "Dialectdepot$Repeated" "java/lang/Exception") ∈ lw_all := lw_g (lw_at lw_m6 182 rfl) rfl
theorem q2463 : (Jvm.Cond.castable "Dialectdepot$Repeated" "java/lang/Object") ∈ lw_tbl := lw_at lw_m10 238 rfl
theorem in_X14 : ∀ w ∈ wsX140, w ∈ lw_all := lw_in wsX140 [1437, 1438, 1439, 1440, 1441, 1446] (by decide +kernel) (by decide +kernel)
/-! Dialectdepot$Weight -/
set_option maxRecDepth 100000
def RX15 : String := "Dialectdepot$Weight"
abbrev cX15_sum : ByteArray := prog_18_method_2_code
def yX15_sum : MethodName := ⟨RX15, "sum", "([LDialectdepot$Weight;LDialectdepot$Parcel;LDialectdepot$Carrier;I)I"⟩
def dkwX15_sum_2 : List UInt8 := [167, 255, 224, 21, 4, 172]
abbrev dktX15_sum_2 : List UInt8 := dkwX15_sum_2 ++ []
def dkwX15_sum_1 : List UInt8 := [21, 7, 50, 58, 8, 21, 4, 25, 8, 43, 44, 29, 185, 0, 1, 4, 0, 96, 54, 4, 132, 7, 1]
abbrev dktX15_sum_1 : List UInt8 := dkwX15_sum_1 ++ dktX15_sum_2
def dkwX15_sum_0 : List UInt8 := [3, 54, 4, 42, 58, 5, 25, 5, 190, 54, 6, 3, 54, 7, 21, 7, 21, 6, 162, 0, 31, 25, 5]
abbrev dktX15_sum_0 : List UInt8 := dkwX15_sum_0 ++ dktX15_sum_1
theorem dksX15_sum_0 : cX15_sum.data.toList.drop 0 = dktX15_sum_0 := by decide +kernel
theorem dksX15_sum_1 : cX15_sum.data.toList.drop 23 = dktX15_sum_1 := dk_seg dksX15_sum_0 23 rfl rfl
theorem dksX15_sum_2 : cX15_sum.data.toList.drop 46 = dktX15_sum_2 := dk_seg dksX15_sum_1 23 rfl rfl
theorem dX15_sum_0 : decode cX15_sum 0 = .ok (.iconst 0, 1) := dk_3 (dk_at dksX15_sum_0 0 rfl rfl)
theorem dX15_sum_1 : decode cX15_sum 1 = .ok (.istore 4, 2) := dk_54 4 (dk_at dksX15_sum_0 1 rfl rfl)
theorem dX15_sum_3 : decode cX15_sum 3 = .ok (.aload_n 0, 1) := dk_42 (dk_at dksX15_sum_0 3 rfl rfl)
theorem dX15_sum_4 : decode cX15_sum 4 = .ok (.astore 5, 2) := dk_58 5 (dk_at dksX15_sum_0 4 rfl rfl)
theorem dX15_sum_6 : decode cX15_sum 6 = .ok (.aload 5, 2) := dk_25 5 (dk_at dksX15_sum_0 6 rfl rfl)
theorem dX15_sum_8 : decode cX15_sum 8 = .ok (.arraylength, 1) := dk_190 (dk_at dksX15_sum_0 8 rfl rfl)
theorem dX15_sum_9 : decode cX15_sum 9 = .ok (.istore 6, 2) := dk_54 6 (dk_at dksX15_sum_0 9 rfl rfl)
theorem dX15_sum_11 : decode cX15_sum 11 = .ok (.iconst 0, 1) := dk_3 (dk_at dksX15_sum_0 11 rfl rfl)
theorem dX15_sum_12 : decode cX15_sum 12 = .ok (.istore 7, 2) := dk_54 7 (dk_at dksX15_sum_0 12 rfl rfl)
theorem dX15_sum_14 : decode cX15_sum 14 = .ok (.iload 7, 2) := dk_21 7 (dk_at dksX15_sum_0 14 rfl rfl)
theorem dX15_sum_16 : decode cX15_sum 16 = .ok (.iload 6, 2) := dk_21 6 (dk_at dksX15_sum_0 16 rfl rfl)
theorem dX15_sum_18 : decode cX15_sum 18 = .ok (.if_icmp .ge 31, 3) := dk_162 0 31 (dk_at dksX15_sum_0 18 rfl rfl)
theorem dX15_sum_21 : decode cX15_sum 21 = .ok (.aload 5, 2) := dk_25 5 (dk_at dksX15_sum_0 21 rfl rfl)
theorem dX15_sum_23 : decode cX15_sum 23 = .ok (.iload 7, 2) := dk_21 7 (dk_at dksX15_sum_1 0 rfl rfl)
theorem dX15_sum_25 : decode cX15_sum 25 = .ok (.aaload, 1) := dk_50 (dk_at dksX15_sum_1 2 rfl rfl)
theorem dX15_sum_26 : decode cX15_sum 26 = .ok (.astore 8, 2) := dk_58 8 (dk_at dksX15_sum_1 3 rfl rfl)
theorem dX15_sum_28 : decode cX15_sum 28 = .ok (.iload 4, 2) := dk_21 4 (dk_at dksX15_sum_1 5 rfl rfl)
theorem dX15_sum_30 : decode cX15_sum 30 = .ok (.aload 8, 2) := dk_25 8 (dk_at dksX15_sum_1 7 rfl rfl)
theorem dX15_sum_32 : decode cX15_sum 32 = .ok (.aload_n 1, 1) := dk_43 (dk_at dksX15_sum_1 9 rfl rfl)
theorem dX15_sum_33 : decode cX15_sum 33 = .ok (.aload_n 2, 1) := dk_44 (dk_at dksX15_sum_1 10 rfl rfl)
theorem dX15_sum_34 : decode cX15_sum 34 = .ok (.iload_n 3, 1) := dk_29 (dk_at dksX15_sum_1 11 rfl rfl)
theorem dX15_sum_35 : decode cX15_sum 35 = .ok (.invokeinterface 1 4, 5) := by decide +kernel
theorem dX15_sum_40 : decode cX15_sum 40 = .ok (.iadd, 1) := dk_96 (dk_at dksX15_sum_1 17 rfl rfl)
theorem dX15_sum_41 : decode cX15_sum 41 = .ok (.istore 4, 2) := dk_54 4 (dk_at dksX15_sum_1 18 rfl rfl)
theorem dX15_sum_43 : decode cX15_sum 43 = .ok (.iinc 7 1, 3) := dk_132 7 1 (dk_at dksX15_sum_1 20 rfl rfl)
theorem dX15_sum_46 : decode cX15_sum 46 = .ok (.goto (-32), 3) := dk_167 255 224 (dk_at dksX15_sum_2 0 rfl rfl)
theorem dX15_sum_49 : decode cX15_sum 49 = .ok (.iload 4, 2) := dk_21 4 (dk_at dksX15_sum_2 3 rfl rfl)
theorem dX15_sum_51 : decode cX15_sum 51 = .ok (.ireturn, 1) := dk_172 (dk_at dksX15_sum_2 5 rfl rfl)
theorem q106 : (Jvm.Cond.initialized "Dialectdepot$Weight") ∈ lw_all := lw_g (lw_at lw_m1 41 rfl) rfl
theorem q1598 : (Jvm.Cond.static ({ cls := "Dialectdepot$Weight", name := "sum", desc := "([LDialectdepot$Weight;LDialectdepot$Parcel;LDialectdepot$Carrier;I)I" } : Jvm.MethodName)) ∈ lw_all := lw_g (lw_at lw_m7 93 rfl) rfl
theorem q1599 : (Jvm.Cond.code ({ cls := "Dialectdepot$Weight", name := "sum", desc := "([LDialectdepot$Weight;LDialectdepot$Parcel;LDialectdepot$Carrier;I)I" } : Jvm.MethodName) prog_18_method_2_code (9 : Nat) (Option.some Jvm.ClassFile.FieldType.int)) ∈ lw_all := lw_g (lw_at lw_m7 94 rfl) rfl
theorem q1600 : (Jvm.Cond.interfaceEntry "Dialectdepot$Weight" (1 : Nat)) ∈ lw_tbl := lw_at lw_m7 95 rfl
theorem q1601 : (Jvm.Cond.methodLink "Dialectdepot$Weight" (1 : Nat) ({ cls := "Dialectdepot$Weight", name := "of", desc := "(LDialectdepot$Parcel;LDialectdepot$Carrier;I)I" } : Jvm.MethodName)) ∈ lw_all := lw_g (lw_at lw_m7 96 rfl) rfl
theorem q1602 : (Jvm.Cond.interfaceMethod "Dialectdepot$Weight" "Dialectdepot$Weight" "of" "(LDialectdepot$Parcel;LDialectdepot$Carrier;I)I") ∈ lw_tbl := lw_at lw_m7 97 rfl
theorem q1603 : (Jvm.Cond.declares ({ cls := "Dialectdepot$Weight", name := "of", desc := "(LDialectdepot$Parcel;LDialectdepot$Carrier;I)I" } : Jvm.MethodName)) ∈ lw_tbl := lw_at lw_m7 98 rfl
theorem q2441 : (Jvm.Cond.castable "Dialectdepot$Weight" "java/lang/Object") ∈ lw_tbl := lw_at lw_m10 216 rfl
/-! Dialectdepot$WrongStreet -/
set_option maxRecDepth 100000
def RX16 : String := "Dialectdepot$WrongStreet"
def TX16 : u_T := fun k => match k with
  | 0 => ("java/lang/Throwable", "cause", "Ljava/lang/Throwable;", false)
  | 1 => ("java/lang/Throwable", "stackTrace", "[Ljava/lang/StackTraceElement;", false)
  | 2 => ("java/lang/Throwable", "suppressedExceptions", "Ljava/util/List;", false)
  | 3 => ("java/lang/Throwable", "detailMessage", "Ljava/lang/String;", false)
  | 4 => ("java/lang/Throwable", "backtrace", "Ljava/lang/Object;", false)
  | _ => ("java/lang/Throwable", "depth", "I", false)
def tyX16 : Nat → FieldType := fun k => match k with
  | 0 => .object "java/lang/Throwable"
  | 1 => .array (.object "java/lang/StackTraceElement")
  | 2 => .object "java/util/List"
  | 3 => .object "java/lang/String"
  | 4 => .object "java/lang/Object"
  | _ => .int
abbrev wsX160 : List Cond := u_ws RX16 TX16 6
theorem nmX16 : ∀ a, a < 6 → ∀ b, b < 6 → a ≠ b → (TX16 a).2.1 ≠ (TX16 b).2.1 := by decide +kernel
theorem tyX16_ok : ∀ k, k < 6 → parseFieldDescriptor (TX16 k).2.2.1 = some (tyX16 k) := by decide +kernel
abbrev cX16_init : ByteArray := prog_21_method_1_code
def yX16_init : MethodName := ⟨RX16, "<init>", "()V"⟩
theorem dX16_init_0 : decode cX16_init 0 = .ok (.aload_n 0, 1) := by decide +kernel
theorem dX16_init_1 : decode cX16_init 1 = .ok (.invokespecial 1, 3) := by decide +kernel
theorem dX16_init_4 : decode cX16_init 4 = .ok (.return_, 1) := by decide +kernel
theorem q108 : (Jvm.Cond.initialized "Dialectdepot$WrongStreet") ∈ lw_all := lw_g (lw_at lw_m1 43 rfl) rfl
theorem q477 : (Jvm.Cond.selects "Dialectdepot$WrongStreet" ({ cls := "java/lang/Throwable", name := "fillInStackTrace", desc := "()Ljava/lang/Throwable;" } : Jvm.MethodName) ({ cls := "java/lang/Throwable", name := "fillInStackTrace", desc := "()Ljava/lang/Throwable;" } : Jvm.MethodName)) ∈ lw_all := lw_g (lw_at lw_m2 172 rfl) rfl
theorem q872 : (Jvm.Cond.selects "Dialectdepot$WrongStreet" ({ cls := "java/lang/Object", name := "getClass", desc := "()Ljava/lang/Class;" } : Jvm.MethodName) ({ cls := "java/lang/Object", name := "getClass", desc := "()Ljava/lang/Class;" } : Jvm.MethodName)) ∈ lw_all := lw_g (lw_at lw_m4 87 rfl) rfl
theorem q1672 : (Jvm.Cond.instantiable "Dialectdepot$WrongStreet" (6 : Nat)) ∈ lw_all := lw_g (lw_at lw_m7 167 rfl) rfl
theorem q1673 : (Jvm.Cond.castable "Dialectdepot$WrongStreet" "Dialectdepot$WrongStreet") ∈ lw_tbl := lw_at lw_m7 168 rfl
theorem q1674 : (Jvm.Cond.selects "Dialectdepot$WrongStreet" ({ cls := "java/lang/Throwable", name := "fillInStackTrace", desc := "(I)Ljava/lang/Throwable;" } : Jvm.MethodName) ({ cls := "java/lang/Throwable", name := "fillInStackTrace", desc := "(I)Ljava/lang/Throwable;" } : Jvm.MethodName)) ∈ lw_all := lw_g (lw_at lw_m7 169 rfl) rfl
theorem q1675 : (Jvm.Cond.lays "Dialectdepot$WrongStreet" "java/lang/Throwable" "cause" "Ljava/lang/Throwable;") ∈ lw_all := lw_g (lw_at lw_m7 170 rfl) rfl
theorem q1676 : (Jvm.Cond.lays "Dialectdepot$WrongStreet" "java/lang/Throwable" "stackTrace" "[Ljava/lang/StackTraceElement;") ∈ lw_all := lw_g (lw_at lw_m7 171 rfl) rfl
theorem q1677 : (Jvm.Cond.lays "Dialectdepot$WrongStreet" "java/lang/Throwable" "suppressedExceptions" "Ljava/util/List;") ∈ lw_all := lw_g (lw_at lw_m7 172 rfl) rfl
theorem q1678 : (Jvm.Cond.lays "Dialectdepot$WrongStreet" "java/lang/Throwable" "detailMessage" "Ljava/lang/String;") ∈ lw_all := lw_g (lw_at lw_m7 173 rfl) rfl
theorem q1679 : (Jvm.Cond.lays "Dialectdepot$WrongStreet" "java/lang/Throwable" "backtrace" "Ljava/lang/Object;") ∈ lw_all := lw_g (lw_at lw_m7 174 rfl) rfl
theorem q1681 : (Jvm.Cond.instanceMethod ({ cls := "Dialectdepot$WrongStreet", name := "<init>", desc := "()V" } : Jvm.MethodName)) ∈ lw_all := lw_g (lw_at lw_m7 176 rfl) rfl
theorem q1682 : (Jvm.Cond.code ({ cls := "Dialectdepot$WrongStreet", name := "<init>", desc := "()V" } : Jvm.MethodName) prog_21_method_1_code (1 : Nat) (Option.none : Option Jvm.ClassFile.FieldType)) ∈ lw_all := lw_g (lw_at lw_m7 177 rfl) rfl
theorem q1683 : (Jvm.Cond.methodLink "Dialectdepot$WrongStreet" (1 : Nat) ({ cls := "java/lang/Exception", name := "<init>", desc := "()V" } : Jvm.MethodName)) ∈ lw_all := lw_g (lw_at lw_m7 178 rfl) rfl
theorem q1684 : (Jvm.Cond.lays "Dialectdepot$WrongStreet" "java/lang/Throwable" "depth" "I") ∈ lw_all := lw_g (lw_at lw_m7 179 rfl) rfl
theorem q1685 : (Jvm.Cond.superclass "Dialectdepot$WrongStreet" "java/lang/Exception") ∈ lw_all := lw_g (lw_at lw_m7 180 rfl) rfl
theorem q2465 : (Jvm.Cond.castable "Dialectdepot$WrongStreet" "java/lang/Object") ∈ lw_tbl := lw_at lw_m11 0 rfl
theorem in_X16 : ∀ w ∈ wsX160, w ∈ lw_all := lw_in wsX160 [1675, 1676, 1677, 1678, 1679, 1684] (by decide +kernel) (by decide +kernel)
/-! Dialectdepot$Nobody -/
set_option maxRecDepth 100000
def RX17 : String := "Dialectdepot$Nobody"
def TX17 : u_T := fun k => match k with
  | 0 => ("java/lang/Throwable", "cause", "Ljava/lang/Throwable;", false)
  | 1 => ("java/lang/Throwable", "stackTrace", "[Ljava/lang/StackTraceElement;", false)
  | 2 => ("java/lang/Throwable", "suppressedExceptions", "Ljava/util/List;", false)
  | 3 => ("java/lang/Throwable", "detailMessage", "Ljava/lang/String;", false)
  | 4 => ("java/lang/Throwable", "backtrace", "Ljava/lang/Object;", false)
  | _ => ("java/lang/Throwable", "depth", "I", false)
def tyX17 : Nat → FieldType := fun k => match k with
  | 0 => .object "java/lang/Throwable"
  | 1 => .array (.object "java/lang/StackTraceElement")
  | 2 => .object "java/util/List"
  | 3 => .object "java/lang/String"
  | 4 => .object "java/lang/Object"
  | _ => .int
abbrev wsX170 : List Cond := u_ws RX17 TX17 6
theorem nmX17 : ∀ a, a < 6 → ∀ b, b < 6 → a ≠ b → (TX17 a).2.1 ≠ (TX17 b).2.1 := by decide +kernel
theorem tyX17_ok : ∀ k, k < 6 → parseFieldDescriptor (TX17 k).2.2.1 = some (tyX17 k) := by decide +kernel
abbrev cX17_init : ByteArray := prog_11_method_1_code
def yX17_init : MethodName := ⟨RX17, "<init>", "()V"⟩
theorem dX17_init_0 : decode cX17_init 0 = .ok (.aload_n 0, 1) := by decide +kernel
theorem dX17_init_1 : decode cX17_init 1 = .ok (.invokespecial 1, 3) := by decide +kernel
theorem dX17_init_4 : decode cX17_init 4 = .ok (.return_, 1) := by decide +kernel
theorem q109 : (Jvm.Cond.initialized "Dialectdepot$Nobody") ∈ lw_all := lw_g (lw_at lw_m1 44 rfl) rfl
theorem q474 : (Jvm.Cond.selects "Dialectdepot$Nobody" ({ cls := "java/lang/Throwable", name := "fillInStackTrace", desc := "()Ljava/lang/Throwable;" } : Jvm.MethodName) ({ cls := "java/lang/Throwable", name := "fillInStackTrace", desc := "()Ljava/lang/Throwable;" } : Jvm.MethodName)) ∈ lw_all := lw_g (lw_at lw_m2 169 rfl) rfl
theorem q863 : (Jvm.Cond.selects "Dialectdepot$Nobody" ({ cls := "java/lang/Object", name := "getClass", desc := "()Ljava/lang/Class;" } : Jvm.MethodName) ({ cls := "java/lang/Object", name := "getClass", desc := "()Ljava/lang/Class;" } : Jvm.MethodName)) ∈ lw_all := lw_g (lw_at lw_m4 78 rfl) rfl
theorem q1687 : (Jvm.Cond.instantiable "Dialectdepot$Nobody" (6 : Nat)) ∈ lw_all := lw_g (lw_at lw_m7 182 rfl) rfl
theorem q1688 : (Jvm.Cond.castable "Dialectdepot$Nobody" "Dialectdepot$Nobody") ∈ lw_tbl := lw_at lw_m7 183 rfl
theorem q1689 : (Jvm.Cond.selects "Dialectdepot$Nobody" ({ cls := "java/lang/Throwable", name := "fillInStackTrace", desc := "(I)Ljava/lang/Throwable;" } : Jvm.MethodName) ({ cls := "java/lang/Throwable", name := "fillInStackTrace", desc := "(I)Ljava/lang/Throwable;" } : Jvm.MethodName)) ∈ lw_all := lw_g (lw_at lw_m7 184 rfl) rfl
theorem q1690 : (Jvm.Cond.lays "Dialectdepot$Nobody" "java/lang/Throwable" "cause" "Ljava/lang/Throwable;") ∈ lw_all := lw_g (lw_at lw_m7 185 rfl) rfl
theorem q1691 : (Jvm.Cond.lays "Dialectdepot$Nobody" "java/lang/Throwable" "stackTrace" "[Ljava/lang/StackTraceElement;") ∈ lw_all := lw_g (lw_at lw_m7 186 rfl) rfl
theorem q1692 : (Jvm.Cond.lays "Dialectdepot$Nobody" "java/lang/Throwable" "suppressedExceptions" "Ljava/util/List;") ∈ lw_all := lw_g (lw_at lw_m7 187 rfl) rfl
theorem q1693 : (Jvm.Cond.lays "Dialectdepot$Nobody" "java/lang/Throwable" "detailMessage" "Ljava/lang/String;") ∈ lw_all := lw_g (lw_at lw_m7 188 rfl) rfl
theorem q1694 : (Jvm.Cond.lays "Dialectdepot$Nobody" "java/lang/Throwable" "backtrace" "Ljava/lang/Object;") ∈ lw_all := lw_g (lw_at lw_m7 189 rfl) rfl
theorem q1696 : (Jvm.Cond.instanceMethod ({ cls := "Dialectdepot$Nobody", name := "<init>", desc := "()V" } : Jvm.MethodName)) ∈ lw_all := lw_g (lw_at lw_m7 191 rfl) rfl
theorem q1697 : (Jvm.Cond.code ({ cls := "Dialectdepot$Nobody", name := "<init>", desc := "()V" } : Jvm.MethodName) prog_11_method_1_code (1 : Nat) (Option.none : Option Jvm.ClassFile.FieldType)) ∈ lw_all := lw_g (lw_at lw_m7 192 rfl) rfl
theorem q1698 : (Jvm.Cond.methodLink "Dialectdepot$Nobody" (1 : Nat) ({ cls := "java/lang/Exception", name := "<init>", desc := "()V" } : Jvm.MethodName)) ∈ lw_all := lw_g (lw_at lw_m7 193 rfl) rfl
theorem q1699 : (Jvm.Cond.lays "Dialectdepot$Nobody" "java/lang/Throwable" "depth" "I") ∈ lw_all := lw_g (lw_at lw_m7 194 rfl) rfl
theorem q1700 : (Jvm.Cond.superclass "Dialectdepot$Nobody" "java/lang/Exception") ∈ lw_all := lw_g (lw_at lw_m7 195 rfl) rfl
theorem q2466 : (Jvm.Cond.castable "Dialectdepot$Nobody" "java/lang/Object") ∈ lw_tbl := lw_at lw_m11 1 rfl
theorem in_X17 : ∀ w ∈ wsX170, w ∈ lw_all := lw_in wsX170 [1690, 1691, 1692, 1693, 1694, 1699] (by decide +kernel) (by decide +kernel)
/-! Dialectdepot$Back -/
set_option maxRecDepth 100000
def RX18 : String := "Dialectdepot$Back"
def TX18 : u_T := fun k => match k with
  | 0 => ("java/lang/Throwable", "cause", "Ljava/lang/Throwable;", false)
  | 1 => ("java/lang/Throwable", "stackTrace", "[Ljava/lang/StackTraceElement;", false)
  | 2 => ("java/lang/Throwable", "suppressedExceptions", "Ljava/util/List;", false)
  | 3 => ("java/lang/Throwable", "detailMessage", "Ljava/lang/String;", false)
  | 4 => ("java/lang/Throwable", "backtrace", "Ljava/lang/Object;", false)
  | _ => ("java/lang/Throwable", "depth", "I", false)
def tyX18 : Nat → FieldType := fun k => match k with
  | 0 => .object "java/lang/Throwable"
  | 1 => .array (.object "java/lang/StackTraceElement")
  | 2 => .object "java/util/List"
  | 3 => .object "java/lang/String"
  | 4 => .object "java/lang/Object"
  | _ => .int
abbrev wsX180 : List Cond := u_ws RX18 TX18 6
theorem nmX18 : ∀ a, a < 6 → ∀ b, b < 6 → a ≠ b → (TX18 a).2.1 ≠ (TX18 b).2.1 := by decide +kernel
theorem tyX18_ok : ∀ k, k < 6 → parseFieldDescriptor (TX18 k).2.2.1 = some (tyX18 k) := by decide +kernel
abbrev cX18_init : ByteArray := prog_3_method_1_code
def yX18_init : MethodName := ⟨RX18, "<init>", "(Ljava/lang/Exception;)V"⟩
def dkwX18_init_0 : List UInt8 := [42, 1, 43, 183, 0, 1, 177]
abbrev dktX18_init_0 : List UInt8 := dkwX18_init_0 ++ []
theorem dksX18_init_0 : cX18_init.data.toList.drop 0 = dktX18_init_0 := by decide +kernel
theorem dX18_init_0 : decode cX18_init 0 = .ok (.aload_n 0, 1) := dk_42 (dk_at dksX18_init_0 0 rfl rfl)
theorem dX18_init_1 : decode cX18_init 1 = .ok (.aconst_null, 1) := dk_1 (dk_at dksX18_init_0 1 rfl rfl)
theorem dX18_init_2 : decode cX18_init 2 = .ok (.aload_n 1, 1) := dk_43 (dk_at dksX18_init_0 2 rfl rfl)
theorem dX18_init_3 : decode cX18_init 3 = .ok (.invokespecial 1, 3) := dk_183 0 1 (dk_at dksX18_init_0 3 rfl rfl)
theorem dX18_init_6 : decode cX18_init 6 = .ok (.return_, 1) := dk_177 (dk_at dksX18_init_0 6 rfl rfl)
theorem q110 : (Jvm.Cond.initialized "Dialectdepot$Back") ∈ lw_all := lw_g (lw_at lw_m1 45 rfl) rfl
theorem q472 : (Jvm.Cond.selects "Dialectdepot$Back" ({ cls := "java/lang/Throwable", name := "fillInStackTrace", desc := "()Ljava/lang/Throwable;" } : Jvm.MethodName) ({ cls := "java/lang/Throwable", name := "fillInStackTrace", desc := "()Ljava/lang/Throwable;" } : Jvm.MethodName)) ∈ lw_all := lw_g (lw_at lw_m2 167 rfl) rfl
theorem q857 : (Jvm.Cond.selects "Dialectdepot$Back" ({ cls := "java/lang/Object", name := "getClass", desc := "()Ljava/lang/Class;" } : Jvm.MethodName) ({ cls := "java/lang/Object", name := "getClass", desc := "()Ljava/lang/Class;" } : Jvm.MethodName)) ∈ lw_all := lw_g (lw_at lw_m4 72 rfl) rfl
theorem q1555 : (Jvm.Cond.sameMethod "Dialectdepot$Back" "java/lang/Throwable" "getCause" "()Ljava/lang/Throwable;") ∈ lw_all := lw_g (lw_at lw_m7 50 rfl) rfl
theorem q1556 : (Jvm.Cond.selects "Dialectdepot$Back" ({ cls := "Dialectdepot$Back", name := "getCause", desc := "()Ljava/lang/Throwable;" } : Jvm.MethodName) ({ cls := "java/lang/Throwable", name := "getCause", desc := "()Ljava/lang/Throwable;" } : Jvm.MethodName)) ∈ lw_all := lw_g (lw_at lw_m7 51 rfl) rfl
theorem q1706 : (Jvm.Cond.instantiable "Dialectdepot$Back" (6 : Nat)) ∈ lw_all := lw_g (lw_at lw_m7 201 rfl) rfl
theorem q1707 : (Jvm.Cond.castable "Dialectdepot$Back" "Dialectdepot$Back") ∈ lw_tbl := lw_at lw_m7 202 rfl
theorem q1708 : (Jvm.Cond.selects "Dialectdepot$Back" ({ cls := "java/lang/Throwable", name := "fillInStackTrace", desc := "(I)Ljava/lang/Throwable;" } : Jvm.MethodName) ({ cls := "java/lang/Throwable", name := "fillInStackTrace", desc := "(I)Ljava/lang/Throwable;" } : Jvm.MethodName)) ∈ lw_all := lw_g (lw_at lw_m7 203 rfl) rfl
theorem q1709 : (Jvm.Cond.lays "Dialectdepot$Back" "java/lang/Throwable" "cause" "Ljava/lang/Throwable;") ∈ lw_all := lw_g (lw_at lw_m7 204 rfl) rfl
theorem q1710 : (Jvm.Cond.lays "Dialectdepot$Back" "java/lang/Throwable" "stackTrace" "[Ljava/lang/StackTraceElement;") ∈ lw_all := lw_g (lw_at lw_m7 205 rfl) rfl
theorem q1711 : (Jvm.Cond.lays "Dialectdepot$Back" "java/lang/Throwable" "suppressedExceptions" "Ljava/util/List;") ∈ lw_all := lw_g (lw_at lw_m7 206 rfl) rfl
theorem q1712 : (Jvm.Cond.lays "Dialectdepot$Back" "java/lang/Throwable" "detailMessage" "Ljava/lang/String;") ∈ lw_all := lw_g (lw_at lw_m7 207 rfl) rfl
theorem q1713 : (Jvm.Cond.lays "Dialectdepot$Back" "java/lang/Throwable" "backtrace" "Ljava/lang/Object;") ∈ lw_all := lw_g (lw_at lw_m7 208 rfl) rfl
theorem q1715 : (Jvm.Cond.instanceMethod ({ cls := "Dialectdepot$Back", name := "<init>", desc := "(Ljava/lang/Exception;)V" } : Jvm.MethodName)) ∈ lw_all := lw_g (lw_at lw_m7 210 rfl) rfl
theorem q1716 : (Jvm.Cond.code ({ cls := "Dialectdepot$Back", name := "<init>", desc := "(Ljava/lang/Exception;)V" } : Jvm.MethodName) prog_3_method_1_code (2 : Nat) (Option.none : Option Jvm.ClassFile.FieldType)) ∈ lw_all := lw_g (lw_at lw_m7 211 rfl) rfl
theorem q1717 : (Jvm.Cond.methodLink "Dialectdepot$Back" (1 : Nat) ({ cls := "java/lang/Exception", name := "<init>", desc := "(Ljava/lang/String;Ljava/lang/Throwable;)V" } : Jvm.MethodName)) ∈ lw_all := lw_g (lw_at lw_m7 212 rfl) rfl
theorem q1718 : (Jvm.Cond.lays "Dialectdepot$Back" "java/lang/Throwable" "depth" "I") ∈ lw_all := lw_g (lw_at lw_m7 213 rfl) rfl
theorem q1719 : (Jvm.Cond.superclass "Dialectdepot$Back" "java/lang/Exception") ∈ lw_all := lw_g (lw_at lw_m7 214 rfl) rfl
theorem q2467 : (Jvm.Cond.castable "Dialectdepot$Back" "java/lang/Object") ∈ lw_tbl := lw_at lw_m11 2 rfl
theorem in_X18 : ∀ w ∈ wsX180, w ∈ lw_all := lw_in wsX180 [1709, 1710, 1711, 1712, 1713, 1718] (by decide +kernel) (by decide +kernel)
/-! Dialectdepot$Tried -/
set_option maxRecDepth 100000
def RX19 : String := "Dialectdepot$Tried"
def TX19 : u_T := fun k => match k with
  | 0 => ("Dialectdepot$Tried", "parcel", "LDialectdepot$Parcel;", true)
  | 1 => ("Dialectdepot$Tried", "carrier", "I", true)
  | 2 => ("Dialectdepot$Tried", "street", "I", true)
  | 3 => ("Dialectdepot$Tried", "day", "I", true)
  | 4 => ("Dialectdepot$Tried", "isRight", "Z", true)
  | _ => ("Dialectdepot$Tried", "listeners", "I", true)
def tyX19 : Nat → FieldType := fun k => match k with
  | 0 => .object "Dialectdepot$Parcel"
  | 1 => .int
  | 2 => .int
  | 3 => .int
  | 4 => .boolean
  | _ => .int
abbrev wsX190 : List Cond := u_ws RX19 TX19 6
theorem nmX19 : ∀ a, a < 6 → ∀ b, b < 6 → a ≠ b → (TX19 a).2.1 ≠ (TX19 b).2.1 := by decide +kernel
theorem tyX19_ok : ∀ k, k < 6 → parseFieldDescriptor (TX19 k).2.2.1 = some (tyX19 k) := by decide +kernel
abbrev cX19_isRight : ByteArray := prog_16_method_9_code
def yX19_isRight : MethodName := ⟨RX19, "isRight", "()Z"⟩
theorem dX19_isRight_0 : decode cX19_isRight 0 = .ok (.aload_n 0, 1) := by decide +kernel
theorem dX19_isRight_1 : decode cX19_isRight 1 = .ok (.getfield 23, 3) := by decide +kernel
theorem dX19_isRight_4 : decode cX19_isRight 4 = .ok (.ireturn, 1) := by decide +kernel
abbrev cX19_carrier : ByteArray := prog_16_method_6_code
def yX19_carrier : MethodName := ⟨RX19, "carrier", "()I"⟩
theorem dX19_carrier_0 : decode cX19_carrier 0 = .ok (.aload_n 0, 1) := by decide +kernel
theorem dX19_carrier_1 : decode cX19_carrier 1 = .ok (.getfield 13, 3) := by decide +kernel
theorem dX19_carrier_4 : decode cX19_carrier 4 = .ok (.ireturn, 1) := by decide +kernel
abbrev cX19_parcel : ByteArray := prog_16_method_5_code
def yX19_parcel : MethodName := ⟨RX19, "parcel", "()LDialectdepot$Parcel;"⟩
theorem dX19_parcel_0 : decode cX19_parcel 0 = .ok (.aload_n 0, 1) := by decide +kernel
theorem dX19_parcel_1 : decode cX19_parcel 1 = .ok (.getfield 7, 3) := by decide +kernel
theorem dX19_parcel_4 : decode cX19_parcel 4 = .ok (.areturn, 1) := by decide +kernel
abbrev cX19_street : ByteArray := prog_16_method_7_code
def yX19_street : MethodName := ⟨RX19, "street", "()I"⟩
theorem dX19_street_0 : decode cX19_street 0 = .ok (.aload_n 0, 1) := by decide +kernel
theorem dX19_street_1 : decode cX19_street 1 = .ok (.getfield 17, 3) := by decide +kernel
theorem dX19_street_4 : decode cX19_street 4 = .ok (.ireturn, 1) := by decide +kernel
abbrev cX19_listeners : ByteArray := prog_16_method_10_code
def yX19_listeners : MethodName := ⟨RX19, "listeners", "()I"⟩
theorem dX19_listeners_0 : decode cX19_listeners 0 = .ok (.aload_n 0, 1) := by decide +kernel
theorem dX19_listeners_1 : decode cX19_listeners 1 = .ok (.getfield 27, 3) := by decide +kernel
theorem dX19_listeners_4 : decode cX19_listeners 4 = .ok (.ireturn, 1) := by decide +kernel
abbrev cX19_init : ByteArray := prog_16_method_1_code
def yX19_init : MethodName := ⟨RX19, "<init>", "(LDialectdepot$Parcel;IIIZI)V"⟩
def dkwX19_init_1 : List UInt8 := [181, 0, 20, 42, 21, 5, 181, 0, 23, 42, 21, 6, 181, 0, 27, 177]
abbrev dktX19_init_1 : List UInt8 := dkwX19_init_1 ++ []
def dkwX19_init_0 : List UInt8 := [42, 183, 0, 1, 42, 43, 181, 0, 7, 42, 28, 181, 0, 13, 42, 29, 181, 0, 17, 42, 21, 4]
abbrev dktX19_init_0 : List UInt8 := dkwX19_init_0 ++ dktX19_init_1
theorem dksX19_init_0 : cX19_init.data.toList.drop 0 = dktX19_init_0 := by decide +kernel
theorem dksX19_init_1 : cX19_init.data.toList.drop 22 = dktX19_init_1 := dk_seg dksX19_init_0 22 rfl rfl
theorem dX19_init_0 : decode cX19_init 0 = .ok (.aload_n 0, 1) := dk_42 (dk_at dksX19_init_0 0 rfl rfl)
theorem dX19_init_1 : decode cX19_init 1 = .ok (.invokespecial 1, 3) := dk_183 0 1 (dk_at dksX19_init_0 1 rfl rfl)
theorem dX19_init_4 : decode cX19_init 4 = .ok (.aload_n 0, 1) := dk_42 (dk_at dksX19_init_0 4 rfl rfl)
theorem dX19_init_5 : decode cX19_init 5 = .ok (.aload_n 1, 1) := dk_43 (dk_at dksX19_init_0 5 rfl rfl)
theorem dX19_init_6 : decode cX19_init 6 = .ok (.putfield 7, 3) := dk_181 0 7 (dk_at dksX19_init_0 6 rfl rfl)
theorem dX19_init_9 : decode cX19_init 9 = .ok (.aload_n 0, 1) := dk_42 (dk_at dksX19_init_0 9 rfl rfl)
theorem dX19_init_10 : decode cX19_init 10 = .ok (.iload_n 2, 1) := dk_28 (dk_at dksX19_init_0 10 rfl rfl)
theorem dX19_init_11 : decode cX19_init 11 = .ok (.putfield 13, 3) := dk_181 0 13 (dk_at dksX19_init_0 11 rfl rfl)
theorem dX19_init_14 : decode cX19_init 14 = .ok (.aload_n 0, 1) := dk_42 (dk_at dksX19_init_0 14 rfl rfl)
theorem dX19_init_15 : decode cX19_init 15 = .ok (.iload_n 3, 1) := dk_29 (dk_at dksX19_init_0 15 rfl rfl)
theorem dX19_init_16 : decode cX19_init 16 = .ok (.putfield 17, 3) := dk_181 0 17 (dk_at dksX19_init_0 16 rfl rfl)
theorem dX19_init_19 : decode cX19_init 19 = .ok (.aload_n 0, 1) := dk_42 (dk_at dksX19_init_0 19 rfl rfl)
theorem dX19_init_20 : decode cX19_init 20 = .ok (.iload 4, 2) := dk_21 4 (dk_at dksX19_init_0 20 rfl rfl)
theorem dX19_init_22 : decode cX19_init 22 = .ok (.putfield 20, 3) := dk_181 0 20 (dk_at dksX19_init_1 0 rfl rfl)
theorem dX19_init_25 : decode cX19_init 25 = .ok (.aload_n 0, 1) := dk_42 (dk_at dksX19_init_1 3 rfl rfl)
theorem dX19_init_26 : decode cX19_init 26 = .ok (.iload 5, 2) := dk_21 5 (dk_at dksX19_init_1 4 rfl rfl)
theorem dX19_init_28 : decode cX19_init 28 = .ok (.putfield 23, 3) := dk_181 0 23 (dk_at dksX19_init_1 6 rfl rfl)
theorem dX19_init_31 : decode cX19_init 31 = .ok (.aload_n 0, 1) := dk_42 (dk_at dksX19_init_1 9 rfl rfl)
theorem dX19_init_32 : decode cX19_init 32 = .ok (.iload 6, 2) := dk_21 6 (dk_at dksX19_init_1 10 rfl rfl)
theorem dX19_init_34 : decode cX19_init 34 = .ok (.putfield 27, 3) := dk_181 0 27 (dk_at dksX19_init_1 12 rfl rfl)
theorem dX19_init_37 : decode cX19_init 37 = .ok (.return_, 1) := dk_177 (dk_at dksX19_init_1 15 rfl rfl)
abbrev cX19_day : ByteArray := prog_16_method_8_code
def yX19_day : MethodName := ⟨RX19, "day", "()I"⟩
theorem dX19_day_0 : decode cX19_day 0 = .ok (.aload_n 0, 1) := by decide +kernel
theorem dX19_day_1 : decode cX19_day 1 = .ok (.getfield 20, 3) := by decide +kernel
theorem dX19_day_4 : decode cX19_day 4 = .ok (.ireturn, 1) := by decide +kernel
theorem q111 : (Jvm.Cond.initialized "Dialectdepot$Tried") ∈ lw_all := lw_g (lw_at lw_m1 46 rfl) rfl
theorem q376 : (Jvm.Cond.instanceMethod ({ cls := "Dialectdepot$Tried", name := "isRight", desc := "()Z" } : Jvm.MethodName)) ∈ lw_all := lw_g (lw_at lw_m2 71 rfl) rfl
theorem q377 : (Jvm.Cond.selects "Dialectdepot$Tried" ({ cls := "Dialectdepot$Tried", name := "isRight", desc := "()Z" } : Jvm.MethodName) ({ cls := "Dialectdepot$Tried", name := "isRight", desc := "()Z" } : Jvm.MethodName)) ∈ lw_all := lw_g (lw_at lw_m2 72 rfl) rfl
theorem q378 : (Jvm.Cond.code ({ cls := "Dialectdepot$Tried", name := "isRight", desc := "()Z" } : Jvm.MethodName) prog_16_method_9_code (1 : Nat) (Option.some Jvm.ClassFile.FieldType.boolean)) ∈ lw_all := lw_g (lw_at lw_m2 73 rfl) rfl
theorem q380 : (Jvm.Cond.instanceMethod ({ cls := "Dialectdepot$Tried", name := "carrier", desc := "()I" } : Jvm.MethodName)) ∈ lw_all := lw_g (lw_at lw_m2 75 rfl) rfl
theorem q381 : (Jvm.Cond.selects "Dialectdepot$Tried" ({ cls := "Dialectdepot$Tried", name := "carrier", desc := "()I" } : Jvm.MethodName) ({ cls := "Dialectdepot$Tried", name := "carrier", desc := "()I" } : Jvm.MethodName)) ∈ lw_all := lw_g (lw_at lw_m2 76 rfl) rfl
theorem q382 : (Jvm.Cond.code ({ cls := "Dialectdepot$Tried", name := "carrier", desc := "()I" } : Jvm.MethodName) prog_16_method_6_code (1 : Nat) (Option.some Jvm.ClassFile.FieldType.int)) ∈ lw_all := lw_g (lw_at lw_m2 77 rfl) rfl
theorem q384 : (Jvm.Cond.instanceMethod ({ cls := "Dialectdepot$Tried", name := "parcel", desc := "()LDialectdepot$Parcel;" } : Jvm.MethodName)) ∈ lw_all := lw_g (lw_at lw_m2 79 rfl) rfl
theorem q385 : (Jvm.Cond.selects "Dialectdepot$Tried" ({ cls := "Dialectdepot$Tried", name := "parcel", desc := "()LDialectdepot$Parcel;" } : Jvm.MethodName) ({ cls := "Dialectdepot$Tried", name := "parcel", desc := "()LDialectdepot$Parcel;" } : Jvm.MethodName)) ∈ lw_all := lw_g (lw_at lw_m2 80 rfl) rfl
theorem q386 : (Jvm.Cond.code ({ cls := "Dialectdepot$Tried", name := "parcel", desc := "()LDialectdepot$Parcel;" } : Jvm.MethodName) prog_16_method_5_code (1 : Nat) (Option.some (Jvm.ClassFile.FieldType.object "Dialectdepot$Parcel"))) ∈ lw_all := lw_g (lw_at lw_m2 81 rfl) rfl
theorem q388 : (Jvm.Cond.instanceMethod ({ cls := "Dialectdepot$Tried", name := "street", desc := "()I" } : Jvm.MethodName)) ∈ lw_all := lw_g (lw_at lw_m2 83 rfl) rfl
theorem q389 : (Jvm.Cond.selects "Dialectdepot$Tried" ({ cls := "Dialectdepot$Tried", name := "street", desc := "()I" } : Jvm.MethodName) ({ cls := "Dialectdepot$Tried", name := "street", desc := "()I" } : Jvm.MethodName)) ∈ lw_all := lw_g (lw_at lw_m2 84 rfl) rfl
theorem q390 : (Jvm.Cond.code ({ cls := "Dialectdepot$Tried", name := "street", desc := "()I" } : Jvm.MethodName) prog_16_method_7_code (1 : Nat) (Option.some Jvm.ClassFile.FieldType.int)) ∈ lw_all := lw_g (lw_at lw_m2 85 rfl) rfl
theorem q398 : (Jvm.Cond.instanceMethod ({ cls := "Dialectdepot$Tried", name := "listeners", desc := "()I" } : Jvm.MethodName)) ∈ lw_all := lw_g (lw_at lw_m2 93 rfl) rfl
theorem q399 : (Jvm.Cond.selects "Dialectdepot$Tried" ({ cls := "Dialectdepot$Tried", name := "listeners", desc := "()I" } : Jvm.MethodName) ({ cls := "Dialectdepot$Tried", name := "listeners", desc := "()I" } : Jvm.MethodName)) ∈ lw_all := lw_g (lw_at lw_m2 94 rfl) rfl
theorem q400 : (Jvm.Cond.code ({ cls := "Dialectdepot$Tried", name := "listeners", desc := "()I" } : Jvm.MethodName) prog_16_method_10_code (1 : Nat) (Option.some Jvm.ClassFile.FieldType.int)) ∈ lw_all := lw_g (lw_at lw_m2 95 rfl) rfl
theorem q868 : (Jvm.Cond.selects "Dialectdepot$Tried" ({ cls := "java/lang/Object", name := "getClass", desc := "()Ljava/lang/Class;" } : Jvm.MethodName) ({ cls := "java/lang/Object", name := "getClass", desc := "()Ljava/lang/Class;" } : Jvm.MethodName)) ∈ lw_all := lw_g (lw_at lw_m4 83 rfl) rfl
theorem q1724 : (Jvm.Cond.instantiable "Dialectdepot$Tried" (6 : Nat)) ∈ lw_all := lw_g (lw_at lw_m7 219 rfl) rfl
theorem q1730 : (Jvm.Cond.instanceMethod ({ cls := "Dialectdepot$Tried", name := "<init>", desc := "(LDialectdepot$Parcel;IIIZI)V" } : Jvm.MethodName)) ∈ lw_all := lw_g (lw_at lw_m7 225 rfl) rfl
theorem q1731 : (Jvm.Cond.code ({ cls := "Dialectdepot$Tried", name := "<init>", desc := "(LDialectdepot$Parcel;IIIZI)V" } : Jvm.MethodName) prog_16_method_1_code (7 : Nat) (Option.none : Option Jvm.ClassFile.FieldType)) ∈ lw_all := lw_g (lw_at lw_m7 226 rfl) rfl
theorem q1732 : (Jvm.Cond.methodLink "Dialectdepot$Tried" (1 : Nat) ({ cls := "java/lang/Record", name := "<init>", desc := "()V" } : Jvm.MethodName)) ∈ lw_all := lw_g (lw_at lw_m7 227 rfl) rfl
theorem q1733 : (Jvm.Cond.fieldLink "Dialectdepot$Tried" (7 : Nat) "Dialectdepot$Tried" "parcel" "LDialectdepot$Parcel;") ∈ lw_all := lw_g (lw_at lw_m7 228 rfl) rfl
theorem q1734 : (Jvm.Cond.fieldLink "Dialectdepot$Tried" (13 : Nat) "Dialectdepot$Tried" "carrier" "I") ∈ lw_all := lw_g (lw_at lw_m7 229 rfl) rfl
theorem q1735 : (Jvm.Cond.fieldLink "Dialectdepot$Tried" (17 : Nat) "Dialectdepot$Tried" "street" "I") ∈ lw_all := lw_g (lw_at lw_m7 230 rfl) rfl
theorem q1736 : (Jvm.Cond.fieldLink "Dialectdepot$Tried" (20 : Nat) "Dialectdepot$Tried" "day" "I") ∈ lw_all := lw_g (lw_at lw_m7 231 rfl) rfl
theorem q1737 : (Jvm.Cond.fieldLink "Dialectdepot$Tried" (23 : Nat) "Dialectdepot$Tried" "isRight" "Z") ∈ lw_all := lw_g (lw_at lw_m7 232 rfl) rfl
theorem q1738 : (Jvm.Cond.fieldLink "Dialectdepot$Tried" (27 : Nat) "Dialectdepot$Tried" "listeners" "I") ∈ lw_all := lw_g (lw_at lw_m7 233 rfl) rfl
theorem q1739 : (Jvm.Cond.laysFinal "Dialectdepot$Tried" "Dialectdepot$Tried" "parcel" "LDialectdepot$Parcel;") ∈ lw_all := lw_g (lw_at lw_m7 234 rfl) rfl
theorem q1740 : (Jvm.Cond.soleField "Dialectdepot$Tried" "parcel") ∈ lw_all := lw_g (lw_at lw_m7 235 rfl) rfl
theorem q1741 : (Jvm.Cond.laysFinal "Dialectdepot$Tried" "Dialectdepot$Tried" "carrier" "I") ∈ lw_all := lw_g (lw_at lw_m7 236 rfl) rfl
theorem q1742 : (Jvm.Cond.soleField "Dialectdepot$Tried" "carrier") ∈ lw_all := lw_g (lw_at lw_m7 237 rfl) rfl
theorem q1743 : (Jvm.Cond.laysFinal "Dialectdepot$Tried" "Dialectdepot$Tried" "street" "I") ∈ lw_all := lw_g (lw_at lw_m7 238 rfl) rfl
theorem q1744 : (Jvm.Cond.soleField "Dialectdepot$Tried" "street") ∈ lw_all := lw_g (lw_at lw_m7 239 rfl) rfl
theorem q1745 : (Jvm.Cond.laysFinal "Dialectdepot$Tried" "Dialectdepot$Tried" "day" "I") ∈ lw_all := lw_g (lw_at lw_m8 0 rfl) rfl
theorem q1746 : (Jvm.Cond.soleField "Dialectdepot$Tried" "day") ∈ lw_all := lw_g (lw_at lw_m8 1 rfl) rfl
theorem q1747 : (Jvm.Cond.laysFinal "Dialectdepot$Tried" "Dialectdepot$Tried" "isRight" "Z") ∈ lw_all := lw_g (lw_at lw_m8 2 rfl) rfl
theorem q1748 : (Jvm.Cond.soleField "Dialectdepot$Tried" "isRight") ∈ lw_all := lw_g (lw_at lw_m8 3 rfl) rfl
theorem q1749 : (Jvm.Cond.laysFinal "Dialectdepot$Tried" "Dialectdepot$Tried" "listeners" "I") ∈ lw_all := lw_g (lw_at lw_m8 4 rfl) rfl
theorem q1750 : (Jvm.Cond.soleField "Dialectdepot$Tried" "listeners") ∈ lw_all := lw_g (lw_at lw_m8 5 rfl) rfl
theorem q1751 : (Jvm.Cond.superclass "Dialectdepot$Tried" "java/lang/Record") ∈ lw_all := lw_g (lw_at lw_m8 6 rfl) rfl
theorem q1814 : (Jvm.Cond.instanceMethod ({ cls := "Dialectdepot$Tried", name := "day", desc := "()I" } : Jvm.MethodName)) ∈ lw_all := lw_g (lw_at lw_m8 69 rfl) rfl
theorem q1815 : (Jvm.Cond.selects "Dialectdepot$Tried" ({ cls := "Dialectdepot$Tried", name := "day", desc := "()I" } : Jvm.MethodName) ({ cls := "Dialectdepot$Tried", name := "day", desc := "()I" } : Jvm.MethodName)) ∈ lw_all := lw_g (lw_at lw_m8 70 rfl) rfl
theorem q1816 : (Jvm.Cond.code ({ cls := "Dialectdepot$Tried", name := "day", desc := "()I" } : Jvm.MethodName) prog_16_method_8_code (1 : Nat) (Option.some Jvm.ClassFile.FieldType.int)) ∈ lw_all := lw_g (lw_at lw_m8 71 rfl) rfl
theorem q2439 : (Jvm.Cond.castable "Dialectdepot$Tried" "Dialectdepot$Event") ∈ lw_tbl := lw_at lw_m10 214 rfl
theorem q2468 : (Jvm.Cond.castable "Dialectdepot$Tried" "java/lang/Object") ∈ lw_tbl := lw_at lw_m11 3 rfl
theorem in_X19 : ∀ w ∈ wsX190, w ∈ lw_all := lw_in wsX190 [1739, 1741, 1743, 1745, 1747, 1749] (by decide +kernel) (by decide +kernel)
/-! Dialectdepot$Forgotten -/
set_option maxRecDepth 100000
def RX20 : String := "Dialectdepot$Forgotten"
abbrev cX20_init : ByteArray := prog_9_method_1_code
def yX20_init : MethodName := ⟨RX20, "<init>", "()V"⟩
theorem dX20_init_0 : decode cX20_init 0 = .ok (.aload_n 0, 1) := by decide +kernel
theorem dX20_init_1 : decode cX20_init 1 = .ok (.invokespecial 1, 3) := by decide +kernel
theorem dX20_init_4 : decode cX20_init 4 = .ok (.return_, 1) := by decide +kernel
theorem q112 : (Jvm.Cond.initialized "Dialectdepot$Forgotten") ∈ lw_all := lw_g (lw_at lw_m1 47 rfl) rfl
theorem q861 : (Jvm.Cond.selects "Dialectdepot$Forgotten" ({ cls := "java/lang/Object", name := "getClass", desc := "()Ljava/lang/Class;" } : Jvm.MethodName) ({ cls := "java/lang/Object", name := "getClass", desc := "()Ljava/lang/Class;" } : Jvm.MethodName)) ∈ lw_all := lw_g (lw_at lw_m4 76 rfl) rfl
theorem q1779 : (Jvm.Cond.instantiable "Dialectdepot$Forgotten" (0 : Nat)) ∈ lw_all := lw_g (lw_at lw_m8 34 rfl) rfl
theorem q1781 : (Jvm.Cond.instanceMethod ({ cls := "Dialectdepot$Forgotten", name := "<init>", desc := "()V" } : Jvm.MethodName)) ∈ lw_all := lw_g (lw_at lw_m8 36 rfl) rfl
theorem q1782 : (Jvm.Cond.code ({ cls := "Dialectdepot$Forgotten", name := "<init>", desc := "()V" } : Jvm.MethodName) prog_9_method_1_code (1 : Nat) (Option.none : Option Jvm.ClassFile.FieldType)) ∈ lw_all := lw_g (lw_at lw_m8 37 rfl) rfl
theorem q1783 : (Jvm.Cond.methodLink "Dialectdepot$Forgotten" (1 : Nat) ({ cls := "java/lang/Record", name := "<init>", desc := "()V" } : Jvm.MethodName)) ∈ lw_all := lw_g (lw_at lw_m8 38 rfl) rfl
theorem q1784 : (Jvm.Cond.superclass "Dialectdepot$Forgotten" "java/lang/Record") ∈ lw_all := lw_g (lw_at lw_m8 39 rfl) rfl
theorem q2437 : (Jvm.Cond.castable "Dialectdepot$Forgotten" "Dialectdepot$Event") ∈ lw_tbl := lw_at lw_m10 212 rfl
theorem q2469 : (Jvm.Cond.castable "Dialectdepot$Forgotten" "java/lang/Object") ∈ lw_tbl := lw_at lw_m11 4 rfl
/-! Dialectdepot$Claim -/
set_option maxRecDepth 100000
def RX21 : String := "Dialectdepot$Claim"
def TX21 : u_T := fun k => match k with
  | 0 => ("Dialectdepot$Claim", "group", "I", true)
  | _ => ("Dialectdepot$Claim", "street", "I", true)
def tyX21 : Nat → FieldType := fun k => match k with
  | 0 => .int
  | _ => .int
abbrev wsX210 : List Cond := u_ws RX21 TX21 2
theorem nmX21 : ∀ a, a < 2 → ∀ b, b < 2 → a ≠ b → (TX21 a).2.1 ≠ (TX21 b).2.1 := by decide +kernel
theorem tyX21_ok : ∀ k, k < 2 → parseFieldDescriptor (TX21 k).2.2.1 = some (tyX21 k) := by decide +kernel
abbrev cX21_street : ByteArray := prog_6_method_6_code
def yX21_street : MethodName := ⟨RX21, "street", "()I"⟩
theorem dX21_street_0 : decode cX21_street 0 = .ok (.aload_n 0, 1) := by decide +kernel
theorem dX21_street_1 : decode cX21_street 1 = .ok (.getfield 13, 3) := by decide +kernel
theorem dX21_street_4 : decode cX21_street 4 = .ok (.ireturn, 1) := by decide +kernel
abbrev cX21_group : ByteArray := prog_6_method_5_code
def yX21_group : MethodName := ⟨RX21, "group", "()I"⟩
theorem dX21_group_0 : decode cX21_group 0 = .ok (.aload_n 0, 1) := by decide +kernel
theorem dX21_group_1 : decode cX21_group 1 = .ok (.getfield 7, 3) := by decide +kernel
theorem dX21_group_4 : decode cX21_group 4 = .ok (.ireturn, 1) := by decide +kernel
abbrev cX21_init : ByteArray := prog_6_method_1_code
def yX21_init : MethodName := ⟨RX21, "<init>", "(II)V"⟩
def dkwX21_init_0 : List UInt8 := [42, 183, 0, 1, 42, 27, 181, 0, 7, 42, 28, 181, 0, 13, 177]
abbrev dktX21_init_0 : List UInt8 := dkwX21_init_0 ++ []
theorem dksX21_init_0 : cX21_init.data.toList.drop 0 = dktX21_init_0 := by decide +kernel
theorem dX21_init_0 : decode cX21_init 0 = .ok (.aload_n 0, 1) := dk_42 (dk_at dksX21_init_0 0 rfl rfl)
theorem dX21_init_1 : decode cX21_init 1 = .ok (.invokespecial 1, 3) := dk_183 0 1 (dk_at dksX21_init_0 1 rfl rfl)
theorem dX21_init_4 : decode cX21_init 4 = .ok (.aload_n 0, 1) := dk_42 (dk_at dksX21_init_0 4 rfl rfl)
theorem dX21_init_5 : decode cX21_init 5 = .ok (.iload_n 1, 1) := dk_27 (dk_at dksX21_init_0 5 rfl rfl)
theorem dX21_init_6 : decode cX21_init 6 = .ok (.putfield 7, 3) := dk_181 0 7 (dk_at dksX21_init_0 6 rfl rfl)
theorem dX21_init_9 : decode cX21_init 9 = .ok (.aload_n 0, 1) := dk_42 (dk_at dksX21_init_0 9 rfl rfl)
theorem dX21_init_10 : decode cX21_init 10 = .ok (.iload_n 2, 1) := dk_28 (dk_at dksX21_init_0 10 rfl rfl)
theorem dX21_init_11 : decode cX21_init 11 = .ok (.putfield 13, 3) := dk_181 0 13 (dk_at dksX21_init_0 11 rfl rfl)
theorem dX21_init_14 : decode cX21_init 14 = .ok (.return_, 1) := dk_177 (dk_at dksX21_init_0 14 rfl rfl)
theorem q113 : (Jvm.Cond.initialized "Dialectdepot$Claim") ∈ lw_all := lw_g (lw_at lw_m1 48 rfl) rfl
theorem q859 : (Jvm.Cond.selects "Dialectdepot$Claim" ({ cls := "java/lang/Object", name := "getClass", desc := "()Ljava/lang/Class;" } : Jvm.MethodName) ({ cls := "java/lang/Object", name := "getClass", desc := "()Ljava/lang/Class;" } : Jvm.MethodName)) ∈ lw_all := lw_g (lw_at lw_m4 74 rfl) rfl
theorem q1771 : (Jvm.Cond.instanceMethod ({ cls := "Dialectdepot$Claim", name := "street", desc := "()I" } : Jvm.MethodName)) ∈ lw_all := lw_g (lw_at lw_m8 26 rfl) rfl
theorem q1772 : (Jvm.Cond.selects "Dialectdepot$Claim" ({ cls := "Dialectdepot$Claim", name := "street", desc := "()I" } : Jvm.MethodName) ({ cls := "Dialectdepot$Claim", name := "street", desc := "()I" } : Jvm.MethodName)) ∈ lw_all := lw_g (lw_at lw_m8 27 rfl) rfl
theorem q1773 : (Jvm.Cond.code ({ cls := "Dialectdepot$Claim", name := "street", desc := "()I" } : Jvm.MethodName) prog_6_method_6_code (1 : Nat) (Option.some Jvm.ClassFile.FieldType.int)) ∈ lw_all := lw_g (lw_at lw_m8 28 rfl) rfl
theorem q1841 : (Jvm.Cond.instanceMethod ({ cls := "Dialectdepot$Claim", name := "group", desc := "()I" } : Jvm.MethodName)) ∈ lw_all := lw_g (lw_at lw_m8 96 rfl) rfl
theorem q1842 : (Jvm.Cond.selects "Dialectdepot$Claim" ({ cls := "Dialectdepot$Claim", name := "group", desc := "()I" } : Jvm.MethodName) ({ cls := "Dialectdepot$Claim", name := "group", desc := "()I" } : Jvm.MethodName)) ∈ lw_all := lw_g (lw_at lw_m8 97 rfl) rfl
theorem q1843 : (Jvm.Cond.code ({ cls := "Dialectdepot$Claim", name := "group", desc := "()I" } : Jvm.MethodName) prog_6_method_5_code (1 : Nat) (Option.some Jvm.ClassFile.FieldType.int)) ∈ lw_all := lw_g (lw_at lw_m8 98 rfl) rfl
theorem q1844 : (Jvm.Cond.instantiable "Dialectdepot$Claim" (2 : Nat)) ∈ lw_all := lw_g (lw_at lw_m8 99 rfl) rfl
theorem q1846 : (Jvm.Cond.instanceMethod ({ cls := "Dialectdepot$Claim", name := "<init>", desc := "(II)V" } : Jvm.MethodName)) ∈ lw_all := lw_g (lw_at lw_m8 101 rfl) rfl
theorem q1847 : (Jvm.Cond.code ({ cls := "Dialectdepot$Claim", name := "<init>", desc := "(II)V" } : Jvm.MethodName) prog_6_method_1_code (3 : Nat) (Option.none : Option Jvm.ClassFile.FieldType)) ∈ lw_all := lw_g (lw_at lw_m8 102 rfl) rfl
theorem q1848 : (Jvm.Cond.methodLink "Dialectdepot$Claim" (1 : Nat) ({ cls := "java/lang/Record", name := "<init>", desc := "()V" } : Jvm.MethodName)) ∈ lw_all := lw_g (lw_at lw_m8 103 rfl) rfl
theorem q1849 : (Jvm.Cond.fieldLink "Dialectdepot$Claim" (7 : Nat) "Dialectdepot$Claim" "group" "I") ∈ lw_all := lw_g (lw_at lw_m8 104 rfl) rfl
theorem q1850 : (Jvm.Cond.fieldLink "Dialectdepot$Claim" (13 : Nat) "Dialectdepot$Claim" "street" "I") ∈ lw_all := lw_g (lw_at lw_m8 105 rfl) rfl
theorem q1851 : (Jvm.Cond.laysFinal "Dialectdepot$Claim" "Dialectdepot$Claim" "group" "I") ∈ lw_all := lw_g (lw_at lw_m8 106 rfl) rfl
theorem q1852 : (Jvm.Cond.soleField "Dialectdepot$Claim" "group") ∈ lw_all := lw_g (lw_at lw_m8 107 rfl) rfl
theorem q1853 : (Jvm.Cond.laysFinal "Dialectdepot$Claim" "Dialectdepot$Claim" "street" "I") ∈ lw_all := lw_g (lw_at lw_m8 108 rfl) rfl
theorem q1854 : (Jvm.Cond.soleField "Dialectdepot$Claim" "street") ∈ lw_all := lw_g (lw_at lw_m8 109 rfl) rfl
theorem q1855 : (Jvm.Cond.superclass "Dialectdepot$Claim" "java/lang/Record") ∈ lw_all := lw_g (lw_at lw_m8 110 rfl) rfl
theorem q2470 : (Jvm.Cond.castable "Dialectdepot$Claim" "java/lang/Object") ∈ lw_tbl := lw_at lw_m11 5 rfl
theorem in_X21 : ∀ w ∈ wsX210, w ∈ lw_all := lw_in wsX210 [1851, 1853] (by decide +kernel) (by decide +kernel)
