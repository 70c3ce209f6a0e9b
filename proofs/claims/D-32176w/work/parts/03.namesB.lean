/-! java/lang/AbstractStringBuilder -/
set_option maxRecDepth 100000
def RJ8 : String := "java/lang/AbstractStringBuilder"
abbrev cJ8_init : ByteArray := prog_25_method_2_code
def yJ8_init : MethodName := ⟨RJ8, "<init>", "(I)V"⟩
def dkwJ8_init_1 : List UInt8 := [167, 0, 16, 42, 27, 184, 0, 26, 181, 0, 15, 42, 4, 181, 0, 22, 177]
abbrev dktJ8_init_1 : List UInt8 := dkwJ8_init_1 ++ []
def dkwJ8_init_0 : List UInt8 := [42, 183, 0, 3, 178, 0, 18, 153, 0, 18, 42, 27, 188, 8, 181, 0, 15, 42, 3, 181, 0, 22]
abbrev dktJ8_init_0 : List UInt8 := dkwJ8_init_0 ++ dktJ8_init_1
theorem dksJ8_init_0 : cJ8_init.data.toList.drop 0 = dktJ8_init_0 := by decide +kernel
theorem dksJ8_init_1 : cJ8_init.data.toList.drop 22 = dktJ8_init_1 := dk_seg dksJ8_init_0 22 rfl rfl
theorem dJ8_init_0 : decode cJ8_init 0 = .ok (.aload_n 0, 1) := dk_42 (dk_at dksJ8_init_0 0 rfl rfl)
theorem dJ8_init_1 : decode cJ8_init 1 = .ok (.invokespecial 3, 3) := dk_183 0 3 (dk_at dksJ8_init_0 1 rfl rfl)
theorem dJ8_init_4 : decode cJ8_init 4 = .ok (.getstatic 18, 3) := dk_178 0 18 (dk_at dksJ8_init_0 4 rfl rfl)
theorem dJ8_init_7 : decode cJ8_init 7 = .ok (.ifCond .eq 18, 3) := dk_153 0 18 (dk_at dksJ8_init_0 7 rfl rfl)
theorem dJ8_init_10 : decode cJ8_init 10 = .ok (.aload_n 0, 1) := dk_42 (dk_at dksJ8_init_0 10 rfl rfl)
theorem dJ8_init_11 : decode cJ8_init 11 = .ok (.iload_n 1, 1) := dk_27 (dk_at dksJ8_init_0 11 rfl rfl)
theorem dJ8_init_12 : decode cJ8_init 12 = .ok (.newarray .byte, 2) := dk_188_8 (dk_at dksJ8_init_0 12 rfl rfl)
theorem dJ8_init_14 : decode cJ8_init 14 = .ok (.putfield 15, 3) := dk_181 0 15 (dk_at dksJ8_init_0 14 rfl rfl)
theorem dJ8_init_17 : decode cJ8_init 17 = .ok (.aload_n 0, 1) := dk_42 (dk_at dksJ8_init_0 17 rfl rfl)
theorem dJ8_init_18 : decode cJ8_init 18 = .ok (.iconst 0, 1) := dk_3 (dk_at dksJ8_init_0 18 rfl rfl)
theorem dJ8_init_19 : decode cJ8_init 19 = .ok (.putfield 22, 3) := dk_181 0 22 (dk_at dksJ8_init_0 19 rfl rfl)
theorem dJ8_init_22 : decode cJ8_init 22 = .ok (.goto 16, 3) := dk_167 0 16 (dk_at dksJ8_init_1 0 rfl rfl)
theorem dJ8_init_25 : decode cJ8_init 25 = .ok (.aload_n 0, 1) := dk_42 (dk_at dksJ8_init_1 3 rfl rfl)
theorem dJ8_init_26 : decode cJ8_init 26 = .ok (.iload_n 1, 1) := dk_27 (dk_at dksJ8_init_1 4 rfl rfl)
theorem dJ8_init_27 : decode cJ8_init 27 = .ok (.invokestatic 26, 3) := dk_184 0 26 (dk_at dksJ8_init_1 5 rfl rfl)
theorem dJ8_init_30 : decode cJ8_init 30 = .ok (.putfield 15, 3) := dk_181 0 15 (dk_at dksJ8_init_1 8 rfl rfl)
theorem dJ8_init_33 : decode cJ8_init 33 = .ok (.aload_n 0, 1) := dk_42 (dk_at dksJ8_init_1 11 rfl rfl)
theorem dJ8_init_34 : decode cJ8_init 34 = .ok (.iconst 1, 1) := dk_4 (dk_at dksJ8_init_1 12 rfl rfl)
theorem dJ8_init_35 : decode cJ8_init 35 = .ok (.putfield 22, 3) := dk_181 0 22 (dk_at dksJ8_init_1 13 rfl rfl)
theorem dJ8_init_38 : decode cJ8_init 38 = .ok (.return_, 1) := dk_177 (dk_at dksJ8_init_1 16 rfl rfl)
abbrev cJ8_getValue : ByteArray := prog_25_method_64_code
def yJ8_getValue : MethodName := ⟨RJ8, "getValue", "()[B"⟩
theorem dJ8_getValue_0 : decode cJ8_getValue 0 = .ok (.aload_n 0, 1) := by decide +kernel
theorem dJ8_getValue_1 : decode cJ8_getValue 1 = .ok (.getfield 15, 3) := by decide +kernel
theorem dJ8_getValue_4 : decode cJ8_getValue 4 = .ok (.areturn, 1) := by decide +kernel
abbrev cJ8_length : ByteArray := prog_25_method_6_code
def yJ8_length : MethodName := ⟨RJ8, "length", "()I"⟩
theorem dJ8_length_0 : decode cJ8_length 0 = .ok (.aload_n 0, 1) := by decide +kernel
theorem dJ8_length_1 : decode cJ8_length 1 = .ok (.getfield 79, 3) := by decide +kernel
theorem dJ8_length_4 : decode cJ8_length 4 = .ok (.ireturn, 1) := by decide +kernel
abbrev cJ8_isLatin1 : ByteArray := prog_25_method_68_code
def yJ8_isLatin1 : MethodName := ⟨RJ8, "isLatin1", "()Z"⟩
def dkwJ8_isLatin1_0 : List UInt8 := [178, 0, 18, 153, 0, 14, 42, 180, 0, 22, 154, 0, 7, 4, 167, 0, 4, 3, 172]
abbrev dktJ8_isLatin1_0 : List UInt8 := dkwJ8_isLatin1_0 ++ []
theorem dksJ8_isLatin1_0 : cJ8_isLatin1.data.toList.drop 0 = dktJ8_isLatin1_0 := by decide +kernel
theorem dJ8_isLatin1_0 : decode cJ8_isLatin1 0 = .ok (.getstatic 18, 3) := dk_178 0 18 (dk_at dksJ8_isLatin1_0 0 rfl rfl)
theorem dJ8_isLatin1_3 : decode cJ8_isLatin1 3 = .ok (.ifCond .eq 14, 3) := dk_153 0 14 (dk_at dksJ8_isLatin1_0 3 rfl rfl)
theorem dJ8_isLatin1_6 : decode cJ8_isLatin1 6 = .ok (.aload_n 0, 1) := dk_42 (dk_at dksJ8_isLatin1_0 6 rfl rfl)
theorem dJ8_isLatin1_7 : decode cJ8_isLatin1 7 = .ok (.getfield 22, 3) := dk_180 0 22 (dk_at dksJ8_isLatin1_0 7 rfl rfl)
theorem dJ8_isLatin1_10 : decode cJ8_isLatin1 10 = .ok (.ifCond .ne 7, 3) := dk_154 0 7 (dk_at dksJ8_isLatin1_0 10 rfl rfl)
theorem dJ8_isLatin1_13 : decode cJ8_isLatin1 13 = .ok (.iconst 1, 1) := dk_4 (dk_at dksJ8_isLatin1_0 13 rfl rfl)
theorem dJ8_isLatin1_14 : decode cJ8_isLatin1 14 = .ok (.goto 4, 3) := dk_167 0 4 (dk_at dksJ8_isLatin1_0 14 rfl rfl)
theorem dJ8_isLatin1_17 : decode cJ8_isLatin1 17 = .ok (.iconst 0, 1) := dk_3 (dk_at dksJ8_isLatin1_0 17 rfl rfl)
theorem dJ8_isLatin1_18 : decode cJ8_isLatin1 18 = .ok (.ireturn, 1) := dk_172 (dk_at dksJ8_isLatin1_0 18 rfl rfl)
abbrev cJ8_append : ByteArray := prog_25_method_32_code
def yJ8_append : MethodName := ⟨RJ8, "append", "(I)Ljava/lang/AbstractStringBuilder;"⟩
def dkwJ8_append_2 : List UInt8 := [42, 29, 181, 0, 79, 42, 176]
abbrev dktJ8_append_2 : List UInt8 := dkwJ8_append_2 ++ []
def dkwJ8_append_1 : List UInt8 := [27, 29, 42, 180, 0, 15, 184, 0, 248, 87, 167, 0, 14, 27, 28, 29, 42, 180, 0, 15, 184, 0, 251, 87]
abbrev dktJ8_append_1 : List UInt8 := dkwJ8_append_1 ++ dktJ8_append_2
def dkwJ8_append_0 : List UInt8 := [42, 180, 0, 79, 61, 28, 27, 184, 0, 245, 96, 62, 42, 29, 182, 0, 100, 42, 182, 0, 83, 153, 0, 16]
abbrev dktJ8_append_0 : List UInt8 := dkwJ8_append_0 ++ dktJ8_append_1
theorem dksJ8_append_0 : cJ8_append.data.toList.drop 0 = dktJ8_append_0 := by decide +kernel
theorem dksJ8_append_1 : cJ8_append.data.toList.drop 24 = dktJ8_append_1 := dk_seg dksJ8_append_0 24 rfl rfl
theorem dksJ8_append_2 : cJ8_append.data.toList.drop 48 = dktJ8_append_2 := dk_seg dksJ8_append_1 24 rfl rfl
theorem dJ8_append_0 : decode cJ8_append 0 = .ok (.aload_n 0, 1) := dk_42 (dk_at dksJ8_append_0 0 rfl rfl)
theorem dJ8_append_1 : decode cJ8_append 1 = .ok (.getfield 79, 3) := dk_180 0 79 (dk_at dksJ8_append_0 1 rfl rfl)
theorem dJ8_append_4 : decode cJ8_append 4 = .ok (.istore_n 2, 1) := dk_61 (dk_at dksJ8_append_0 4 rfl rfl)
theorem dJ8_append_5 : decode cJ8_append 5 = .ok (.iload_n 2, 1) := dk_28 (dk_at dksJ8_append_0 5 rfl rfl)
theorem dJ8_append_6 : decode cJ8_append 6 = .ok (.iload_n 1, 1) := dk_27 (dk_at dksJ8_append_0 6 rfl rfl)
theorem dJ8_append_7 : decode cJ8_append 7 = .ok (.invokestatic 245, 3) := dk_184 0 245 (dk_at dksJ8_append_0 7 rfl rfl)
theorem dJ8_append_10 : decode cJ8_append 10 = .ok (.iadd, 1) := dk_96 (dk_at dksJ8_append_0 10 rfl rfl)
theorem dJ8_append_11 : decode cJ8_append 11 = .ok (.istore_n 3, 1) := dk_62 (dk_at dksJ8_append_0 11 rfl rfl)
theorem dJ8_append_12 : decode cJ8_append 12 = .ok (.aload_n 0, 1) := dk_42 (dk_at dksJ8_append_0 12 rfl rfl)
theorem dJ8_append_13 : decode cJ8_append 13 = .ok (.iload_n 3, 1) := dk_29 (dk_at dksJ8_append_0 13 rfl rfl)
theorem dJ8_append_14 : decode cJ8_append 14 = .ok (.invokevirtual 100, 3) := dk_182 0 100 (dk_at dksJ8_append_0 14 rfl rfl)
theorem dJ8_append_17 : decode cJ8_append 17 = .ok (.aload_n 0, 1) := dk_42 (dk_at dksJ8_append_0 17 rfl rfl)
theorem dJ8_append_18 : decode cJ8_append 18 = .ok (.invokevirtual 83, 3) := dk_182 0 83 (dk_at dksJ8_append_0 18 rfl rfl)
theorem dJ8_append_21 : decode cJ8_append 21 = .ok (.ifCond .eq 16, 3) := dk_153 0 16 (dk_at dksJ8_append_0 21 rfl rfl)
theorem dJ8_append_24 : decode cJ8_append 24 = .ok (.iload_n 1, 1) := dk_27 (dk_at dksJ8_append_1 0 rfl rfl)
theorem dJ8_append_25 : decode cJ8_append 25 = .ok (.iload_n 3, 1) := dk_29 (dk_at dksJ8_append_1 1 rfl rfl)
theorem dJ8_append_26 : decode cJ8_append 26 = .ok (.aload_n 0, 1) := dk_42 (dk_at dksJ8_append_1 2 rfl rfl)
theorem dJ8_append_27 : decode cJ8_append 27 = .ok (.getfield 15, 3) := dk_180 0 15 (dk_at dksJ8_append_1 3 rfl rfl)
theorem dJ8_append_30 : decode cJ8_append 30 = .ok (.invokestatic 248, 3) := dk_184 0 248 (dk_at dksJ8_append_1 6 rfl rfl)
theorem dJ8_append_33 : decode cJ8_append 33 = .ok (.pop, 1) := dk_87 (dk_at dksJ8_append_1 9 rfl rfl)
theorem dJ8_append_34 : decode cJ8_append 34 = .ok (.goto 14, 3) := dk_167 0 14 (dk_at dksJ8_append_1 10 rfl rfl)
theorem dJ8_append_37 : decode cJ8_append 37 = .ok (.iload_n 1, 1) := dk_27 (dk_at dksJ8_append_1 13 rfl rfl)
theorem dJ8_append_38 : decode cJ8_append 38 = .ok (.iload_n 2, 1) := dk_28 (dk_at dksJ8_append_1 14 rfl rfl)
theorem dJ8_append_39 : decode cJ8_append 39 = .ok (.iload_n 3, 1) := dk_29 (dk_at dksJ8_append_1 15 rfl rfl)
theorem dJ8_append_40 : decode cJ8_append 40 = .ok (.aload_n 0, 1) := dk_42 (dk_at dksJ8_append_1 16 rfl rfl)
theorem dJ8_append_41 : decode cJ8_append 41 = .ok (.getfield 15, 3) := dk_180 0 15 (dk_at dksJ8_append_1 17 rfl rfl)
theorem dJ8_append_44 : decode cJ8_append 44 = .ok (.invokestatic 251, 3) := dk_184 0 251 (dk_at dksJ8_append_1 20 rfl rfl)
theorem dJ8_append_47 : decode cJ8_append 47 = .ok (.pop, 1) := dk_87 (dk_at dksJ8_append_1 23 rfl rfl)
theorem dJ8_append_48 : decode cJ8_append 48 = .ok (.aload_n 0, 1) := dk_42 (dk_at dksJ8_append_2 0 rfl rfl)
theorem dJ8_append_49 : decode cJ8_append 49 = .ok (.iload_n 3, 1) := dk_29 (dk_at dksJ8_append_2 1 rfl rfl)
theorem dJ8_append_50 : decode cJ8_append 50 = .ok (.putfield 79, 3) := dk_181 0 79 (dk_at dksJ8_append_2 2 rfl rfl)
theorem dJ8_append_53 : decode cJ8_append 53 = .ok (.aload_n 0, 1) := dk_42 (dk_at dksJ8_append_2 5 rfl rfl)
theorem dJ8_append_54 : decode cJ8_append 54 = .ok (.areturn, 1) := dk_176 (dk_at dksJ8_append_2 6 rfl rfl)
abbrev cJ8_ensureCapacityInternal : ByteArray := prog_25_method_9_code
def yJ8_ensureCapacityInternal : MethodName := ⟨RJ8, "ensureCapacityInternal", "(I)V"⟩
def dkwJ8_ensureCapacityInternal_1 : List UInt8 := [182, 0, 104, 42, 180, 0, 22, 120, 184, 0, 108, 181, 0, 15, 177]
abbrev dktJ8_ensureCapacityInternal_1 : List UInt8 := dkwJ8_ensureCapacityInternal_1 ++ []
def dkwJ8_ensureCapacityInternal_0 : List UInt8 := [42, 180, 0, 15, 190, 42, 180, 0, 22, 122, 61, 27, 28, 100, 158, 0, 24, 42, 42, 180, 0, 15, 42, 27]
abbrev dktJ8_ensureCapacityInternal_0 : List UInt8 := dkwJ8_ensureCapacityInternal_0 ++ dktJ8_ensureCapacityInternal_1
theorem dksJ8_ensureCapacityInternal_0 : cJ8_ensureCapacityInternal.data.toList.drop 0 = dktJ8_ensureCapacityInternal_0 := by decide +kernel
theorem dksJ8_ensureCapacityInternal_1 : cJ8_ensureCapacityInternal.data.toList.drop 24 = dktJ8_ensureCapacityInternal_1 := dk_seg dksJ8_ensureCapacityInternal_0 24 rfl rfl
theorem dJ8_ensureCapacityInternal_0 : decode cJ8_ensureCapacityInternal 0 = .ok (.aload_n 0, 1) := dk_42 (dk_at dksJ8_ensureCapacityInternal_0 0 rfl rfl)
theorem dJ8_ensureCapacityInternal_1 : decode cJ8_ensureCapacityInternal 1 = .ok (.getfield 15, 3) := dk_180 0 15 (dk_at dksJ8_ensureCapacityInternal_0 1 rfl rfl)
theorem dJ8_ensureCapacityInternal_4 : decode cJ8_ensureCapacityInternal 4 = .ok (.arraylength, 1) := dk_190 (dk_at dksJ8_ensureCapacityInternal_0 4 rfl rfl)
theorem dJ8_ensureCapacityInternal_5 : decode cJ8_ensureCapacityInternal 5 = .ok (.aload_n 0, 1) := dk_42 (dk_at dksJ8_ensureCapacityInternal_0 5 rfl rfl)
theorem dJ8_ensureCapacityInternal_6 : decode cJ8_ensureCapacityInternal 6 = .ok (.getfield 22, 3) := dk_180 0 22 (dk_at dksJ8_ensureCapacityInternal_0 6 rfl rfl)
theorem dJ8_ensureCapacityInternal_9 : decode cJ8_ensureCapacityInternal 9 = .ok (.ishr, 1) := dk_122 (dk_at dksJ8_ensureCapacityInternal_0 9 rfl rfl)
theorem dJ8_ensureCapacityInternal_10 : decode cJ8_ensureCapacityInternal 10 = .ok (.istore_n 2, 1) := dk_61 (dk_at dksJ8_ensureCapacityInternal_0 10 rfl rfl)
theorem dJ8_ensureCapacityInternal_11 : decode cJ8_ensureCapacityInternal 11 = .ok (.iload_n 1, 1) := dk_27 (dk_at dksJ8_ensureCapacityInternal_0 11 rfl rfl)
theorem dJ8_ensureCapacityInternal_12 : decode cJ8_ensureCapacityInternal 12 = .ok (.iload_n 2, 1) := dk_28 (dk_at dksJ8_ensureCapacityInternal_0 12 rfl rfl)
theorem dJ8_ensureCapacityInternal_13 : decode cJ8_ensureCapacityInternal 13 = .ok (.isub, 1) := dk_100 (dk_at dksJ8_ensureCapacityInternal_0 13 rfl rfl)
theorem dJ8_ensureCapacityInternal_14 : decode cJ8_ensureCapacityInternal 14 = .ok (.ifCond .le 24, 3) := dk_158 0 24 (dk_at dksJ8_ensureCapacityInternal_0 14 rfl rfl)
theorem dJ8_ensureCapacityInternal_17 : decode cJ8_ensureCapacityInternal 17 = .ok (.aload_n 0, 1) := dk_42 (dk_at dksJ8_ensureCapacityInternal_0 17 rfl rfl)
theorem dJ8_ensureCapacityInternal_18 : decode cJ8_ensureCapacityInternal 18 = .ok (.aload_n 0, 1) := dk_42 (dk_at dksJ8_ensureCapacityInternal_0 18 rfl rfl)
theorem dJ8_ensureCapacityInternal_19 : decode cJ8_ensureCapacityInternal 19 = .ok (.getfield 15, 3) := dk_180 0 15 (dk_at dksJ8_ensureCapacityInternal_0 19 rfl rfl)
theorem dJ8_ensureCapacityInternal_22 : decode cJ8_ensureCapacityInternal 22 = .ok (.aload_n 0, 1) := dk_42 (dk_at dksJ8_ensureCapacityInternal_0 22 rfl rfl)
theorem dJ8_ensureCapacityInternal_23 : decode cJ8_ensureCapacityInternal 23 = .ok (.iload_n 1, 1) := dk_27 (dk_at dksJ8_ensureCapacityInternal_0 23 rfl rfl)
theorem dJ8_ensureCapacityInternal_24 : decode cJ8_ensureCapacityInternal 24 = .ok (.invokevirtual 104, 3) := dk_182 0 104 (dk_at dksJ8_ensureCapacityInternal_1 0 rfl rfl)
theorem dJ8_ensureCapacityInternal_27 : decode cJ8_ensureCapacityInternal 27 = .ok (.aload_n 0, 1) := dk_42 (dk_at dksJ8_ensureCapacityInternal_1 3 rfl rfl)
theorem dJ8_ensureCapacityInternal_28 : decode cJ8_ensureCapacityInternal 28 = .ok (.getfield 22, 3) := dk_180 0 22 (dk_at dksJ8_ensureCapacityInternal_1 4 rfl rfl)
theorem dJ8_ensureCapacityInternal_31 : decode cJ8_ensureCapacityInternal 31 = .ok (.ishl, 1) := dk_120 (dk_at dksJ8_ensureCapacityInternal_1 7 rfl rfl)
theorem dJ8_ensureCapacityInternal_32 : decode cJ8_ensureCapacityInternal 32 = .ok (.invokestatic 108, 3) := dk_184 0 108 (dk_at dksJ8_ensureCapacityInternal_1 8 rfl rfl)
theorem dJ8_ensureCapacityInternal_35 : decode cJ8_ensureCapacityInternal 35 = .ok (.putfield 15, 3) := dk_181 0 15 (dk_at dksJ8_ensureCapacityInternal_1 11 rfl rfl)
theorem dJ8_ensureCapacityInternal_38 : decode cJ8_ensureCapacityInternal 38 = .ok (.return_, 1) := dk_177 (dk_at dksJ8_ensureCapacityInternal_1 14 rfl rfl)
abbrev cJ8_newCapacity : ByteArray := prog_25_method_10_code
def yJ8_newCapacity : MethodName := ⟨RJ8, "newCapacity", "(I)I"⟩
def dkwJ8_newCapacity_2 : List UInt8 := [183, 0, 124, 191, 21, 5, 42, 180, 0, 22, 122, 172]
abbrev dktJ8_newCapacity_2 : List UInt8 := dkwJ8_newCapacity_2 ++ []
def dkwJ8_newCapacity_1 : List UInt8 := [180, 0, 22, 120, 96, 184, 0, 114, 54, 5, 21, 5, 18, 39, 160, 0, 13, 187, 0, 120, 89, 18, 122]
abbrev dktJ8_newCapacity_1 : List UInt8 := dkwJ8_newCapacity_1 ++ dktJ8_newCapacity_2
def dkwJ8_newCapacity_0 : List UInt8 := [42, 180, 0, 15, 190, 61, 27, 42, 180, 0, 22, 120, 62, 29, 28, 100, 54, 4, 28, 21, 4, 28, 5, 42]
abbrev dktJ8_newCapacity_0 : List UInt8 := dkwJ8_newCapacity_0 ++ dktJ8_newCapacity_1
theorem dksJ8_newCapacity_0 : cJ8_newCapacity.data.toList.drop 0 = dktJ8_newCapacity_0 := by decide +kernel
theorem dksJ8_newCapacity_1 : cJ8_newCapacity.data.toList.drop 24 = dktJ8_newCapacity_1 := dk_seg dksJ8_newCapacity_0 24 rfl rfl
theorem dksJ8_newCapacity_2 : cJ8_newCapacity.data.toList.drop 47 = dktJ8_newCapacity_2 := dk_seg dksJ8_newCapacity_1 23 rfl rfl
theorem dJ8_newCapacity_0 : decode cJ8_newCapacity 0 = .ok (.aload_n 0, 1) := dk_42 (dk_at dksJ8_newCapacity_0 0 rfl rfl)
theorem dJ8_newCapacity_1 : decode cJ8_newCapacity 1 = .ok (.getfield 15, 3) := dk_180 0 15 (dk_at dksJ8_newCapacity_0 1 rfl rfl)
theorem dJ8_newCapacity_4 : decode cJ8_newCapacity 4 = .ok (.arraylength, 1) := dk_190 (dk_at dksJ8_newCapacity_0 4 rfl rfl)
theorem dJ8_newCapacity_5 : decode cJ8_newCapacity 5 = .ok (.istore_n 2, 1) := dk_61 (dk_at dksJ8_newCapacity_0 5 rfl rfl)
theorem dJ8_newCapacity_6 : decode cJ8_newCapacity 6 = .ok (.iload_n 1, 1) := dk_27 (dk_at dksJ8_newCapacity_0 6 rfl rfl)
theorem dJ8_newCapacity_7 : decode cJ8_newCapacity 7 = .ok (.aload_n 0, 1) := dk_42 (dk_at dksJ8_newCapacity_0 7 rfl rfl)
theorem dJ8_newCapacity_8 : decode cJ8_newCapacity 8 = .ok (.getfield 22, 3) := dk_180 0 22 (dk_at dksJ8_newCapacity_0 8 rfl rfl)
theorem dJ8_newCapacity_11 : decode cJ8_newCapacity 11 = .ok (.ishl, 1) := dk_120 (dk_at dksJ8_newCapacity_0 11 rfl rfl)
theorem dJ8_newCapacity_12 : decode cJ8_newCapacity 12 = .ok (.istore_n 3, 1) := dk_62 (dk_at dksJ8_newCapacity_0 12 rfl rfl)
theorem dJ8_newCapacity_13 : decode cJ8_newCapacity 13 = .ok (.iload_n 3, 1) := dk_29 (dk_at dksJ8_newCapacity_0 13 rfl rfl)
theorem dJ8_newCapacity_14 : decode cJ8_newCapacity 14 = .ok (.iload_n 2, 1) := dk_28 (dk_at dksJ8_newCapacity_0 14 rfl rfl)
theorem dJ8_newCapacity_15 : decode cJ8_newCapacity 15 = .ok (.isub, 1) := dk_100 (dk_at dksJ8_newCapacity_0 15 rfl rfl)
theorem dJ8_newCapacity_16 : decode cJ8_newCapacity 16 = .ok (.istore 4, 2) := dk_54 4 (dk_at dksJ8_newCapacity_0 16 rfl rfl)
theorem dJ8_newCapacity_18 : decode cJ8_newCapacity 18 = .ok (.iload_n 2, 1) := dk_28 (dk_at dksJ8_newCapacity_0 18 rfl rfl)
theorem dJ8_newCapacity_19 : decode cJ8_newCapacity 19 = .ok (.iload 4, 2) := dk_21 4 (dk_at dksJ8_newCapacity_0 19 rfl rfl)
theorem dJ8_newCapacity_21 : decode cJ8_newCapacity 21 = .ok (.iload_n 2, 1) := dk_28 (dk_at dksJ8_newCapacity_0 21 rfl rfl)
theorem dJ8_newCapacity_22 : decode cJ8_newCapacity 22 = .ok (.iconst 2, 1) := dk_5 (dk_at dksJ8_newCapacity_0 22 rfl rfl)
theorem dJ8_newCapacity_23 : decode cJ8_newCapacity 23 = .ok (.aload_n 0, 1) := dk_42 (dk_at dksJ8_newCapacity_0 23 rfl rfl)
theorem dJ8_newCapacity_24 : decode cJ8_newCapacity 24 = .ok (.getfield 22, 3) := dk_180 0 22 (dk_at dksJ8_newCapacity_1 0 rfl rfl)
theorem dJ8_newCapacity_27 : decode cJ8_newCapacity 27 = .ok (.ishl, 1) := dk_120 (dk_at dksJ8_newCapacity_1 3 rfl rfl)
theorem dJ8_newCapacity_28 : decode cJ8_newCapacity 28 = .ok (.iadd, 1) := dk_96 (dk_at dksJ8_newCapacity_1 4 rfl rfl)
theorem dJ8_newCapacity_29 : decode cJ8_newCapacity 29 = .ok (.invokestatic 114, 3) := dk_184 0 114 (dk_at dksJ8_newCapacity_1 5 rfl rfl)
theorem dJ8_newCapacity_32 : decode cJ8_newCapacity 32 = .ok (.istore 5, 2) := dk_54 5 (dk_at dksJ8_newCapacity_1 8 rfl rfl)
theorem dJ8_newCapacity_34 : decode cJ8_newCapacity 34 = .ok (.iload 5, 2) := dk_21 5 (dk_at dksJ8_newCapacity_1 10 rfl rfl)
theorem dJ8_newCapacity_36 : decode cJ8_newCapacity 36 = .ok (.ldc 39, 2) := dk_18 39 (dk_at dksJ8_newCapacity_1 12 rfl rfl)
theorem dJ8_newCapacity_38 : decode cJ8_newCapacity 38 = .ok (.if_icmp .ne 13, 3) := dk_160 0 13 (dk_at dksJ8_newCapacity_1 14 rfl rfl)
theorem dJ8_newCapacity_41 : decode cJ8_newCapacity 41 = .ok (.new 120, 3) := dk_187 0 120 (dk_at dksJ8_newCapacity_1 17 rfl rfl)
theorem dJ8_newCapacity_44 : decode cJ8_newCapacity 44 = .ok (.dup, 1) := dk_89 (dk_at dksJ8_newCapacity_1 20 rfl rfl)
theorem dJ8_newCapacity_45 : decode cJ8_newCapacity 45 = .ok (.ldc 122, 2) := dk_18 122 (dk_at dksJ8_newCapacity_1 21 rfl rfl)
theorem dJ8_newCapacity_47 : decode cJ8_newCapacity 47 = .ok (.invokespecial 124, 3) := dk_183 0 124 (dk_at dksJ8_newCapacity_2 0 rfl rfl)
theorem dJ8_newCapacity_50 : decode cJ8_newCapacity 50 = .ok (.athrow, 1) := dk_191 (dk_at dksJ8_newCapacity_2 3 rfl rfl)
theorem dJ8_newCapacity_51 : decode cJ8_newCapacity 51 = .ok (.iload 5, 2) := dk_21 5 (dk_at dksJ8_newCapacity_2 4 rfl rfl)
theorem dJ8_newCapacity_53 : decode cJ8_newCapacity 53 = .ok (.aload_n 0, 1) := dk_42 (dk_at dksJ8_newCapacity_2 6 rfl rfl)
theorem dJ8_newCapacity_54 : decode cJ8_newCapacity 54 = .ok (.getfield 22, 3) := dk_180 0 22 (dk_at dksJ8_newCapacity_2 7 rfl rfl)
theorem dJ8_newCapacity_57 : decode cJ8_newCapacity 57 = .ok (.ishr, 1) := dk_122 (dk_at dksJ8_newCapacity_2 10 rfl rfl)
theorem dJ8_newCapacity_58 : decode cJ8_newCapacity 58 = .ok (.ireturn, 1) := dk_172 (dk_at dksJ8_newCapacity_2 11 rfl rfl)
abbrev cJ8_append_2 : ByteArray := prog_25_method_22_code
def yJ8_append_2 : MethodName := ⟨RJ8, "append", "(Ljava/lang/String;)Ljava/lang/AbstractStringBuilder;"⟩
def dkwJ8_append_2_1 : List UInt8 := [42, 42, 180, 0, 79, 43, 182, 0, 208, 42, 89, 180, 0, 79, 28, 96, 181, 0, 79, 42, 176]
abbrev dktJ8_append_2_1 : List UInt8 := dkwJ8_append_2_1 ++ []
def dkwJ8_append_2_0 : List UInt8 := [43, 199, 0, 8, 42, 182, 0, 204, 176, 43, 182, 0, 32, 61, 42, 42, 180, 0, 79, 28, 96, 182, 0, 100]
abbrev dktJ8_append_2_0 : List UInt8 := dkwJ8_append_2_0 ++ dktJ8_append_2_1
theorem dksJ8_append_2_0 : cJ8_append_2.data.toList.drop 0 = dktJ8_append_2_0 := by decide +kernel
theorem dksJ8_append_2_1 : cJ8_append_2.data.toList.drop 24 = dktJ8_append_2_1 := dk_seg dksJ8_append_2_0 24 rfl rfl
theorem dJ8_append_2_0 : decode cJ8_append_2 0 = .ok (.aload_n 1, 1) := dk_43 (dk_at dksJ8_append_2_0 0 rfl rfl)
theorem dJ8_append_2_1 : decode cJ8_append_2 1 = .ok (.ifnonnull 8, 3) := dk_199 0 8 (dk_at dksJ8_append_2_0 1 rfl rfl)
theorem dJ8_append_2_4 : decode cJ8_append_2 4 = .ok (.aload_n 0, 1) := dk_42 (dk_at dksJ8_append_2_0 4 rfl rfl)
theorem dJ8_append_2_5 : decode cJ8_append_2 5 = .ok (.invokevirtual 204, 3) := dk_182 0 204 (dk_at dksJ8_append_2_0 5 rfl rfl)
theorem dJ8_append_2_8 : decode cJ8_append_2 8 = .ok (.areturn, 1) := dk_176 (dk_at dksJ8_append_2_0 8 rfl rfl)
theorem dJ8_append_2_9 : decode cJ8_append_2 9 = .ok (.aload_n 1, 1) := dk_43 (dk_at dksJ8_append_2_0 9 rfl rfl)
theorem dJ8_append_2_10 : decode cJ8_append_2 10 = .ok (.invokevirtual 32, 3) := dk_182 0 32 (dk_at dksJ8_append_2_0 10 rfl rfl)
theorem dJ8_append_2_13 : decode cJ8_append_2 13 = .ok (.istore_n 2, 1) := dk_61 (dk_at dksJ8_append_2_0 13 rfl rfl)
theorem dJ8_append_2_14 : decode cJ8_append_2 14 = .ok (.aload_n 0, 1) := dk_42 (dk_at dksJ8_append_2_0 14 rfl rfl)
theorem dJ8_append_2_15 : decode cJ8_append_2 15 = .ok (.aload_n 0, 1) := dk_42 (dk_at dksJ8_append_2_0 15 rfl rfl)
theorem dJ8_append_2_16 : decode cJ8_append_2 16 = .ok (.getfield 79, 3) := dk_180 0 79 (dk_at dksJ8_append_2_0 16 rfl rfl)
theorem dJ8_append_2_19 : decode cJ8_append_2 19 = .ok (.iload_n 2, 1) := dk_28 (dk_at dksJ8_append_2_0 19 rfl rfl)
theorem dJ8_append_2_20 : decode cJ8_append_2 20 = .ok (.iadd, 1) := dk_96 (dk_at dksJ8_append_2_0 20 rfl rfl)
theorem dJ8_append_2_21 : decode cJ8_append_2 21 = .ok (.invokevirtual 100, 3) := dk_182 0 100 (dk_at dksJ8_append_2_0 21 rfl rfl)
theorem dJ8_append_2_24 : decode cJ8_append_2 24 = .ok (.aload_n 0, 1) := dk_42 (dk_at dksJ8_append_2_1 0 rfl rfl)
theorem dJ8_append_2_25 : decode cJ8_append_2 25 = .ok (.aload_n 0, 1) := dk_42 (dk_at dksJ8_append_2_1 1 rfl rfl)
theorem dJ8_append_2_26 : decode cJ8_append_2 26 = .ok (.getfield 79, 3) := dk_180 0 79 (dk_at dksJ8_append_2_1 2 rfl rfl)
theorem dJ8_append_2_29 : decode cJ8_append_2 29 = .ok (.aload_n 1, 1) := dk_43 (dk_at dksJ8_append_2_1 5 rfl rfl)
theorem dJ8_append_2_30 : decode cJ8_append_2 30 = .ok (.invokevirtual 208, 3) := dk_182 0 208 (dk_at dksJ8_append_2_1 6 rfl rfl)
theorem dJ8_append_2_33 : decode cJ8_append_2 33 = .ok (.aload_n 0, 1) := dk_42 (dk_at dksJ8_append_2_1 9 rfl rfl)
theorem dJ8_append_2_34 : decode cJ8_append_2 34 = .ok (.dup, 1) := dk_89 (dk_at dksJ8_append_2_1 10 rfl rfl)
theorem dJ8_append_2_35 : decode cJ8_append_2 35 = .ok (.getfield 79, 3) := dk_180 0 79 (dk_at dksJ8_append_2_1 11 rfl rfl)
theorem dJ8_append_2_38 : decode cJ8_append_2 38 = .ok (.iload_n 2, 1) := dk_28 (dk_at dksJ8_append_2_1 14 rfl rfl)
theorem dJ8_append_2_39 : decode cJ8_append_2 39 = .ok (.iadd, 1) := dk_96 (dk_at dksJ8_append_2_1 15 rfl rfl)
theorem dJ8_append_2_40 : decode cJ8_append_2 40 = .ok (.putfield 79, 3) := dk_181 0 79 (dk_at dksJ8_append_2_1 16 rfl rfl)
theorem dJ8_append_2_43 : decode cJ8_append_2 43 = .ok (.aload_n 0, 1) := dk_42 (dk_at dksJ8_append_2_1 19 rfl rfl)
theorem dJ8_append_2_44 : decode cJ8_append_2 44 = .ok (.areturn, 1) := dk_176 (dk_at dksJ8_append_2_1 20 rfl rfl)
abbrev cJ8_appendNull : ByteArray := prog_25_method_26_code
def yJ8_appendNull : MethodName := ⟨RJ8, "appendNull", "()Ljava/lang/AbstractStringBuilder;"⟩
def dkwJ8_appendNull_3 : List UInt8 := [184, 0, 226, 60, 42, 27, 181, 0, 79, 42, 176]
abbrev dktJ8_appendNull_3 : List UInt8 := dkwJ8_appendNull_3 ++ []
def dkwJ8_appendNull_2 : List UInt8 := [16, 108, 84, 44, 27, 132, 1, 1, 16, 108, 84, 167, 0, 17, 44, 27, 16, 110, 16, 117, 16, 108, 16, 108]
abbrev dktJ8_appendNull_2 : List UInt8 := dkwJ8_appendNull_2 ++ dktJ8_appendNull_3
def dkwJ8_appendNull_1 : List UInt8 := [153, 0, 38, 44, 27, 132, 1, 1, 16, 110, 84, 44, 27, 132, 1, 1, 16, 117, 84, 44, 27, 132, 1, 1]
abbrev dktJ8_appendNull_1 : List UInt8 := dkwJ8_appendNull_1 ++ dktJ8_appendNull_2
def dkwJ8_appendNull_0 : List UInt8 := [42, 42, 180, 0, 79, 7, 96, 182, 0, 100, 42, 180, 0, 79, 60, 42, 180, 0, 15, 77, 42, 182, 0, 83]
abbrev dktJ8_appendNull_0 : List UInt8 := dkwJ8_appendNull_0 ++ dktJ8_appendNull_1
theorem dksJ8_appendNull_0 : cJ8_appendNull.data.toList.drop 0 = dktJ8_appendNull_0 := by decide +kernel
theorem dksJ8_appendNull_1 : cJ8_appendNull.data.toList.drop 24 = dktJ8_appendNull_1 := dk_seg dksJ8_appendNull_0 24 rfl rfl
theorem dksJ8_appendNull_2 : cJ8_appendNull.data.toList.drop 48 = dktJ8_appendNull_2 := dk_seg dksJ8_appendNull_1 24 rfl rfl
theorem dksJ8_appendNull_3 : cJ8_appendNull.data.toList.drop 72 = dktJ8_appendNull_3 := dk_seg dksJ8_appendNull_2 24 rfl rfl
theorem dJ8_appendNull_0 : decode cJ8_appendNull 0 = .ok (.aload_n 0, 1) := dk_42 (dk_at dksJ8_appendNull_0 0 rfl rfl)
theorem dJ8_appendNull_1 : decode cJ8_appendNull 1 = .ok (.aload_n 0, 1) := dk_42 (dk_at dksJ8_appendNull_0 1 rfl rfl)
theorem dJ8_appendNull_2 : decode cJ8_appendNull 2 = .ok (.getfield 79, 3) := dk_180 0 79 (dk_at dksJ8_appendNull_0 2 rfl rfl)
theorem dJ8_appendNull_5 : decode cJ8_appendNull 5 = .ok (.iconst 4, 1) := dk_7 (dk_at dksJ8_appendNull_0 5 rfl rfl)
theorem dJ8_appendNull_6 : decode cJ8_appendNull 6 = .ok (.iadd, 1) := dk_96 (dk_at dksJ8_appendNull_0 6 rfl rfl)
theorem dJ8_appendNull_7 : decode cJ8_appendNull 7 = .ok (.invokevirtual 100, 3) := dk_182 0 100 (dk_at dksJ8_appendNull_0 7 rfl rfl)
theorem dJ8_appendNull_10 : decode cJ8_appendNull 10 = .ok (.aload_n 0, 1) := dk_42 (dk_at dksJ8_appendNull_0 10 rfl rfl)
theorem dJ8_appendNull_11 : decode cJ8_appendNull 11 = .ok (.getfield 79, 3) := dk_180 0 79 (dk_at dksJ8_appendNull_0 11 rfl rfl)
theorem dJ8_appendNull_14 : decode cJ8_appendNull 14 = .ok (.istore_n 1, 1) := dk_60 (dk_at dksJ8_appendNull_0 14 rfl rfl)
theorem dJ8_appendNull_15 : decode cJ8_appendNull 15 = .ok (.aload_n 0, 1) := dk_42 (dk_at dksJ8_appendNull_0 15 rfl rfl)
theorem dJ8_appendNull_16 : decode cJ8_appendNull 16 = .ok (.getfield 15, 3) := dk_180 0 15 (dk_at dksJ8_appendNull_0 16 rfl rfl)
theorem dJ8_appendNull_19 : decode cJ8_appendNull 19 = .ok (.astore_n 2, 1) := dk_77 (dk_at dksJ8_appendNull_0 19 rfl rfl)
theorem dJ8_appendNull_20 : decode cJ8_appendNull 20 = .ok (.aload_n 0, 1) := dk_42 (dk_at dksJ8_appendNull_0 20 rfl rfl)
theorem dJ8_appendNull_21 : decode cJ8_appendNull 21 = .ok (.invokevirtual 83, 3) := dk_182 0 83 (dk_at dksJ8_appendNull_0 21 rfl rfl)
theorem dJ8_appendNull_24 : decode cJ8_appendNull 24 = .ok (.ifCond .eq 38, 3) := dk_153 0 38 (dk_at dksJ8_appendNull_1 0 rfl rfl)
theorem dJ8_appendNull_27 : decode cJ8_appendNull 27 = .ok (.aload_n 2, 1) := dk_44 (dk_at dksJ8_appendNull_1 3 rfl rfl)
theorem dJ8_appendNull_28 : decode cJ8_appendNull 28 = .ok (.iload_n 1, 1) := dk_27 (dk_at dksJ8_appendNull_1 4 rfl rfl)
theorem dJ8_appendNull_29 : decode cJ8_appendNull 29 = .ok (.iinc 1 1, 3) := dk_132 1 1 (dk_at dksJ8_appendNull_1 5 rfl rfl)
theorem dJ8_appendNull_32 : decode cJ8_appendNull 32 = .ok (.bipush 110, 2) := dk_16 110 (dk_at dksJ8_appendNull_1 8 rfl rfl)
theorem dJ8_appendNull_34 : decode cJ8_appendNull 34 = .ok (.bastore, 1) := dk_84 (dk_at dksJ8_appendNull_1 10 rfl rfl)
theorem dJ8_appendNull_35 : decode cJ8_appendNull 35 = .ok (.aload_n 2, 1) := dk_44 (dk_at dksJ8_appendNull_1 11 rfl rfl)
theorem dJ8_appendNull_36 : decode cJ8_appendNull 36 = .ok (.iload_n 1, 1) := dk_27 (dk_at dksJ8_appendNull_1 12 rfl rfl)
theorem dJ8_appendNull_37 : decode cJ8_appendNull 37 = .ok (.iinc 1 1, 3) := dk_132 1 1 (dk_at dksJ8_appendNull_1 13 rfl rfl)
theorem dJ8_appendNull_40 : decode cJ8_appendNull 40 = .ok (.bipush 117, 2) := dk_16 117 (dk_at dksJ8_appendNull_1 16 rfl rfl)
theorem dJ8_appendNull_42 : decode cJ8_appendNull 42 = .ok (.bastore, 1) := dk_84 (dk_at dksJ8_appendNull_1 18 rfl rfl)
theorem dJ8_appendNull_43 : decode cJ8_appendNull 43 = .ok (.aload_n 2, 1) := dk_44 (dk_at dksJ8_appendNull_1 19 rfl rfl)
theorem dJ8_appendNull_44 : decode cJ8_appendNull 44 = .ok (.iload_n 1, 1) := dk_27 (dk_at dksJ8_appendNull_1 20 rfl rfl)
theorem dJ8_appendNull_45 : decode cJ8_appendNull 45 = .ok (.iinc 1 1, 3) := dk_132 1 1 (dk_at dksJ8_appendNull_1 21 rfl rfl)
theorem dJ8_appendNull_48 : decode cJ8_appendNull 48 = .ok (.bipush 108, 2) := dk_16 108 (dk_at dksJ8_appendNull_2 0 rfl rfl)
theorem dJ8_appendNull_50 : decode cJ8_appendNull 50 = .ok (.bastore, 1) := dk_84 (dk_at dksJ8_appendNull_2 2 rfl rfl)
theorem dJ8_appendNull_51 : decode cJ8_appendNull 51 = .ok (.aload_n 2, 1) := dk_44 (dk_at dksJ8_appendNull_2 3 rfl rfl)
theorem dJ8_appendNull_52 : decode cJ8_appendNull 52 = .ok (.iload_n 1, 1) := dk_27 (dk_at dksJ8_appendNull_2 4 rfl rfl)
theorem dJ8_appendNull_53 : decode cJ8_appendNull 53 = .ok (.iinc 1 1, 3) := dk_132 1 1 (dk_at dksJ8_appendNull_2 5 rfl rfl)
theorem dJ8_appendNull_56 : decode cJ8_appendNull 56 = .ok (.bipush 108, 2) := dk_16 108 (dk_at dksJ8_appendNull_2 8 rfl rfl)
theorem dJ8_appendNull_58 : decode cJ8_appendNull 58 = .ok (.bastore, 1) := dk_84 (dk_at dksJ8_appendNull_2 10 rfl rfl)
theorem dJ8_appendNull_59 : decode cJ8_appendNull 59 = .ok (.goto 17, 3) := dk_167 0 17 (dk_at dksJ8_appendNull_2 11 rfl rfl)
theorem dJ8_appendNull_62 : decode cJ8_appendNull 62 = .ok (.aload_n 2, 1) := dk_44 (dk_at dksJ8_appendNull_2 14 rfl rfl)
theorem dJ8_appendNull_63 : decode cJ8_appendNull 63 = .ok (.iload_n 1, 1) := dk_27 (dk_at dksJ8_appendNull_2 15 rfl rfl)
theorem dJ8_appendNull_64 : decode cJ8_appendNull 64 = .ok (.bipush 110, 2) := dk_16 110 (dk_at dksJ8_appendNull_2 16 rfl rfl)
theorem dJ8_appendNull_66 : decode cJ8_appendNull 66 = .ok (.bipush 117, 2) := dk_16 117 (dk_at dksJ8_appendNull_2 18 rfl rfl)
theorem dJ8_appendNull_68 : decode cJ8_appendNull 68 = .ok (.bipush 108, 2) := dk_16 108 (dk_at dksJ8_appendNull_2 20 rfl rfl)
theorem dJ8_appendNull_70 : decode cJ8_appendNull 70 = .ok (.bipush 108, 2) := dk_16 108 (dk_at dksJ8_appendNull_2 22 rfl rfl)
theorem dJ8_appendNull_72 : decode cJ8_appendNull 72 = .ok (.invokestatic 226, 3) := dk_184 0 226 (dk_at dksJ8_appendNull_3 0 rfl rfl)
theorem dJ8_appendNull_75 : decode cJ8_appendNull 75 = .ok (.istore_n 1, 1) := dk_60 (dk_at dksJ8_appendNull_3 3 rfl rfl)
theorem dJ8_appendNull_76 : decode cJ8_appendNull 76 = .ok (.aload_n 0, 1) := dk_42 (dk_at dksJ8_appendNull_3 4 rfl rfl)
theorem dJ8_appendNull_77 : decode cJ8_appendNull 77 = .ok (.iload_n 1, 1) := dk_27 (dk_at dksJ8_appendNull_3 5 rfl rfl)
theorem dJ8_appendNull_78 : decode cJ8_appendNull 78 = .ok (.putfield 79, 3) := dk_181 0 79 (dk_at dksJ8_appendNull_3 6 rfl rfl)
theorem dJ8_appendNull_81 : decode cJ8_appendNull 81 = .ok (.aload_n 0, 1) := dk_42 (dk_at dksJ8_appendNull_3 9 rfl rfl)
theorem dJ8_appendNull_82 : decode cJ8_appendNull 82 = .ok (.areturn, 1) := dk_176 (dk_at dksJ8_appendNull_3 10 rfl rfl)
abbrev cJ8_putStringAt : ByteArray := prog_25_method_73_code
def yJ8_putStringAt : MethodName := ⟨RJ8, "putStringAt", "(ILjava/lang/String;)V"⟩
def dkwJ8_putStringAt_0 : List UInt8 := [42, 44, 182, 1, 141, 44, 42, 180, 0, 15, 27, 42, 180, 0, 22, 182, 1, 143, 177]
abbrev dktJ8_putStringAt_0 : List UInt8 := dkwJ8_putStringAt_0 ++ []
theorem dksJ8_putStringAt_0 : cJ8_putStringAt.data.toList.drop 0 = dktJ8_putStringAt_0 := by decide +kernel
theorem dJ8_putStringAt_0 : decode cJ8_putStringAt 0 = .ok (.aload_n 0, 1) := dk_42 (dk_at dksJ8_putStringAt_0 0 rfl rfl)
theorem dJ8_putStringAt_1 : decode cJ8_putStringAt 1 = .ok (.aload_n 2, 1) := dk_44 (dk_at dksJ8_putStringAt_0 1 rfl rfl)
theorem dJ8_putStringAt_2 : decode cJ8_putStringAt 2 = .ok (.invokevirtual 397, 3) := dk_182 1 141 (dk_at dksJ8_putStringAt_0 2 rfl rfl)
theorem dJ8_putStringAt_5 : decode cJ8_putStringAt 5 = .ok (.aload_n 2, 1) := dk_44 (dk_at dksJ8_putStringAt_0 5 rfl rfl)
theorem dJ8_putStringAt_6 : decode cJ8_putStringAt 6 = .ok (.aload_n 0, 1) := dk_42 (dk_at dksJ8_putStringAt_0 6 rfl rfl)
theorem dJ8_putStringAt_7 : decode cJ8_putStringAt 7 = .ok (.getfield 15, 3) := dk_180 0 15 (dk_at dksJ8_putStringAt_0 7 rfl rfl)
theorem dJ8_putStringAt_10 : decode cJ8_putStringAt 10 = .ok (.iload_n 1, 1) := dk_27 (dk_at dksJ8_putStringAt_0 10 rfl rfl)
theorem dJ8_putStringAt_11 : decode cJ8_putStringAt 11 = .ok (.aload_n 0, 1) := dk_42 (dk_at dksJ8_putStringAt_0 11 rfl rfl)
theorem dJ8_putStringAt_12 : decode cJ8_putStringAt 12 = .ok (.getfield 22, 3) := dk_180 0 22 (dk_at dksJ8_putStringAt_0 12 rfl rfl)
theorem dJ8_putStringAt_15 : decode cJ8_putStringAt 15 = .ok (.invokevirtual 399, 3) := dk_182 1 143 (dk_at dksJ8_putStringAt_0 15 rfl rfl)
theorem dJ8_putStringAt_18 : decode cJ8_putStringAt 18 = .ok (.return_, 1) := dk_177 (dk_at dksJ8_putStringAt_0 18 rfl rfl)
abbrev cJ8_inflateIfNeededFor : ByteArray := prog_25_method_71_code
def yJ8_inflateIfNeededFor : MethodName := ⟨RJ8, "inflateIfNeededFor", "(Ljava/lang/String;)V"⟩
def dkwJ8_inflateIfNeededFor_0 : List UInt8 := [178, 0, 18, 153, 0, 18, 42, 180, 0, 22, 43, 182, 0, 40, 159, 0, 7, 42, 182, 0, 195, 177]
abbrev dktJ8_inflateIfNeededFor_0 : List UInt8 := dkwJ8_inflateIfNeededFor_0 ++ []
theorem dksJ8_inflateIfNeededFor_0 : cJ8_inflateIfNeededFor.data.toList.drop 0 = dktJ8_inflateIfNeededFor_0 := by decide +kernel
theorem dJ8_inflateIfNeededFor_0 : decode cJ8_inflateIfNeededFor 0 = .ok (.getstatic 18, 3) := dk_178 0 18 (dk_at dksJ8_inflateIfNeededFor_0 0 rfl rfl)
theorem dJ8_inflateIfNeededFor_3 : decode cJ8_inflateIfNeededFor 3 = .ok (.ifCond .eq 18, 3) := dk_153 0 18 (dk_at dksJ8_inflateIfNeededFor_0 3 rfl rfl)
theorem dJ8_inflateIfNeededFor_6 : decode cJ8_inflateIfNeededFor 6 = .ok (.aload_n 0, 1) := dk_42 (dk_at dksJ8_inflateIfNeededFor_0 6 rfl rfl)
theorem dJ8_inflateIfNeededFor_7 : decode cJ8_inflateIfNeededFor 7 = .ok (.getfield 22, 3) := dk_180 0 22 (dk_at dksJ8_inflateIfNeededFor_0 7 rfl rfl)
theorem dJ8_inflateIfNeededFor_10 : decode cJ8_inflateIfNeededFor 10 = .ok (.aload_n 1, 1) := dk_43 (dk_at dksJ8_inflateIfNeededFor_0 10 rfl rfl)
theorem dJ8_inflateIfNeededFor_11 : decode cJ8_inflateIfNeededFor 11 = .ok (.invokevirtual 40, 3) := dk_182 0 40 (dk_at dksJ8_inflateIfNeededFor_0 11 rfl rfl)
theorem dJ8_inflateIfNeededFor_14 : decode cJ8_inflateIfNeededFor 14 = .ok (.if_icmp .eq 7, 3) := dk_159 0 7 (dk_at dksJ8_inflateIfNeededFor_0 14 rfl rfl)
theorem dJ8_inflateIfNeededFor_17 : decode cJ8_inflateIfNeededFor 17 = .ok (.aload_n 0, 1) := dk_42 (dk_at dksJ8_inflateIfNeededFor_0 17 rfl rfl)
theorem dJ8_inflateIfNeededFor_18 : decode cJ8_inflateIfNeededFor 18 = .ok (.invokevirtual 195, 3) := dk_182 0 195 (dk_at dksJ8_inflateIfNeededFor_0 18 rfl rfl)
theorem dJ8_inflateIfNeededFor_21 : decode cJ8_inflateIfNeededFor 21 = .ok (.return_, 1) := dk_177 (dk_at dksJ8_inflateIfNeededFor_0 21 rfl rfl)
abbrev cJ8_inflate : ByteArray := prog_25_method_11_code
def yJ8_inflate : MethodName := ⟨RJ8, "inflate", "()V"⟩
def dkwJ8_inflate_1 : List UInt8 := [42, 180, 0, 79, 184, 0, 125, 42, 43, 181, 0, 15, 42, 4, 181, 0, 22, 177]
abbrev dktJ8_inflate_1 : List UInt8 := dkwJ8_inflate_1 ++ []
def dkwJ8_inflate_0 : List UInt8 := [42, 182, 0, 83, 154, 0, 4, 177, 42, 180, 0, 15, 190, 184, 0, 26, 76, 42, 180, 0, 15, 3, 43, 3]
abbrev dktJ8_inflate_0 : List UInt8 := dkwJ8_inflate_0 ++ dktJ8_inflate_1
theorem dksJ8_inflate_0 : cJ8_inflate.data.toList.drop 0 = dktJ8_inflate_0 := by decide +kernel
theorem dksJ8_inflate_1 : cJ8_inflate.data.toList.drop 24 = dktJ8_inflate_1 := dk_seg dksJ8_inflate_0 24 rfl rfl
theorem dJ8_inflate_0 : decode cJ8_inflate 0 = .ok (.aload_n 0, 1) := dk_42 (dk_at dksJ8_inflate_0 0 rfl rfl)
theorem dJ8_inflate_1 : decode cJ8_inflate 1 = .ok (.invokevirtual 83, 3) := dk_182 0 83 (dk_at dksJ8_inflate_0 1 rfl rfl)
theorem dJ8_inflate_4 : decode cJ8_inflate 4 = .ok (.ifCond .ne 4, 3) := dk_154 0 4 (dk_at dksJ8_inflate_0 4 rfl rfl)
theorem dJ8_inflate_7 : decode cJ8_inflate 7 = .ok (.return_, 1) := dk_177 (dk_at dksJ8_inflate_0 7 rfl rfl)
theorem dJ8_inflate_8 : decode cJ8_inflate 8 = .ok (.aload_n 0, 1) := dk_42 (dk_at dksJ8_inflate_0 8 rfl rfl)
theorem dJ8_inflate_9 : decode cJ8_inflate 9 = .ok (.getfield 15, 3) := dk_180 0 15 (dk_at dksJ8_inflate_0 9 rfl rfl)
theorem dJ8_inflate_12 : decode cJ8_inflate 12 = .ok (.arraylength, 1) := dk_190 (dk_at dksJ8_inflate_0 12 rfl rfl)
theorem dJ8_inflate_13 : decode cJ8_inflate 13 = .ok (.invokestatic 26, 3) := dk_184 0 26 (dk_at dksJ8_inflate_0 13 rfl rfl)
theorem dJ8_inflate_16 : decode cJ8_inflate 16 = .ok (.astore_n 1, 1) := dk_76 (dk_at dksJ8_inflate_0 16 rfl rfl)
theorem dJ8_inflate_17 : decode cJ8_inflate 17 = .ok (.aload_n 0, 1) := dk_42 (dk_at dksJ8_inflate_0 17 rfl rfl)
theorem dJ8_inflate_18 : decode cJ8_inflate 18 = .ok (.getfield 15, 3) := dk_180 0 15 (dk_at dksJ8_inflate_0 18 rfl rfl)
theorem dJ8_inflate_21 : decode cJ8_inflate 21 = .ok (.iconst 0, 1) := dk_3 (dk_at dksJ8_inflate_0 21 rfl rfl)
theorem dJ8_inflate_22 : decode cJ8_inflate 22 = .ok (.aload_n 1, 1) := dk_43 (dk_at dksJ8_inflate_0 22 rfl rfl)
theorem dJ8_inflate_23 : decode cJ8_inflate 23 = .ok (.iconst 0, 1) := dk_3 (dk_at dksJ8_inflate_0 23 rfl rfl)
theorem dJ8_inflate_24 : decode cJ8_inflate 24 = .ok (.aload_n 0, 1) := dk_42 (dk_at dksJ8_inflate_1 0 rfl rfl)
theorem dJ8_inflate_25 : decode cJ8_inflate 25 = .ok (.getfield 79, 3) := dk_180 0 79 (dk_at dksJ8_inflate_1 1 rfl rfl)
theorem dJ8_inflate_28 : decode cJ8_inflate 28 = .ok (.invokestatic 125, 3) := dk_184 0 125 (dk_at dksJ8_inflate_1 4 rfl rfl)
theorem dJ8_inflate_31 : decode cJ8_inflate 31 = .ok (.aload_n 0, 1) := dk_42 (dk_at dksJ8_inflate_1 7 rfl rfl)
theorem dJ8_inflate_32 : decode cJ8_inflate 32 = .ok (.aload_n 1, 1) := dk_43 (dk_at dksJ8_inflate_1 8 rfl rfl)
theorem dJ8_inflate_33 : decode cJ8_inflate 33 = .ok (.putfield 15, 3) := dk_181 0 15 (dk_at dksJ8_inflate_1 9 rfl rfl)
theorem dJ8_inflate_36 : decode cJ8_inflate 36 = .ok (.aload_n 0, 1) := dk_42 (dk_at dksJ8_inflate_1 12 rfl rfl)
theorem dJ8_inflate_37 : decode cJ8_inflate 37 = .ok (.iconst 1, 1) := dk_4 (dk_at dksJ8_inflate_1 13 rfl rfl)
theorem dJ8_inflate_38 : decode cJ8_inflate 38 = .ok (.putfield 22, 3) := dk_181 0 22 (dk_at dksJ8_inflate_1 14 rfl rfl)
theorem dJ8_inflate_41 : decode cJ8_inflate 41 = .ok (.return_, 1) := dk_177 (dk_at dksJ8_inflate_1 17 rfl rfl)
abbrev cJ8_setLength : ByteArray := prog_25_method_13_code
def yJ8_setLength : MethodName := ⟨RJ8, "setLength", "(I)V"⟩
def dkwJ8_setLength_3 : List UInt8 := [164, 0, 8, 42, 4, 181, 0, 73, 42, 27, 181, 0, 79, 177]
abbrev dktJ8_setLength_3 : List UInt8 := dkwJ8_setLength_3 ++ []
def dkwJ8_setLength_2 : List UInt8 := [167, 0, 31, 42, 180, 0, 15, 42, 180, 0, 79, 27, 184, 0, 137, 167, 0, 16, 42, 180, 0, 79, 27]
abbrev dktJ8_setLength_2 : List UInt8 := dkwJ8_setLength_2 ++ dktJ8_setLength_3
def dkwJ8_setLength_1 : List UInt8 := [162, 0, 40, 42, 182, 0, 83, 153, 0, 18, 42, 180, 0, 15, 42, 180, 0, 79, 27, 184, 0, 133]
abbrev dktJ8_setLength_1 : List UInt8 := dkwJ8_setLength_1 ++ dktJ8_setLength_2
def dkwJ8_setLength_0 : List UInt8 := [27, 156, 0, 12, 187, 0, 129, 89, 27, 183, 0, 131, 191, 42, 27, 182, 0, 100, 42, 180, 0, 79, 27]
abbrev dktJ8_setLength_0 : List UInt8 := dkwJ8_setLength_0 ++ dktJ8_setLength_1
theorem dksJ8_setLength_0 : cJ8_setLength.data.toList.drop 0 = dktJ8_setLength_0 := by decide +kernel
theorem dksJ8_setLength_1 : cJ8_setLength.data.toList.drop 23 = dktJ8_setLength_1 := dk_seg dksJ8_setLength_0 23 rfl rfl
theorem dksJ8_setLength_2 : cJ8_setLength.data.toList.drop 45 = dktJ8_setLength_2 := dk_seg dksJ8_setLength_1 22 rfl rfl
theorem dksJ8_setLength_3 : cJ8_setLength.data.toList.drop 68 = dktJ8_setLength_3 := dk_seg dksJ8_setLength_2 23 rfl rfl
theorem dJ8_setLength_0 : decode cJ8_setLength 0 = .ok (.iload_n 1, 1) := dk_27 (dk_at dksJ8_setLength_0 0 rfl rfl)
theorem dJ8_setLength_1 : decode cJ8_setLength 1 = .ok (.ifCond .ge 12, 3) := dk_156 0 12 (dk_at dksJ8_setLength_0 1 rfl rfl)
theorem dJ8_setLength_4 : decode cJ8_setLength 4 = .ok (.new 129, 3) := dk_187 0 129 (dk_at dksJ8_setLength_0 4 rfl rfl)
theorem dJ8_setLength_7 : decode cJ8_setLength 7 = .ok (.dup, 1) := dk_89 (dk_at dksJ8_setLength_0 7 rfl rfl)
theorem dJ8_setLength_8 : decode cJ8_setLength 8 = .ok (.iload_n 1, 1) := dk_27 (dk_at dksJ8_setLength_0 8 rfl rfl)
theorem dJ8_setLength_9 : decode cJ8_setLength 9 = .ok (.invokespecial 131, 3) := dk_183 0 131 (dk_at dksJ8_setLength_0 9 rfl rfl)
theorem dJ8_setLength_12 : decode cJ8_setLength 12 = .ok (.athrow, 1) := dk_191 (dk_at dksJ8_setLength_0 12 rfl rfl)
theorem dJ8_setLength_13 : decode cJ8_setLength 13 = .ok (.aload_n 0, 1) := dk_42 (dk_at dksJ8_setLength_0 13 rfl rfl)
theorem dJ8_setLength_14 : decode cJ8_setLength 14 = .ok (.iload_n 1, 1) := dk_27 (dk_at dksJ8_setLength_0 14 rfl rfl)
theorem dJ8_setLength_15 : decode cJ8_setLength 15 = .ok (.invokevirtual 100, 3) := dk_182 0 100 (dk_at dksJ8_setLength_0 15 rfl rfl)
theorem dJ8_setLength_18 : decode cJ8_setLength 18 = .ok (.aload_n 0, 1) := dk_42 (dk_at dksJ8_setLength_0 18 rfl rfl)
theorem dJ8_setLength_19 : decode cJ8_setLength 19 = .ok (.getfield 79, 3) := dk_180 0 79 (dk_at dksJ8_setLength_0 19 rfl rfl)
theorem dJ8_setLength_22 : decode cJ8_setLength 22 = .ok (.iload_n 1, 1) := dk_27 (dk_at dksJ8_setLength_0 22 rfl rfl)
theorem dJ8_setLength_23 : decode cJ8_setLength 23 = .ok (.if_icmp .ge 40, 3) := dk_162 0 40 (dk_at dksJ8_setLength_1 0 rfl rfl)
theorem dJ8_setLength_26 : decode cJ8_setLength 26 = .ok (.aload_n 0, 1) := dk_42 (dk_at dksJ8_setLength_1 3 rfl rfl)
theorem dJ8_setLength_27 : decode cJ8_setLength 27 = .ok (.invokevirtual 83, 3) := dk_182 0 83 (dk_at dksJ8_setLength_1 4 rfl rfl)
theorem dJ8_setLength_30 : decode cJ8_setLength 30 = .ok (.ifCond .eq 18, 3) := dk_153 0 18 (dk_at dksJ8_setLength_1 7 rfl rfl)
theorem dJ8_setLength_33 : decode cJ8_setLength 33 = .ok (.aload_n 0, 1) := dk_42 (dk_at dksJ8_setLength_1 10 rfl rfl)
theorem dJ8_setLength_34 : decode cJ8_setLength 34 = .ok (.getfield 15, 3) := dk_180 0 15 (dk_at dksJ8_setLength_1 11 rfl rfl)
theorem dJ8_setLength_37 : decode cJ8_setLength 37 = .ok (.aload_n 0, 1) := dk_42 (dk_at dksJ8_setLength_1 14 rfl rfl)
theorem dJ8_setLength_38 : decode cJ8_setLength 38 = .ok (.getfield 79, 3) := dk_180 0 79 (dk_at dksJ8_setLength_1 15 rfl rfl)
theorem dJ8_setLength_41 : decode cJ8_setLength 41 = .ok (.iload_n 1, 1) := dk_27 (dk_at dksJ8_setLength_1 18 rfl rfl)
theorem dJ8_setLength_42 : decode cJ8_setLength 42 = .ok (.invokestatic 133, 3) := dk_184 0 133 (dk_at dksJ8_setLength_1 19 rfl rfl)
theorem dJ8_setLength_45 : decode cJ8_setLength 45 = .ok (.goto 31, 3) := dk_167 0 31 (dk_at dksJ8_setLength_2 0 rfl rfl)
theorem dJ8_setLength_48 : decode cJ8_setLength 48 = .ok (.aload_n 0, 1) := dk_42 (dk_at dksJ8_setLength_2 3 rfl rfl)
theorem dJ8_setLength_49 : decode cJ8_setLength 49 = .ok (.getfield 15, 3) := dk_180 0 15 (dk_at dksJ8_setLength_2 4 rfl rfl)
theorem dJ8_setLength_52 : decode cJ8_setLength 52 = .ok (.aload_n 0, 1) := dk_42 (dk_at dksJ8_setLength_2 7 rfl rfl)
theorem dJ8_setLength_53 : decode cJ8_setLength 53 = .ok (.getfield 79, 3) := dk_180 0 79 (dk_at dksJ8_setLength_2 8 rfl rfl)
theorem dJ8_setLength_56 : decode cJ8_setLength 56 = .ok (.iload_n 1, 1) := dk_27 (dk_at dksJ8_setLength_2 11 rfl rfl)
theorem dJ8_setLength_57 : decode cJ8_setLength 57 = .ok (.invokestatic 137, 3) := dk_184 0 137 (dk_at dksJ8_setLength_2 12 rfl rfl)
theorem dJ8_setLength_60 : decode cJ8_setLength 60 = .ok (.goto 16, 3) := dk_167 0 16 (dk_at dksJ8_setLength_2 15 rfl rfl)
theorem dJ8_setLength_63 : decode cJ8_setLength 63 = .ok (.aload_n 0, 1) := dk_42 (dk_at dksJ8_setLength_2 18 rfl rfl)
theorem dJ8_setLength_64 : decode cJ8_setLength 64 = .ok (.getfield 79, 3) := dk_180 0 79 (dk_at dksJ8_setLength_2 19 rfl rfl)
theorem dJ8_setLength_67 : decode cJ8_setLength 67 = .ok (.iload_n 1, 1) := dk_27 (dk_at dksJ8_setLength_2 22 rfl rfl)
theorem dJ8_setLength_68 : decode cJ8_setLength 68 = .ok (.if_icmp .le 8, 3) := dk_164 0 8 (dk_at dksJ8_setLength_3 0 rfl rfl)
theorem dJ8_setLength_71 : decode cJ8_setLength 71 = .ok (.aload_n 0, 1) := dk_42 (dk_at dksJ8_setLength_3 3 rfl rfl)
theorem dJ8_setLength_72 : decode cJ8_setLength 72 = .ok (.iconst 1, 1) := dk_4 (dk_at dksJ8_setLength_3 4 rfl rfl)
theorem dJ8_setLength_73 : decode cJ8_setLength 73 = .ok (.putfield 73, 3) := dk_181 0 73 (dk_at dksJ8_setLength_3 5 rfl rfl)
theorem dJ8_setLength_76 : decode cJ8_setLength 76 = .ok (.aload_n 0, 1) := dk_42 (dk_at dksJ8_setLength_3 8 rfl rfl)
theorem dJ8_setLength_77 : decode cJ8_setLength 77 = .ok (.iload_n 1, 1) := dk_27 (dk_at dksJ8_setLength_3 9 rfl rfl)
theorem dJ8_setLength_78 : decode cJ8_setLength 78 = .ok (.putfield 79, 3) := dk_181 0 79 (dk_at dksJ8_setLength_3 10 rfl rfl)
theorem dJ8_setLength_81 : decode cJ8_setLength 81 = .ok (.return_, 1) := dk_177 (dk_at dksJ8_setLength_3 13 rfl rfl)
abbrev cJ8_append_3 : ByteArray := prog_25_method_31_code
def yJ8_append_3 : MethodName := ⟨RJ8, "append", "(C)Ljava/lang/AbstractStringBuilder;"⟩
def dkwJ8_append_3_3 : List UInt8 := [181, 0, 79, 27, 184, 0, 197, 42, 176]
abbrev dktJ8_append_3_3 : List UInt8 := dkwJ8_append_3_3 ++ []
def dkwJ8_append_3_2 : List UInt8 := [182, 0, 83, 153, 0, 7, 42, 182, 0, 195, 42, 180, 0, 15, 42, 89, 180, 0, 79, 90, 4, 96]
abbrev dktJ8_append_3_2 : List UInt8 := dkwJ8_append_3_2 ++ dktJ8_append_3_3
def dkwJ8_append_3_1 : List UInt8 := [42, 180, 0, 15, 42, 89, 180, 0, 79, 90, 4, 96, 181, 0, 79, 27, 145, 84, 167, 0, 33, 42]
abbrev dktJ8_append_3_1 : List UInt8 := dkwJ8_append_3_1 ++ dktJ8_append_3_2
def dkwJ8_append_3_0 : List UInt8 := [42, 42, 180, 0, 79, 4, 96, 182, 0, 100, 42, 182, 0, 83, 153, 0, 31, 27, 184, 0, 191, 153, 0, 24]
abbrev dktJ8_append_3_0 : List UInt8 := dkwJ8_append_3_0 ++ dktJ8_append_3_1
theorem dksJ8_append_3_0 : cJ8_append_3.data.toList.drop 0 = dktJ8_append_3_0 := by decide +kernel
theorem dksJ8_append_3_1 : cJ8_append_3.data.toList.drop 24 = dktJ8_append_3_1 := dk_seg dksJ8_append_3_0 24 rfl rfl
theorem dksJ8_append_3_2 : cJ8_append_3.data.toList.drop 46 = dktJ8_append_3_2 := dk_seg dksJ8_append_3_1 22 rfl rfl
theorem dksJ8_append_3_3 : cJ8_append_3.data.toList.drop 68 = dktJ8_append_3_3 := dk_seg dksJ8_append_3_2 22 rfl rfl
theorem dJ8_append_3_0 : decode cJ8_append_3 0 = .ok (.aload_n 0, 1) := dk_42 (dk_at dksJ8_append_3_0 0 rfl rfl)
theorem dJ8_append_3_1 : decode cJ8_append_3 1 = .ok (.aload_n 0, 1) := dk_42 (dk_at dksJ8_append_3_0 1 rfl rfl)
theorem dJ8_append_3_2 : decode cJ8_append_3 2 = .ok (.getfield 79, 3) := dk_180 0 79 (dk_at dksJ8_append_3_0 2 rfl rfl)
theorem dJ8_append_3_5 : decode cJ8_append_3 5 = .ok (.iconst 1, 1) := dk_4 (dk_at dksJ8_append_3_0 5 rfl rfl)
theorem dJ8_append_3_6 : decode cJ8_append_3 6 = .ok (.iadd, 1) := dk_96 (dk_at dksJ8_append_3_0 6 rfl rfl)
theorem dJ8_append_3_7 : decode cJ8_append_3 7 = .ok (.invokevirtual 100, 3) := dk_182 0 100 (dk_at dksJ8_append_3_0 7 rfl rfl)
theorem dJ8_append_3_10 : decode cJ8_append_3 10 = .ok (.aload_n 0, 1) := dk_42 (dk_at dksJ8_append_3_0 10 rfl rfl)
theorem dJ8_append_3_11 : decode cJ8_append_3 11 = .ok (.invokevirtual 83, 3) := dk_182 0 83 (dk_at dksJ8_append_3_0 11 rfl rfl)
theorem dJ8_append_3_14 : decode cJ8_append_3 14 = .ok (.ifCond .eq 31, 3) := dk_153 0 31 (dk_at dksJ8_append_3_0 14 rfl rfl)
theorem dJ8_append_3_17 : decode cJ8_append_3 17 = .ok (.iload_n 1, 1) := dk_27 (dk_at dksJ8_append_3_0 17 rfl rfl)
theorem dJ8_append_3_18 : decode cJ8_append_3 18 = .ok (.invokestatic 191, 3) := dk_184 0 191 (dk_at dksJ8_append_3_0 18 rfl rfl)
theorem dJ8_append_3_21 : decode cJ8_append_3 21 = .ok (.ifCond .eq 24, 3) := dk_153 0 24 (dk_at dksJ8_append_3_0 21 rfl rfl)
theorem dJ8_append_3_24 : decode cJ8_append_3 24 = .ok (.aload_n 0, 1) := dk_42 (dk_at dksJ8_append_3_1 0 rfl rfl)
theorem dJ8_append_3_25 : decode cJ8_append_3 25 = .ok (.getfield 15, 3) := dk_180 0 15 (dk_at dksJ8_append_3_1 1 rfl rfl)
theorem dJ8_append_3_28 : decode cJ8_append_3 28 = .ok (.aload_n 0, 1) := dk_42 (dk_at dksJ8_append_3_1 4 rfl rfl)
theorem dJ8_append_3_29 : decode cJ8_append_3 29 = .ok (.dup, 1) := dk_89 (dk_at dksJ8_append_3_1 5 rfl rfl)
theorem dJ8_append_3_30 : decode cJ8_append_3 30 = .ok (.getfield 79, 3) := dk_180 0 79 (dk_at dksJ8_append_3_1 6 rfl rfl)
theorem dJ8_append_3_33 : decode cJ8_append_3 33 = .ok (.dup_x1, 1) := dk_90 (dk_at dksJ8_append_3_1 9 rfl rfl)
theorem dJ8_append_3_34 : decode cJ8_append_3 34 = .ok (.iconst 1, 1) := dk_4 (dk_at dksJ8_append_3_1 10 rfl rfl)
theorem dJ8_append_3_35 : decode cJ8_append_3 35 = .ok (.iadd, 1) := dk_96 (dk_at dksJ8_append_3_1 11 rfl rfl)
theorem dJ8_append_3_36 : decode cJ8_append_3 36 = .ok (.putfield 79, 3) := dk_181 0 79 (dk_at dksJ8_append_3_1 12 rfl rfl)
theorem dJ8_append_3_39 : decode cJ8_append_3 39 = .ok (.iload_n 1, 1) := dk_27 (dk_at dksJ8_append_3_1 15 rfl rfl)
theorem dJ8_append_3_40 : decode cJ8_append_3 40 = .ok (.i2b, 1) := dk_145 (dk_at dksJ8_append_3_1 16 rfl rfl)
theorem dJ8_append_3_41 : decode cJ8_append_3 41 = .ok (.bastore, 1) := dk_84 (dk_at dksJ8_append_3_1 17 rfl rfl)
theorem dJ8_append_3_42 : decode cJ8_append_3 42 = .ok (.goto 33, 3) := dk_167 0 33 (dk_at dksJ8_append_3_1 18 rfl rfl)
theorem dJ8_append_3_45 : decode cJ8_append_3 45 = .ok (.aload_n 0, 1) := dk_42 (dk_at dksJ8_append_3_1 21 rfl rfl)
theorem dJ8_append_3_46 : decode cJ8_append_3 46 = .ok (.invokevirtual 83, 3) := dk_182 0 83 (dk_at dksJ8_append_3_2 0 rfl rfl)
theorem dJ8_append_3_49 : decode cJ8_append_3 49 = .ok (.ifCond .eq 7, 3) := dk_153 0 7 (dk_at dksJ8_append_3_2 3 rfl rfl)
theorem dJ8_append_3_52 : decode cJ8_append_3 52 = .ok (.aload_n 0, 1) := dk_42 (dk_at dksJ8_append_3_2 6 rfl rfl)
theorem dJ8_append_3_53 : decode cJ8_append_3 53 = .ok (.invokevirtual 195, 3) := dk_182 0 195 (dk_at dksJ8_append_3_2 7 rfl rfl)
theorem dJ8_append_3_56 : decode cJ8_append_3 56 = .ok (.aload_n 0, 1) := dk_42 (dk_at dksJ8_append_3_2 10 rfl rfl)
theorem dJ8_append_3_57 : decode cJ8_append_3 57 = .ok (.getfield 15, 3) := dk_180 0 15 (dk_at dksJ8_append_3_2 11 rfl rfl)
theorem dJ8_append_3_60 : decode cJ8_append_3 60 = .ok (.aload_n 0, 1) := dk_42 (dk_at dksJ8_append_3_2 14 rfl rfl)
theorem dJ8_append_3_61 : decode cJ8_append_3 61 = .ok (.dup, 1) := dk_89 (dk_at dksJ8_append_3_2 15 rfl rfl)
theorem dJ8_append_3_62 : decode cJ8_append_3 62 = .ok (.getfield 79, 3) := dk_180 0 79 (dk_at dksJ8_append_3_2 16 rfl rfl)
theorem dJ8_append_3_65 : decode cJ8_append_3 65 = .ok (.dup_x1, 1) := dk_90 (dk_at dksJ8_append_3_2 19 rfl rfl)
theorem dJ8_append_3_66 : decode cJ8_append_3 66 = .ok (.iconst 1, 1) := dk_4 (dk_at dksJ8_append_3_2 20 rfl rfl)
theorem dJ8_append_3_67 : decode cJ8_append_3 67 = .ok (.iadd, 1) := dk_96 (dk_at dksJ8_append_3_2 21 rfl rfl)
theorem dJ8_append_3_68 : decode cJ8_append_3 68 = .ok (.putfield 79, 3) := dk_181 0 79 (dk_at dksJ8_append_3_3 0 rfl rfl)
theorem dJ8_append_3_71 : decode cJ8_append_3 71 = .ok (.iload_n 1, 1) := dk_27 (dk_at dksJ8_append_3_3 3 rfl rfl)
theorem dJ8_append_3_72 : decode cJ8_append_3 72 = .ok (.invokestatic 197, 3) := dk_184 0 197 (dk_at dksJ8_append_3_3 4 rfl rfl)
theorem dJ8_append_3_75 : decode cJ8_append_3 75 = .ok (.aload_n 0, 1) := dk_42 (dk_at dksJ8_append_3_3 7 rfl rfl)
theorem dJ8_append_3_76 : decode cJ8_append_3 76 = .ok (.areturn, 1) := dk_176 (dk_at dksJ8_append_3_3 8 rfl rfl)
abbrev cJ8_append_4 : ByteArray := prog_25_method_25_code
def yJ8_append_4 : MethodName := ⟨RJ8, "append", "(Ljava/lang/CharSequence;)Ljava/lang/AbstractStringBuilder;"⟩
def dkwJ8_append_4_2 : List UInt8 := [185, 0, 47, 1, 0, 182, 0, 223, 176]
abbrev dktJ8_append_4_2 : List UInt8 := dkwJ8_append_4_2 ++ []
def dkwJ8_append_4_1 : List UInt8 := [176, 43, 193, 0, 10, 153, 0, 12, 42, 43, 192, 0, 10, 182, 0, 212, 176, 42, 43, 3, 43]
abbrev dktJ8_append_4_1 : List UInt8 := dkwJ8_append_4_1 ++ dktJ8_append_4_2
def dkwJ8_append_4_0 : List UInt8 := [43, 199, 0, 8, 42, 182, 0, 204, 176, 43, 193, 0, 1, 153, 0, 12, 42, 43, 192, 0, 1, 182, 0, 43]
abbrev dktJ8_append_4_0 : List UInt8 := dkwJ8_append_4_0 ++ dktJ8_append_4_1
theorem dksJ8_append_4_0 : cJ8_append_4.data.toList.drop 0 = dktJ8_append_4_0 := by decide +kernel
theorem dksJ8_append_4_1 : cJ8_append_4.data.toList.drop 24 = dktJ8_append_4_1 := dk_seg dksJ8_append_4_0 24 rfl rfl
theorem dksJ8_append_4_2 : cJ8_append_4.data.toList.drop 45 = dktJ8_append_4_2 := dk_seg dksJ8_append_4_1 21 rfl rfl
theorem dJ8_append_4_0 : decode cJ8_append_4 0 = .ok (.aload_n 1, 1) := dk_43 (dk_at dksJ8_append_4_0 0 rfl rfl)
theorem dJ8_append_4_1 : decode cJ8_append_4 1 = .ok (.ifnonnull 8, 3) := dk_199 0 8 (dk_at dksJ8_append_4_0 1 rfl rfl)
theorem dJ8_append_4_4 : decode cJ8_append_4 4 = .ok (.aload_n 0, 1) := dk_42 (dk_at dksJ8_append_4_0 4 rfl rfl)
theorem dJ8_append_4_5 : decode cJ8_append_4 5 = .ok (.invokevirtual 204, 3) := dk_182 0 204 (dk_at dksJ8_append_4_0 5 rfl rfl)
theorem dJ8_append_4_8 : decode cJ8_append_4 8 = .ok (.areturn, 1) := dk_176 (dk_at dksJ8_append_4_0 8 rfl rfl)
theorem dJ8_append_4_9 : decode cJ8_append_4 9 = .ok (.aload_n 1, 1) := dk_43 (dk_at dksJ8_append_4_0 9 rfl rfl)
theorem dJ8_append_4_10 : decode cJ8_append_4 10 = .ok (.instanceof 1, 3) := dk_193 0 1 (dk_at dksJ8_append_4_0 10 rfl rfl)
theorem dJ8_append_4_13 : decode cJ8_append_4 13 = .ok (.ifCond .eq 12, 3) := dk_153 0 12 (dk_at dksJ8_append_4_0 13 rfl rfl)
theorem dJ8_append_4_16 : decode cJ8_append_4 16 = .ok (.aload_n 0, 1) := dk_42 (dk_at dksJ8_append_4_0 16 rfl rfl)
theorem dJ8_append_4_17 : decode cJ8_append_4 17 = .ok (.aload_n 1, 1) := dk_43 (dk_at dksJ8_append_4_0 17 rfl rfl)
theorem dJ8_append_4_18 : decode cJ8_append_4 18 = .ok (.checkcast 1, 3) := dk_192 0 1 (dk_at dksJ8_append_4_0 18 rfl rfl)
theorem dJ8_append_4_21 : decode cJ8_append_4 21 = .ok (.invokevirtual 43, 3) := dk_182 0 43 (dk_at dksJ8_append_4_0 21 rfl rfl)
theorem dJ8_append_4_24 : decode cJ8_append_4 24 = .ok (.areturn, 1) := dk_176 (dk_at dksJ8_append_4_1 0 rfl rfl)
theorem dJ8_append_4_25 : decode cJ8_append_4 25 = .ok (.aload_n 1, 1) := dk_43 (dk_at dksJ8_append_4_1 1 rfl rfl)
theorem dJ8_append_4_26 : decode cJ8_append_4 26 = .ok (.instanceof 10, 3) := dk_193 0 10 (dk_at dksJ8_append_4_1 2 rfl rfl)
theorem dJ8_append_4_29 : decode cJ8_append_4 29 = .ok (.ifCond .eq 12, 3) := dk_153 0 12 (dk_at dksJ8_append_4_1 5 rfl rfl)
theorem dJ8_append_4_32 : decode cJ8_append_4 32 = .ok (.aload_n 0, 1) := dk_42 (dk_at dksJ8_append_4_1 8 rfl rfl)
theorem dJ8_append_4_33 : decode cJ8_append_4 33 = .ok (.aload_n 1, 1) := dk_43 (dk_at dksJ8_append_4_1 9 rfl rfl)
theorem dJ8_append_4_34 : decode cJ8_append_4 34 = .ok (.checkcast 10, 3) := dk_192 0 10 (dk_at dksJ8_append_4_1 10 rfl rfl)
theorem dJ8_append_4_37 : decode cJ8_append_4 37 = .ok (.invokevirtual 212, 3) := dk_182 0 212 (dk_at dksJ8_append_4_1 13 rfl rfl)
theorem dJ8_append_4_40 : decode cJ8_append_4 40 = .ok (.areturn, 1) := dk_176 (dk_at dksJ8_append_4_1 16 rfl rfl)
theorem dJ8_append_4_41 : decode cJ8_append_4 41 = .ok (.aload_n 0, 1) := dk_42 (dk_at dksJ8_append_4_1 17 rfl rfl)
theorem dJ8_append_4_42 : decode cJ8_append_4 42 = .ok (.aload_n 1, 1) := dk_43 (dk_at dksJ8_append_4_1 18 rfl rfl)
theorem dJ8_append_4_43 : decode cJ8_append_4 43 = .ok (.iconst 0, 1) := dk_3 (dk_at dksJ8_append_4_1 19 rfl rfl)
theorem dJ8_append_4_44 : decode cJ8_append_4 44 = .ok (.aload_n 1, 1) := dk_43 (dk_at dksJ8_append_4_1 20 rfl rfl)
theorem dJ8_append_4_45 : decode cJ8_append_4 45 = .ok (.invokeinterface 47 1, 5) := by decide +kernel
theorem dJ8_append_4_50 : decode cJ8_append_4 50 = .ok (.invokevirtual 223, 3) := dk_182 0 223 (dk_at dksJ8_append_4_2 5 rfl rfl)
theorem dJ8_append_4_53 : decode cJ8_append_4 53 = .ok (.areturn, 1) := dk_176 (dk_at dksJ8_append_4_2 8 rfl rfl)
abbrev cJ8_append_5 : ByteArray := prog_25_method_24_code
def yJ8_append_5 : MethodName := ⟨RJ8, "append", "(Ljava/lang/AbstractStringBuilder;)Ljava/lang/AbstractStringBuilder;"⟩
def dkwJ8_append_5_2 : List UInt8 := [180, 0, 79, 28, 96, 181, 0, 79, 42, 89, 180, 0, 73, 43, 180, 0, 73, 128, 181, 0, 73, 42, 176]
abbrev dktJ8_append_5_2 : List UInt8 := dkwJ8_append_5_2 ++ []
def dkwJ8_append_5_1 : List UInt8 := [42, 43, 182, 0, 215, 43, 42, 180, 0, 15, 42, 180, 0, 79, 42, 180, 0, 22, 182, 0, 219, 42, 89]
abbrev dktJ8_append_5_1 : List UInt8 := dkwJ8_append_5_1 ++ dktJ8_append_5_2
def dkwJ8_append_5_0 : List UInt8 := [43, 199, 0, 8, 42, 182, 0, 204, 176, 43, 182, 0, 160, 61, 42, 42, 180, 0, 79, 28, 96, 182, 0, 100]
abbrev dktJ8_append_5_0 : List UInt8 := dkwJ8_append_5_0 ++ dktJ8_append_5_1
theorem dksJ8_append_5_0 : cJ8_append_5.data.toList.drop 0 = dktJ8_append_5_0 := by decide +kernel
theorem dksJ8_append_5_1 : cJ8_append_5.data.toList.drop 24 = dktJ8_append_5_1 := dk_seg dksJ8_append_5_0 24 rfl rfl
theorem dksJ8_append_5_2 : cJ8_append_5.data.toList.drop 47 = dktJ8_append_5_2 := dk_seg dksJ8_append_5_1 23 rfl rfl
theorem dJ8_append_5_0 : decode cJ8_append_5 0 = .ok (.aload_n 1, 1) := dk_43 (dk_at dksJ8_append_5_0 0 rfl rfl)
theorem dJ8_append_5_1 : decode cJ8_append_5 1 = .ok (.ifnonnull 8, 3) := dk_199 0 8 (dk_at dksJ8_append_5_0 1 rfl rfl)
theorem dJ8_append_5_4 : decode cJ8_append_5 4 = .ok (.aload_n 0, 1) := dk_42 (dk_at dksJ8_append_5_0 4 rfl rfl)
theorem dJ8_append_5_5 : decode cJ8_append_5 5 = .ok (.invokevirtual 204, 3) := dk_182 0 204 (dk_at dksJ8_append_5_0 5 rfl rfl)
theorem dJ8_append_5_8 : decode cJ8_append_5 8 = .ok (.areturn, 1) := dk_176 (dk_at dksJ8_append_5_0 8 rfl rfl)
theorem dJ8_append_5_9 : decode cJ8_append_5 9 = .ok (.aload_n 1, 1) := dk_43 (dk_at dksJ8_append_5_0 9 rfl rfl)
theorem dJ8_append_5_10 : decode cJ8_append_5 10 = .ok (.invokevirtual 160, 3) := dk_182 0 160 (dk_at dksJ8_append_5_0 10 rfl rfl)
theorem dJ8_append_5_13 : decode cJ8_append_5 13 = .ok (.istore_n 2, 1) := dk_61 (dk_at dksJ8_append_5_0 13 rfl rfl)
theorem dJ8_append_5_14 : decode cJ8_append_5 14 = .ok (.aload_n 0, 1) := dk_42 (dk_at dksJ8_append_5_0 14 rfl rfl)
theorem dJ8_append_5_15 : decode cJ8_append_5 15 = .ok (.aload_n 0, 1) := dk_42 (dk_at dksJ8_append_5_0 15 rfl rfl)
theorem dJ8_append_5_16 : decode cJ8_append_5 16 = .ok (.getfield 79, 3) := dk_180 0 79 (dk_at dksJ8_append_5_0 16 rfl rfl)
theorem dJ8_append_5_19 : decode cJ8_append_5 19 = .ok (.iload_n 2, 1) := dk_28 (dk_at dksJ8_append_5_0 19 rfl rfl)
theorem dJ8_append_5_20 : decode cJ8_append_5 20 = .ok (.iadd, 1) := dk_96 (dk_at dksJ8_append_5_0 20 rfl rfl)
theorem dJ8_append_5_21 : decode cJ8_append_5 21 = .ok (.invokevirtual 100, 3) := dk_182 0 100 (dk_at dksJ8_append_5_0 21 rfl rfl)
theorem dJ8_append_5_24 : decode cJ8_append_5 24 = .ok (.aload_n 0, 1) := dk_42 (dk_at dksJ8_append_5_1 0 rfl rfl)
theorem dJ8_append_5_25 : decode cJ8_append_5 25 = .ok (.aload_n 1, 1) := dk_43 (dk_at dksJ8_append_5_1 1 rfl rfl)
theorem dJ8_append_5_26 : decode cJ8_append_5 26 = .ok (.invokevirtual 215, 3) := dk_182 0 215 (dk_at dksJ8_append_5_1 2 rfl rfl)
theorem dJ8_append_5_29 : decode cJ8_append_5 29 = .ok (.aload_n 1, 1) := dk_43 (dk_at dksJ8_append_5_1 5 rfl rfl)
theorem dJ8_append_5_30 : decode cJ8_append_5 30 = .ok (.aload_n 0, 1) := dk_42 (dk_at dksJ8_append_5_1 6 rfl rfl)
theorem dJ8_append_5_31 : decode cJ8_append_5 31 = .ok (.getfield 15, 3) := dk_180 0 15 (dk_at dksJ8_append_5_1 7 rfl rfl)
theorem dJ8_append_5_34 : decode cJ8_append_5 34 = .ok (.aload_n 0, 1) := dk_42 (dk_at dksJ8_append_5_1 10 rfl rfl)
theorem dJ8_append_5_35 : decode cJ8_append_5 35 = .ok (.getfield 79, 3) := dk_180 0 79 (dk_at dksJ8_append_5_1 11 rfl rfl)
theorem dJ8_append_5_38 : decode cJ8_append_5 38 = .ok (.aload_n 0, 1) := dk_42 (dk_at dksJ8_append_5_1 14 rfl rfl)
theorem dJ8_append_5_39 : decode cJ8_append_5 39 = .ok (.getfield 22, 3) := dk_180 0 22 (dk_at dksJ8_append_5_1 15 rfl rfl)
theorem dJ8_append_5_42 : decode cJ8_append_5 42 = .ok (.invokevirtual 219, 3) := dk_182 0 219 (dk_at dksJ8_append_5_1 18 rfl rfl)
theorem dJ8_append_5_45 : decode cJ8_append_5 45 = .ok (.aload_n 0, 1) := dk_42 (dk_at dksJ8_append_5_1 21 rfl rfl)
theorem dJ8_append_5_46 : decode cJ8_append_5 46 = .ok (.dup, 1) := dk_89 (dk_at dksJ8_append_5_1 22 rfl rfl)
theorem dJ8_append_5_47 : decode cJ8_append_5 47 = .ok (.getfield 79, 3) := dk_180 0 79 (dk_at dksJ8_append_5_2 0 rfl rfl)
theorem dJ8_append_5_50 : decode cJ8_append_5 50 = .ok (.iload_n 2, 1) := dk_28 (dk_at dksJ8_append_5_2 3 rfl rfl)
theorem dJ8_append_5_51 : decode cJ8_append_5 51 = .ok (.iadd, 1) := dk_96 (dk_at dksJ8_append_5_2 4 rfl rfl)
theorem dJ8_append_5_52 : decode cJ8_append_5 52 = .ok (.putfield 79, 3) := dk_181 0 79 (dk_at dksJ8_append_5_2 5 rfl rfl)
theorem dJ8_append_5_55 : decode cJ8_append_5 55 = .ok (.aload_n 0, 1) := dk_42 (dk_at dksJ8_append_5_2 8 rfl rfl)
theorem dJ8_append_5_56 : decode cJ8_append_5 56 = .ok (.dup, 1) := dk_89 (dk_at dksJ8_append_5_2 9 rfl rfl)
theorem dJ8_append_5_57 : decode cJ8_append_5 57 = .ok (.getfield 73, 3) := dk_180 0 73 (dk_at dksJ8_append_5_2 10 rfl rfl)
theorem dJ8_append_5_60 : decode cJ8_append_5 60 = .ok (.aload_n 1, 1) := dk_43 (dk_at dksJ8_append_5_2 13 rfl rfl)
theorem dJ8_append_5_61 : decode cJ8_append_5 61 = .ok (.getfield 73, 3) := dk_180 0 73 (dk_at dksJ8_append_5_2 14 rfl rfl)
theorem dJ8_append_5_64 : decode cJ8_append_5 64 = .ok (.ior, 1) := dk_128 (dk_at dksJ8_append_5_2 17 rfl rfl)
theorem dJ8_append_5_65 : decode cJ8_append_5 65 = .ok (.putfield 73, 3) := dk_181 0 73 (dk_at dksJ8_append_5_2 18 rfl rfl)
theorem dJ8_append_5_68 : decode cJ8_append_5 68 = .ok (.aload_n 0, 1) := dk_42 (dk_at dksJ8_append_5_2 21 rfl rfl)
theorem dJ8_append_5_69 : decode cJ8_append_5 69 = .ok (.areturn, 1) := dk_176 (dk_at dksJ8_append_5_2 22 rfl rfl)
abbrev cJ8_inflateIfNeededFor_2 : ByteArray := prog_25_method_72_code
def yJ8_inflateIfNeededFor_2 : MethodName := ⟨RJ8, "inflateIfNeededFor", "(Ljava/lang/AbstractStringBuilder;)V"⟩
def dkwJ8_inflateIfNeededFor_2_0 : List UInt8 := [178, 0, 18, 153, 0, 18, 42, 180, 0, 22, 43, 182, 0, 70, 159, 0, 7, 42, 182, 0, 195, 177]
abbrev dktJ8_inflateIfNeededFor_2_0 : List UInt8 := dkwJ8_inflateIfNeededFor_2_0 ++ []
theorem dksJ8_inflateIfNeededFor_2_0 : cJ8_inflateIfNeededFor_2.data.toList.drop 0 = dktJ8_inflateIfNeededFor_2_0 := by decide +kernel
theorem dJ8_inflateIfNeededFor_2_0 : decode cJ8_inflateIfNeededFor_2 0 = .ok (.getstatic 18, 3) := dk_178 0 18 (dk_at dksJ8_inflateIfNeededFor_2_0 0 rfl rfl)
theorem dJ8_inflateIfNeededFor_2_3 : decode cJ8_inflateIfNeededFor_2 3 = .ok (.ifCond .eq 18, 3) := dk_153 0 18 (dk_at dksJ8_inflateIfNeededFor_2_0 3 rfl rfl)
theorem dJ8_inflateIfNeededFor_2_6 : decode cJ8_inflateIfNeededFor_2 6 = .ok (.aload_n 0, 1) := dk_42 (dk_at dksJ8_inflateIfNeededFor_2_0 6 rfl rfl)
theorem dJ8_inflateIfNeededFor_2_7 : decode cJ8_inflateIfNeededFor_2 7 = .ok (.getfield 22, 3) := dk_180 0 22 (dk_at dksJ8_inflateIfNeededFor_2_0 7 rfl rfl)
theorem dJ8_inflateIfNeededFor_2_10 : decode cJ8_inflateIfNeededFor_2 10 = .ok (.aload_n 1, 1) := dk_43 (dk_at dksJ8_inflateIfNeededFor_2_0 10 rfl rfl)
theorem dJ8_inflateIfNeededFor_2_11 : decode cJ8_inflateIfNeededFor_2 11 = .ok (.invokevirtual 70, 3) := dk_182 0 70 (dk_at dksJ8_inflateIfNeededFor_2_0 11 rfl rfl)
theorem dJ8_inflateIfNeededFor_2_14 : decode cJ8_inflateIfNeededFor_2 14 = .ok (.if_icmp .eq 7, 3) := dk_159 0 7 (dk_at dksJ8_inflateIfNeededFor_2_0 14 rfl rfl)
theorem dJ8_inflateIfNeededFor_2_17 : decode cJ8_inflateIfNeededFor_2 17 = .ok (.aload_n 0, 1) := dk_42 (dk_at dksJ8_inflateIfNeededFor_2_0 17 rfl rfl)
theorem dJ8_inflateIfNeededFor_2_18 : decode cJ8_inflateIfNeededFor_2 18 = .ok (.invokevirtual 195, 3) := dk_182 0 195 (dk_at dksJ8_inflateIfNeededFor_2_0 18 rfl rfl)
theorem dJ8_inflateIfNeededFor_2_21 : decode cJ8_inflateIfNeededFor_2 21 = .ok (.return_, 1) := dk_177 (dk_at dksJ8_inflateIfNeededFor_2_0 21 rfl rfl)
abbrev cJ8_getCoder : ByteArray := prog_25_method_67_code
def yJ8_getCoder : MethodName := ⟨RJ8, "getCoder", "()B"⟩
def dkwJ8_getCoder_0 : List UInt8 := [178, 0, 18, 153, 0, 10, 42, 180, 0, 22, 167, 0, 4, 4, 172]
abbrev dktJ8_getCoder_0 : List UInt8 := dkwJ8_getCoder_0 ++ []
theorem dksJ8_getCoder_0 : cJ8_getCoder.data.toList.drop 0 = dktJ8_getCoder_0 := by decide +kernel
theorem dJ8_getCoder_0 : decode cJ8_getCoder 0 = .ok (.getstatic 18, 3) := dk_178 0 18 (dk_at dksJ8_getCoder_0 0 rfl rfl)
theorem dJ8_getCoder_3 : decode cJ8_getCoder 3 = .ok (.ifCond .eq 10, 3) := dk_153 0 10 (dk_at dksJ8_getCoder_0 3 rfl rfl)
theorem dJ8_getCoder_6 : decode cJ8_getCoder 6 = .ok (.aload_n 0, 1) := dk_42 (dk_at dksJ8_getCoder_0 6 rfl rfl)
theorem dJ8_getCoder_7 : decode cJ8_getCoder 7 = .ok (.getfield 22, 3) := dk_180 0 22 (dk_at dksJ8_getCoder_0 7 rfl rfl)
theorem dJ8_getCoder_10 : decode cJ8_getCoder 10 = .ok (.goto 4, 3) := dk_167 0 4 (dk_at dksJ8_getCoder_0 10 rfl rfl)
theorem dJ8_getCoder_13 : decode cJ8_getCoder 13 = .ok (.iconst 1, 1) := dk_4 (dk_at dksJ8_getCoder_0 13 rfl rfl)
theorem dJ8_getCoder_14 : decode cJ8_getCoder 14 = .ok (.ireturn, 1) := dk_172 (dk_at dksJ8_getCoder_0 14 rfl rfl)
abbrev cJ8_getBytes : ByteArray := prog_25_method_65_code
def yJ8_getBytes : MethodName := ⟨RJ8, "getBytes", "([BIB)V"⟩
def dkwJ8_getBytes_1 : List UInt8 := [184, 1, 53, 167, 0, 17, 42, 180, 0, 15, 3, 43, 28, 42, 180, 0, 79, 184, 0, 125, 177]
abbrev dktJ8_getBytes_1 : List UInt8 := dkwJ8_getBytes_1 ++ []
def dkwJ8_getBytes_0 : List UInt8 := [42, 180, 0, 22, 29, 160, 0, 24, 42, 180, 0, 15, 3, 43, 28, 29, 120, 42, 180, 0, 79, 29, 120]
abbrev dktJ8_getBytes_0 : List UInt8 := dkwJ8_getBytes_0 ++ dktJ8_getBytes_1
theorem dksJ8_getBytes_0 : cJ8_getBytes.data.toList.drop 0 = dktJ8_getBytes_0 := by decide +kernel
theorem dksJ8_getBytes_1 : cJ8_getBytes.data.toList.drop 23 = dktJ8_getBytes_1 := dk_seg dksJ8_getBytes_0 23 rfl rfl
theorem dJ8_getBytes_0 : decode cJ8_getBytes 0 = .ok (.aload_n 0, 1) := dk_42 (dk_at dksJ8_getBytes_0 0 rfl rfl)
theorem dJ8_getBytes_1 : decode cJ8_getBytes 1 = .ok (.getfield 22, 3) := dk_180 0 22 (dk_at dksJ8_getBytes_0 1 rfl rfl)
theorem dJ8_getBytes_4 : decode cJ8_getBytes 4 = .ok (.iload_n 3, 1) := dk_29 (dk_at dksJ8_getBytes_0 4 rfl rfl)
theorem dJ8_getBytes_5 : decode cJ8_getBytes 5 = .ok (.if_icmp .ne 24, 3) := dk_160 0 24 (dk_at dksJ8_getBytes_0 5 rfl rfl)
theorem dJ8_getBytes_8 : decode cJ8_getBytes 8 = .ok (.aload_n 0, 1) := dk_42 (dk_at dksJ8_getBytes_0 8 rfl rfl)
theorem dJ8_getBytes_9 : decode cJ8_getBytes 9 = .ok (.getfield 15, 3) := dk_180 0 15 (dk_at dksJ8_getBytes_0 9 rfl rfl)
theorem dJ8_getBytes_12 : decode cJ8_getBytes 12 = .ok (.iconst 0, 1) := dk_3 (dk_at dksJ8_getBytes_0 12 rfl rfl)
theorem dJ8_getBytes_13 : decode cJ8_getBytes 13 = .ok (.aload_n 1, 1) := dk_43 (dk_at dksJ8_getBytes_0 13 rfl rfl)
theorem dJ8_getBytes_14 : decode cJ8_getBytes 14 = .ok (.iload_n 2, 1) := dk_28 (dk_at dksJ8_getBytes_0 14 rfl rfl)
theorem dJ8_getBytes_15 : decode cJ8_getBytes 15 = .ok (.iload_n 3, 1) := dk_29 (dk_at dksJ8_getBytes_0 15 rfl rfl)
theorem dJ8_getBytes_16 : decode cJ8_getBytes 16 = .ok (.ishl, 1) := dk_120 (dk_at dksJ8_getBytes_0 16 rfl rfl)
theorem dJ8_getBytes_17 : decode cJ8_getBytes 17 = .ok (.aload_n 0, 1) := dk_42 (dk_at dksJ8_getBytes_0 17 rfl rfl)
theorem dJ8_getBytes_18 : decode cJ8_getBytes 18 = .ok (.getfield 79, 3) := dk_180 0 79 (dk_at dksJ8_getBytes_0 18 rfl rfl)
theorem dJ8_getBytes_21 : decode cJ8_getBytes 21 = .ok (.iload_n 3, 1) := dk_29 (dk_at dksJ8_getBytes_0 21 rfl rfl)
theorem dJ8_getBytes_22 : decode cJ8_getBytes 22 = .ok (.ishl, 1) := dk_120 (dk_at dksJ8_getBytes_0 22 rfl rfl)
theorem dJ8_getBytes_23 : decode cJ8_getBytes 23 = .ok (.invokestatic 309, 3) := dk_184 1 53 (dk_at dksJ8_getBytes_1 0 rfl rfl)
theorem dJ8_getBytes_26 : decode cJ8_getBytes 26 = .ok (.goto 17, 3) := dk_167 0 17 (dk_at dksJ8_getBytes_1 3 rfl rfl)
theorem dJ8_getBytes_29 : decode cJ8_getBytes 29 = .ok (.aload_n 0, 1) := dk_42 (dk_at dksJ8_getBytes_1 6 rfl rfl)
theorem dJ8_getBytes_30 : decode cJ8_getBytes 30 = .ok (.getfield 15, 3) := dk_180 0 15 (dk_at dksJ8_getBytes_1 7 rfl rfl)
theorem dJ8_getBytes_33 : decode cJ8_getBytes 33 = .ok (.iconst 0, 1) := dk_3 (dk_at dksJ8_getBytes_1 10 rfl rfl)
theorem dJ8_getBytes_34 : decode cJ8_getBytes 34 = .ok (.aload_n 1, 1) := dk_43 (dk_at dksJ8_getBytes_1 11 rfl rfl)
theorem dJ8_getBytes_35 : decode cJ8_getBytes 35 = .ok (.iload_n 2, 1) := dk_28 (dk_at dksJ8_getBytes_1 12 rfl rfl)
theorem dJ8_getBytes_36 : decode cJ8_getBytes 36 = .ok (.aload_n 0, 1) := dk_42 (dk_at dksJ8_getBytes_1 13 rfl rfl)
theorem dJ8_getBytes_37 : decode cJ8_getBytes 37 = .ok (.getfield 79, 3) := dk_180 0 79 (dk_at dksJ8_getBytes_1 14 rfl rfl)
theorem dJ8_getBytes_40 : decode cJ8_getBytes 40 = .ok (.invokestatic 125, 3) := dk_184 0 125 (dk_at dksJ8_getBytes_1 17 rfl rfl)
theorem dJ8_getBytes_43 : decode cJ8_getBytes 43 = .ok (.return_, 1) := dk_177 (dk_at dksJ8_getBytes_1 20 rfl rfl)
abbrev cJ8_append_6 : ByteArray := prog_25_method_27_code
def yJ8_append_6 : MethodName := ⟨RJ8, "append", "(Ljava/lang/CharSequence;II)Ljava/lang/AbstractStringBuilder;"⟩
def dkwJ8_append_6_2 : List UInt8 := [192, 0, 1, 28, 29, 182, 0, 232, 167, 0, 10, 42, 43, 28, 29, 182, 0, 236, 42, 176]
abbrev dktJ8_append_6_2 : List UInt8 := dkwJ8_append_6_2 ++ []
def dkwJ8_append_6_1 : List UInt8 := [100, 54, 4, 42, 42, 180, 0, 79, 21, 4, 96, 182, 0, 100, 43, 193, 0, 1, 153, 0, 16, 42, 43]
abbrev dktJ8_append_6_1 : List UInt8 := dkwJ8_append_6_1 ++ dktJ8_append_6_2
def dkwJ8_append_6_0 : List UInt8 := [43, 199, 0, 6, 18, 230, 76, 28, 29, 43, 185, 0, 47, 1, 0, 178, 0, 183, 184, 0, 161, 87, 29, 28]
abbrev dktJ8_append_6_0 : List UInt8 := dkwJ8_append_6_0 ++ dktJ8_append_6_1
theorem dksJ8_append_6_0 : cJ8_append_6.data.toList.drop 0 = dktJ8_append_6_0 := by decide +kernel
theorem dksJ8_append_6_1 : cJ8_append_6.data.toList.drop 24 = dktJ8_append_6_1 := dk_seg dksJ8_append_6_0 24 rfl rfl
theorem dksJ8_append_6_2 : cJ8_append_6.data.toList.drop 47 = dktJ8_append_6_2 := dk_seg dksJ8_append_6_1 23 rfl rfl
theorem dJ8_append_6_0 : decode cJ8_append_6 0 = .ok (.aload_n 1, 1) := dk_43 (dk_at dksJ8_append_6_0 0 rfl rfl)
theorem dJ8_append_6_1 : decode cJ8_append_6 1 = .ok (.ifnonnull 6, 3) := dk_199 0 6 (dk_at dksJ8_append_6_0 1 rfl rfl)
theorem dJ8_append_6_4 : decode cJ8_append_6 4 = .ok (.ldc 230, 2) := dk_18 230 (dk_at dksJ8_append_6_0 4 rfl rfl)
theorem dJ8_append_6_6 : decode cJ8_append_6 6 = .ok (.astore_n 1, 1) := dk_76 (dk_at dksJ8_append_6_0 6 rfl rfl)
theorem dJ8_append_6_7 : decode cJ8_append_6 7 = .ok (.iload_n 2, 1) := dk_28 (dk_at dksJ8_append_6_0 7 rfl rfl)
theorem dJ8_append_6_8 : decode cJ8_append_6 8 = .ok (.iload_n 3, 1) := dk_29 (dk_at dksJ8_append_6_0 8 rfl rfl)
theorem dJ8_append_6_9 : decode cJ8_append_6 9 = .ok (.aload_n 1, 1) := dk_43 (dk_at dksJ8_append_6_0 9 rfl rfl)
theorem dJ8_append_6_10 : decode cJ8_append_6 10 = .ok (.invokeinterface 47 1, 5) := by decide +kernel
theorem dJ8_append_6_15 : decode cJ8_append_6 15 = .ok (.getstatic 183, 3) := dk_178 0 183 (dk_at dksJ8_append_6_0 15 rfl rfl)
theorem dJ8_append_6_18 : decode cJ8_append_6 18 = .ok (.invokestatic 161, 3) := dk_184 0 161 (dk_at dksJ8_append_6_0 18 rfl rfl)
theorem dJ8_append_6_21 : decode cJ8_append_6 21 = .ok (.pop, 1) := dk_87 (dk_at dksJ8_append_6_0 21 rfl rfl)
theorem dJ8_append_6_22 : decode cJ8_append_6 22 = .ok (.iload_n 3, 1) := dk_29 (dk_at dksJ8_append_6_0 22 rfl rfl)
theorem dJ8_append_6_23 : decode cJ8_append_6 23 = .ok (.iload_n 2, 1) := dk_28 (dk_at dksJ8_append_6_0 23 rfl rfl)
theorem dJ8_append_6_24 : decode cJ8_append_6 24 = .ok (.isub, 1) := dk_100 (dk_at dksJ8_append_6_1 0 rfl rfl)
theorem dJ8_append_6_25 : decode cJ8_append_6 25 = .ok (.istore 4, 2) := dk_54 4 (dk_at dksJ8_append_6_1 1 rfl rfl)
theorem dJ8_append_6_27 : decode cJ8_append_6 27 = .ok (.aload_n 0, 1) := dk_42 (dk_at dksJ8_append_6_1 3 rfl rfl)
theorem dJ8_append_6_28 : decode cJ8_append_6 28 = .ok (.aload_n 0, 1) := dk_42 (dk_at dksJ8_append_6_1 4 rfl rfl)
theorem dJ8_append_6_29 : decode cJ8_append_6 29 = .ok (.getfield 79, 3) := dk_180 0 79 (dk_at dksJ8_append_6_1 5 rfl rfl)
theorem dJ8_append_6_32 : decode cJ8_append_6 32 = .ok (.iload 4, 2) := dk_21 4 (dk_at dksJ8_append_6_1 8 rfl rfl)
theorem dJ8_append_6_34 : decode cJ8_append_6 34 = .ok (.iadd, 1) := dk_96 (dk_at dksJ8_append_6_1 10 rfl rfl)
theorem dJ8_append_6_35 : decode cJ8_append_6 35 = .ok (.invokevirtual 100, 3) := dk_182 0 100 (dk_at dksJ8_append_6_1 11 rfl rfl)
theorem dJ8_append_6_38 : decode cJ8_append_6 38 = .ok (.aload_n 1, 1) := dk_43 (dk_at dksJ8_append_6_1 14 rfl rfl)
theorem dJ8_append_6_39 : decode cJ8_append_6 39 = .ok (.instanceof 1, 3) := dk_193 0 1 (dk_at dksJ8_append_6_1 15 rfl rfl)
theorem dJ8_append_6_42 : decode cJ8_append_6 42 = .ok (.ifCond .eq 16, 3) := dk_153 0 16 (dk_at dksJ8_append_6_1 18 rfl rfl)
theorem dJ8_append_6_45 : decode cJ8_append_6 45 = .ok (.aload_n 0, 1) := dk_42 (dk_at dksJ8_append_6_1 21 rfl rfl)
theorem dJ8_append_6_46 : decode cJ8_append_6 46 = .ok (.aload_n 1, 1) := dk_43 (dk_at dksJ8_append_6_1 22 rfl rfl)
theorem dJ8_append_6_47 : decode cJ8_append_6 47 = .ok (.checkcast 1, 3) := dk_192 0 1 (dk_at dksJ8_append_6_2 0 rfl rfl)
theorem dJ8_append_6_50 : decode cJ8_append_6 50 = .ok (.iload_n 2, 1) := dk_28 (dk_at dksJ8_append_6_2 3 rfl rfl)
theorem dJ8_append_6_51 : decode cJ8_append_6 51 = .ok (.iload_n 3, 1) := dk_29 (dk_at dksJ8_append_6_2 4 rfl rfl)
theorem dJ8_append_6_52 : decode cJ8_append_6 52 = .ok (.invokevirtual 232, 3) := dk_182 0 232 (dk_at dksJ8_append_6_2 5 rfl rfl)
theorem dJ8_append_6_55 : decode cJ8_append_6 55 = .ok (.goto 10, 3) := dk_167 0 10 (dk_at dksJ8_append_6_2 8 rfl rfl)
theorem dJ8_append_6_58 : decode cJ8_append_6 58 = .ok (.aload_n 0, 1) := dk_42 (dk_at dksJ8_append_6_2 11 rfl rfl)
theorem dJ8_append_6_59 : decode cJ8_append_6 59 = .ok (.aload_n 1, 1) := dk_43 (dk_at dksJ8_append_6_2 12 rfl rfl)
theorem dJ8_append_6_60 : decode cJ8_append_6 60 = .ok (.iload_n 2, 1) := dk_28 (dk_at dksJ8_append_6_2 13 rfl rfl)
theorem dJ8_append_6_61 : decode cJ8_append_6 61 = .ok (.iload_n 3, 1) := dk_29 (dk_at dksJ8_append_6_2 14 rfl rfl)
theorem dJ8_append_6_62 : decode cJ8_append_6 62 = .ok (.invokevirtual 236, 3) := dk_182 0 236 (dk_at dksJ8_append_6_2 15 rfl rfl)
theorem dJ8_append_6_65 : decode cJ8_append_6 65 = .ok (.aload_n 0, 1) := dk_42 (dk_at dksJ8_append_6_2 18 rfl rfl)
theorem dJ8_append_6_66 : decode cJ8_append_6 66 = .ok (.areturn, 1) := dk_176 (dk_at dksJ8_append_6_2 19 rfl rfl)
abbrev cJ8_appendChars : ByteArray := prog_25_method_75_code
def yJ8_appendChars : MethodName := ⟨RJ8, "appendChars", "(Ljava/lang/String;II)V"⟩
def dkwJ8_appendChars_8 : List UInt8 := [120, 184, 1, 53, 42, 89, 180, 0, 79, 29, 28, 100, 96, 181, 0, 79, 177]
abbrev dktJ8_appendChars_8 : List UInt8 := dkwJ8_appendChars_8 ++ []
def dkwJ8_appendChars_7 : List UInt8 := [167, 0, 28, 43, 182, 1, 145, 28, 4, 120, 42, 180, 0, 15, 42, 180, 0, 79, 4, 120, 29, 28, 100, 4]
abbrev dktJ8_appendChars_7 : List UInt8 := dkwJ8_appendChars_7 ++ dktJ8_appendChars_8
def dkwJ8_appendChars_6 : List UInt8 := [167, 0, 52, 43, 182, 1, 144, 153, 0, 20, 42, 180, 0, 15, 42, 180, 0, 79, 43, 28, 29, 184, 1, 138]
abbrev dktJ8_appendChars_6 : List UInt8 := dkwJ8_appendChars_6 ++ dktJ8_appendChars_7
def dkwJ8_appendChars_5 : List UInt8 := [120, 184, 1, 53, 42, 89, 180, 0, 79, 29, 21, 5, 100, 96, 181, 0, 79, 177, 132, 5, 1, 167, 255, 168]
abbrev dktJ8_appendChars_5 : List UInt8 := dkwJ8_appendChars_5 ++ dktJ8_appendChars_6
def dkwJ8_appendChars_4 : List UInt8 := [182, 0, 195, 43, 182, 1, 145, 21, 5, 4, 120, 42, 180, 0, 15, 21, 6, 4, 120, 29, 21, 5, 100, 4]
abbrev dktJ8_appendChars_4 : List UInt8 := dkwJ8_appendChars_4 ++ dktJ8_appendChars_5
def dkwJ8_appendChars_3 : List UInt8 := [153, 0, 17, 25, 4, 21, 6, 132, 6, 1, 21, 7, 145, 84, 167, 0, 52, 42, 21, 6, 181, 0, 79, 42]
abbrev dktJ8_appendChars_3 : List UInt8 := dkwJ8_appendChars_3 ++ dktJ8_appendChars_4
def dkwJ8_appendChars_2 : List UInt8 := [180, 0, 79, 54, 6, 21, 5, 29, 162, 0, 88, 43, 21, 5, 182, 1, 148, 54, 7, 21, 7, 184, 0, 191]
abbrev dktJ8_appendChars_2 : List UInt8 := dkwJ8_appendChars_2 ++ dktJ8_appendChars_3
def dkwJ8_appendChars_1 : List UInt8 := [180, 0, 79, 29, 28, 100, 184, 1, 53, 167, 0, 161, 42, 180, 0, 15, 58, 4, 28, 54, 5, 42]
abbrev dktJ8_appendChars_1 : List UInt8 := dkwJ8_appendChars_1 ++ dktJ8_appendChars_2
def dkwJ8_appendChars_0 : List UInt8 := [42, 182, 0, 83, 153, 0, 141, 43, 182, 1, 144, 153, 0, 25, 43, 182, 1, 145, 28, 42, 180, 0, 15, 42]
abbrev dktJ8_appendChars_0 : List UInt8 := dkwJ8_appendChars_0 ++ dktJ8_appendChars_1
theorem dksJ8_appendChars_0 : cJ8_appendChars.data.toList.drop 0 = dktJ8_appendChars_0 := by decide +kernel
theorem dksJ8_appendChars_1 : cJ8_appendChars.data.toList.drop 24 = dktJ8_appendChars_1 := dk_seg dksJ8_appendChars_0 24 rfl rfl
theorem dksJ8_appendChars_2 : cJ8_appendChars.data.toList.drop 46 = dktJ8_appendChars_2 := dk_seg dksJ8_appendChars_1 22 rfl rfl
theorem dksJ8_appendChars_3 : cJ8_appendChars.data.toList.drop 70 = dktJ8_appendChars_3 := dk_seg dksJ8_appendChars_2 24 rfl rfl
theorem dksJ8_appendChars_4 : cJ8_appendChars.data.toList.drop 94 = dktJ8_appendChars_4 := dk_seg dksJ8_appendChars_3 24 rfl rfl
theorem dksJ8_appendChars_5 : cJ8_appendChars.data.toList.drop 118 = dktJ8_appendChars_5 := dk_seg dksJ8_appendChars_4 24 rfl rfl
theorem dksJ8_appendChars_6 : cJ8_appendChars.data.toList.drop 142 = dktJ8_appendChars_6 := dk_seg dksJ8_appendChars_5 24 rfl rfl
theorem dksJ8_appendChars_7 : cJ8_appendChars.data.toList.drop 166 = dktJ8_appendChars_7 := dk_seg dksJ8_appendChars_6 24 rfl rfl
theorem dksJ8_appendChars_8 : cJ8_appendChars.data.toList.drop 190 = dktJ8_appendChars_8 := dk_seg dksJ8_appendChars_7 24 rfl rfl
theorem dJ8_appendChars_0 : decode cJ8_appendChars 0 = .ok (.aload_n 0, 1) := dk_42 (dk_at dksJ8_appendChars_0 0 rfl rfl)
theorem dJ8_appendChars_1 : decode cJ8_appendChars 1 = .ok (.invokevirtual 83, 3) := dk_182 0 83 (dk_at dksJ8_appendChars_0 1 rfl rfl)
theorem dJ8_appendChars_4 : decode cJ8_appendChars 4 = .ok (.ifCond .eq 141, 3) := dk_153 0 141 (dk_at dksJ8_appendChars_0 4 rfl rfl)
theorem dJ8_appendChars_7 : decode cJ8_appendChars 7 = .ok (.aload_n 1, 1) := dk_43 (dk_at dksJ8_appendChars_0 7 rfl rfl)
theorem dJ8_appendChars_8 : decode cJ8_appendChars 8 = .ok (.invokevirtual 400, 3) := dk_182 1 144 (dk_at dksJ8_appendChars_0 8 rfl rfl)
theorem dJ8_appendChars_11 : decode cJ8_appendChars 11 = .ok (.ifCond .eq 25, 3) := dk_153 0 25 (dk_at dksJ8_appendChars_0 11 rfl rfl)
theorem dJ8_appendChars_14 : decode cJ8_appendChars 14 = .ok (.aload_n 1, 1) := dk_43 (dk_at dksJ8_appendChars_0 14 rfl rfl)
theorem dJ8_appendChars_15 : decode cJ8_appendChars 15 = .ok (.invokevirtual 401, 3) := dk_182 1 145 (dk_at dksJ8_appendChars_0 15 rfl rfl)
theorem dJ8_appendChars_18 : decode cJ8_appendChars 18 = .ok (.iload_n 2, 1) := dk_28 (dk_at dksJ8_appendChars_0 18 rfl rfl)
theorem dJ8_appendChars_19 : decode cJ8_appendChars 19 = .ok (.aload_n 0, 1) := dk_42 (dk_at dksJ8_appendChars_0 19 rfl rfl)
theorem dJ8_appendChars_20 : decode cJ8_appendChars 20 = .ok (.getfield 15, 3) := dk_180 0 15 (dk_at dksJ8_appendChars_0 20 rfl rfl)
theorem dJ8_appendChars_23 : decode cJ8_appendChars 23 = .ok (.aload_n 0, 1) := dk_42 (dk_at dksJ8_appendChars_0 23 rfl rfl)
theorem dJ8_appendChars_24 : decode cJ8_appendChars 24 = .ok (.getfield 79, 3) := dk_180 0 79 (dk_at dksJ8_appendChars_1 0 rfl rfl)
theorem dJ8_appendChars_27 : decode cJ8_appendChars 27 = .ok (.iload_n 3, 1) := dk_29 (dk_at dksJ8_appendChars_1 3 rfl rfl)
theorem dJ8_appendChars_28 : decode cJ8_appendChars 28 = .ok (.iload_n 2, 1) := dk_28 (dk_at dksJ8_appendChars_1 4 rfl rfl)
theorem dJ8_appendChars_29 : decode cJ8_appendChars 29 = .ok (.isub, 1) := dk_100 (dk_at dksJ8_appendChars_1 5 rfl rfl)
theorem dJ8_appendChars_30 : decode cJ8_appendChars 30 = .ok (.invokestatic 309, 3) := dk_184 1 53 (dk_at dksJ8_appendChars_1 6 rfl rfl)
theorem dJ8_appendChars_33 : decode cJ8_appendChars 33 = .ok (.goto 161, 3) := dk_167 0 161 (dk_at dksJ8_appendChars_1 9 rfl rfl)
theorem dJ8_appendChars_36 : decode cJ8_appendChars 36 = .ok (.aload_n 0, 1) := dk_42 (dk_at dksJ8_appendChars_1 12 rfl rfl)
theorem dJ8_appendChars_37 : decode cJ8_appendChars 37 = .ok (.getfield 15, 3) := dk_180 0 15 (dk_at dksJ8_appendChars_1 13 rfl rfl)
theorem dJ8_appendChars_40 : decode cJ8_appendChars 40 = .ok (.astore 4, 2) := dk_58 4 (dk_at dksJ8_appendChars_1 16 rfl rfl)
theorem dJ8_appendChars_42 : decode cJ8_appendChars 42 = .ok (.iload_n 2, 1) := dk_28 (dk_at dksJ8_appendChars_1 18 rfl rfl)
theorem dJ8_appendChars_43 : decode cJ8_appendChars 43 = .ok (.istore 5, 2) := dk_54 5 (dk_at dksJ8_appendChars_1 19 rfl rfl)
theorem dJ8_appendChars_45 : decode cJ8_appendChars 45 = .ok (.aload_n 0, 1) := dk_42 (dk_at dksJ8_appendChars_1 21 rfl rfl)
theorem dJ8_appendChars_46 : decode cJ8_appendChars 46 = .ok (.getfield 79, 3) := dk_180 0 79 (dk_at dksJ8_appendChars_2 0 rfl rfl)
theorem dJ8_appendChars_49 : decode cJ8_appendChars 49 = .ok (.istore 6, 2) := dk_54 6 (dk_at dksJ8_appendChars_2 3 rfl rfl)
theorem dJ8_appendChars_51 : decode cJ8_appendChars 51 = .ok (.iload 5, 2) := dk_21 5 (dk_at dksJ8_appendChars_2 5 rfl rfl)
theorem dJ8_appendChars_53 : decode cJ8_appendChars 53 = .ok (.iload_n 3, 1) := dk_29 (dk_at dksJ8_appendChars_2 7 rfl rfl)
theorem dJ8_appendChars_54 : decode cJ8_appendChars 54 = .ok (.if_icmp .ge 88, 3) := dk_162 0 88 (dk_at dksJ8_appendChars_2 8 rfl rfl)
theorem dJ8_appendChars_57 : decode cJ8_appendChars 57 = .ok (.aload_n 1, 1) := dk_43 (dk_at dksJ8_appendChars_2 11 rfl rfl)
theorem dJ8_appendChars_58 : decode cJ8_appendChars 58 = .ok (.iload 5, 2) := dk_21 5 (dk_at dksJ8_appendChars_2 12 rfl rfl)
theorem dJ8_appendChars_60 : decode cJ8_appendChars 60 = .ok (.invokevirtual 404, 3) := dk_182 1 148 (dk_at dksJ8_appendChars_2 14 rfl rfl)
theorem dJ8_appendChars_63 : decode cJ8_appendChars 63 = .ok (.istore 7, 2) := dk_54 7 (dk_at dksJ8_appendChars_2 17 rfl rfl)
theorem dJ8_appendChars_65 : decode cJ8_appendChars 65 = .ok (.iload 7, 2) := dk_21 7 (dk_at dksJ8_appendChars_2 19 rfl rfl)
theorem dJ8_appendChars_67 : decode cJ8_appendChars 67 = .ok (.invokestatic 191, 3) := dk_184 0 191 (dk_at dksJ8_appendChars_2 21 rfl rfl)
theorem dJ8_appendChars_70 : decode cJ8_appendChars 70 = .ok (.ifCond .eq 17, 3) := dk_153 0 17 (dk_at dksJ8_appendChars_3 0 rfl rfl)
theorem dJ8_appendChars_73 : decode cJ8_appendChars 73 = .ok (.aload 4, 2) := dk_25 4 (dk_at dksJ8_appendChars_3 3 rfl rfl)
theorem dJ8_appendChars_75 : decode cJ8_appendChars 75 = .ok (.iload 6, 2) := dk_21 6 (dk_at dksJ8_appendChars_3 5 rfl rfl)
theorem dJ8_appendChars_77 : decode cJ8_appendChars 77 = .ok (.iinc 6 1, 3) := dk_132 6 1 (dk_at dksJ8_appendChars_3 7 rfl rfl)
theorem dJ8_appendChars_80 : decode cJ8_appendChars 80 = .ok (.iload 7, 2) := dk_21 7 (dk_at dksJ8_appendChars_3 10 rfl rfl)
theorem dJ8_appendChars_82 : decode cJ8_appendChars 82 = .ok (.i2b, 1) := dk_145 (dk_at dksJ8_appendChars_3 12 rfl rfl)
theorem dJ8_appendChars_83 : decode cJ8_appendChars 83 = .ok (.bastore, 1) := dk_84 (dk_at dksJ8_appendChars_3 13 rfl rfl)
theorem dJ8_appendChars_84 : decode cJ8_appendChars 84 = .ok (.goto 52, 3) := dk_167 0 52 (dk_at dksJ8_appendChars_3 14 rfl rfl)
theorem dJ8_appendChars_87 : decode cJ8_appendChars 87 = .ok (.aload_n 0, 1) := dk_42 (dk_at dksJ8_appendChars_3 17 rfl rfl)
theorem dJ8_appendChars_88 : decode cJ8_appendChars 88 = .ok (.iload 6, 2) := dk_21 6 (dk_at dksJ8_appendChars_3 18 rfl rfl)
theorem dJ8_appendChars_90 : decode cJ8_appendChars 90 = .ok (.putfield 79, 3) := dk_181 0 79 (dk_at dksJ8_appendChars_3 20 rfl rfl)
theorem dJ8_appendChars_93 : decode cJ8_appendChars 93 = .ok (.aload_n 0, 1) := dk_42 (dk_at dksJ8_appendChars_3 23 rfl rfl)
theorem dJ8_appendChars_94 : decode cJ8_appendChars 94 = .ok (.invokevirtual 195, 3) := dk_182 0 195 (dk_at dksJ8_appendChars_4 0 rfl rfl)
theorem dJ8_appendChars_97 : decode cJ8_appendChars 97 = .ok (.aload_n 1, 1) := dk_43 (dk_at dksJ8_appendChars_4 3 rfl rfl)
theorem dJ8_appendChars_98 : decode cJ8_appendChars 98 = .ok (.invokevirtual 401, 3) := dk_182 1 145 (dk_at dksJ8_appendChars_4 4 rfl rfl)
theorem dJ8_appendChars_101 : decode cJ8_appendChars 101 = .ok (.iload 5, 2) := dk_21 5 (dk_at dksJ8_appendChars_4 7 rfl rfl)
theorem dJ8_appendChars_103 : decode cJ8_appendChars 103 = .ok (.iconst 1, 1) := dk_4 (dk_at dksJ8_appendChars_4 9 rfl rfl)
theorem dJ8_appendChars_104 : decode cJ8_appendChars 104 = .ok (.ishl, 1) := dk_120 (dk_at dksJ8_appendChars_4 10 rfl rfl)
theorem dJ8_appendChars_105 : decode cJ8_appendChars 105 = .ok (.aload_n 0, 1) := dk_42 (dk_at dksJ8_appendChars_4 11 rfl rfl)
theorem dJ8_appendChars_106 : decode cJ8_appendChars 106 = .ok (.getfield 15, 3) := dk_180 0 15 (dk_at dksJ8_appendChars_4 12 rfl rfl)
theorem dJ8_appendChars_109 : decode cJ8_appendChars 109 = .ok (.iload 6, 2) := dk_21 6 (dk_at dksJ8_appendChars_4 15 rfl rfl)
theorem dJ8_appendChars_111 : decode cJ8_appendChars 111 = .ok (.iconst 1, 1) := dk_4 (dk_at dksJ8_appendChars_4 17 rfl rfl)
theorem dJ8_appendChars_112 : decode cJ8_appendChars 112 = .ok (.ishl, 1) := dk_120 (dk_at dksJ8_appendChars_4 18 rfl rfl)
theorem dJ8_appendChars_113 : decode cJ8_appendChars 113 = .ok (.iload_n 3, 1) := dk_29 (dk_at dksJ8_appendChars_4 19 rfl rfl)
theorem dJ8_appendChars_114 : decode cJ8_appendChars 114 = .ok (.iload 5, 2) := dk_21 5 (dk_at dksJ8_appendChars_4 20 rfl rfl)
theorem dJ8_appendChars_116 : decode cJ8_appendChars 116 = .ok (.isub, 1) := dk_100 (dk_at dksJ8_appendChars_4 22 rfl rfl)
theorem dJ8_appendChars_117 : decode cJ8_appendChars 117 = .ok (.iconst 1, 1) := dk_4 (dk_at dksJ8_appendChars_4 23 rfl rfl)
theorem dJ8_appendChars_118 : decode cJ8_appendChars 118 = .ok (.ishl, 1) := dk_120 (dk_at dksJ8_appendChars_5 0 rfl rfl)
theorem dJ8_appendChars_119 : decode cJ8_appendChars 119 = .ok (.invokestatic 309, 3) := dk_184 1 53 (dk_at dksJ8_appendChars_5 1 rfl rfl)
theorem dJ8_appendChars_122 : decode cJ8_appendChars 122 = .ok (.aload_n 0, 1) := dk_42 (dk_at dksJ8_appendChars_5 4 rfl rfl)
theorem dJ8_appendChars_123 : decode cJ8_appendChars 123 = .ok (.dup, 1) := dk_89 (dk_at dksJ8_appendChars_5 5 rfl rfl)
theorem dJ8_appendChars_124 : decode cJ8_appendChars 124 = .ok (.getfield 79, 3) := dk_180 0 79 (dk_at dksJ8_appendChars_5 6 rfl rfl)
theorem dJ8_appendChars_127 : decode cJ8_appendChars 127 = .ok (.iload_n 3, 1) := dk_29 (dk_at dksJ8_appendChars_5 9 rfl rfl)
theorem dJ8_appendChars_128 : decode cJ8_appendChars 128 = .ok (.iload 5, 2) := dk_21 5 (dk_at dksJ8_appendChars_5 10 rfl rfl)
theorem dJ8_appendChars_130 : decode cJ8_appendChars 130 = .ok (.isub, 1) := dk_100 (dk_at dksJ8_appendChars_5 12 rfl rfl)
theorem dJ8_appendChars_131 : decode cJ8_appendChars 131 = .ok (.iadd, 1) := dk_96 (dk_at dksJ8_appendChars_5 13 rfl rfl)
theorem dJ8_appendChars_132 : decode cJ8_appendChars 132 = .ok (.putfield 79, 3) := dk_181 0 79 (dk_at dksJ8_appendChars_5 14 rfl rfl)
theorem dJ8_appendChars_135 : decode cJ8_appendChars 135 = .ok (.return_, 1) := dk_177 (dk_at dksJ8_appendChars_5 17 rfl rfl)
theorem dJ8_appendChars_136 : decode cJ8_appendChars 136 = .ok (.iinc 5 1, 3) := dk_132 5 1 (dk_at dksJ8_appendChars_5 18 rfl rfl)
theorem dJ8_appendChars_139 : decode cJ8_appendChars 139 = .ok (.goto (-88), 3) := dk_167 255 168 (dk_at dksJ8_appendChars_5 21 rfl rfl)
theorem dJ8_appendChars_142 : decode cJ8_appendChars 142 = .ok (.goto 52, 3) := dk_167 0 52 (dk_at dksJ8_appendChars_6 0 rfl rfl)
theorem dJ8_appendChars_145 : decode cJ8_appendChars 145 = .ok (.aload_n 1, 1) := dk_43 (dk_at dksJ8_appendChars_6 3 rfl rfl)
theorem dJ8_appendChars_146 : decode cJ8_appendChars 146 = .ok (.invokevirtual 400, 3) := dk_182 1 144 (dk_at dksJ8_appendChars_6 4 rfl rfl)
theorem dJ8_appendChars_149 : decode cJ8_appendChars 149 = .ok (.ifCond .eq 20, 3) := dk_153 0 20 (dk_at dksJ8_appendChars_6 7 rfl rfl)
theorem dJ8_appendChars_152 : decode cJ8_appendChars 152 = .ok (.aload_n 0, 1) := dk_42 (dk_at dksJ8_appendChars_6 10 rfl rfl)
theorem dJ8_appendChars_153 : decode cJ8_appendChars 153 = .ok (.getfield 15, 3) := dk_180 0 15 (dk_at dksJ8_appendChars_6 11 rfl rfl)
theorem dJ8_appendChars_156 : decode cJ8_appendChars 156 = .ok (.aload_n 0, 1) := dk_42 (dk_at dksJ8_appendChars_6 14 rfl rfl)
theorem dJ8_appendChars_157 : decode cJ8_appendChars 157 = .ok (.getfield 79, 3) := dk_180 0 79 (dk_at dksJ8_appendChars_6 15 rfl rfl)
theorem dJ8_appendChars_160 : decode cJ8_appendChars 160 = .ok (.aload_n 1, 1) := dk_43 (dk_at dksJ8_appendChars_6 18 rfl rfl)
theorem dJ8_appendChars_161 : decode cJ8_appendChars 161 = .ok (.iload_n 2, 1) := dk_28 (dk_at dksJ8_appendChars_6 19 rfl rfl)
theorem dJ8_appendChars_162 : decode cJ8_appendChars 162 = .ok (.iload_n 3, 1) := dk_29 (dk_at dksJ8_appendChars_6 20 rfl rfl)
theorem dJ8_appendChars_163 : decode cJ8_appendChars 163 = .ok (.invokestatic 394, 3) := dk_184 1 138 (dk_at dksJ8_appendChars_6 21 rfl rfl)
theorem dJ8_appendChars_166 : decode cJ8_appendChars 166 = .ok (.goto 28, 3) := dk_167 0 28 (dk_at dksJ8_appendChars_7 0 rfl rfl)
theorem dJ8_appendChars_169 : decode cJ8_appendChars 169 = .ok (.aload_n 1, 1) := dk_43 (dk_at dksJ8_appendChars_7 3 rfl rfl)
theorem dJ8_appendChars_170 : decode cJ8_appendChars 170 = .ok (.invokevirtual 401, 3) := dk_182 1 145 (dk_at dksJ8_appendChars_7 4 rfl rfl)
theorem dJ8_appendChars_173 : decode cJ8_appendChars 173 = .ok (.iload_n 2, 1) := dk_28 (dk_at dksJ8_appendChars_7 7 rfl rfl)
theorem dJ8_appendChars_174 : decode cJ8_appendChars 174 = .ok (.iconst 1, 1) := dk_4 (dk_at dksJ8_appendChars_7 8 rfl rfl)
theorem dJ8_appendChars_175 : decode cJ8_appendChars 175 = .ok (.ishl, 1) := dk_120 (dk_at dksJ8_appendChars_7 9 rfl rfl)
theorem dJ8_appendChars_176 : decode cJ8_appendChars 176 = .ok (.aload_n 0, 1) := dk_42 (dk_at dksJ8_appendChars_7 10 rfl rfl)
theorem dJ8_appendChars_177 : decode cJ8_appendChars 177 = .ok (.getfield 15, 3) := dk_180 0 15 (dk_at dksJ8_appendChars_7 11 rfl rfl)
theorem dJ8_appendChars_180 : decode cJ8_appendChars 180 = .ok (.aload_n 0, 1) := dk_42 (dk_at dksJ8_appendChars_7 14 rfl rfl)
theorem dJ8_appendChars_181 : decode cJ8_appendChars 181 = .ok (.getfield 79, 3) := dk_180 0 79 (dk_at dksJ8_appendChars_7 15 rfl rfl)
theorem dJ8_appendChars_184 : decode cJ8_appendChars 184 = .ok (.iconst 1, 1) := dk_4 (dk_at dksJ8_appendChars_7 18 rfl rfl)
theorem dJ8_appendChars_185 : decode cJ8_appendChars 185 = .ok (.ishl, 1) := dk_120 (dk_at dksJ8_appendChars_7 19 rfl rfl)
theorem dJ8_appendChars_186 : decode cJ8_appendChars 186 = .ok (.iload_n 3, 1) := dk_29 (dk_at dksJ8_appendChars_7 20 rfl rfl)
theorem dJ8_appendChars_187 : decode cJ8_appendChars 187 = .ok (.iload_n 2, 1) := dk_28 (dk_at dksJ8_appendChars_7 21 rfl rfl)
theorem dJ8_appendChars_188 : decode cJ8_appendChars 188 = .ok (.isub, 1) := dk_100 (dk_at dksJ8_appendChars_7 22 rfl rfl)
theorem dJ8_appendChars_189 : decode cJ8_appendChars 189 = .ok (.iconst 1, 1) := dk_4 (dk_at dksJ8_appendChars_7 23 rfl rfl)
theorem dJ8_appendChars_190 : decode cJ8_appendChars 190 = .ok (.ishl, 1) := dk_120 (dk_at dksJ8_appendChars_8 0 rfl rfl)
theorem dJ8_appendChars_191 : decode cJ8_appendChars 191 = .ok (.invokestatic 309, 3) := dk_184 1 53 (dk_at dksJ8_appendChars_8 1 rfl rfl)
theorem dJ8_appendChars_194 : decode cJ8_appendChars 194 = .ok (.aload_n 0, 1) := dk_42 (dk_at dksJ8_appendChars_8 4 rfl rfl)
theorem dJ8_appendChars_195 : decode cJ8_appendChars 195 = .ok (.dup, 1) := dk_89 (dk_at dksJ8_appendChars_8 5 rfl rfl)
theorem dJ8_appendChars_196 : decode cJ8_appendChars 196 = .ok (.getfield 79, 3) := dk_180 0 79 (dk_at dksJ8_appendChars_8 6 rfl rfl)
theorem dJ8_appendChars_199 : decode cJ8_appendChars 199 = .ok (.iload_n 3, 1) := dk_29 (dk_at dksJ8_appendChars_8 9 rfl rfl)
theorem dJ8_appendChars_200 : decode cJ8_appendChars 200 = .ok (.iload_n 2, 1) := dk_28 (dk_at dksJ8_appendChars_8 10 rfl rfl)
theorem dJ8_appendChars_201 : decode cJ8_appendChars 201 = .ok (.isub, 1) := dk_100 (dk_at dksJ8_appendChars_8 11 rfl rfl)
theorem dJ8_appendChars_202 : decode cJ8_appendChars 202 = .ok (.iadd, 1) := dk_96 (dk_at dksJ8_appendChars_8 12 rfl rfl)
theorem dJ8_appendChars_203 : decode cJ8_appendChars 203 = .ok (.putfield 79, 3) := dk_181 0 79 (dk_at dksJ8_appendChars_8 13 rfl rfl)
theorem dJ8_appendChars_206 : decode cJ8_appendChars 206 = .ok (.return_, 1) := dk_177 (dk_at dksJ8_appendChars_8 16 rfl rfl)
abbrev cJ8_charAt : ByteArray := prog_25_method_14_code
def yJ8_charAt : MethodName := ⟨RJ8, "charAt", "(I)C"⟩
def dkwJ8_charAt_1 : List UInt8 := [21, 4, 184, 0, 144, 28, 154, 0, 12, 45, 27, 51, 17, 0, 255, 126, 146, 172, 45, 27, 184, 0, 148, 172]
abbrev dktJ8_charAt_1 : List UInt8 := dkwJ8_charAt_1 ++ []
def dkwJ8_charAt_0 : List UInt8 := [42, 180, 0, 22, 61, 42, 180, 0, 15, 78, 42, 180, 0, 79, 45, 190, 28, 122, 184, 0, 138, 54, 4, 27]
abbrev dktJ8_charAt_0 : List UInt8 := dkwJ8_charAt_0 ++ dktJ8_charAt_1
theorem dksJ8_charAt_0 : cJ8_charAt.data.toList.drop 0 = dktJ8_charAt_0 := by decide +kernel
theorem dksJ8_charAt_1 : cJ8_charAt.data.toList.drop 24 = dktJ8_charAt_1 := dk_seg dksJ8_charAt_0 24 rfl rfl
theorem dJ8_charAt_0 : decode cJ8_charAt 0 = .ok (.aload_n 0, 1) := dk_42 (dk_at dksJ8_charAt_0 0 rfl rfl)
theorem dJ8_charAt_1 : decode cJ8_charAt 1 = .ok (.getfield 22, 3) := dk_180 0 22 (dk_at dksJ8_charAt_0 1 rfl rfl)
theorem dJ8_charAt_4 : decode cJ8_charAt 4 = .ok (.istore_n 2, 1) := dk_61 (dk_at dksJ8_charAt_0 4 rfl rfl)
theorem dJ8_charAt_5 : decode cJ8_charAt 5 = .ok (.aload_n 0, 1) := dk_42 (dk_at dksJ8_charAt_0 5 rfl rfl)
theorem dJ8_charAt_6 : decode cJ8_charAt 6 = .ok (.getfield 15, 3) := dk_180 0 15 (dk_at dksJ8_charAt_0 6 rfl rfl)
theorem dJ8_charAt_9 : decode cJ8_charAt 9 = .ok (.astore_n 3, 1) := dk_78 (dk_at dksJ8_charAt_0 9 rfl rfl)
theorem dJ8_charAt_10 : decode cJ8_charAt 10 = .ok (.aload_n 0, 1) := dk_42 (dk_at dksJ8_charAt_0 10 rfl rfl)
theorem dJ8_charAt_11 : decode cJ8_charAt 11 = .ok (.getfield 79, 3) := dk_180 0 79 (dk_at dksJ8_charAt_0 11 rfl rfl)
theorem dJ8_charAt_14 : decode cJ8_charAt 14 = .ok (.aload_n 3, 1) := dk_45 (dk_at dksJ8_charAt_0 14 rfl rfl)
theorem dJ8_charAt_15 : decode cJ8_charAt 15 = .ok (.arraylength, 1) := dk_190 (dk_at dksJ8_charAt_0 15 rfl rfl)
theorem dJ8_charAt_16 : decode cJ8_charAt 16 = .ok (.iload_n 2, 1) := dk_28 (dk_at dksJ8_charAt_0 16 rfl rfl)
theorem dJ8_charAt_17 : decode cJ8_charAt 17 = .ok (.ishr, 1) := dk_122 (dk_at dksJ8_charAt_0 17 rfl rfl)
theorem dJ8_charAt_18 : decode cJ8_charAt 18 = .ok (.invokestatic 138, 3) := dk_184 0 138 (dk_at dksJ8_charAt_0 18 rfl rfl)
theorem dJ8_charAt_21 : decode cJ8_charAt 21 = .ok (.istore 4, 2) := dk_54 4 (dk_at dksJ8_charAt_0 21 rfl rfl)
theorem dJ8_charAt_23 : decode cJ8_charAt 23 = .ok (.iload_n 1, 1) := dk_27 (dk_at dksJ8_charAt_0 23 rfl rfl)
theorem dJ8_charAt_24 : decode cJ8_charAt 24 = .ok (.iload 4, 2) := dk_21 4 (dk_at dksJ8_charAt_1 0 rfl rfl)
theorem dJ8_charAt_26 : decode cJ8_charAt 26 = .ok (.invokestatic 144, 3) := dk_184 0 144 (dk_at dksJ8_charAt_1 2 rfl rfl)
theorem dJ8_charAt_29 : decode cJ8_charAt 29 = .ok (.iload_n 2, 1) := dk_28 (dk_at dksJ8_charAt_1 5 rfl rfl)
theorem dJ8_charAt_30 : decode cJ8_charAt 30 = .ok (.ifCond .ne 12, 3) := dk_154 0 12 (dk_at dksJ8_charAt_1 6 rfl rfl)
theorem dJ8_charAt_33 : decode cJ8_charAt 33 = .ok (.aload_n 3, 1) := dk_45 (dk_at dksJ8_charAt_1 9 rfl rfl)
theorem dJ8_charAt_34 : decode cJ8_charAt 34 = .ok (.iload_n 1, 1) := dk_27 (dk_at dksJ8_charAt_1 10 rfl rfl)
theorem dJ8_charAt_35 : decode cJ8_charAt 35 = .ok (.baload, 1) := dk_51 (dk_at dksJ8_charAt_1 11 rfl rfl)
theorem dJ8_charAt_36 : decode cJ8_charAt 36 = .ok (.sipush 255, 3) := dk_17 0 255 (dk_at dksJ8_charAt_1 12 rfl rfl)
theorem dJ8_charAt_39 : decode cJ8_charAt 39 = .ok (.iand, 1) := dk_126 (dk_at dksJ8_charAt_1 15 rfl rfl)
theorem dJ8_charAt_40 : decode cJ8_charAt 40 = .ok (.i2c, 1) := dk_146 (dk_at dksJ8_charAt_1 16 rfl rfl)
theorem dJ8_charAt_41 : decode cJ8_charAt 41 = .ok (.ireturn, 1) := dk_172 (dk_at dksJ8_charAt_1 17 rfl rfl)
theorem dJ8_charAt_42 : decode cJ8_charAt 42 = .ok (.aload_n 3, 1) := dk_45 (dk_at dksJ8_charAt_1 18 rfl rfl)
theorem dJ8_charAt_43 : decode cJ8_charAt 43 = .ok (.iload_n 1, 1) := dk_27 (dk_at dksJ8_charAt_1 19 rfl rfl)
theorem dJ8_charAt_44 : decode cJ8_charAt 44 = .ok (.invokestatic 148, 3) := dk_184 0 148 (dk_at dksJ8_charAt_1 20 rfl rfl)
theorem dJ8_charAt_47 : decode cJ8_charAt 47 = .ok (.ireturn, 1) := dk_172 (dk_at dksJ8_charAt_1 23 rfl rfl)
abbrev cJ8_appendChars_2 : ByteArray := prog_25_method_76_code
def yJ8_appendChars_2 : MethodName := ⟨RJ8, "appendChars", "(Ljava/lang/CharSequence;II)V"⟩
def dkwJ8_appendChars_2_6 : List UInt8 := [184, 1, 138, 42, 89, 180, 0, 79, 29, 28, 100, 96, 181, 0, 79, 177]
abbrev dktJ8_appendChars_2_6 : List UInt8 := dkwJ8_appendChars_2_6 ++ []
def dkwJ8_appendChars_2_5 : List UInt8 := [181, 0, 79, 177, 132, 5, 1, 167, 255, 155, 167, 0, 17, 42, 180, 0, 15, 42, 180, 0, 79, 43, 28, 29]
abbrev dktJ8_appendChars_2_5 : List UInt8 := dkwJ8_appendChars_2_5 ++ dktJ8_appendChars_2_6
def dkwJ8_appendChars_2_4 : List UInt8 := [180, 0, 15, 21, 6, 43, 21, 5, 29, 184, 1, 138, 42, 89, 180, 0, 79, 29, 21, 5, 100, 96]
abbrev dktJ8_appendChars_2_4 : List UInt8 := dkwJ8_appendChars_2_4 ++ dktJ8_appendChars_2_5
def dkwJ8_appendChars_2_3 : List UInt8 := [180, 0, 15, 21, 6, 132, 6, 1, 21, 7, 184, 0, 197, 42, 21, 6, 181, 0, 79, 132, 5, 1, 42]
abbrev dktJ8_appendChars_2_3 : List UInt8 := dkwJ8_appendChars_2_3 ++ dktJ8_appendChars_2_4
def dkwJ8_appendChars_2_2 : List UInt8 := [21, 6, 132, 6, 1, 21, 7, 145, 84, 167, 0, 63, 42, 21, 6, 181, 0, 79, 42, 182, 0, 195, 42]
abbrev dktJ8_appendChars_2_2 : List UInt8 := dkwJ8_appendChars_2_2 ++ dktJ8_appendChars_2_3
def dkwJ8_appendChars_2_1 : List UInt8 := [29, 162, 0, 101, 43, 21, 5, 185, 1, 134, 2, 0, 54, 7, 21, 7, 184, 0, 191, 153, 0, 17, 25, 4]
abbrev dktJ8_appendChars_2_1 : List UInt8 := dkwJ8_appendChars_2_1 ++ dktJ8_appendChars_2_2
def dkwJ8_appendChars_2_0 : List UInt8 := [42, 182, 0, 83, 153, 0, 125, 42, 180, 0, 15, 58, 4, 28, 54, 5, 42, 180, 0, 79, 54, 6, 21, 5]
abbrev dktJ8_appendChars_2_0 : List UInt8 := dkwJ8_appendChars_2_0 ++ dktJ8_appendChars_2_1
theorem dksJ8_appendChars_2_0 : cJ8_appendChars_2.data.toList.drop 0 = dktJ8_appendChars_2_0 := by decide +kernel
theorem dksJ8_appendChars_2_1 : cJ8_appendChars_2.data.toList.drop 24 = dktJ8_appendChars_2_1 := dk_seg dksJ8_appendChars_2_0 24 rfl rfl
theorem dksJ8_appendChars_2_2 : cJ8_appendChars_2.data.toList.drop 48 = dktJ8_appendChars_2_2 := dk_seg dksJ8_appendChars_2_1 24 rfl rfl
theorem dksJ8_appendChars_2_3 : cJ8_appendChars_2.data.toList.drop 71 = dktJ8_appendChars_2_3 := dk_seg dksJ8_appendChars_2_2 23 rfl rfl
theorem dksJ8_appendChars_2_4 : cJ8_appendChars_2.data.toList.drop 94 = dktJ8_appendChars_2_4 := dk_seg dksJ8_appendChars_2_3 23 rfl rfl
theorem dksJ8_appendChars_2_5 : cJ8_appendChars_2.data.toList.drop 116 = dktJ8_appendChars_2_5 := dk_seg dksJ8_appendChars_2_4 22 rfl rfl
theorem dksJ8_appendChars_2_6 : cJ8_appendChars_2.data.toList.drop 140 = dktJ8_appendChars_2_6 := dk_seg dksJ8_appendChars_2_5 24 rfl rfl
theorem dJ8_appendChars_2_0 : decode cJ8_appendChars_2 0 = .ok (.aload_n 0, 1) := dk_42 (dk_at dksJ8_appendChars_2_0 0 rfl rfl)
theorem dJ8_appendChars_2_1 : decode cJ8_appendChars_2 1 = .ok (.invokevirtual 83, 3) := dk_182 0 83 (dk_at dksJ8_appendChars_2_0 1 rfl rfl)
theorem dJ8_appendChars_2_4 : decode cJ8_appendChars_2 4 = .ok (.ifCond .eq 125, 3) := dk_153 0 125 (dk_at dksJ8_appendChars_2_0 4 rfl rfl)
theorem dJ8_appendChars_2_7 : decode cJ8_appendChars_2 7 = .ok (.aload_n 0, 1) := dk_42 (dk_at dksJ8_appendChars_2_0 7 rfl rfl)
theorem dJ8_appendChars_2_8 : decode cJ8_appendChars_2 8 = .ok (.getfield 15, 3) := dk_180 0 15 (dk_at dksJ8_appendChars_2_0 8 rfl rfl)
theorem dJ8_appendChars_2_11 : decode cJ8_appendChars_2 11 = .ok (.astore 4, 2) := dk_58 4 (dk_at dksJ8_appendChars_2_0 11 rfl rfl)
theorem dJ8_appendChars_2_13 : decode cJ8_appendChars_2 13 = .ok (.iload_n 2, 1) := dk_28 (dk_at dksJ8_appendChars_2_0 13 rfl rfl)
theorem dJ8_appendChars_2_14 : decode cJ8_appendChars_2 14 = .ok (.istore 5, 2) := dk_54 5 (dk_at dksJ8_appendChars_2_0 14 rfl rfl)
theorem dJ8_appendChars_2_16 : decode cJ8_appendChars_2 16 = .ok (.aload_n 0, 1) := dk_42 (dk_at dksJ8_appendChars_2_0 16 rfl rfl)
theorem dJ8_appendChars_2_17 : decode cJ8_appendChars_2 17 = .ok (.getfield 79, 3) := dk_180 0 79 (dk_at dksJ8_appendChars_2_0 17 rfl rfl)
theorem dJ8_appendChars_2_20 : decode cJ8_appendChars_2 20 = .ok (.istore 6, 2) := dk_54 6 (dk_at dksJ8_appendChars_2_0 20 rfl rfl)
theorem dJ8_appendChars_2_22 : decode cJ8_appendChars_2 22 = .ok (.iload 5, 2) := dk_21 5 (dk_at dksJ8_appendChars_2_0 22 rfl rfl)
theorem dJ8_appendChars_2_24 : decode cJ8_appendChars_2 24 = .ok (.iload_n 3, 1) := dk_29 (dk_at dksJ8_appendChars_2_1 0 rfl rfl)
theorem dJ8_appendChars_2_25 : decode cJ8_appendChars_2 25 = .ok (.if_icmp .ge 101, 3) := dk_162 0 101 (dk_at dksJ8_appendChars_2_1 1 rfl rfl)
theorem dJ8_appendChars_2_28 : decode cJ8_appendChars_2 28 = .ok (.aload_n 1, 1) := dk_43 (dk_at dksJ8_appendChars_2_1 4 rfl rfl)
theorem dJ8_appendChars_2_29 : decode cJ8_appendChars_2 29 = .ok (.iload 5, 2) := dk_21 5 (dk_at dksJ8_appendChars_2_1 5 rfl rfl)
theorem dJ8_appendChars_2_31 : decode cJ8_appendChars_2 31 = .ok (.invokeinterface 390 2, 5) := by decide +kernel
theorem dJ8_appendChars_2_36 : decode cJ8_appendChars_2 36 = .ok (.istore 7, 2) := dk_54 7 (dk_at dksJ8_appendChars_2_1 12 rfl rfl)
theorem dJ8_appendChars_2_38 : decode cJ8_appendChars_2 38 = .ok (.iload 7, 2) := dk_21 7 (dk_at dksJ8_appendChars_2_1 14 rfl rfl)
theorem dJ8_appendChars_2_40 : decode cJ8_appendChars_2 40 = .ok (.invokestatic 191, 3) := dk_184 0 191 (dk_at dksJ8_appendChars_2_1 16 rfl rfl)
theorem dJ8_appendChars_2_43 : decode cJ8_appendChars_2 43 = .ok (.ifCond .eq 17, 3) := dk_153 0 17 (dk_at dksJ8_appendChars_2_1 19 rfl rfl)
theorem dJ8_appendChars_2_46 : decode cJ8_appendChars_2 46 = .ok (.aload 4, 2) := dk_25 4 (dk_at dksJ8_appendChars_2_1 22 rfl rfl)
theorem dJ8_appendChars_2_48 : decode cJ8_appendChars_2 48 = .ok (.iload 6, 2) := dk_21 6 (dk_at dksJ8_appendChars_2_2 0 rfl rfl)
theorem dJ8_appendChars_2_50 : decode cJ8_appendChars_2 50 = .ok (.iinc 6 1, 3) := dk_132 6 1 (dk_at dksJ8_appendChars_2_2 2 rfl rfl)
theorem dJ8_appendChars_2_53 : decode cJ8_appendChars_2 53 = .ok (.iload 7, 2) := dk_21 7 (dk_at dksJ8_appendChars_2_2 5 rfl rfl)
theorem dJ8_appendChars_2_55 : decode cJ8_appendChars_2 55 = .ok (.i2b, 1) := dk_145 (dk_at dksJ8_appendChars_2_2 7 rfl rfl)
theorem dJ8_appendChars_2_56 : decode cJ8_appendChars_2 56 = .ok (.bastore, 1) := dk_84 (dk_at dksJ8_appendChars_2_2 8 rfl rfl)
theorem dJ8_appendChars_2_57 : decode cJ8_appendChars_2 57 = .ok (.goto 63, 3) := dk_167 0 63 (dk_at dksJ8_appendChars_2_2 9 rfl rfl)
theorem dJ8_appendChars_2_60 : decode cJ8_appendChars_2 60 = .ok (.aload_n 0, 1) := dk_42 (dk_at dksJ8_appendChars_2_2 12 rfl rfl)
theorem dJ8_appendChars_2_61 : decode cJ8_appendChars_2 61 = .ok (.iload 6, 2) := dk_21 6 (dk_at dksJ8_appendChars_2_2 13 rfl rfl)
theorem dJ8_appendChars_2_63 : decode cJ8_appendChars_2 63 = .ok (.putfield 79, 3) := dk_181 0 79 (dk_at dksJ8_appendChars_2_2 15 rfl rfl)
theorem dJ8_appendChars_2_66 : decode cJ8_appendChars_2 66 = .ok (.aload_n 0, 1) := dk_42 (dk_at dksJ8_appendChars_2_2 18 rfl rfl)
theorem dJ8_appendChars_2_67 : decode cJ8_appendChars_2 67 = .ok (.invokevirtual 195, 3) := dk_182 0 195 (dk_at dksJ8_appendChars_2_2 19 rfl rfl)
theorem dJ8_appendChars_2_70 : decode cJ8_appendChars_2 70 = .ok (.aload_n 0, 1) := dk_42 (dk_at dksJ8_appendChars_2_2 22 rfl rfl)
theorem dJ8_appendChars_2_71 : decode cJ8_appendChars_2 71 = .ok (.getfield 15, 3) := dk_180 0 15 (dk_at dksJ8_appendChars_2_3 0 rfl rfl)
theorem dJ8_appendChars_2_74 : decode cJ8_appendChars_2 74 = .ok (.iload 6, 2) := dk_21 6 (dk_at dksJ8_appendChars_2_3 3 rfl rfl)
theorem dJ8_appendChars_2_76 : decode cJ8_appendChars_2 76 = .ok (.iinc 6 1, 3) := dk_132 6 1 (dk_at dksJ8_appendChars_2_3 5 rfl rfl)
theorem dJ8_appendChars_2_79 : decode cJ8_appendChars_2 79 = .ok (.iload 7, 2) := dk_21 7 (dk_at dksJ8_appendChars_2_3 8 rfl rfl)
theorem dJ8_appendChars_2_81 : decode cJ8_appendChars_2 81 = .ok (.invokestatic 197, 3) := dk_184 0 197 (dk_at dksJ8_appendChars_2_3 10 rfl rfl)
theorem dJ8_appendChars_2_84 : decode cJ8_appendChars_2 84 = .ok (.aload_n 0, 1) := dk_42 (dk_at dksJ8_appendChars_2_3 13 rfl rfl)
theorem dJ8_appendChars_2_85 : decode cJ8_appendChars_2 85 = .ok (.iload 6, 2) := dk_21 6 (dk_at dksJ8_appendChars_2_3 14 rfl rfl)
theorem dJ8_appendChars_2_87 : decode cJ8_appendChars_2 87 = .ok (.putfield 79, 3) := dk_181 0 79 (dk_at dksJ8_appendChars_2_3 16 rfl rfl)
theorem dJ8_appendChars_2_90 : decode cJ8_appendChars_2 90 = .ok (.iinc 5 1, 3) := dk_132 5 1 (dk_at dksJ8_appendChars_2_3 19 rfl rfl)
theorem dJ8_appendChars_2_93 : decode cJ8_appendChars_2 93 = .ok (.aload_n 0, 1) := dk_42 (dk_at dksJ8_appendChars_2_3 22 rfl rfl)
theorem dJ8_appendChars_2_94 : decode cJ8_appendChars_2 94 = .ok (.getfield 15, 3) := dk_180 0 15 (dk_at dksJ8_appendChars_2_4 0 rfl rfl)
theorem dJ8_appendChars_2_97 : decode cJ8_appendChars_2 97 = .ok (.iload 6, 2) := dk_21 6 (dk_at dksJ8_appendChars_2_4 3 rfl rfl)
theorem dJ8_appendChars_2_99 : decode cJ8_appendChars_2 99 = .ok (.aload_n 1, 1) := dk_43 (dk_at dksJ8_appendChars_2_4 5 rfl rfl)
theorem dJ8_appendChars_2_100 : decode cJ8_appendChars_2 100 = .ok (.iload 5, 2) := dk_21 5 (dk_at dksJ8_appendChars_2_4 6 rfl rfl)
theorem dJ8_appendChars_2_102 : decode cJ8_appendChars_2 102 = .ok (.iload_n 3, 1) := dk_29 (dk_at dksJ8_appendChars_2_4 8 rfl rfl)
theorem dJ8_appendChars_2_103 : decode cJ8_appendChars_2 103 = .ok (.invokestatic 394, 3) := dk_184 1 138 (dk_at dksJ8_appendChars_2_4 9 rfl rfl)
theorem dJ8_appendChars_2_106 : decode cJ8_appendChars_2 106 = .ok (.aload_n 0, 1) := dk_42 (dk_at dksJ8_appendChars_2_4 12 rfl rfl)
theorem dJ8_appendChars_2_107 : decode cJ8_appendChars_2 107 = .ok (.dup, 1) := dk_89 (dk_at dksJ8_appendChars_2_4 13 rfl rfl)
theorem dJ8_appendChars_2_108 : decode cJ8_appendChars_2 108 = .ok (.getfield 79, 3) := dk_180 0 79 (dk_at dksJ8_appendChars_2_4 14 rfl rfl)
theorem dJ8_appendChars_2_111 : decode cJ8_appendChars_2 111 = .ok (.iload_n 3, 1) := dk_29 (dk_at dksJ8_appendChars_2_4 17 rfl rfl)
theorem dJ8_appendChars_2_112 : decode cJ8_appendChars_2 112 = .ok (.iload 5, 2) := dk_21 5 (dk_at dksJ8_appendChars_2_4 18 rfl rfl)
theorem dJ8_appendChars_2_114 : decode cJ8_appendChars_2 114 = .ok (.isub, 1) := dk_100 (dk_at dksJ8_appendChars_2_4 20 rfl rfl)
theorem dJ8_appendChars_2_115 : decode cJ8_appendChars_2 115 = .ok (.iadd, 1) := dk_96 (dk_at dksJ8_appendChars_2_4 21 rfl rfl)
theorem dJ8_appendChars_2_116 : decode cJ8_appendChars_2 116 = .ok (.putfield 79, 3) := dk_181 0 79 (dk_at dksJ8_appendChars_2_5 0 rfl rfl)
theorem dJ8_appendChars_2_119 : decode cJ8_appendChars_2 119 = .ok (.return_, 1) := dk_177 (dk_at dksJ8_appendChars_2_5 3 rfl rfl)
theorem dJ8_appendChars_2_120 : decode cJ8_appendChars_2 120 = .ok (.iinc 5 1, 3) := dk_132 5 1 (dk_at dksJ8_appendChars_2_5 4 rfl rfl)
theorem dJ8_appendChars_2_123 : decode cJ8_appendChars_2 123 = .ok (.goto (-101), 3) := dk_167 255 155 (dk_at dksJ8_appendChars_2_5 7 rfl rfl)
theorem dJ8_appendChars_2_126 : decode cJ8_appendChars_2 126 = .ok (.goto 17, 3) := dk_167 0 17 (dk_at dksJ8_appendChars_2_5 10 rfl rfl)
theorem dJ8_appendChars_2_129 : decode cJ8_appendChars_2 129 = .ok (.aload_n 0, 1) := dk_42 (dk_at dksJ8_appendChars_2_5 13 rfl rfl)
theorem dJ8_appendChars_2_130 : decode cJ8_appendChars_2 130 = .ok (.getfield 15, 3) := dk_180 0 15 (dk_at dksJ8_appendChars_2_5 14 rfl rfl)
theorem dJ8_appendChars_2_133 : decode cJ8_appendChars_2 133 = .ok (.aload_n 0, 1) := dk_42 (dk_at dksJ8_appendChars_2_5 17 rfl rfl)
theorem dJ8_appendChars_2_134 : decode cJ8_appendChars_2 134 = .ok (.getfield 79, 3) := dk_180 0 79 (dk_at dksJ8_appendChars_2_5 18 rfl rfl)
theorem dJ8_appendChars_2_137 : decode cJ8_appendChars_2 137 = .ok (.aload_n 1, 1) := dk_43 (dk_at dksJ8_appendChars_2_5 21 rfl rfl)
theorem dJ8_appendChars_2_138 : decode cJ8_appendChars_2 138 = .ok (.iload_n 2, 1) := dk_28 (dk_at dksJ8_appendChars_2_5 22 rfl rfl)
theorem dJ8_appendChars_2_139 : decode cJ8_appendChars_2 139 = .ok (.iload_n 3, 1) := dk_29 (dk_at dksJ8_appendChars_2_5 23 rfl rfl)
theorem dJ8_appendChars_2_140 : decode cJ8_appendChars_2 140 = .ok (.invokestatic 394, 3) := dk_184 1 138 (dk_at dksJ8_appendChars_2_6 0 rfl rfl)
theorem dJ8_appendChars_2_143 : decode cJ8_appendChars_2 143 = .ok (.aload_n 0, 1) := dk_42 (dk_at dksJ8_appendChars_2_6 3 rfl rfl)
theorem dJ8_appendChars_2_144 : decode cJ8_appendChars_2 144 = .ok (.dup, 1) := dk_89 (dk_at dksJ8_appendChars_2_6 4 rfl rfl)
theorem dJ8_appendChars_2_145 : decode cJ8_appendChars_2 145 = .ok (.getfield 79, 3) := dk_180 0 79 (dk_at dksJ8_appendChars_2_6 5 rfl rfl)
theorem dJ8_appendChars_2_148 : decode cJ8_appendChars_2 148 = .ok (.iload_n 3, 1) := dk_29 (dk_at dksJ8_appendChars_2_6 8 rfl rfl)
theorem dJ8_appendChars_2_149 : decode cJ8_appendChars_2 149 = .ok (.iload_n 2, 1) := dk_28 (dk_at dksJ8_appendChars_2_6 9 rfl rfl)
theorem dJ8_appendChars_2_150 : decode cJ8_appendChars_2 150 = .ok (.isub, 1) := dk_100 (dk_at dksJ8_appendChars_2_6 10 rfl rfl)
theorem dJ8_appendChars_2_151 : decode cJ8_appendChars_2 151 = .ok (.iadd, 1) := dk_96 (dk_at dksJ8_appendChars_2_6 11 rfl rfl)
theorem dJ8_appendChars_2_152 : decode cJ8_appendChars_2 152 = .ok (.putfield 79, 3) := dk_181 0 79 (dk_at dksJ8_appendChars_2_6 12 rfl rfl)
theorem dJ8_appendChars_2_155 : decode cJ8_appendChars_2 155 = .ok (.return_, 1) := dk_177 (dk_at dksJ8_appendChars_2_6 15 rfl rfl)
abbrev cJ8_substring : ByteArray := prog_25_method_42_code
def yJ8_substring : MethodName := ⟨RJ8, "substring", "(II)Ljava/lang/String;"⟩
def dkwJ8_substring_1 : List UInt8 := [27, 28, 27, 100, 184, 1, 48, 176, 42, 180, 0, 15, 27, 28, 27, 100, 184, 1, 52, 176]
abbrev dktJ8_substring_1 : List UInt8 := dkwJ8_substring_1 ++ []
def dkwJ8_substring_0 : List UInt8 := [27, 28, 42, 180, 0, 79, 178, 0, 179, 184, 0, 161, 87, 42, 182, 0, 83, 153, 0, 15, 42, 180, 0, 15]
abbrev dktJ8_substring_0 : List UInt8 := dkwJ8_substring_0 ++ dktJ8_substring_1
theorem dksJ8_substring_0 : cJ8_substring.data.toList.drop 0 = dktJ8_substring_0 := by decide +kernel
theorem dksJ8_substring_1 : cJ8_substring.data.toList.drop 24 = dktJ8_substring_1 := dk_seg dksJ8_substring_0 24 rfl rfl
theorem dJ8_substring_0 : decode cJ8_substring 0 = .ok (.iload_n 1, 1) := dk_27 (dk_at dksJ8_substring_0 0 rfl rfl)
theorem dJ8_substring_1 : decode cJ8_substring 1 = .ok (.iload_n 2, 1) := dk_28 (dk_at dksJ8_substring_0 1 rfl rfl)
theorem dJ8_substring_2 : decode cJ8_substring 2 = .ok (.aload_n 0, 1) := dk_42 (dk_at dksJ8_substring_0 2 rfl rfl)
theorem dJ8_substring_3 : decode cJ8_substring 3 = .ok (.getfield 79, 3) := dk_180 0 79 (dk_at dksJ8_substring_0 3 rfl rfl)
theorem dJ8_substring_6 : decode cJ8_substring 6 = .ok (.getstatic 179, 3) := dk_178 0 179 (dk_at dksJ8_substring_0 6 rfl rfl)
theorem dJ8_substring_9 : decode cJ8_substring 9 = .ok (.invokestatic 161, 3) := dk_184 0 161 (dk_at dksJ8_substring_0 9 rfl rfl)
theorem dJ8_substring_12 : decode cJ8_substring 12 = .ok (.pop, 1) := dk_87 (dk_at dksJ8_substring_0 12 rfl rfl)
theorem dJ8_substring_13 : decode cJ8_substring 13 = .ok (.aload_n 0, 1) := dk_42 (dk_at dksJ8_substring_0 13 rfl rfl)
theorem dJ8_substring_14 : decode cJ8_substring 14 = .ok (.invokevirtual 83, 3) := dk_182 0 83 (dk_at dksJ8_substring_0 14 rfl rfl)
theorem dJ8_substring_17 : decode cJ8_substring 17 = .ok (.ifCond .eq 15, 3) := dk_153 0 15 (dk_at dksJ8_substring_0 17 rfl rfl)
theorem dJ8_substring_20 : decode cJ8_substring 20 = .ok (.aload_n 0, 1) := dk_42 (dk_at dksJ8_substring_0 20 rfl rfl)
theorem dJ8_substring_21 : decode cJ8_substring 21 = .ok (.getfield 15, 3) := dk_180 0 15 (dk_at dksJ8_substring_0 21 rfl rfl)
theorem dJ8_substring_24 : decode cJ8_substring 24 = .ok (.iload_n 1, 1) := dk_27 (dk_at dksJ8_substring_1 0 rfl rfl)
theorem dJ8_substring_25 : decode cJ8_substring 25 = .ok (.iload_n 2, 1) := dk_28 (dk_at dksJ8_substring_1 1 rfl rfl)
theorem dJ8_substring_26 : decode cJ8_substring 26 = .ok (.iload_n 1, 1) := dk_27 (dk_at dksJ8_substring_1 2 rfl rfl)
theorem dJ8_substring_27 : decode cJ8_substring 27 = .ok (.isub, 1) := dk_100 (dk_at dksJ8_substring_1 3 rfl rfl)
theorem dJ8_substring_28 : decode cJ8_substring 28 = .ok (.invokestatic 304, 3) := dk_184 1 48 (dk_at dksJ8_substring_1 4 rfl rfl)
theorem dJ8_substring_31 : decode cJ8_substring 31 = .ok (.areturn, 1) := dk_176 (dk_at dksJ8_substring_1 7 rfl rfl)
theorem dJ8_substring_32 : decode cJ8_substring 32 = .ok (.aload_n 0, 1) := dk_42 (dk_at dksJ8_substring_1 8 rfl rfl)
theorem dJ8_substring_33 : decode cJ8_substring 33 = .ok (.getfield 15, 3) := dk_180 0 15 (dk_at dksJ8_substring_1 9 rfl rfl)
theorem dJ8_substring_36 : decode cJ8_substring 36 = .ok (.iload_n 1, 1) := dk_27 (dk_at dksJ8_substring_1 12 rfl rfl)
theorem dJ8_substring_37 : decode cJ8_substring 37 = .ok (.iload_n 2, 1) := dk_28 (dk_at dksJ8_substring_1 13 rfl rfl)
theorem dJ8_substring_38 : decode cJ8_substring 38 = .ok (.iload_n 1, 1) := dk_27 (dk_at dksJ8_substring_1 14 rfl rfl)
theorem dJ8_substring_39 : decode cJ8_substring 39 = .ok (.isub, 1) := dk_100 (dk_at dksJ8_substring_1 15 rfl rfl)
theorem dJ8_substring_40 : decode cJ8_substring 40 = .ok (.invokestatic 308, 3) := dk_184 1 52 (dk_at dksJ8_substring_1 16 rfl rfl)
theorem dJ8_substring_43 : decode cJ8_substring 43 = .ok (.areturn, 1) := dk_176 (dk_at dksJ8_substring_1 19 rfl rfl)
theorem q76 : (Jvm.Cond.initialized "java/lang/AbstractStringBuilder") ∈ lw_all := lw_g (lw_at lw_m1 11 rfl) rfl
theorem q247 : (Jvm.Cond.instanceMethod ({ cls := "java/lang/AbstractStringBuilder", name := "<init>", desc := "(I)V" } : Jvm.MethodName)) ∈ lw_all := lw_g (lw_at lw_m1 182 rfl) rfl
theorem q248 : (Jvm.Cond.code ({ cls := "java/lang/AbstractStringBuilder", name := "<init>", desc := "(I)V" } : Jvm.MethodName) prog_25_method_2_code (2 : Nat) (Option.none : Option Jvm.ClassFile.FieldType)) ∈ lw_all := lw_g (lw_at lw_m1 183 rfl) rfl
theorem q249 : (Jvm.Cond.methodLink "java/lang/AbstractStringBuilder" (3 : Nat) ({ cls := "java/lang/Object", name := "<init>", desc := "()V" } : Jvm.MethodName)) ∈ lw_all := lw_g (lw_at lw_m1 184 rfl) rfl
theorem q250 : (Jvm.Cond.fieldLink "java/lang/AbstractStringBuilder" (18 : Nat) "java/lang/String" "COMPACT_STRINGS" "Z") ∈ lw_all := lw_g (lw_at lw_m1 185 rfl) rfl
theorem q252 : (Jvm.Cond.methodLink "java/lang/AbstractStringBuilder" (26 : Nat) ({ cls := "java/lang/StringUTF16", name := "newBytesFor", desc := "(I)[B" } : Jvm.MethodName)) ∈ lw_all := lw_g (lw_at lw_m1 187 rfl) rfl
theorem q259 : (Jvm.Cond.fieldLink "java/lang/AbstractStringBuilder" (15 : Nat) "java/lang/AbstractStringBuilder" "value" "[B") ∈ lw_all := lw_g (lw_at lw_m1 194 rfl) rfl
theorem q260 : (Jvm.Cond.fieldLink "java/lang/AbstractStringBuilder" (22 : Nat) "java/lang/AbstractStringBuilder" "coder" "B") ∈ lw_all := lw_g (lw_at lw_m1 195 rfl) rfl
theorem q261 : (Jvm.Cond.fieldLink "java/lang/AbstractStringBuilder" (73 : Nat) "java/lang/AbstractStringBuilder" "maybeLatin1" "Z") ∈ lw_all := lw_g (lw_at lw_m1 196 rfl) rfl
theorem q263 : (Jvm.Cond.fieldLink "java/lang/AbstractStringBuilder" (79 : Nat) "java/lang/AbstractStringBuilder" "count" "I") ∈ lw_all := lw_g (lw_at lw_m1 198 rfl) rfl
theorem q265 : (Jvm.Cond.soleField "java/lang/AbstractStringBuilder" "value") ∈ lw_all := lw_g (lw_at lw_m1 200 rfl) rfl
theorem q267 : (Jvm.Cond.soleField "java/lang/AbstractStringBuilder" "coder") ∈ lw_all := lw_g (lw_at lw_m1 202 rfl) rfl
theorem q269 : (Jvm.Cond.soleField "java/lang/AbstractStringBuilder" "maybeLatin1") ∈ lw_all := lw_g (lw_at lw_m1 204 rfl) rfl
theorem q271 : (Jvm.Cond.soleField "java/lang/AbstractStringBuilder" "count") ∈ lw_all := lw_g (lw_at lw_m1 206 rfl) rfl
theorem q533 : (Jvm.Cond.instanceMethod ({ cls := "java/lang/AbstractStringBuilder", name := "getValue", desc := "()[B" } : Jvm.MethodName)) ∈ lw_all := lw_g (lw_at lw_m2 228 rfl) rfl
theorem q534 : (Jvm.Cond.sameMethod "java/lang/AbstractStringBuilder" "java/lang/AbstractStringBuilder" "getValue" "()[B") ∈ lw_all := lw_g (lw_at lw_m2 229 rfl) rfl
theorem q536 : (Jvm.Cond.code ({ cls := "java/lang/AbstractStringBuilder", name := "getValue", desc := "()[B" } : Jvm.MethodName) prog_25_method_64_code (1 : Nat) (Option.some (Jvm.ClassFile.FieldType.array Jvm.ClassFile.FieldType.byte))) ∈ lw_all := lw_g (lw_at lw_m2 231 rfl) rfl
theorem q538 : (Jvm.Cond.instanceMethod ({ cls := "java/lang/AbstractStringBuilder", name := "length", desc := "()I" } : Jvm.MethodName)) ∈ lw_all := lw_g (lw_at lw_m2 233 rfl) rfl
theorem q539 : (Jvm.Cond.sameMethod "java/lang/AbstractStringBuilder" "java/lang/AbstractStringBuilder" "length" "()I") ∈ lw_all := lw_g (lw_at lw_m2 234 rfl) rfl
theorem q544 : (Jvm.Cond.code ({ cls := "java/lang/AbstractStringBuilder", name := "length", desc := "()I" } : Jvm.MethodName) prog_25_method_6_code (1 : Nat) (Option.some Jvm.ClassFile.FieldType.int)) ∈ lw_all := lw_g (lw_at lw_m2 239 rfl) rfl
theorem q546 : (Jvm.Cond.instanceMethod ({ cls := "java/lang/AbstractStringBuilder", name := "isLatin1", desc := "()Z" } : Jvm.MethodName)) ∈ lw_all := lw_g (lw_at lw_m3 1 rfl) rfl
theorem q547 : (Jvm.Cond.sameMethod "java/lang/AbstractStringBuilder" "java/lang/AbstractStringBuilder" "isLatin1" "()Z") ∈ lw_all := lw_g (lw_at lw_m3 2 rfl) rfl
theorem q549 : (Jvm.Cond.code ({ cls := "java/lang/AbstractStringBuilder", name := "isLatin1", desc := "()Z" } : Jvm.MethodName) prog_25_method_68_code (1 : Nat) (Option.some Jvm.ClassFile.FieldType.boolean)) ∈ lw_all := lw_g (lw_at lw_m3 4 rfl) rfl
theorem q575 : (Jvm.Cond.instanceMethod ({ cls := "java/lang/AbstractStringBuilder", name := "append", desc := "(I)Ljava/lang/AbstractStringBuilder;" } : Jvm.MethodName)) ∈ lw_all := lw_g (lw_at lw_m3 30 rfl) rfl
theorem q576 : (Jvm.Cond.code ({ cls := "java/lang/AbstractStringBuilder", name := "append", desc := "(I)Ljava/lang/AbstractStringBuilder;" } : Jvm.MethodName) prog_25_method_32_code (4 : Nat) (Option.some (Jvm.ClassFile.FieldType.object "java/lang/AbstractStringBuilder"))) ∈ lw_all := lw_g (lw_at lw_m3 31 rfl) rfl
theorem q577 : (Jvm.Cond.methodLink "java/lang/AbstractStringBuilder" (245 : Nat) ({ cls := "java/lang/Integer", name := "stringSize", desc := "(I)I" } : Jvm.MethodName)) ∈ lw_all := lw_g (lw_at lw_m3 32 rfl) rfl
theorem q580 : (Jvm.Cond.methodLink "java/lang/AbstractStringBuilder" (100 : Nat) ({ cls := "java/lang/AbstractStringBuilder", name := "ensureCapacityInternal", desc := "(I)V" } : Jvm.MethodName)) ∈ lw_all := lw_g (lw_at lw_m3 35 rfl) rfl
theorem q581 : (Jvm.Cond.privateMethod ({ cls := "java/lang/AbstractStringBuilder", name := "ensureCapacityInternal", desc := "(I)V" } : Jvm.MethodName)) ∈ lw_tbl := lw_at lw_m3 36 rfl
theorem q582 : (Jvm.Cond.instanceMethod ({ cls := "java/lang/AbstractStringBuilder", name := "ensureCapacityInternal", desc := "(I)V" } : Jvm.MethodName)) ∈ lw_all := lw_g (lw_at lw_m3 37 rfl) rfl
theorem q583 : (Jvm.Cond.code ({ cls := "java/lang/AbstractStringBuilder", name := "ensureCapacityInternal", desc := "(I)V" } : Jvm.MethodName) prog_25_method_9_code (3 : Nat) (Option.none : Option Jvm.ClassFile.FieldType)) ∈ lw_all := lw_g (lw_at lw_m3 38 rfl) rfl
theorem q584 : (Jvm.Cond.methodLink "java/lang/AbstractStringBuilder" (104 : Nat) ({ cls := "java/lang/AbstractStringBuilder", name := "newCapacity", desc := "(I)I" } : Jvm.MethodName)) ∈ lw_all := lw_g (lw_at lw_m3 39 rfl) rfl
theorem q585 : (Jvm.Cond.privateMethod ({ cls := "java/lang/AbstractStringBuilder", name := "newCapacity", desc := "(I)I" } : Jvm.MethodName)) ∈ lw_tbl := lw_at lw_m3 40 rfl
theorem q586 : (Jvm.Cond.instanceMethod ({ cls := "java/lang/AbstractStringBuilder", name := "newCapacity", desc := "(I)I" } : Jvm.MethodName)) ∈ lw_all := lw_g (lw_at lw_m3 41 rfl) rfl
theorem q587 : (Jvm.Cond.code ({ cls := "java/lang/AbstractStringBuilder", name := "newCapacity", desc := "(I)I" } : Jvm.MethodName) prog_25_method_10_code (6 : Nat) (Option.some Jvm.ClassFile.FieldType.int)) ∈ lw_all := lw_g (lw_at lw_m3 42 rfl) rfl
theorem q588 : (Jvm.Cond.methodLink "java/lang/AbstractStringBuilder" (114 : Nat) ({ cls := "jdk/internal/util/ArraysSupport", name := "newLength", desc := "(III)I" } : Jvm.MethodName)) ∈ lw_all := lw_g (lw_at lw_m3 43 rfl) rfl
theorem q596 : (Jvm.Cond.constant "java/lang/AbstractStringBuilder" (39 : Nat) (2147483647 : Int32)) ∈ lw_all := lw_g (lw_at lw_m3 51 rfl) rfl
theorem q597 : (Jvm.Cond.methodLink "java/lang/AbstractStringBuilder" (108 : Nat) ({ cls := "java/util/Arrays", name := "copyOf", desc := "([BI)[B" } : Jvm.MethodName)) ∈ lw_all := lw_g (lw_at lw_m3 52 rfl) rfl
theorem q611 : (Jvm.Cond.methodLink "java/lang/AbstractStringBuilder" (83 : Nat) ({ cls := "java/lang/AbstractStringBuilder", name := "isLatin1", desc := "()Z" } : Jvm.MethodName)) ∈ lw_all := lw_g (lw_at lw_m3 66 rfl) rfl
theorem q612 : (Jvm.Cond.methodLink "java/lang/AbstractStringBuilder" (248 : Nat) ({ cls := "java/lang/Integer", name := "getChars", desc := "(II[B)I" } : Jvm.MethodName)) ∈ lw_all := lw_g (lw_at lw_m3 67 rfl) rfl
theorem q619 : (Jvm.Cond.methodLink "java/lang/AbstractStringBuilder" (251 : Nat) ({ cls := "java/lang/StringUTF16", name := "getChars", desc := "(III[B)I" } : Jvm.MethodName)) ∈ lw_all := lw_g (lw_at lw_m3 74 rfl) rfl
theorem q656 : (Jvm.Cond.instanceMethod ({ cls := "java/lang/AbstractStringBuilder", name := "append", desc := "(Ljava/lang/String;)Ljava/lang/AbstractStringBuilder;" } : Jvm.MethodName)) ∈ lw_all := lw_g (lw_at lw_m3 111 rfl) rfl
theorem q657 : (Jvm.Cond.code ({ cls := "java/lang/AbstractStringBuilder", name := "append", desc := "(Ljava/lang/String;)Ljava/lang/AbstractStringBuilder;" } : Jvm.MethodName) prog_25_method_22_code (3 : Nat) (Option.some (Jvm.ClassFile.FieldType.object "java/lang/AbstractStringBuilder"))) ∈ lw_all := lw_g (lw_at lw_m3 112 rfl) rfl
theorem q658 : (Jvm.Cond.methodLink "java/lang/AbstractStringBuilder" (204 : Nat) ({ cls := "java/lang/AbstractStringBuilder", name := "appendNull", desc := "()Ljava/lang/AbstractStringBuilder;" } : Jvm.MethodName)) ∈ lw_all := lw_g (lw_at lw_m3 113 rfl) rfl
theorem q659 : (Jvm.Cond.privateMethod ({ cls := "java/lang/AbstractStringBuilder", name := "appendNull", desc := "()Ljava/lang/AbstractStringBuilder;" } : Jvm.MethodName)) ∈ lw_tbl := lw_at lw_m3 114 rfl
theorem q660 : (Jvm.Cond.instanceMethod ({ cls := "java/lang/AbstractStringBuilder", name := "appendNull", desc := "()Ljava/lang/AbstractStringBuilder;" } : Jvm.MethodName)) ∈ lw_all := lw_g (lw_at lw_m3 115 rfl) rfl
theorem q661 : (Jvm.Cond.code ({ cls := "java/lang/AbstractStringBuilder", name := "appendNull", desc := "()Ljava/lang/AbstractStringBuilder;" } : Jvm.MethodName) prog_25_method_26_code (3 : Nat) (Option.some (Jvm.ClassFile.FieldType.object "java/lang/AbstractStringBuilder"))) ∈ lw_all := lw_g (lw_at lw_m3 116 rfl) rfl
theorem q662 : (Jvm.Cond.methodLink "java/lang/AbstractStringBuilder" (226 : Nat) ({ cls := "java/lang/StringUTF16", name := "putCharsAt", desc := "([BICCCC)I" } : Jvm.MethodName)) ∈ lw_all := lw_g (lw_at lw_m3 117 rfl) rfl
theorem q665 : (Jvm.Cond.methodLink "java/lang/AbstractStringBuilder" (32 : Nat) ({ cls := "java/lang/String", name := "length", desc := "()I" } : Jvm.MethodName)) ∈ lw_all := lw_g (lw_at lw_m3 120 rfl) rfl
theorem q674 : (Jvm.Cond.methodLink "java/lang/AbstractStringBuilder" (208 : Nat) ({ cls := "java/lang/AbstractStringBuilder", name := "putStringAt", desc := "(ILjava/lang/String;)V" } : Jvm.MethodName)) ∈ lw_all := lw_g (lw_at lw_m3 129 rfl) rfl
theorem q675 : (Jvm.Cond.privateMethod ({ cls := "java/lang/AbstractStringBuilder", name := "putStringAt", desc := "(ILjava/lang/String;)V" } : Jvm.MethodName)) ∈ lw_tbl := lw_at lw_m3 130 rfl
theorem q676 : (Jvm.Cond.instanceMethod ({ cls := "java/lang/AbstractStringBuilder", name := "putStringAt", desc := "(ILjava/lang/String;)V" } : Jvm.MethodName)) ∈ lw_all := lw_g (lw_at lw_m3 131 rfl) rfl
theorem q677 : (Jvm.Cond.code ({ cls := "java/lang/AbstractStringBuilder", name := "putStringAt", desc := "(ILjava/lang/String;)V" } : Jvm.MethodName) prog_25_method_73_code (3 : Nat) (Option.none : Option Jvm.ClassFile.FieldType)) ∈ lw_all := lw_g (lw_at lw_m3 132 rfl) rfl
theorem q678 : (Jvm.Cond.methodLink "java/lang/AbstractStringBuilder" (397 : Nat) ({ cls := "java/lang/AbstractStringBuilder", name := "inflateIfNeededFor", desc := "(Ljava/lang/String;)V" } : Jvm.MethodName)) ∈ lw_all := lw_g (lw_at lw_m3 133 rfl) rfl
theorem q679 : (Jvm.Cond.privateMethod ({ cls := "java/lang/AbstractStringBuilder", name := "inflateIfNeededFor", desc := "(Ljava/lang/String;)V" } : Jvm.MethodName)) ∈ lw_tbl := lw_at lw_m3 134 rfl
theorem q680 : (Jvm.Cond.instanceMethod ({ cls := "java/lang/AbstractStringBuilder", name := "inflateIfNeededFor", desc := "(Ljava/lang/String;)V" } : Jvm.MethodName)) ∈ lw_all := lw_g (lw_at lw_m3 135 rfl) rfl
theorem q681 : (Jvm.Cond.code ({ cls := "java/lang/AbstractStringBuilder", name := "inflateIfNeededFor", desc := "(Ljava/lang/String;)V" } : Jvm.MethodName) prog_25_method_71_code (2 : Nat) (Option.none : Option Jvm.ClassFile.FieldType)) ∈ lw_all := lw_g (lw_at lw_m3 136 rfl) rfl
theorem q682 : (Jvm.Cond.methodLink "java/lang/AbstractStringBuilder" (40 : Nat) ({ cls := "java/lang/String", name := "coder", desc := "()B" } : Jvm.MethodName)) ∈ lw_all := lw_g (lw_at lw_m3 137 rfl) rfl
theorem q683 : (Jvm.Cond.methodLink "java/lang/AbstractStringBuilder" (195 : Nat) ({ cls := "java/lang/AbstractStringBuilder", name := "inflate", desc := "()V" } : Jvm.MethodName)) ∈ lw_all := lw_g (lw_at lw_m3 138 rfl) rfl
theorem q684 : (Jvm.Cond.privateMethod ({ cls := "java/lang/AbstractStringBuilder", name := "inflate", desc := "()V" } : Jvm.MethodName)) ∈ lw_tbl := lw_at lw_m3 139 rfl
theorem q685 : (Jvm.Cond.instanceMethod ({ cls := "java/lang/AbstractStringBuilder", name := "inflate", desc := "()V" } : Jvm.MethodName)) ∈ lw_all := lw_g (lw_at lw_m3 140 rfl) rfl
theorem q686 : (Jvm.Cond.code ({ cls := "java/lang/AbstractStringBuilder", name := "inflate", desc := "()V" } : Jvm.MethodName) prog_25_method_11_code (2 : Nat) (Option.none : Option Jvm.ClassFile.FieldType)) ∈ lw_all := lw_g (lw_at lw_m3 141 rfl) rfl
theorem q687 : (Jvm.Cond.methodLink "java/lang/AbstractStringBuilder" (125 : Nat) ({ cls := "java/lang/StringLatin1", name := "inflate", desc := "([BI[BII)V" } : Jvm.MethodName)) ∈ lw_all := lw_g (lw_at lw_m3 142 rfl) rfl
theorem q702 : (Jvm.Cond.methodLink "java/lang/AbstractStringBuilder" (399 : Nat) ({ cls := "java/lang/String", name := "getBytes", desc := "([BIB)V" } : Jvm.MethodName)) ∈ lw_all := lw_g (lw_at lw_m3 157 rfl) rfl
theorem q898 : (Jvm.Cond.instanceMethod ({ cls := "java/lang/AbstractStringBuilder", name := "setLength", desc := "(I)V" } : Jvm.MethodName)) ∈ lw_all := lw_g (lw_at lw_m4 113 rfl) rfl
theorem q899 : (Jvm.Cond.code ({ cls := "java/lang/AbstractStringBuilder", name := "setLength", desc := "(I)V" } : Jvm.MethodName) prog_25_method_13_code (2 : Nat) (Option.none : Option Jvm.ClassFile.FieldType)) ∈ lw_all := lw_g (lw_at lw_m4 114 rfl) rfl
theorem q900 : (Jvm.Cond.classLink "java/lang/AbstractStringBuilder" (129 : Nat) "java/lang/StringIndexOutOfBoundsException") ∈ lw_all := lw_g (lw_at lw_m4 115 rfl) rfl
theorem q902 : (Jvm.Cond.methodLink "java/lang/AbstractStringBuilder" (131 : Nat) ({ cls := "java/lang/StringIndexOutOfBoundsException", name := "<init>", desc := "(I)V" } : Jvm.MethodName)) ∈ lw_all := lw_g (lw_at lw_m4 117 rfl) rfl
theorem q922 : (Jvm.Cond.methodLink "java/lang/AbstractStringBuilder" (133 : Nat) ({ cls := "java/lang/StringLatin1", name := "fillNull", desc := "([BII)V" } : Jvm.MethodName)) ∈ lw_all := lw_g (lw_at lw_m4 137 rfl) rfl
theorem q957 : (Jvm.Cond.methodLink "java/lang/AbstractStringBuilder" (137 : Nat) ({ cls := "java/lang/StringUTF16", name := "fillNull", desc := "([BII)V" } : Jvm.MethodName)) ∈ lw_all := lw_g (lw_at lw_m4 172 rfl) rfl
theorem q1158 : (Jvm.Cond.instanceMethod ({ cls := "java/lang/AbstractStringBuilder", name := "append", desc := "(C)Ljava/lang/AbstractStringBuilder;" } : Jvm.MethodName)) ∈ lw_all := lw_g (lw_at lw_m5 133 rfl) rfl
theorem q1159 : (Jvm.Cond.code ({ cls := "java/lang/AbstractStringBuilder", name := "append", desc := "(C)Ljava/lang/AbstractStringBuilder;" } : Jvm.MethodName) prog_25_method_31_code (2 : Nat) (Option.some (Jvm.ClassFile.FieldType.object "java/lang/AbstractStringBuilder"))) ∈ lw_all := lw_g (lw_at lw_m5 134 rfl) rfl
theorem q1160 : (Jvm.Cond.methodLink "java/lang/AbstractStringBuilder" (191 : Nat) ({ cls := "java/lang/StringLatin1", name := "canEncode", desc := "(C)Z" } : Jvm.MethodName)) ∈ lw_all := lw_g (lw_at lw_m5 135 rfl) rfl
theorem q1163 : (Jvm.Cond.methodLink "java/lang/AbstractStringBuilder" (197 : Nat) ({ cls := "java/lang/StringUTF16", name := "putCharSB", desc := "([BII)V" } : Jvm.MethodName)) ∈ lw_all := lw_g (lw_at lw_m5 138 rfl) rfl
theorem q1172 : (Jvm.Cond.instanceMethod ({ cls := "java/lang/AbstractStringBuilder", name := "append", desc := "(Ljava/lang/CharSequence;)Ljava/lang/AbstractStringBuilder;" } : Jvm.MethodName)) ∈ lw_all := lw_g (lw_at lw_m5 147 rfl) rfl
theorem q1173 : (Jvm.Cond.code ({ cls := "java/lang/AbstractStringBuilder", name := "append", desc := "(Ljava/lang/CharSequence;)Ljava/lang/AbstractStringBuilder;" } : Jvm.MethodName) prog_25_method_25_code (2 : Nat) (Option.some (Jvm.ClassFile.FieldType.object "java/lang/AbstractStringBuilder"))) ∈ lw_all := lw_g (lw_at lw_m5 148 rfl) rfl
theorem q1174 : (Jvm.Cond.classLink "java/lang/AbstractStringBuilder" (1 : Nat) "java/lang/String") ∈ lw_all := lw_g (lw_at lw_m5 149 rfl) rfl
theorem q1175 : (Jvm.Cond.methodLink "java/lang/AbstractStringBuilder" (43 : Nat) ({ cls := "java/lang/AbstractStringBuilder", name := "append", desc := "(Ljava/lang/String;)Ljava/lang/AbstractStringBuilder;" } : Jvm.MethodName)) ∈ lw_all := lw_g (lw_at lw_m5 150 rfl) rfl
theorem q1179 : (Jvm.Cond.classLink "java/lang/AbstractStringBuilder" (10 : Nat) "java/lang/AbstractStringBuilder") ∈ lw_all := lw_g (lw_at lw_m5 154 rfl) rfl
theorem q1180 : (Jvm.Cond.methodLink "java/lang/AbstractStringBuilder" (212 : Nat) ({ cls := "java/lang/AbstractStringBuilder", name := "append", desc := "(Ljava/lang/AbstractStringBuilder;)Ljava/lang/AbstractStringBuilder;" } : Jvm.MethodName)) ∈ lw_all := lw_g (lw_at lw_m5 155 rfl) rfl
theorem q1181 : (Jvm.Cond.instanceMethod ({ cls := "java/lang/AbstractStringBuilder", name := "append", desc := "(Ljava/lang/AbstractStringBuilder;)Ljava/lang/AbstractStringBuilder;" } : Jvm.MethodName)) ∈ lw_all := lw_g (lw_at lw_m5 156 rfl) rfl
theorem q1182 : (Jvm.Cond.sameMethod "java/lang/AbstractStringBuilder" "java/lang/AbstractStringBuilder" "append" "(Ljava/lang/AbstractStringBuilder;)Ljava/lang/AbstractStringBuilder;") ∈ lw_all := lw_g (lw_at lw_m5 157 rfl) rfl
theorem q1184 : (Jvm.Cond.code ({ cls := "java/lang/AbstractStringBuilder", name := "append", desc := "(Ljava/lang/AbstractStringBuilder;)Ljava/lang/AbstractStringBuilder;" } : Jvm.MethodName) prog_25_method_24_code (3 : Nat) (Option.some (Jvm.ClassFile.FieldType.object "java/lang/AbstractStringBuilder"))) ∈ lw_all := lw_g (lw_at lw_m5 159 rfl) rfl
theorem q1185 : (Jvm.Cond.methodLink "java/lang/AbstractStringBuilder" (160 : Nat) ({ cls := "java/lang/AbstractStringBuilder", name := "length", desc := "()I" } : Jvm.MethodName)) ∈ lw_all := lw_g (lw_at lw_m5 160 rfl) rfl
theorem q1186 : (Jvm.Cond.methodLink "java/lang/AbstractStringBuilder" (215 : Nat) ({ cls := "java/lang/AbstractStringBuilder", name := "inflateIfNeededFor", desc := "(Ljava/lang/AbstractStringBuilder;)V" } : Jvm.MethodName)) ∈ lw_all := lw_g (lw_at lw_m5 161 rfl) rfl
theorem q1187 : (Jvm.Cond.privateMethod ({ cls := "java/lang/AbstractStringBuilder", name := "inflateIfNeededFor", desc := "(Ljava/lang/AbstractStringBuilder;)V" } : Jvm.MethodName)) ∈ lw_tbl := lw_at lw_m5 162 rfl
theorem q1188 : (Jvm.Cond.instanceMethod ({ cls := "java/lang/AbstractStringBuilder", name := "inflateIfNeededFor", desc := "(Ljava/lang/AbstractStringBuilder;)V" } : Jvm.MethodName)) ∈ lw_all := lw_g (lw_at lw_m5 163 rfl) rfl
theorem q1189 : (Jvm.Cond.code ({ cls := "java/lang/AbstractStringBuilder", name := "inflateIfNeededFor", desc := "(Ljava/lang/AbstractStringBuilder;)V" } : Jvm.MethodName) prog_25_method_72_code (2 : Nat) (Option.none : Option Jvm.ClassFile.FieldType)) ∈ lw_all := lw_g (lw_at lw_m5 164 rfl) rfl
theorem q1190 : (Jvm.Cond.methodLink "java/lang/AbstractStringBuilder" (70 : Nat) ({ cls := "java/lang/AbstractStringBuilder", name := "getCoder", desc := "()B" } : Jvm.MethodName)) ∈ lw_all := lw_g (lw_at lw_m5 165 rfl) rfl
theorem q1191 : (Jvm.Cond.instanceMethod ({ cls := "java/lang/AbstractStringBuilder", name := "getCoder", desc := "()B" } : Jvm.MethodName)) ∈ lw_all := lw_g (lw_at lw_m5 166 rfl) rfl
theorem q1192 : (Jvm.Cond.sameMethod "java/lang/AbstractStringBuilder" "java/lang/AbstractStringBuilder" "getCoder" "()B") ∈ lw_all := lw_g (lw_at lw_m5 167 rfl) rfl
theorem q1194 : (Jvm.Cond.code ({ cls := "java/lang/AbstractStringBuilder", name := "getCoder", desc := "()B" } : Jvm.MethodName) prog_25_method_67_code (1 : Nat) (Option.some Jvm.ClassFile.FieldType.byte)) ∈ lw_all := lw_g (lw_at lw_m5 169 rfl) rfl
theorem q1195 : (Jvm.Cond.methodLink "java/lang/AbstractStringBuilder" (219 : Nat) ({ cls := "java/lang/AbstractStringBuilder", name := "getBytes", desc := "([BIB)V" } : Jvm.MethodName)) ∈ lw_all := lw_g (lw_at lw_m5 170 rfl) rfl
theorem q1196 : (Jvm.Cond.instanceMethod ({ cls := "java/lang/AbstractStringBuilder", name := "getBytes", desc := "([BIB)V" } : Jvm.MethodName)) ∈ lw_all := lw_g (lw_at lw_m5 171 rfl) rfl
theorem q1197 : (Jvm.Cond.sameMethod "java/lang/AbstractStringBuilder" "java/lang/AbstractStringBuilder" "getBytes" "([BIB)V") ∈ lw_all := lw_g (lw_at lw_m5 172 rfl) rfl
theorem q1199 : (Jvm.Cond.code ({ cls := "java/lang/AbstractStringBuilder", name := "getBytes", desc := "([BIB)V" } : Jvm.MethodName) prog_25_method_65_code (4 : Nat) (Option.none : Option Jvm.ClassFile.FieldType)) ∈ lw_all := lw_g (lw_at lw_m5 174 rfl) rfl
theorem q1200 : (Jvm.Cond.methodLink "java/lang/AbstractStringBuilder" (309 : Nat) ({ cls := "java/lang/System", name := "arraycopy", desc := "(Ljava/lang/Object;ILjava/lang/Object;II)V" } : Jvm.MethodName)) ∈ lw_all := lw_g (lw_at lw_m5 175 rfl) rfl
theorem q1201 : (Jvm.Cond.interfaceEntry "java/lang/AbstractStringBuilder" (47 : Nat)) ∈ lw_tbl := lw_at lw_m5 176 rfl
theorem q1202 : (Jvm.Cond.methodLink "java/lang/AbstractStringBuilder" (47 : Nat) ({ cls := "java/lang/CharSequence", name := "length", desc := "()I" } : Jvm.MethodName)) ∈ lw_all := lw_g (lw_at lw_m5 177 rfl) rfl
theorem q1213 : (Jvm.Cond.methodLink "java/lang/AbstractStringBuilder" (223 : Nat) ({ cls := "java/lang/AbstractStringBuilder", name := "append", desc := "(Ljava/lang/CharSequence;II)Ljava/lang/AbstractStringBuilder;" } : Jvm.MethodName)) ∈ lw_all := lw_g (lw_at lw_m5 188 rfl) rfl
theorem q1214 : (Jvm.Cond.instanceMethod ({ cls := "java/lang/AbstractStringBuilder", name := "append", desc := "(Ljava/lang/CharSequence;II)Ljava/lang/AbstractStringBuilder;" } : Jvm.MethodName)) ∈ lw_all := lw_g (lw_at lw_m5 189 rfl) rfl
theorem q1215 : (Jvm.Cond.sameMethod "java/lang/AbstractStringBuilder" "java/lang/AbstractStringBuilder" "append" "(Ljava/lang/CharSequence;II)Ljava/lang/AbstractStringBuilder;") ∈ lw_all := lw_g (lw_at lw_m5 190 rfl) rfl
theorem q1224 : (Jvm.Cond.code ({ cls := "java/lang/AbstractStringBuilder", name := "append", desc := "(Ljava/lang/CharSequence;II)Ljava/lang/AbstractStringBuilder;" } : Jvm.MethodName) prog_25_method_27_code (5 : Nat) (Option.some (Jvm.ClassFile.FieldType.object "java/lang/AbstractStringBuilder"))) ∈ lw_all := lw_g (lw_at lw_m5 199 rfl) rfl
theorem q1225 : (Jvm.Cond.stringRef "java/lang/AbstractStringBuilder" (230 : Nat) "null") ∈ lw_tbl := lw_at lw_m5 200 rfl
theorem q1226 : (Jvm.Cond.fieldLink "java/lang/AbstractStringBuilder" (183 : Nat) "jdk/internal/util/Preconditions" "IOOBE_FORMATTER" "Ljava/util/function/BiFunction;") ∈ lw_all := lw_g (lw_at lw_m5 201 rfl) rfl
theorem q1228 : (Jvm.Cond.methodLink "java/lang/AbstractStringBuilder" (161 : Nat) ({ cls := "jdk/internal/util/Preconditions", name := "checkFromToIndex", desc := "(IIILjava/util/function/BiFunction;)I" } : Jvm.MethodName)) ∈ lw_all := lw_g (lw_at lw_m5 203 rfl) rfl
theorem q1229 : (Jvm.Cond.methodLink "java/lang/AbstractStringBuilder" (232 : Nat) ({ cls := "java/lang/AbstractStringBuilder", name := "appendChars", desc := "(Ljava/lang/String;II)V" } : Jvm.MethodName)) ∈ lw_all := lw_g (lw_at lw_m5 204 rfl) rfl
theorem q1230 : (Jvm.Cond.privateMethod ({ cls := "java/lang/AbstractStringBuilder", name := "appendChars", desc := "(Ljava/lang/String;II)V" } : Jvm.MethodName)) ∈ lw_tbl := lw_at lw_m5 205 rfl
theorem q1231 : (Jvm.Cond.instanceMethod ({ cls := "java/lang/AbstractStringBuilder", name := "appendChars", desc := "(Ljava/lang/String;II)V" } : Jvm.MethodName)) ∈ lw_all := lw_g (lw_at lw_m5 206 rfl) rfl
theorem q1232 : (Jvm.Cond.code ({ cls := "java/lang/AbstractStringBuilder", name := "appendChars", desc := "(Ljava/lang/String;II)V" } : Jvm.MethodName) prog_25_method_75_code (8 : Nat) (Option.none : Option Jvm.ClassFile.FieldType)) ∈ lw_all := lw_g (lw_at lw_m5 207 rfl) rfl
theorem q1233 : (Jvm.Cond.methodLink "java/lang/AbstractStringBuilder" (400 : Nat) ({ cls := "java/lang/String", name := "isLatin1", desc := "()Z" } : Jvm.MethodName)) ∈ lw_all := lw_g (lw_at lw_m5 208 rfl) rfl
theorem q1234 : (Jvm.Cond.methodLink "java/lang/AbstractStringBuilder" (401 : Nat) ({ cls := "java/lang/String", name := "value", desc := "()[B" } : Jvm.MethodName)) ∈ lw_all := lw_g (lw_at lw_m5 209 rfl) rfl
theorem q1238 : (Jvm.Cond.methodLink "java/lang/AbstractStringBuilder" (404 : Nat) ({ cls := "java/lang/String", name := "charAt", desc := "(I)C" } : Jvm.MethodName)) ∈ lw_all := lw_g (lw_at lw_m5 213 rfl) rfl
theorem q1239 : (Jvm.Cond.methodLink "java/lang/AbstractStringBuilder" (394 : Nat) ({ cls := "java/lang/StringUTF16", name := "putCharsSB", desc := "([BILjava/lang/CharSequence;II)V" } : Jvm.MethodName)) ∈ lw_all := lw_g (lw_at lw_m5 214 rfl) rfl
theorem q1255 : (Jvm.Cond.instanceMethod ({ cls := "java/lang/AbstractStringBuilder", name := "charAt", desc := "(I)C" } : Jvm.MethodName)) ∈ lw_all := lw_g (lw_at lw_m5 230 rfl) rfl
theorem q1256 : (Jvm.Cond.code ({ cls := "java/lang/AbstractStringBuilder", name := "charAt", desc := "(I)C" } : Jvm.MethodName) prog_25_method_14_code (5 : Nat) (Option.some Jvm.ClassFile.FieldType.char)) ∈ lw_all := lw_g (lw_at lw_m5 231 rfl) rfl
theorem q1257 : (Jvm.Cond.methodLink "java/lang/AbstractStringBuilder" (138 : Nat) ({ cls := "java/lang/Math", name := "min", desc := "(II)I" } : Jvm.MethodName)) ∈ lw_all := lw_g (lw_at lw_m5 232 rfl) rfl
theorem q1258 : (Jvm.Cond.methodLink "java/lang/AbstractStringBuilder" (144 : Nat) ({ cls := "java/lang/String", name := "checkIndex", desc := "(II)V" } : Jvm.MethodName)) ∈ lw_all := lw_g (lw_at lw_m5 233 rfl) rfl
theorem q1259 : (Jvm.Cond.methodLink "java/lang/AbstractStringBuilder" (148 : Nat) ({ cls := "java/lang/StringUTF16", name := "getChar", desc := "([BI)C" } : Jvm.MethodName)) ∈ lw_all := lw_g (lw_at lw_m5 234 rfl) rfl
theorem q1260 : (Jvm.Cond.methodLink "java/lang/AbstractStringBuilder" (236 : Nat) ({ cls := "java/lang/AbstractStringBuilder", name := "appendChars", desc := "(Ljava/lang/CharSequence;II)V" } : Jvm.MethodName)) ∈ lw_all := lw_g (lw_at lw_m5 235 rfl) rfl
theorem q1261 : (Jvm.Cond.privateMethod ({ cls := "java/lang/AbstractStringBuilder", name := "appendChars", desc := "(Ljava/lang/CharSequence;II)V" } : Jvm.MethodName)) ∈ lw_tbl := lw_at lw_m5 236 rfl
theorem q1262 : (Jvm.Cond.instanceMethod ({ cls := "java/lang/AbstractStringBuilder", name := "appendChars", desc := "(Ljava/lang/CharSequence;II)V" } : Jvm.MethodName)) ∈ lw_all := lw_g (lw_at lw_m5 237 rfl) rfl
theorem q1263 : (Jvm.Cond.code ({ cls := "java/lang/AbstractStringBuilder", name := "appendChars", desc := "(Ljava/lang/CharSequence;II)V" } : Jvm.MethodName) prog_25_method_76_code (8 : Nat) (Option.none : Option Jvm.ClassFile.FieldType)) ∈ lw_all := lw_g (lw_at lw_m5 238 rfl) rfl
theorem q1264 : (Jvm.Cond.interfaceEntry "java/lang/AbstractStringBuilder" (390 : Nat)) ∈ lw_tbl := lw_at lw_m5 239 rfl
theorem q1265 : (Jvm.Cond.methodLink "java/lang/AbstractStringBuilder" (390 : Nat) ({ cls := "java/lang/CharSequence", name := "charAt", desc := "(I)C" } : Jvm.MethodName)) ∈ lw_all := lw_g (lw_at lw_m6 0 rfl) rfl
theorem q1376 : (Jvm.Cond.instanceMethod ({ cls := "java/lang/AbstractStringBuilder", name := "substring", desc := "(II)Ljava/lang/String;" } : Jvm.MethodName)) ∈ lw_all := lw_g (lw_at lw_m6 111 rfl) rfl
theorem q1377 : (Jvm.Cond.code ({ cls := "java/lang/AbstractStringBuilder", name := "substring", desc := "(II)Ljava/lang/String;" } : Jvm.MethodName) prog_25_method_42_code (3 : Nat) (Option.some (Jvm.ClassFile.FieldType.object "java/lang/String"))) ∈ lw_all := lw_g (lw_at lw_m6 112 rfl) rfl
theorem q1378 : (Jvm.Cond.fieldLink "java/lang/AbstractStringBuilder" (179 : Nat) "jdk/internal/util/Preconditions" "SIOOBE_FORMATTER" "Ljava/util/function/BiFunction;") ∈ lw_all := lw_g (lw_at lw_m6 113 rfl) rfl
theorem q1379 : (Jvm.Cond.methodLink "java/lang/AbstractStringBuilder" (304 : Nat) ({ cls := "java/lang/StringLatin1", name := "newString", desc := "([BII)Ljava/lang/String;" } : Jvm.MethodName)) ∈ lw_all := lw_g (lw_at lw_m6 114 rfl) rfl
theorem q1388 : (Jvm.Cond.methodLink "java/lang/AbstractStringBuilder" (308 : Nat) ({ cls := "java/lang/StringUTF16", name := "newString", desc := "([BII)Ljava/lang/String;" } : Jvm.MethodName)) ∈ lw_all := lw_g (lw_at lw_m6 123 rfl) rfl
theorem q2415 : (Jvm.Cond.sameMethod "java/lang/AbstractStringBuilder" "java/lang/AbstractStringBuilder" "append" "(I)Ljava/lang/AbstractStringBuilder;") ∈ lw_all := lw_g (lw_at lw_m10 190 rfl) rfl
theorem q2416 : (Jvm.Cond.sameMethod "java/lang/AbstractStringBuilder" "java/lang/AbstractStringBuilder" "ensureCapacityInternal" "(I)V") ∈ lw_all := lw_g (lw_at lw_m10 191 rfl) rfl
theorem q2417 : (Jvm.Cond.sameMethod "java/lang/AbstractStringBuilder" "java/lang/AbstractStringBuilder" "newCapacity" "(I)I") ∈ lw_all := lw_g (lw_at lw_m10 192 rfl) rfl
theorem q2418 : (Jvm.Cond.sameMethod "java/lang/AbstractStringBuilder" "java/lang/AbstractStringBuilder" "append" "(Ljava/lang/String;)Ljava/lang/AbstractStringBuilder;") ∈ lw_all := lw_g (lw_at lw_m10 193 rfl) rfl
theorem q2419 : (Jvm.Cond.sameMethod "java/lang/AbstractStringBuilder" "java/lang/AbstractStringBuilder" "appendNull" "()Ljava/lang/AbstractStringBuilder;") ∈ lw_all := lw_g (lw_at lw_m10 194 rfl) rfl
theorem q2420 : (Jvm.Cond.sameMethod "java/lang/AbstractStringBuilder" "java/lang/AbstractStringBuilder" "putStringAt" "(ILjava/lang/String;)V") ∈ lw_all := lw_g (lw_at lw_m10 195 rfl) rfl
theorem q2421 : (Jvm.Cond.sameMethod "java/lang/AbstractStringBuilder" "java/lang/AbstractStringBuilder" "inflateIfNeededFor" "(Ljava/lang/String;)V") ∈ lw_all := lw_g (lw_at lw_m10 196 rfl) rfl
theorem q2422 : (Jvm.Cond.sameMethod "java/lang/AbstractStringBuilder" "java/lang/AbstractStringBuilder" "inflate" "()V") ∈ lw_all := lw_g (lw_at lw_m10 197 rfl) rfl
theorem q2423 : (Jvm.Cond.sameMethod "java/lang/AbstractStringBuilder" "java/lang/AbstractStringBuilder" "setLength" "(I)V") ∈ lw_all := lw_g (lw_at lw_m10 198 rfl) rfl
theorem q2424 : (Jvm.Cond.sameMethod "java/lang/AbstractStringBuilder" "java/lang/AbstractStringBuilder" "append" "(C)Ljava/lang/AbstractStringBuilder;") ∈ lw_all := lw_g (lw_at lw_m10 199 rfl) rfl
theorem q2426 : (Jvm.Cond.sameMethod "java/lang/AbstractStringBuilder" "java/lang/AbstractStringBuilder" "append" "(Ljava/lang/CharSequence;)Ljava/lang/AbstractStringBuilder;") ∈ lw_all := lw_g (lw_at lw_m10 201 rfl) rfl
theorem q2428 : (Jvm.Cond.sameMethod "java/lang/AbstractStringBuilder" "java/lang/AbstractStringBuilder" "inflateIfNeededFor" "(Ljava/lang/AbstractStringBuilder;)V") ∈ lw_all := lw_g (lw_at lw_m10 203 rfl) rfl
theorem q2429 : (Jvm.Cond.sameMethod "java/lang/AbstractStringBuilder" "java/lang/AbstractStringBuilder" "appendChars" "(Ljava/lang/String;II)V") ∈ lw_all := lw_g (lw_at lw_m10 204 rfl) rfl
theorem q2430 : (Jvm.Cond.sameMethod "java/lang/AbstractStringBuilder" "java/lang/AbstractStringBuilder" "charAt" "(I)C") ∈ lw_all := lw_g (lw_at lw_m10 205 rfl) rfl
theorem q2431 : (Jvm.Cond.sameMethod "java/lang/AbstractStringBuilder" "java/lang/AbstractStringBuilder" "appendChars" "(Ljava/lang/CharSequence;II)V") ∈ lw_all := lw_g (lw_at lw_m10 206 rfl) rfl
theorem q2433 : (Jvm.Cond.sameMethod "java/lang/AbstractStringBuilder" "java/lang/AbstractStringBuilder" "substring" "(II)Ljava/lang/String;") ∈ lw_all := lw_g (lw_at lw_m10 208 rfl) rfl
/-! java/lang/StringBuilder -/
set_option maxRecDepth 100000
def RJ9 : String := "java/lang/StringBuilder"
def TJ9 : u_T := fun k => match k with
  | 0 => ("java/lang/AbstractStringBuilder", "value", "[B", false)
  | 1 => ("java/lang/AbstractStringBuilder", "coder", "B", false)
  | 2 => ("java/lang/AbstractStringBuilder", "maybeLatin1", "Z", false)
  | _ => ("java/lang/AbstractStringBuilder", "count", "I", false)
def tyJ9 : Nat → FieldType := fun k => match k with
  | 0 => .array .byte
  | 1 => .byte
  | 2 => .boolean
  | _ => .int
abbrev wsJ90 : List Cond := u_ws RJ9 TJ9 4
theorem nmJ9 : ∀ a, a < 4 → ∀ b, b < 4 → a ≠ b → (TJ9 a).2.1 ≠ (TJ9 b).2.1 := by decide +kernel
theorem tyJ9_ok : ∀ k, k < 4 → parseFieldDescriptor (TJ9 k).2.2.1 = some (tyJ9 k) := by decide +kernel
abbrev cJ9_init : ByteArray := prog_43_method_1_code
def yJ9_init : MethodName := ⟨RJ9, "<init>", "()V"⟩
def dkwJ9_init_0 : List UInt8 := [42, 16, 16, 183, 0, 1, 177]
abbrev dktJ9_init_0 : List UInt8 := dkwJ9_init_0 ++ []
theorem dksJ9_init_0 : cJ9_init.data.toList.drop 0 = dktJ9_init_0 := by decide +kernel
theorem dJ9_init_0 : decode cJ9_init 0 = .ok (.aload_n 0, 1) := dk_42 (dk_at dksJ9_init_0 0 rfl rfl)
theorem dJ9_init_1 : decode cJ9_init 1 = .ok (.bipush 16, 2) := dk_16 16 (dk_at dksJ9_init_0 1 rfl rfl)
theorem dJ9_init_3 : decode cJ9_init 3 = .ok (.invokespecial 1, 3) := dk_183 0 1 (dk_at dksJ9_init_0 3 rfl rfl)
theorem dJ9_init_6 : decode cJ9_init 6 = .ok (.return_, 1) := dk_177 (dk_at dksJ9_init_0 6 rfl rfl)
abbrev cJ9_toString : ByteArray := prog_43_method_42_code
def yJ9_toString : MethodName := ⟨RJ9, "toString", "()Ljava/lang/String;"⟩
def dkwJ9_toString_0 : List UInt8 := [187, 0, 18, 89, 42, 183, 0, 137, 176]
abbrev dktJ9_toString_0 : List UInt8 := dkwJ9_toString_0 ++ []
theorem dksJ9_toString_0 : cJ9_toString.data.toList.drop 0 = dktJ9_toString_0 := by decide +kernel
theorem dJ9_toString_0 : decode cJ9_toString 0 = .ok (.new 18, 3) := dk_187 0 18 (dk_at dksJ9_toString_0 0 rfl rfl)
theorem dJ9_toString_3 : decode cJ9_toString 3 = .ok (.dup, 1) := dk_89 (dk_at dksJ9_toString_0 3 rfl rfl)
theorem dJ9_toString_4 : decode cJ9_toString 4 = .ok (.aload_n 0, 1) := dk_42 (dk_at dksJ9_toString_0 4 rfl rfl)
theorem dJ9_toString_5 : decode cJ9_toString 5 = .ok (.invokespecial 137, 3) := dk_183 0 137 (dk_at dksJ9_toString_0 5 rfl rfl)
theorem dJ9_toString_8 : decode cJ9_toString 8 = .ok (.areturn, 1) := dk_176 (dk_at dksJ9_toString_0 8 rfl rfl)
abbrev cJ9_length : ByteArray := prog_43_method_93_code
def yJ9_length : MethodName := ⟨RJ9, "length", "()I"⟩
theorem dJ9_length_0 : decode cJ9_length 0 = .ok (.aload_n 0, 1) := by decide +kernel
theorem dJ9_length_1 : decode cJ9_length 1 = .ok (.invokespecial 343, 3) := by decide +kernel
theorem dJ9_length_4 : decode cJ9_length 4 = .ok (.ireturn, 1) := by decide +kernel
abbrev cJ9_append : ByteArray := prog_43_method_15_code
def yJ9_append : MethodName := ⟨RJ9, "append", "(I)Ljava/lang/StringBuilder;"⟩
def dkwJ9_append_0 : List UInt8 := [42, 27, 183, 0, 53, 87, 42, 176]
abbrev dktJ9_append_0 : List UInt8 := dkwJ9_append_0 ++ []
theorem dksJ9_append_0 : cJ9_append.data.toList.drop 0 = dktJ9_append_0 := by decide +kernel
theorem dJ9_append_0 : decode cJ9_append 0 = .ok (.aload_n 0, 1) := dk_42 (dk_at dksJ9_append_0 0 rfl rfl)
theorem dJ9_append_1 : decode cJ9_append 1 = .ok (.iload_n 1, 1) := dk_27 (dk_at dksJ9_append_0 1 rfl rfl)
theorem dJ9_append_2 : decode cJ9_append 2 = .ok (.invokespecial 53, 3) := dk_183 0 53 (dk_at dksJ9_append_0 2 rfl rfl)
theorem dJ9_append_5 : decode cJ9_append 5 = .ok (.pop, 1) := dk_87 (dk_at dksJ9_append_0 5 rfl rfl)
theorem dJ9_append_6 : decode cJ9_append 6 = .ok (.aload_n 0, 1) := dk_42 (dk_at dksJ9_append_0 6 rfl rfl)
theorem dJ9_append_7 : decode cJ9_append 7 = .ok (.areturn, 1) := dk_176 (dk_at dksJ9_append_0 7 rfl rfl)
abbrev cJ9_append_2 : ByteArray := prog_43_method_7_code
def yJ9_append_2 : MethodName := ⟨RJ9, "append", "(Ljava/lang/String;)Ljava/lang/StringBuilder;"⟩
def dkwJ9_append_2_0 : List UInt8 := [42, 43, 183, 0, 29, 87, 42, 176]
abbrev dktJ9_append_2_0 : List UInt8 := dkwJ9_append_2_0 ++ []
theorem dksJ9_append_2_0 : cJ9_append_2.data.toList.drop 0 = dktJ9_append_2_0 := by decide +kernel
theorem dJ9_append_2_0 : decode cJ9_append_2 0 = .ok (.aload_n 0, 1) := dk_42 (dk_at dksJ9_append_2_0 0 rfl rfl)
theorem dJ9_append_2_1 : decode cJ9_append_2 1 = .ok (.aload_n 1, 1) := dk_43 (dk_at dksJ9_append_2_0 1 rfl rfl)
theorem dJ9_append_2_2 : decode cJ9_append_2 2 = .ok (.invokespecial 29, 3) := dk_183 0 29 (dk_at dksJ9_append_2_0 2 rfl rfl)
theorem dJ9_append_2_5 : decode cJ9_append_2 5 = .ok (.pop, 1) := dk_87 (dk_at dksJ9_append_2_0 5 rfl rfl)
theorem dJ9_append_2_6 : decode cJ9_append_2 6 = .ok (.aload_n 0, 1) := dk_42 (dk_at dksJ9_append_2_0 6 rfl rfl)
theorem dJ9_append_2_7 : decode cJ9_append_2 7 = .ok (.areturn, 1) := dk_176 (dk_at dksJ9_append_2_0 7 rfl rfl)
abbrev cJ9_setLength : ByteArray := prog_43_method_89_code
def yJ9_setLength : MethodName := ⟨RJ9, "setLength", "(I)V"⟩
def dkwJ9_setLength_0 : List UInt8 := [42, 27, 183, 1, 77, 177]
abbrev dktJ9_setLength_0 : List UInt8 := dkwJ9_setLength_0 ++ []
theorem dksJ9_setLength_0 : cJ9_setLength.data.toList.drop 0 = dktJ9_setLength_0 := by decide +kernel
theorem dJ9_setLength_0 : decode cJ9_setLength 0 = .ok (.aload_n 0, 1) := dk_42 (dk_at dksJ9_setLength_0 0 rfl rfl)
theorem dJ9_setLength_1 : decode cJ9_setLength 1 = .ok (.iload_n 1, 1) := dk_27 (dk_at dksJ9_setLength_0 1 rfl rfl)
theorem dJ9_setLength_2 : decode cJ9_setLength 2 = .ok (.invokespecial 333, 3) := dk_183 1 77 (dk_at dksJ9_setLength_0 2 rfl rfl)
theorem dJ9_setLength_5 : decode cJ9_setLength 5 = .ok (.return_, 1) := dk_177 (dk_at dksJ9_setLength_0 5 rfl rfl)
abbrev cJ9_init_2 : ByteArray := prog_43_method_2_code
def yJ9_init_2 : MethodName := ⟨RJ9, "<init>", "(I)V"⟩
def dkwJ9_init_2_0 : List UInt8 := [42, 27, 183, 0, 1, 177]
abbrev dktJ9_init_2_0 : List UInt8 := dkwJ9_init_2_0 ++ []
theorem dksJ9_init_2_0 : cJ9_init_2.data.toList.drop 0 = dktJ9_init_2_0 := by decide +kernel
theorem dJ9_init_2_0 : decode cJ9_init_2 0 = .ok (.aload_n 0, 1) := dk_42 (dk_at dksJ9_init_2_0 0 rfl rfl)
theorem dJ9_init_2_1 : decode cJ9_init_2 1 = .ok (.iload_n 1, 1) := dk_27 (dk_at dksJ9_init_2_0 1 rfl rfl)
theorem dJ9_init_2_2 : decode cJ9_init_2 2 = .ok (.invokespecial 1, 3) := dk_183 0 1 (dk_at dksJ9_init_2_0 2 rfl rfl)
theorem dJ9_init_2_5 : decode cJ9_init_2 5 = .ok (.return_, 1) := dk_177 (dk_at dksJ9_init_2_0 5 rfl rfl)
abbrev cJ9_append_3 : ByteArray := prog_43_method_14_code
def yJ9_append_3 : MethodName := ⟨RJ9, "append", "(C)Ljava/lang/StringBuilder;"⟩
def dkwJ9_append_3_0 : List UInt8 := [42, 27, 183, 0, 50, 87, 42, 176]
abbrev dktJ9_append_3_0 : List UInt8 := dkwJ9_append_3_0 ++ []
theorem dksJ9_append_3_0 : cJ9_append_3.data.toList.drop 0 = dktJ9_append_3_0 := by decide +kernel
theorem dJ9_append_3_0 : decode cJ9_append_3 0 = .ok (.aload_n 0, 1) := dk_42 (dk_at dksJ9_append_3_0 0 rfl rfl)
theorem dJ9_append_3_1 : decode cJ9_append_3 1 = .ok (.iload_n 1, 1) := dk_27 (dk_at dksJ9_append_3_0 1 rfl rfl)
theorem dJ9_append_3_2 : decode cJ9_append_3 2 = .ok (.invokespecial 50, 3) := dk_183 0 50 (dk_at dksJ9_append_3_0 2 rfl rfl)
theorem dJ9_append_3_5 : decode cJ9_append_3 5 = .ok (.pop, 1) := dk_87 (dk_at dksJ9_append_3_0 5 rfl rfl)
theorem dJ9_append_3_6 : decode cJ9_append_3 6 = .ok (.aload_n 0, 1) := dk_42 (dk_at dksJ9_append_3_0 6 rfl rfl)
theorem dJ9_append_3_7 : decode cJ9_append_3 7 = .ok (.areturn, 1) := dk_176 (dk_at dksJ9_append_3_0 7 rfl rfl)
abbrev cJ9_append_4 : ByteArray := prog_43_method_9_code
def yJ9_append_4 : MethodName := ⟨RJ9, "append", "(Ljava/lang/CharSequence;)Ljava/lang/StringBuilder;"⟩
def dkwJ9_append_4_0 : List UInt8 := [42, 43, 183, 0, 35, 87, 42, 176]
abbrev dktJ9_append_4_0 : List UInt8 := dkwJ9_append_4_0 ++ []
theorem dksJ9_append_4_0 : cJ9_append_4.data.toList.drop 0 = dktJ9_append_4_0 := by decide +kernel
theorem dJ9_append_4_0 : decode cJ9_append_4 0 = .ok (.aload_n 0, 1) := dk_42 (dk_at dksJ9_append_4_0 0 rfl rfl)
theorem dJ9_append_4_1 : decode cJ9_append_4 1 = .ok (.aload_n 1, 1) := dk_43 (dk_at dksJ9_append_4_0 1 rfl rfl)
theorem dJ9_append_4_2 : decode cJ9_append_4 2 = .ok (.invokespecial 35, 3) := dk_183 0 35 (dk_at dksJ9_append_4_0 2 rfl rfl)
theorem dJ9_append_4_5 : decode cJ9_append_4 5 = .ok (.pop, 1) := dk_87 (dk_at dksJ9_append_4_0 5 rfl rfl)
theorem dJ9_append_4_6 : decode cJ9_append_4 6 = .ok (.aload_n 0, 1) := dk_42 (dk_at dksJ9_append_4_0 6 rfl rfl)
theorem dJ9_append_4_7 : decode cJ9_append_4 7 = .ok (.areturn, 1) := dk_176 (dk_at dksJ9_append_4_0 7 rfl rfl)
abbrev cJ9_append_5 : ByteArray := prog_43_method_80_code
def yJ9_append_5 : MethodName := ⟨RJ9, "append", "(Ljava/lang/String;)Ljava/lang/AbstractStringBuilder;"⟩
def dkwJ9_append_5_0 : List UInt8 := [42, 43, 182, 0, 23, 176]
abbrev dktJ9_append_5_0 : List UInt8 := dkwJ9_append_5_0 ++ []
theorem dksJ9_append_5_0 : cJ9_append_5.data.toList.drop 0 = dktJ9_append_5_0 := by decide +kernel
theorem dJ9_append_5_0 : decode cJ9_append_5 0 = .ok (.aload_n 0, 1) := dk_42 (dk_at dksJ9_append_5_0 0 rfl rfl)
theorem dJ9_append_5_1 : decode cJ9_append_5 1 = .ok (.aload_n 1, 1) := dk_43 (dk_at dksJ9_append_5_0 1 rfl rfl)
theorem dJ9_append_5_2 : decode cJ9_append_5 2 = .ok (.invokevirtual 23, 3) := dk_182 0 23 (dk_at dksJ9_append_5_0 2 rfl rfl)
theorem dJ9_append_5_5 : decode cJ9_append_5 5 = .ok (.areturn, 1) := dk_176 (dk_at dksJ9_append_5_0 5 rfl rfl)
abbrev cJ9_append_6 : ByteArray := prog_43_method_77_code
def yJ9_append_6 : MethodName := ⟨RJ9, "append", "(Ljava/lang/CharSequence;II)Ljava/lang/AbstractStringBuilder;"⟩
def dkwJ9_append_6_0 : List UInt8 := [42, 43, 28, 29, 182, 1, 40, 176]
abbrev dktJ9_append_6_0 : List UInt8 := dkwJ9_append_6_0 ++ []
theorem dksJ9_append_6_0 : cJ9_append_6.data.toList.drop 0 = dktJ9_append_6_0 := by decide +kernel
theorem dJ9_append_6_0 : decode cJ9_append_6 0 = .ok (.aload_n 0, 1) := dk_42 (dk_at dksJ9_append_6_0 0 rfl rfl)
theorem dJ9_append_6_1 : decode cJ9_append_6 1 = .ok (.aload_n 1, 1) := dk_43 (dk_at dksJ9_append_6_0 1 rfl rfl)
theorem dJ9_append_6_2 : decode cJ9_append_6 2 = .ok (.iload_n 2, 1) := dk_28 (dk_at dksJ9_append_6_0 2 rfl rfl)
theorem dJ9_append_6_3 : decode cJ9_append_6 3 = .ok (.iload_n 3, 1) := dk_29 (dk_at dksJ9_append_6_0 3 rfl rfl)
theorem dJ9_append_6_4 : decode cJ9_append_6 4 = .ok (.invokevirtual 296, 3) := dk_182 1 40 (dk_at dksJ9_append_6_0 4 rfl rfl)
theorem dJ9_append_6_7 : decode cJ9_append_6 7 = .ok (.areturn, 1) := dk_176 (dk_at dksJ9_append_6_0 7 rfl rfl)
abbrev cJ9_append_7 : ByteArray := prog_43_method_10_code
def yJ9_append_7 : MethodName := ⟨RJ9, "append", "(Ljava/lang/CharSequence;II)Ljava/lang/StringBuilder;"⟩
def dkwJ9_append_7_0 : List UInt8 := [42, 43, 28, 29, 183, 0, 38, 87, 42, 176]
abbrev dktJ9_append_7_0 : List UInt8 := dkwJ9_append_7_0 ++ []
theorem dksJ9_append_7_0 : cJ9_append_7.data.toList.drop 0 = dktJ9_append_7_0 := by decide +kernel
theorem dJ9_append_7_0 : decode cJ9_append_7 0 = .ok (.aload_n 0, 1) := dk_42 (dk_at dksJ9_append_7_0 0 rfl rfl)
theorem dJ9_append_7_1 : decode cJ9_append_7 1 = .ok (.aload_n 1, 1) := dk_43 (dk_at dksJ9_append_7_0 1 rfl rfl)
theorem dJ9_append_7_2 : decode cJ9_append_7 2 = .ok (.iload_n 2, 1) := dk_28 (dk_at dksJ9_append_7_0 2 rfl rfl)
theorem dJ9_append_7_3 : decode cJ9_append_7 3 = .ok (.iload_n 3, 1) := dk_29 (dk_at dksJ9_append_7_0 3 rfl rfl)
theorem dJ9_append_7_4 : decode cJ9_append_7 4 = .ok (.invokespecial 38, 3) := dk_183 0 38 (dk_at dksJ9_append_7_0 4 rfl rfl)
theorem dJ9_append_7_7 : decode cJ9_append_7 7 = .ok (.pop, 1) := dk_87 (dk_at dksJ9_append_7_0 7 rfl rfl)
theorem dJ9_append_7_8 : decode cJ9_append_7 8 = .ok (.aload_n 0, 1) := dk_42 (dk_at dksJ9_append_7_0 8 rfl rfl)
theorem dJ9_append_7_9 : decode cJ9_append_7 9 = .ok (.areturn, 1) := dk_176 (dk_at dksJ9_append_7_0 9 rfl rfl)
abbrev cJ9_charAt : ByteArray := prog_43_method_88_code
def yJ9_charAt : MethodName := ⟨RJ9, "charAt", "(I)C"⟩
def dkwJ9_charAt_0 : List UInt8 := [42, 27, 183, 1, 73, 172]
abbrev dktJ9_charAt_0 : List UInt8 := dkwJ9_charAt_0 ++ []
theorem dksJ9_charAt_0 : cJ9_charAt.data.toList.drop 0 = dktJ9_charAt_0 := by decide +kernel
theorem dJ9_charAt_0 : decode cJ9_charAt 0 = .ok (.aload_n 0, 1) := dk_42 (dk_at dksJ9_charAt_0 0 rfl rfl)
theorem dJ9_charAt_1 : decode cJ9_charAt 1 = .ok (.iload_n 1, 1) := dk_27 (dk_at dksJ9_charAt_0 1 rfl rfl)
theorem dJ9_charAt_2 : decode cJ9_charAt 2 = .ok (.invokespecial 329, 3) := dk_183 1 73 (dk_at dksJ9_charAt_0 2 rfl rfl)
theorem dJ9_charAt_5 : decode cJ9_charAt 5 = .ok (.ireturn, 1) := dk_172 (dk_at dksJ9_charAt_0 5 rfl rfl)
abbrev cJ9_substring : ByteArray := prog_43_method_62_code
def yJ9_substring : MethodName := ⟨RJ9, "substring", "(II)Ljava/lang/String;"⟩
def dkwJ9_substring_0 : List UInt8 := [42, 27, 28, 183, 0, 252, 176]
abbrev dktJ9_substring_0 : List UInt8 := dkwJ9_substring_0 ++ []
theorem dksJ9_substring_0 : cJ9_substring.data.toList.drop 0 = dktJ9_substring_0 := by decide +kernel
theorem dJ9_substring_0 : decode cJ9_substring 0 = .ok (.aload_n 0, 1) := dk_42 (dk_at dksJ9_substring_0 0 rfl rfl)
theorem dJ9_substring_1 : decode cJ9_substring 1 = .ok (.iload_n 1, 1) := dk_27 (dk_at dksJ9_substring_0 1 rfl rfl)
theorem dJ9_substring_2 : decode cJ9_substring 2 = .ok (.iload_n 2, 1) := dk_28 (dk_at dksJ9_substring_0 2 rfl rfl)
theorem dJ9_substring_3 : decode cJ9_substring 3 = .ok (.invokespecial 252, 3) := dk_183 0 252 (dk_at dksJ9_substring_0 3 rfl rfl)
theorem dJ9_substring_6 : decode cJ9_substring 6 = .ok (.areturn, 1) := dk_176 (dk_at dksJ9_substring_0 6 rfl rfl)
theorem q77 : (Jvm.Cond.initialized "java/lang/StringBuilder") ∈ lw_all := lw_g (lw_at lw_m1 12 rfl) rfl
theorem q242 : (Jvm.Cond.instantiable "java/lang/StringBuilder" (4 : Nat)) ∈ lw_all := lw_g (lw_at lw_m1 177 rfl) rfl
theorem q244 : (Jvm.Cond.instanceMethod ({ cls := "java/lang/StringBuilder", name := "<init>", desc := "()V" } : Jvm.MethodName)) ∈ lw_all := lw_g (lw_at lw_m1 179 rfl) rfl
theorem q245 : (Jvm.Cond.code ({ cls := "java/lang/StringBuilder", name := "<init>", desc := "()V" } : Jvm.MethodName) prog_43_method_1_code (1 : Nat) (Option.none : Option Jvm.ClassFile.FieldType)) ∈ lw_all := lw_g (lw_at lw_m1 180 rfl) rfl
theorem q246 : (Jvm.Cond.methodLink "java/lang/StringBuilder" (1 : Nat) ({ cls := "java/lang/AbstractStringBuilder", name := "<init>", desc := "(I)V" } : Jvm.MethodName)) ∈ lw_all := lw_g (lw_at lw_m1 181 rfl) rfl
theorem q264 : (Jvm.Cond.lays "java/lang/StringBuilder" "java/lang/AbstractStringBuilder" "value" "[B") ∈ lw_all := lw_g (lw_at lw_m1 199 rfl) rfl
theorem q266 : (Jvm.Cond.lays "java/lang/StringBuilder" "java/lang/AbstractStringBuilder" "coder" "B") ∈ lw_all := lw_g (lw_at lw_m1 201 rfl) rfl
theorem q268 : (Jvm.Cond.lays "java/lang/StringBuilder" "java/lang/AbstractStringBuilder" "maybeLatin1" "Z") ∈ lw_all := lw_g (lw_at lw_m1 203 rfl) rfl
theorem q270 : (Jvm.Cond.lays "java/lang/StringBuilder" "java/lang/AbstractStringBuilder" "count" "I") ∈ lw_all := lw_g (lw_at lw_m1 205 rfl) rfl
theorem q272 : (Jvm.Cond.superclass "java/lang/StringBuilder" "java/lang/AbstractStringBuilder") ∈ lw_all := lw_g (lw_at lw_m1 207 rfl) rfl
theorem q520 : (Jvm.Cond.instanceMethod ({ cls := "java/lang/StringBuilder", name := "toString", desc := "()Ljava/lang/String;" } : Jvm.MethodName)) ∈ lw_all := lw_g (lw_at lw_m2 215 rfl) rfl
theorem q521 : (Jvm.Cond.selects "java/lang/StringBuilder" ({ cls := "java/lang/StringBuilder", name := "toString", desc := "()Ljava/lang/String;" } : Jvm.MethodName) ({ cls := "java/lang/StringBuilder", name := "toString", desc := "()Ljava/lang/String;" } : Jvm.MethodName)) ∈ lw_all := lw_g (lw_at lw_m2 216 rfl) rfl
theorem q522 : (Jvm.Cond.code ({ cls := "java/lang/StringBuilder", name := "toString", desc := "()Ljava/lang/String;" } : Jvm.MethodName) prog_43_method_42_code (1 : Nat) (Option.some (Jvm.ClassFile.FieldType.object "java/lang/String"))) ∈ lw_all := lw_g (lw_at lw_m2 217 rfl) rfl
theorem q523 : (Jvm.Cond.classLink "java/lang/StringBuilder" (18 : Nat) "java/lang/String") ∈ lw_all := lw_g (lw_at lw_m2 218 rfl) rfl
theorem q525 : (Jvm.Cond.methodLink "java/lang/StringBuilder" (137 : Nat) ({ cls := "java/lang/String", name := "<init>", desc := "(Ljava/lang/StringBuilder;)V" } : Jvm.MethodName)) ∈ lw_all := lw_g (lw_at lw_m2 220 rfl) rfl
theorem q535 : (Jvm.Cond.selects "java/lang/StringBuilder" ({ cls := "java/lang/AbstractStringBuilder", name := "getValue", desc := "()[B" } : Jvm.MethodName) ({ cls := "java/lang/AbstractStringBuilder", name := "getValue", desc := "()[B" } : Jvm.MethodName)) ∈ lw_all := lw_g (lw_at lw_m2 230 rfl) rfl
theorem q540 : (Jvm.Cond.selects "java/lang/StringBuilder" ({ cls := "java/lang/AbstractStringBuilder", name := "length", desc := "()I" } : Jvm.MethodName) ({ cls := "java/lang/StringBuilder", name := "length", desc := "()I" } : Jvm.MethodName)) ∈ lw_all := lw_g (lw_at lw_m2 235 rfl) rfl
theorem q541 : (Jvm.Cond.instanceMethod ({ cls := "java/lang/StringBuilder", name := "length", desc := "()I" } : Jvm.MethodName)) ∈ lw_all := lw_g (lw_at lw_m2 236 rfl) rfl
theorem q542 : (Jvm.Cond.code ({ cls := "java/lang/StringBuilder", name := "length", desc := "()I" } : Jvm.MethodName) prog_43_method_93_code (1 : Nat) (Option.some Jvm.ClassFile.FieldType.int)) ∈ lw_all := lw_g (lw_at lw_m2 237 rfl) rfl
theorem q543 : (Jvm.Cond.methodLink "java/lang/StringBuilder" (343 : Nat) ({ cls := "java/lang/AbstractStringBuilder", name := "length", desc := "()I" } : Jvm.MethodName)) ∈ lw_all := lw_g (lw_at lw_m2 238 rfl) rfl
theorem q548 : (Jvm.Cond.selects "java/lang/StringBuilder" ({ cls := "java/lang/AbstractStringBuilder", name := "isLatin1", desc := "()Z" } : Jvm.MethodName) ({ cls := "java/lang/AbstractStringBuilder", name := "isLatin1", desc := "()Z" } : Jvm.MethodName)) ∈ lw_all := lw_g (lw_at lw_m3 3 rfl) rfl
theorem q571 : (Jvm.Cond.instanceMethod ({ cls := "java/lang/StringBuilder", name := "append", desc := "(I)Ljava/lang/StringBuilder;" } : Jvm.MethodName)) ∈ lw_all := lw_g (lw_at lw_m3 26 rfl) rfl
theorem q572 : (Jvm.Cond.selects "java/lang/StringBuilder" ({ cls := "java/lang/StringBuilder", name := "append", desc := "(I)Ljava/lang/StringBuilder;" } : Jvm.MethodName) ({ cls := "java/lang/StringBuilder", name := "append", desc := "(I)Ljava/lang/StringBuilder;" } : Jvm.MethodName)) ∈ lw_all := lw_g (lw_at lw_m3 27 rfl) rfl
theorem q573 : (Jvm.Cond.code ({ cls := "java/lang/StringBuilder", name := "append", desc := "(I)Ljava/lang/StringBuilder;" } : Jvm.MethodName) prog_43_method_15_code (2 : Nat) (Option.some (Jvm.ClassFile.FieldType.object "java/lang/StringBuilder"))) ∈ lw_all := lw_g (lw_at lw_m3 28 rfl) rfl
theorem q574 : (Jvm.Cond.methodLink "java/lang/StringBuilder" (53 : Nat) ({ cls := "java/lang/AbstractStringBuilder", name := "append", desc := "(I)Ljava/lang/AbstractStringBuilder;" } : Jvm.MethodName)) ∈ lw_all := lw_g (lw_at lw_m3 29 rfl) rfl
theorem q652 : (Jvm.Cond.instanceMethod ({ cls := "java/lang/StringBuilder", name := "append", desc := "(Ljava/lang/String;)Ljava/lang/StringBuilder;" } : Jvm.MethodName)) ∈ lw_all := lw_g (lw_at lw_m3 107 rfl) rfl
theorem q653 : (Jvm.Cond.selects "java/lang/StringBuilder" ({ cls := "java/lang/StringBuilder", name := "append", desc := "(Ljava/lang/String;)Ljava/lang/StringBuilder;" } : Jvm.MethodName) ({ cls := "java/lang/StringBuilder", name := "append", desc := "(Ljava/lang/String;)Ljava/lang/StringBuilder;" } : Jvm.MethodName)) ∈ lw_all := lw_g (lw_at lw_m3 108 rfl) rfl
theorem q654 : (Jvm.Cond.code ({ cls := "java/lang/StringBuilder", name := "append", desc := "(Ljava/lang/String;)Ljava/lang/StringBuilder;" } : Jvm.MethodName) prog_43_method_7_code (2 : Nat) (Option.some (Jvm.ClassFile.FieldType.object "java/lang/StringBuilder"))) ∈ lw_all := lw_g (lw_at lw_m3 109 rfl) rfl
theorem q655 : (Jvm.Cond.methodLink "java/lang/StringBuilder" (29 : Nat) ({ cls := "java/lang/AbstractStringBuilder", name := "append", desc := "(Ljava/lang/String;)Ljava/lang/AbstractStringBuilder;" } : Jvm.MethodName)) ∈ lw_all := lw_g (lw_at lw_m3 110 rfl) rfl
theorem q880 : (Jvm.Cond.selects "java/lang/StringBuilder" ({ cls := "java/lang/Object", name := "getClass", desc := "()Ljava/lang/Class;" } : Jvm.MethodName) ({ cls := "java/lang/Object", name := "getClass", desc := "()Ljava/lang/Class;" } : Jvm.MethodName)) ∈ lw_all := lw_g (lw_at lw_m4 95 rfl) rfl
theorem q894 : (Jvm.Cond.instanceMethod ({ cls := "java/lang/StringBuilder", name := "setLength", desc := "(I)V" } : Jvm.MethodName)) ∈ lw_all := lw_g (lw_at lw_m4 109 rfl) rfl
theorem q895 : (Jvm.Cond.selects "java/lang/StringBuilder" ({ cls := "java/lang/StringBuilder", name := "setLength", desc := "(I)V" } : Jvm.MethodName) ({ cls := "java/lang/StringBuilder", name := "setLength", desc := "(I)V" } : Jvm.MethodName)) ∈ lw_all := lw_g (lw_at lw_m4 110 rfl) rfl
theorem q896 : (Jvm.Cond.code ({ cls := "java/lang/StringBuilder", name := "setLength", desc := "(I)V" } : Jvm.MethodName) prog_43_method_89_code (2 : Nat) (Option.none : Option Jvm.ClassFile.FieldType)) ∈ lw_all := lw_g (lw_at lw_m4 111 rfl) rfl
theorem q897 : (Jvm.Cond.methodLink "java/lang/StringBuilder" (333 : Nat) ({ cls := "java/lang/AbstractStringBuilder", name := "setLength", desc := "(I)V" } : Jvm.MethodName)) ∈ lw_all := lw_g (lw_at lw_m4 112 rfl) rfl
theorem q1151 : (Jvm.Cond.instanceMethod ({ cls := "java/lang/StringBuilder", name := "<init>", desc := "(I)V" } : Jvm.MethodName)) ∈ lw_all := lw_g (lw_at lw_m5 126 rfl) rfl
theorem q1152 : (Jvm.Cond.code ({ cls := "java/lang/StringBuilder", name := "<init>", desc := "(I)V" } : Jvm.MethodName) prog_43_method_2_code (2 : Nat) (Option.none : Option Jvm.ClassFile.FieldType)) ∈ lw_all := lw_g (lw_at lw_m5 127 rfl) rfl
theorem q1154 : (Jvm.Cond.instanceMethod ({ cls := "java/lang/StringBuilder", name := "append", desc := "(C)Ljava/lang/StringBuilder;" } : Jvm.MethodName)) ∈ lw_all := lw_g (lw_at lw_m5 129 rfl) rfl
theorem q1155 : (Jvm.Cond.selects "java/lang/StringBuilder" ({ cls := "java/lang/StringBuilder", name := "append", desc := "(C)Ljava/lang/StringBuilder;" } : Jvm.MethodName) ({ cls := "java/lang/StringBuilder", name := "append", desc := "(C)Ljava/lang/StringBuilder;" } : Jvm.MethodName)) ∈ lw_all := lw_g (lw_at lw_m5 130 rfl) rfl
theorem q1156 : (Jvm.Cond.code ({ cls := "java/lang/StringBuilder", name := "append", desc := "(C)Ljava/lang/StringBuilder;" } : Jvm.MethodName) prog_43_method_14_code (2 : Nat) (Option.some (Jvm.ClassFile.FieldType.object "java/lang/StringBuilder"))) ∈ lw_all := lw_g (lw_at lw_m5 131 rfl) rfl
theorem q1157 : (Jvm.Cond.methodLink "java/lang/StringBuilder" (50 : Nat) ({ cls := "java/lang/AbstractStringBuilder", name := "append", desc := "(C)Ljava/lang/AbstractStringBuilder;" } : Jvm.MethodName)) ∈ lw_all := lw_g (lw_at lw_m5 132 rfl) rfl
theorem q1168 : (Jvm.Cond.instanceMethod ({ cls := "java/lang/StringBuilder", name := "append", desc := "(Ljava/lang/CharSequence;)Ljava/lang/StringBuilder;" } : Jvm.MethodName)) ∈ lw_all := lw_g (lw_at lw_m5 143 rfl) rfl
theorem q1169 : (Jvm.Cond.selects "java/lang/StringBuilder" ({ cls := "java/lang/StringBuilder", name := "append", desc := "(Ljava/lang/CharSequence;)Ljava/lang/StringBuilder;" } : Jvm.MethodName) ({ cls := "java/lang/StringBuilder", name := "append", desc := "(Ljava/lang/CharSequence;)Ljava/lang/StringBuilder;" } : Jvm.MethodName)) ∈ lw_all := lw_g (lw_at lw_m5 144 rfl) rfl
theorem q1170 : (Jvm.Cond.code ({ cls := "java/lang/StringBuilder", name := "append", desc := "(Ljava/lang/CharSequence;)Ljava/lang/StringBuilder;" } : Jvm.MethodName) prog_43_method_9_code (2 : Nat) (Option.some (Jvm.ClassFile.FieldType.object "java/lang/StringBuilder"))) ∈ lw_all := lw_g (lw_at lw_m5 145 rfl) rfl
theorem q1171 : (Jvm.Cond.methodLink "java/lang/StringBuilder" (35 : Nat) ({ cls := "java/lang/AbstractStringBuilder", name := "append", desc := "(Ljava/lang/CharSequence;)Ljava/lang/AbstractStringBuilder;" } : Jvm.MethodName)) ∈ lw_all := lw_g (lw_at lw_m5 146 rfl) rfl
theorem q1176 : (Jvm.Cond.instanceMethod ({ cls := "java/lang/StringBuilder", name := "append", desc := "(Ljava/lang/String;)Ljava/lang/AbstractStringBuilder;" } : Jvm.MethodName)) ∈ lw_all := lw_g (lw_at lw_m5 151 rfl) rfl
theorem q1177 : (Jvm.Cond.code ({ cls := "java/lang/StringBuilder", name := "append", desc := "(Ljava/lang/String;)Ljava/lang/AbstractStringBuilder;" } : Jvm.MethodName) prog_43_method_80_code (2 : Nat) (Option.some (Jvm.ClassFile.FieldType.object "java/lang/AbstractStringBuilder"))) ∈ lw_all := lw_g (lw_at lw_m5 152 rfl) rfl
theorem q1178 : (Jvm.Cond.methodLink "java/lang/StringBuilder" (23 : Nat) ({ cls := "java/lang/StringBuilder", name := "append", desc := "(Ljava/lang/String;)Ljava/lang/StringBuilder;" } : Jvm.MethodName)) ∈ lw_all := lw_g (lw_at lw_m5 153 rfl) rfl
theorem q1183 : (Jvm.Cond.selects "java/lang/StringBuilder" ({ cls := "java/lang/AbstractStringBuilder", name := "append", desc := "(Ljava/lang/AbstractStringBuilder;)Ljava/lang/AbstractStringBuilder;" } : Jvm.MethodName) ({ cls := "java/lang/AbstractStringBuilder", name := "append", desc := "(Ljava/lang/AbstractStringBuilder;)Ljava/lang/AbstractStringBuilder;" } : Jvm.MethodName)) ∈ lw_all := lw_g (lw_at lw_m5 158 rfl) rfl
theorem q1193 : (Jvm.Cond.selects "java/lang/StringBuilder" ({ cls := "java/lang/AbstractStringBuilder", name := "getCoder", desc := "()B" } : Jvm.MethodName) ({ cls := "java/lang/AbstractStringBuilder", name := "getCoder", desc := "()B" } : Jvm.MethodName)) ∈ lw_all := lw_g (lw_at lw_m5 168 rfl) rfl
theorem q1198 : (Jvm.Cond.selects "java/lang/StringBuilder" ({ cls := "java/lang/AbstractStringBuilder", name := "getBytes", desc := "([BIB)V" } : Jvm.MethodName) ({ cls := "java/lang/AbstractStringBuilder", name := "getBytes", desc := "([BIB)V" } : Jvm.MethodName)) ∈ lw_all := lw_g (lw_at lw_m5 173 rfl) rfl
theorem q1209 : (Jvm.Cond.castable "java/lang/StringBuilder" "java/lang/CharSequence") ∈ lw_tbl := lw_at lw_m5 184 rfl
theorem q1210 : (Jvm.Cond.selects "java/lang/StringBuilder" ({ cls := "java/lang/CharSequence", name := "length", desc := "()I" } : Jvm.MethodName) ({ cls := "java/lang/StringBuilder", name := "length", desc := "()I" } : Jvm.MethodName)) ∈ lw_all := lw_g (lw_at lw_m5 185 rfl) rfl
theorem q1211 : (Jvm.Cond.unhidden "java/lang/StringBuilder" "length" "()I") ∈ lw_tbl := lw_at lw_m5 186 rfl
theorem q1212 : (Jvm.Cond.publicMethod ({ cls := "java/lang/StringBuilder", name := "length", desc := "()I" } : Jvm.MethodName)) ∈ lw_tbl := lw_at lw_m5 187 rfl
theorem q1216 : (Jvm.Cond.selects "java/lang/StringBuilder" ({ cls := "java/lang/AbstractStringBuilder", name := "append", desc := "(Ljava/lang/CharSequence;II)Ljava/lang/AbstractStringBuilder;" } : Jvm.MethodName) ({ cls := "java/lang/StringBuilder", name := "append", desc := "(Ljava/lang/CharSequence;II)Ljava/lang/AbstractStringBuilder;" } : Jvm.MethodName)) ∈ lw_all := lw_g (lw_at lw_m5 191 rfl) rfl
theorem q1217 : (Jvm.Cond.instanceMethod ({ cls := "java/lang/StringBuilder", name := "append", desc := "(Ljava/lang/CharSequence;II)Ljava/lang/AbstractStringBuilder;" } : Jvm.MethodName)) ∈ lw_all := lw_g (lw_at lw_m5 192 rfl) rfl
theorem q1218 : (Jvm.Cond.code ({ cls := "java/lang/StringBuilder", name := "append", desc := "(Ljava/lang/CharSequence;II)Ljava/lang/AbstractStringBuilder;" } : Jvm.MethodName) prog_43_method_77_code (4 : Nat) (Option.some (Jvm.ClassFile.FieldType.object "java/lang/AbstractStringBuilder"))) ∈ lw_all := lw_g (lw_at lw_m5 193 rfl) rfl
theorem q1219 : (Jvm.Cond.methodLink "java/lang/StringBuilder" (296 : Nat) ({ cls := "java/lang/StringBuilder", name := "append", desc := "(Ljava/lang/CharSequence;II)Ljava/lang/StringBuilder;" } : Jvm.MethodName)) ∈ lw_all := lw_g (lw_at lw_m5 194 rfl) rfl
theorem q1220 : (Jvm.Cond.instanceMethod ({ cls := "java/lang/StringBuilder", name := "append", desc := "(Ljava/lang/CharSequence;II)Ljava/lang/StringBuilder;" } : Jvm.MethodName)) ∈ lw_all := lw_g (lw_at lw_m5 195 rfl) rfl
theorem q1221 : (Jvm.Cond.selects "java/lang/StringBuilder" ({ cls := "java/lang/StringBuilder", name := "append", desc := "(Ljava/lang/CharSequence;II)Ljava/lang/StringBuilder;" } : Jvm.MethodName) ({ cls := "java/lang/StringBuilder", name := "append", desc := "(Ljava/lang/CharSequence;II)Ljava/lang/StringBuilder;" } : Jvm.MethodName)) ∈ lw_all := lw_g (lw_at lw_m5 196 rfl) rfl
theorem q1222 : (Jvm.Cond.code ({ cls := "java/lang/StringBuilder", name := "append", desc := "(Ljava/lang/CharSequence;II)Ljava/lang/StringBuilder;" } : Jvm.MethodName) prog_43_method_10_code (4 : Nat) (Option.some (Jvm.ClassFile.FieldType.object "java/lang/StringBuilder"))) ∈ lw_all := lw_g (lw_at lw_m5 197 rfl) rfl
theorem q1223 : (Jvm.Cond.methodLink "java/lang/StringBuilder" (38 : Nat) ({ cls := "java/lang/AbstractStringBuilder", name := "append", desc := "(Ljava/lang/CharSequence;II)Ljava/lang/AbstractStringBuilder;" } : Jvm.MethodName)) ∈ lw_all := lw_g (lw_at lw_m5 198 rfl) rfl
theorem q1249 : (Jvm.Cond.selects "java/lang/StringBuilder" ({ cls := "java/lang/CharSequence", name := "charAt", desc := "(I)C" } : Jvm.MethodName) ({ cls := "java/lang/StringBuilder", name := "charAt", desc := "(I)C" } : Jvm.MethodName)) ∈ lw_all := lw_g (lw_at lw_m5 224 rfl) rfl
theorem q1250 : (Jvm.Cond.unhidden "java/lang/StringBuilder" "charAt" "(I)C") ∈ lw_tbl := lw_at lw_m5 225 rfl
theorem q1251 : (Jvm.Cond.instanceMethod ({ cls := "java/lang/StringBuilder", name := "charAt", desc := "(I)C" } : Jvm.MethodName)) ∈ lw_all := lw_g (lw_at lw_m5 226 rfl) rfl
theorem q1252 : (Jvm.Cond.publicMethod ({ cls := "java/lang/StringBuilder", name := "charAt", desc := "(I)C" } : Jvm.MethodName)) ∈ lw_tbl := lw_at lw_m5 227 rfl
theorem q1253 : (Jvm.Cond.code ({ cls := "java/lang/StringBuilder", name := "charAt", desc := "(I)C" } : Jvm.MethodName) prog_43_method_88_code (2 : Nat) (Option.some Jvm.ClassFile.FieldType.char)) ∈ lw_all := lw_g (lw_at lw_m5 228 rfl) rfl
theorem q1254 : (Jvm.Cond.methodLink "java/lang/StringBuilder" (329 : Nat) ({ cls := "java/lang/AbstractStringBuilder", name := "charAt", desc := "(I)C" } : Jvm.MethodName)) ∈ lw_all := lw_g (lw_at lw_m5 229 rfl) rfl
theorem q1372 : (Jvm.Cond.instanceMethod ({ cls := "java/lang/StringBuilder", name := "substring", desc := "(II)Ljava/lang/String;" } : Jvm.MethodName)) ∈ lw_all := lw_g (lw_at lw_m6 107 rfl) rfl
theorem q1373 : (Jvm.Cond.selects "java/lang/StringBuilder" ({ cls := "java/lang/StringBuilder", name := "substring", desc := "(II)Ljava/lang/String;" } : Jvm.MethodName) ({ cls := "java/lang/StringBuilder", name := "substring", desc := "(II)Ljava/lang/String;" } : Jvm.MethodName)) ∈ lw_all := lw_g (lw_at lw_m6 108 rfl) rfl
theorem q1374 : (Jvm.Cond.code ({ cls := "java/lang/StringBuilder", name := "substring", desc := "(II)Ljava/lang/String;" } : Jvm.MethodName) prog_43_method_62_code (3 : Nat) (Option.some (Jvm.ClassFile.FieldType.object "java/lang/String"))) ∈ lw_all := lw_g (lw_at lw_m6 109 rfl) rfl
theorem q1375 : (Jvm.Cond.methodLink "java/lang/StringBuilder" (252 : Nat) ({ cls := "java/lang/AbstractStringBuilder", name := "substring", desc := "(II)Ljava/lang/String;" } : Jvm.MethodName)) ∈ lw_all := lw_g (lw_at lw_m6 110 rfl) rfl
theorem q2425 : (Jvm.Cond.selects "java/lang/StringBuilder" ({ cls := "java/lang/StringBuilder", name := "length", desc := "()I" } : Jvm.MethodName) ({ cls := "java/lang/StringBuilder", name := "length", desc := "()I" } : Jvm.MethodName)) ∈ lw_all := lw_g (lw_at lw_m10 200 rfl) rfl
theorem q2427 : (Jvm.Cond.selects "java/lang/StringBuilder" ({ cls := "java/lang/AbstractStringBuilder", name := "append", desc := "(Ljava/lang/String;)Ljava/lang/AbstractStringBuilder;" } : Jvm.MethodName) ({ cls := "java/lang/StringBuilder", name := "append", desc := "(Ljava/lang/String;)Ljava/lang/AbstractStringBuilder;" } : Jvm.MethodName)) ∈ lw_all := lw_g (lw_at lw_m10 202 rfl) rfl
theorem q2432 : (Jvm.Cond.selects "java/lang/StringBuilder" ({ cls := "java/lang/StringBuilder", name := "charAt", desc := "(I)C" } : Jvm.MethodName) ({ cls := "java/lang/StringBuilder", name := "charAt", desc := "(I)C" } : Jvm.MethodName)) ∈ lw_all := lw_g (lw_at lw_m10 207 rfl) rfl
theorem q2440 : (Jvm.Cond.castable "java/lang/StringBuilder" "java/lang/AbstractStringBuilder") ∈ lw_tbl := lw_at lw_m10 215 rfl
theorem q2444 : (Jvm.Cond.castable "java/lang/StringBuilder" "java/lang/Object") ∈ lw_tbl := lw_at lw_m10 219 rfl
theorem in_J9 : ∀ w ∈ wsJ90, w ∈ lw_all := lw_in wsJ90 [264, 266, 268, 270] (by decide +kernel) (by decide +kernel)
/-! java/lang/String -/
set_option maxRecDepth 100000
def RJ10 : String := "java/lang/String"
def TJ10 : u_T := fun k => match k with
  | 0 => ("java/lang/String", "value", "[B", true)
  | 1 => ("java/lang/String", "coder", "B", true)
  | 2 => ("java/lang/String", "hash", "I", false)
  | _ => ("java/lang/String", "hashIsZero", "Z", false)
def tyJ10 : Nat → FieldType := fun k => match k with
  | 0 => .array .byte
  | 1 => .byte
  | 2 => .int
  | _ => .boolean
abbrev wsJ100 : List Cond := u_ws RJ10 TJ10 4
theorem nmJ10 : ∀ a, a < 4 → ∀ b, b < 4 → a ≠ b → (TJ10 a).2.1 ≠ (TJ10 b).2.1 := by decide +kernel
theorem tyJ10_ok : ∀ k, k < 4 → parseFieldDescriptor (TJ10 k).2.2.1 = some (tyJ10 k) := by decide +kernel
abbrev cJ10_init : ByteArray := prog_42_method_53_code
def yJ10_init : MethodName := ⟨RJ10, "<init>", "(Ljava/lang/StringBuilder;)V"⟩
def dkwJ10_init_0 : List UInt8 := [42, 43, 1, 183, 1, 233, 177]
abbrev dktJ10_init_0 : List UInt8 := dkwJ10_init_0 ++ []
theorem dksJ10_init_0 : cJ10_init.data.toList.drop 0 = dktJ10_init_0 := by decide +kernel
theorem dJ10_init_0 : decode cJ10_init 0 = .ok (.aload_n 0, 1) := dk_42 (dk_at dksJ10_init_0 0 rfl rfl)
theorem dJ10_init_1 : decode cJ10_init 1 = .ok (.aload_n 1, 1) := dk_43 (dk_at dksJ10_init_0 1 rfl rfl)
theorem dJ10_init_2 : decode cJ10_init 2 = .ok (.aconst_null, 1) := dk_1 (dk_at dksJ10_init_0 2 rfl rfl)
theorem dJ10_init_3 : decode cJ10_init 3 = .ok (.invokespecial 489, 3) := dk_183 1 233 (dk_at dksJ10_init_0 3 rfl rfl)
theorem dJ10_init_6 : decode cJ10_init 6 = .ok (.return_, 1) := dk_177 (dk_at dksJ10_init_0 6 rfl rfl)
abbrev cJ10_init_2 : ByteArray := prog_42_method_150_code
def yJ10_init_2 : MethodName := ⟨RJ10, "<init>", "(Ljava/lang/AbstractStringBuilder;Ljava/lang/Void;)V"⟩
def dkwJ10_init_2_4 : List UInt8 := [181, 0, 9, 177]
abbrev dktJ10_init_2_4 : List UInt8 := dkwJ10_init_2_4 ++ []
def dkwJ10_init_2_3 : List UInt8 := [184, 0, 47, 181, 0, 15, 177, 42, 4, 181, 0, 15, 42, 45, 3, 21, 4, 4, 120, 184, 0, 54]
abbrev dktJ10_init_2_3 : List UInt8 := dkwJ10_init_2_3 ++ dktJ10_init_2_4
def dkwJ10_init_2_2 : List UInt8 := [180, 4, 24, 153, 0, 28, 42, 45, 3, 21, 4, 184, 4, 27, 181, 0, 9, 42, 42, 180, 0, 9, 21, 4]
abbrev dktJ10_init_2_2 : List UInt8 := dkwJ10_init_2_2 ++ dktJ10_init_2_3
def dkwJ10_init_2_1 : List UInt8 := [181, 0, 15, 42, 45, 3, 21, 4, 184, 0, 54, 181, 0, 9, 167, 0, 59, 178, 0, 38, 153, 0, 35, 43]
abbrev dktJ10_init_2_1 : List UInt8 := dkwJ10_init_2_1 ++ dktJ10_init_2_2
def dkwJ10_init_2_0 : List UInt8 := [42, 183, 0, 1, 43, 182, 2, 40, 78, 43, 182, 2, 37, 54, 4, 43, 182, 4, 23, 153, 0, 22, 42, 3]
abbrev dktJ10_init_2_0 : List UInt8 := dkwJ10_init_2_0 ++ dktJ10_init_2_1
theorem dksJ10_init_2_0 : cJ10_init_2.data.toList.drop 0 = dktJ10_init_2_0 := by decide +kernel
theorem dksJ10_init_2_1 : cJ10_init_2.data.toList.drop 24 = dktJ10_init_2_1 := dk_seg dksJ10_init_2_0 24 rfl rfl
theorem dksJ10_init_2_2 : cJ10_init_2.data.toList.drop 48 = dktJ10_init_2_2 := dk_seg dksJ10_init_2_1 24 rfl rfl
theorem dksJ10_init_2_3 : cJ10_init_2.data.toList.drop 72 = dktJ10_init_2_3 := dk_seg dksJ10_init_2_2 24 rfl rfl
theorem dksJ10_init_2_4 : cJ10_init_2.data.toList.drop 94 = dktJ10_init_2_4 := dk_seg dksJ10_init_2_3 22 rfl rfl
theorem dJ10_init_2_0 : decode cJ10_init_2 0 = .ok (.aload_n 0, 1) := dk_42 (dk_at dksJ10_init_2_0 0 rfl rfl)
theorem dJ10_init_2_1 : decode cJ10_init_2 1 = .ok (.invokespecial 1, 3) := dk_183 0 1 (dk_at dksJ10_init_2_0 1 rfl rfl)
theorem dJ10_init_2_4 : decode cJ10_init_2 4 = .ok (.aload_n 1, 1) := dk_43 (dk_at dksJ10_init_2_0 4 rfl rfl)
theorem dJ10_init_2_5 : decode cJ10_init_2 5 = .ok (.invokevirtual 552, 3) := dk_182 2 40 (dk_at dksJ10_init_2_0 5 rfl rfl)
theorem dJ10_init_2_8 : decode cJ10_init_2 8 = .ok (.astore_n 3, 1) := dk_78 (dk_at dksJ10_init_2_0 8 rfl rfl)
theorem dJ10_init_2_9 : decode cJ10_init_2 9 = .ok (.aload_n 1, 1) := dk_43 (dk_at dksJ10_init_2_0 9 rfl rfl)
theorem dJ10_init_2_10 : decode cJ10_init_2 10 = .ok (.invokevirtual 549, 3) := dk_182 2 37 (dk_at dksJ10_init_2_0 10 rfl rfl)
theorem dJ10_init_2_13 : decode cJ10_init_2 13 = .ok (.istore 4, 2) := dk_54 4 (dk_at dksJ10_init_2_0 13 rfl rfl)
theorem dJ10_init_2_15 : decode cJ10_init_2 15 = .ok (.aload_n 1, 1) := dk_43 (dk_at dksJ10_init_2_0 15 rfl rfl)
theorem dJ10_init_2_16 : decode cJ10_init_2 16 = .ok (.invokevirtual 1047, 3) := dk_182 4 23 (dk_at dksJ10_init_2_0 16 rfl rfl)
theorem dJ10_init_2_19 : decode cJ10_init_2 19 = .ok (.ifCond .eq 22, 3) := dk_153 0 22 (dk_at dksJ10_init_2_0 19 rfl rfl)
theorem dJ10_init_2_22 : decode cJ10_init_2 22 = .ok (.aload_n 0, 1) := dk_42 (dk_at dksJ10_init_2_0 22 rfl rfl)
theorem dJ10_init_2_23 : decode cJ10_init_2 23 = .ok (.iconst 0, 1) := dk_3 (dk_at dksJ10_init_2_0 23 rfl rfl)
theorem dJ10_init_2_24 : decode cJ10_init_2 24 = .ok (.putfield 15, 3) := dk_181 0 15 (dk_at dksJ10_init_2_1 0 rfl rfl)
theorem dJ10_init_2_27 : decode cJ10_init_2 27 = .ok (.aload_n 0, 1) := dk_42 (dk_at dksJ10_init_2_1 3 rfl rfl)
theorem dJ10_init_2_28 : decode cJ10_init_2 28 = .ok (.aload_n 3, 1) := dk_45 (dk_at dksJ10_init_2_1 4 rfl rfl)
theorem dJ10_init_2_29 : decode cJ10_init_2 29 = .ok (.iconst 0, 1) := dk_3 (dk_at dksJ10_init_2_1 5 rfl rfl)
theorem dJ10_init_2_30 : decode cJ10_init_2 30 = .ok (.iload 4, 2) := dk_21 4 (dk_at dksJ10_init_2_1 6 rfl rfl)
theorem dJ10_init_2_32 : decode cJ10_init_2 32 = .ok (.invokestatic 54, 3) := dk_184 0 54 (dk_at dksJ10_init_2_1 8 rfl rfl)
theorem dJ10_init_2_35 : decode cJ10_init_2 35 = .ok (.putfield 9, 3) := dk_181 0 9 (dk_at dksJ10_init_2_1 11 rfl rfl)
theorem dJ10_init_2_38 : decode cJ10_init_2 38 = .ok (.goto 59, 3) := dk_167 0 59 (dk_at dksJ10_init_2_1 14 rfl rfl)
theorem dJ10_init_2_41 : decode cJ10_init_2 41 = .ok (.getstatic 38, 3) := dk_178 0 38 (dk_at dksJ10_init_2_1 17 rfl rfl)
theorem dJ10_init_2_44 : decode cJ10_init_2 44 = .ok (.ifCond .eq 35, 3) := dk_153 0 35 (dk_at dksJ10_init_2_1 20 rfl rfl)
theorem dJ10_init_2_47 : decode cJ10_init_2 47 = .ok (.aload_n 1, 1) := dk_43 (dk_at dksJ10_init_2_1 23 rfl rfl)
theorem dJ10_init_2_48 : decode cJ10_init_2 48 = .ok (.getfield 1048, 3) := dk_180 4 24 (dk_at dksJ10_init_2_2 0 rfl rfl)
theorem dJ10_init_2_51 : decode cJ10_init_2 51 = .ok (.ifCond .eq 28, 3) := dk_153 0 28 (dk_at dksJ10_init_2_2 3 rfl rfl)
theorem dJ10_init_2_54 : decode cJ10_init_2 54 = .ok (.aload_n 0, 1) := dk_42 (dk_at dksJ10_init_2_2 6 rfl rfl)
theorem dJ10_init_2_55 : decode cJ10_init_2 55 = .ok (.aload_n 3, 1) := dk_45 (dk_at dksJ10_init_2_2 7 rfl rfl)
theorem dJ10_init_2_56 : decode cJ10_init_2 56 = .ok (.iconst 0, 1) := dk_3 (dk_at dksJ10_init_2_2 8 rfl rfl)
theorem dJ10_init_2_57 : decode cJ10_init_2 57 = .ok (.iload 4, 2) := dk_21 4 (dk_at dksJ10_init_2_2 9 rfl rfl)
theorem dJ10_init_2_59 : decode cJ10_init_2 59 = .ok (.invokestatic 1051, 3) := dk_184 4 27 (dk_at dksJ10_init_2_2 11 rfl rfl)
theorem dJ10_init_2_62 : decode cJ10_init_2 62 = .ok (.putfield 9, 3) := dk_181 0 9 (dk_at dksJ10_init_2_2 14 rfl rfl)
theorem dJ10_init_2_65 : decode cJ10_init_2 65 = .ok (.aload_n 0, 1) := dk_42 (dk_at dksJ10_init_2_2 17 rfl rfl)
theorem dJ10_init_2_66 : decode cJ10_init_2 66 = .ok (.aload_n 0, 1) := dk_42 (dk_at dksJ10_init_2_2 18 rfl rfl)
theorem dJ10_init_2_67 : decode cJ10_init_2 67 = .ok (.getfield 9, 3) := dk_180 0 9 (dk_at dksJ10_init_2_2 19 rfl rfl)
theorem dJ10_init_2_70 : decode cJ10_init_2 70 = .ok (.iload 4, 2) := dk_21 4 (dk_at dksJ10_init_2_2 22 rfl rfl)
theorem dJ10_init_2_72 : decode cJ10_init_2 72 = .ok (.invokestatic 47, 3) := dk_184 0 47 (dk_at dksJ10_init_2_3 0 rfl rfl)
theorem dJ10_init_2_75 : decode cJ10_init_2 75 = .ok (.putfield 15, 3) := dk_181 0 15 (dk_at dksJ10_init_2_3 3 rfl rfl)
theorem dJ10_init_2_78 : decode cJ10_init_2 78 = .ok (.return_, 1) := dk_177 (dk_at dksJ10_init_2_3 6 rfl rfl)
theorem dJ10_init_2_79 : decode cJ10_init_2 79 = .ok (.aload_n 0, 1) := dk_42 (dk_at dksJ10_init_2_3 7 rfl rfl)
theorem dJ10_init_2_80 : decode cJ10_init_2 80 = .ok (.iconst 1, 1) := dk_4 (dk_at dksJ10_init_2_3 8 rfl rfl)
theorem dJ10_init_2_81 : decode cJ10_init_2 81 = .ok (.putfield 15, 3) := dk_181 0 15 (dk_at dksJ10_init_2_3 9 rfl rfl)
theorem dJ10_init_2_84 : decode cJ10_init_2 84 = .ok (.aload_n 0, 1) := dk_42 (dk_at dksJ10_init_2_3 12 rfl rfl)
theorem dJ10_init_2_85 : decode cJ10_init_2 85 = .ok (.aload_n 3, 1) := dk_45 (dk_at dksJ10_init_2_3 13 rfl rfl)
theorem dJ10_init_2_86 : decode cJ10_init_2 86 = .ok (.iconst 0, 1) := dk_3 (dk_at dksJ10_init_2_3 14 rfl rfl)
theorem dJ10_init_2_87 : decode cJ10_init_2 87 = .ok (.iload 4, 2) := dk_21 4 (dk_at dksJ10_init_2_3 15 rfl rfl)
theorem dJ10_init_2_89 : decode cJ10_init_2 89 = .ok (.iconst 1, 1) := dk_4 (dk_at dksJ10_init_2_3 17 rfl rfl)
theorem dJ10_init_2_90 : decode cJ10_init_2 90 = .ok (.ishl, 1) := dk_120 (dk_at dksJ10_init_2_3 18 rfl rfl)
theorem dJ10_init_2_91 : decode cJ10_init_2 91 = .ok (.invokestatic 54, 3) := dk_184 0 54 (dk_at dksJ10_init_2_3 19 rfl rfl)
theorem dJ10_init_2_94 : decode cJ10_init_2 94 = .ok (.putfield 9, 3) := dk_181 0 9 (dk_at dksJ10_init_2_4 0 rfl rfl)
theorem dJ10_init_2_97 : decode cJ10_init_2 97 = .ok (.return_, 1) := dk_177 (dk_at dksJ10_init_2_4 3 rfl rfl)
abbrev cJ10_checkBoundsBeginEnd : ByteArray := prog_42_method_158_code
def yJ10_checkBoundsBeginEnd : MethodName := ⟨RJ10, "checkBoundsBeginEnd", "(III)V"⟩
def dkwJ10_checkBoundsBeginEnd_0 : List UInt8 := [26, 27, 28, 178, 4, 29, 184, 4, 38, 87, 177]
abbrev dktJ10_checkBoundsBeginEnd_0 : List UInt8 := dkwJ10_checkBoundsBeginEnd_0 ++ []
theorem dksJ10_checkBoundsBeginEnd_0 : cJ10_checkBoundsBeginEnd.data.toList.drop 0 = dktJ10_checkBoundsBeginEnd_0 := by decide +kernel
theorem dJ10_checkBoundsBeginEnd_0 : decode cJ10_checkBoundsBeginEnd 0 = .ok (.iload_n 0, 1) := dk_26 (dk_at dksJ10_checkBoundsBeginEnd_0 0 rfl rfl)
theorem dJ10_checkBoundsBeginEnd_1 : decode cJ10_checkBoundsBeginEnd 1 = .ok (.iload_n 1, 1) := dk_27 (dk_at dksJ10_checkBoundsBeginEnd_0 1 rfl rfl)
theorem dJ10_checkBoundsBeginEnd_2 : decode cJ10_checkBoundsBeginEnd 2 = .ok (.iload_n 2, 1) := dk_28 (dk_at dksJ10_checkBoundsBeginEnd_0 2 rfl rfl)
theorem dJ10_checkBoundsBeginEnd_3 : decode cJ10_checkBoundsBeginEnd 3 = .ok (.getstatic 1053, 3) := dk_178 4 29 (dk_at dksJ10_checkBoundsBeginEnd_0 3 rfl rfl)
theorem dJ10_checkBoundsBeginEnd_6 : decode cJ10_checkBoundsBeginEnd 6 = .ok (.invokestatic 1062, 3) := dk_184 4 38 (dk_at dksJ10_checkBoundsBeginEnd_0 6 rfl rfl)
theorem dJ10_checkBoundsBeginEnd_9 : decode cJ10_checkBoundsBeginEnd 9 = .ok (.pop, 1) := dk_87 (dk_at dksJ10_checkBoundsBeginEnd_0 9 rfl rfl)
theorem dJ10_checkBoundsBeginEnd_10 : decode cJ10_checkBoundsBeginEnd 10 = .ok (.return_, 1) := dk_177 (dk_at dksJ10_checkBoundsBeginEnd_0 10 rfl rfl)
abbrev cJ10_length : ByteArray := prog_42_method_54_code
def yJ10_length : MethodName := ⟨RJ10, "length", "()I"⟩
def dkwJ10_length_0 : List UInt8 := [42, 180, 0, 9, 190, 42, 182, 1, 79, 122, 172]
abbrev dktJ10_length_0 : List UInt8 := dkwJ10_length_0 ++ []
theorem dksJ10_length_0 : cJ10_length.data.toList.drop 0 = dktJ10_length_0 := by decide +kernel
theorem dJ10_length_0 : decode cJ10_length 0 = .ok (.aload_n 0, 1) := dk_42 (dk_at dksJ10_length_0 0 rfl rfl)
theorem dJ10_length_1 : decode cJ10_length 1 = .ok (.getfield 9, 3) := dk_180 0 9 (dk_at dksJ10_length_0 1 rfl rfl)
theorem dJ10_length_4 : decode cJ10_length 4 = .ok (.arraylength, 1) := dk_190 (dk_at dksJ10_length_0 4 rfl rfl)
theorem dJ10_length_5 : decode cJ10_length 5 = .ok (.aload_n 0, 1) := dk_42 (dk_at dksJ10_length_0 5 rfl rfl)
theorem dJ10_length_6 : decode cJ10_length 6 = .ok (.invokevirtual 335, 3) := dk_182 1 79 (dk_at dksJ10_length_0 6 rfl rfl)
theorem dJ10_length_9 : decode cJ10_length 9 = .ok (.ishr, 1) := dk_122 (dk_at dksJ10_length_0 9 rfl rfl)
theorem dJ10_length_10 : decode cJ10_length 10 = .ok (.ireturn, 1) := dk_172 (dk_at dksJ10_length_0 10 rfl rfl)
abbrev cJ10_coder : ByteArray := prog_42_method_152_code
def yJ10_coder : MethodName := ⟨RJ10, "coder", "()B"⟩
def dkwJ10_coder_0 : List UInt8 := [178, 0, 38, 153, 0, 10, 42, 180, 0, 15, 167, 0, 4, 4, 172]
abbrev dktJ10_coder_0 : List UInt8 := dkwJ10_coder_0 ++ []
theorem dksJ10_coder_0 : cJ10_coder.data.toList.drop 0 = dktJ10_coder_0 := by decide +kernel
theorem dJ10_coder_0 : decode cJ10_coder 0 = .ok (.getstatic 38, 3) := dk_178 0 38 (dk_at dksJ10_coder_0 0 rfl rfl)
theorem dJ10_coder_3 : decode cJ10_coder 3 = .ok (.ifCond .eq 10, 3) := dk_153 0 10 (dk_at dksJ10_coder_0 3 rfl rfl)
theorem dJ10_coder_6 : decode cJ10_coder 6 = .ok (.aload_n 0, 1) := dk_42 (dk_at dksJ10_coder_0 6 rfl rfl)
theorem dJ10_coder_7 : decode cJ10_coder 7 = .ok (.getfield 15, 3) := dk_180 0 15 (dk_at dksJ10_coder_0 7 rfl rfl)
theorem dJ10_coder_10 : decode cJ10_coder 10 = .ok (.goto 4, 3) := dk_167 0 4 (dk_at dksJ10_coder_0 10 rfl rfl)
theorem dJ10_coder_13 : decode cJ10_coder 13 = .ok (.iconst 1, 1) := dk_4 (dk_at dksJ10_coder_0 13 rfl rfl)
theorem dJ10_coder_14 : decode cJ10_coder 14 = .ok (.ireturn, 1) := dk_172 (dk_at dksJ10_coder_0 14 rfl rfl)
abbrev cJ10_checkBoundsOffCount : ByteArray := prog_42_method_157_code
def yJ10_checkBoundsOffCount : MethodName := ⟨RJ10, "checkBoundsOffCount", "(III)I"⟩
def dkwJ10_checkBoundsOffCount_0 : List UInt8 := [26, 27, 28, 178, 4, 29, 184, 4, 41, 172]
abbrev dktJ10_checkBoundsOffCount_0 : List UInt8 := dkwJ10_checkBoundsOffCount_0 ++ []
theorem dksJ10_checkBoundsOffCount_0 : cJ10_checkBoundsOffCount.data.toList.drop 0 = dktJ10_checkBoundsOffCount_0 := by decide +kernel
theorem dJ10_checkBoundsOffCount_0 : decode cJ10_checkBoundsOffCount 0 = .ok (.iload_n 0, 1) := dk_26 (dk_at dksJ10_checkBoundsOffCount_0 0 rfl rfl)
theorem dJ10_checkBoundsOffCount_1 : decode cJ10_checkBoundsOffCount 1 = .ok (.iload_n 1, 1) := dk_27 (dk_at dksJ10_checkBoundsOffCount_0 1 rfl rfl)
theorem dJ10_checkBoundsOffCount_2 : decode cJ10_checkBoundsOffCount 2 = .ok (.iload_n 2, 1) := dk_28 (dk_at dksJ10_checkBoundsOffCount_0 2 rfl rfl)
theorem dJ10_checkBoundsOffCount_3 : decode cJ10_checkBoundsOffCount 3 = .ok (.getstatic 1053, 3) := dk_178 4 29 (dk_at dksJ10_checkBoundsOffCount_0 3 rfl rfl)
theorem dJ10_checkBoundsOffCount_6 : decode cJ10_checkBoundsOffCount 6 = .ok (.invokestatic 1065, 3) := dk_184 4 41 (dk_at dksJ10_checkBoundsOffCount_0 6 rfl rfl)
theorem dJ10_checkBoundsOffCount_9 : decode cJ10_checkBoundsOffCount 9 = .ok (.ireturn, 1) := dk_172 (dk_at dksJ10_checkBoundsOffCount_0 9 rfl rfl)
abbrev cJ10_getBytes : ByteArray := prog_42_method_147_code
def yJ10_getBytes : MethodName := ⟨RJ10, "getBytes", "([BIB)V"⟩
def dkwJ10_getBytes_1 : List UInt8 := [184, 0, 212, 167, 0, 18, 42, 180, 0, 9, 3, 43, 28, 42, 180, 0, 9, 190, 184, 0, 106, 177]
abbrev dktJ10_getBytes_1 : List UInt8 := dkwJ10_getBytes_1 ++ []
def dkwJ10_getBytes_0 : List UInt8 := [42, 182, 1, 79, 29, 160, 0, 23, 42, 180, 0, 9, 3, 43, 28, 29, 120, 42, 180, 0, 9, 190]
abbrev dktJ10_getBytes_0 : List UInt8 := dkwJ10_getBytes_0 ++ dktJ10_getBytes_1
theorem dksJ10_getBytes_0 : cJ10_getBytes.data.toList.drop 0 = dktJ10_getBytes_0 := by decide +kernel
theorem dksJ10_getBytes_1 : cJ10_getBytes.data.toList.drop 22 = dktJ10_getBytes_1 := dk_seg dksJ10_getBytes_0 22 rfl rfl
theorem dJ10_getBytes_0 : decode cJ10_getBytes 0 = .ok (.aload_n 0, 1) := dk_42 (dk_at dksJ10_getBytes_0 0 rfl rfl)
theorem dJ10_getBytes_1 : decode cJ10_getBytes 1 = .ok (.invokevirtual 335, 3) := dk_182 1 79 (dk_at dksJ10_getBytes_0 1 rfl rfl)
theorem dJ10_getBytes_4 : decode cJ10_getBytes 4 = .ok (.iload_n 3, 1) := dk_29 (dk_at dksJ10_getBytes_0 4 rfl rfl)
theorem dJ10_getBytes_5 : decode cJ10_getBytes 5 = .ok (.if_icmp .ne 23, 3) := dk_160 0 23 (dk_at dksJ10_getBytes_0 5 rfl rfl)
theorem dJ10_getBytes_8 : decode cJ10_getBytes 8 = .ok (.aload_n 0, 1) := dk_42 (dk_at dksJ10_getBytes_0 8 rfl rfl)
theorem dJ10_getBytes_9 : decode cJ10_getBytes 9 = .ok (.getfield 9, 3) := dk_180 0 9 (dk_at dksJ10_getBytes_0 9 rfl rfl)
theorem dJ10_getBytes_12 : decode cJ10_getBytes 12 = .ok (.iconst 0, 1) := dk_3 (dk_at dksJ10_getBytes_0 12 rfl rfl)
theorem dJ10_getBytes_13 : decode cJ10_getBytes 13 = .ok (.aload_n 1, 1) := dk_43 (dk_at dksJ10_getBytes_0 13 rfl rfl)
theorem dJ10_getBytes_14 : decode cJ10_getBytes 14 = .ok (.iload_n 2, 1) := dk_28 (dk_at dksJ10_getBytes_0 14 rfl rfl)
theorem dJ10_getBytes_15 : decode cJ10_getBytes 15 = .ok (.iload_n 3, 1) := dk_29 (dk_at dksJ10_getBytes_0 15 rfl rfl)
theorem dJ10_getBytes_16 : decode cJ10_getBytes 16 = .ok (.ishl, 1) := dk_120 (dk_at dksJ10_getBytes_0 16 rfl rfl)
theorem dJ10_getBytes_17 : decode cJ10_getBytes 17 = .ok (.aload_n 0, 1) := dk_42 (dk_at dksJ10_getBytes_0 17 rfl rfl)
theorem dJ10_getBytes_18 : decode cJ10_getBytes 18 = .ok (.getfield 9, 3) := dk_180 0 9 (dk_at dksJ10_getBytes_0 18 rfl rfl)
theorem dJ10_getBytes_21 : decode cJ10_getBytes 21 = .ok (.arraylength, 1) := dk_190 (dk_at dksJ10_getBytes_0 21 rfl rfl)
theorem dJ10_getBytes_22 : decode cJ10_getBytes 22 = .ok (.invokestatic 212, 3) := dk_184 0 212 (dk_at dksJ10_getBytes_1 0 rfl rfl)
theorem dJ10_getBytes_25 : decode cJ10_getBytes 25 = .ok (.goto 18, 3) := dk_167 0 18 (dk_at dksJ10_getBytes_1 3 rfl rfl)
theorem dJ10_getBytes_28 : decode cJ10_getBytes 28 = .ok (.aload_n 0, 1) := dk_42 (dk_at dksJ10_getBytes_1 6 rfl rfl)
theorem dJ10_getBytes_29 : decode cJ10_getBytes 29 = .ok (.getfield 9, 3) := dk_180 0 9 (dk_at dksJ10_getBytes_1 7 rfl rfl)
theorem dJ10_getBytes_32 : decode cJ10_getBytes 32 = .ok (.iconst 0, 1) := dk_3 (dk_at dksJ10_getBytes_1 10 rfl rfl)
theorem dJ10_getBytes_33 : decode cJ10_getBytes 33 = .ok (.aload_n 1, 1) := dk_43 (dk_at dksJ10_getBytes_1 11 rfl rfl)
theorem dJ10_getBytes_34 : decode cJ10_getBytes 34 = .ok (.iload_n 2, 1) := dk_28 (dk_at dksJ10_getBytes_1 12 rfl rfl)
theorem dJ10_getBytes_35 : decode cJ10_getBytes 35 = .ok (.aload_n 0, 1) := dk_42 (dk_at dksJ10_getBytes_1 13 rfl rfl)
theorem dJ10_getBytes_36 : decode cJ10_getBytes 36 = .ok (.getfield 9, 3) := dk_180 0 9 (dk_at dksJ10_getBytes_1 14 rfl rfl)
theorem dJ10_getBytes_39 : decode cJ10_getBytes 39 = .ok (.arraylength, 1) := dk_190 (dk_at dksJ10_getBytes_1 17 rfl rfl)
theorem dJ10_getBytes_40 : decode cJ10_getBytes 40 = .ok (.invokestatic 106, 3) := dk_184 0 106 (dk_at dksJ10_getBytes_1 18 rfl rfl)
theorem dJ10_getBytes_43 : decode cJ10_getBytes 43 = .ok (.return_, 1) := dk_177 (dk_at dksJ10_getBytes_1 21 rfl rfl)
abbrev cJ10_equals : ByteArray := prog_42_method_66_code
def yJ10_equals : MethodName := ⟨RJ10, "equals", "(Ljava/lang/Object;)Z"⟩
def dkwJ10_equals_2 : List UInt8 := [184, 2, 29, 153, 0, 7, 4, 167, 0, 4, 3, 172]
abbrev dktJ10_equals_2 : List UInt8 := dkwJ10_equals_2 ++ []
def dkwJ10_equals_1 : List UInt8 := [153, 0, 14, 42, 180, 0, 15, 44, 180, 0, 15, 160, 0, 21, 42, 180, 0, 9, 44, 180, 0, 9]
abbrev dktJ10_equals_1 : List UInt8 := dkwJ10_equals_1 ++ dktJ10_equals_2
def dkwJ10_equals_0 : List UInt8 := [42, 43, 166, 0, 5, 4, 172, 43, 193, 0, 10, 153, 0, 43, 43, 192, 0, 10, 77, 178, 0, 38]
abbrev dktJ10_equals_0 : List UInt8 := dkwJ10_equals_0 ++ dktJ10_equals_1
theorem dksJ10_equals_0 : cJ10_equals.data.toList.drop 0 = dktJ10_equals_0 := by decide +kernel
theorem dksJ10_equals_1 : cJ10_equals.data.toList.drop 22 = dktJ10_equals_1 := dk_seg dksJ10_equals_0 22 rfl rfl
theorem dksJ10_equals_2 : cJ10_equals.data.toList.drop 44 = dktJ10_equals_2 := dk_seg dksJ10_equals_1 22 rfl rfl
theorem dJ10_equals_0 : decode cJ10_equals 0 = .ok (.aload_n 0, 1) := dk_42 (dk_at dksJ10_equals_0 0 rfl rfl)
theorem dJ10_equals_1 : decode cJ10_equals 1 = .ok (.aload_n 1, 1) := dk_43 (dk_at dksJ10_equals_0 1 rfl rfl)
theorem dJ10_equals_2 : decode cJ10_equals 2 = .ok (.if_acmp .ne 5, 3) := dk_166 0 5 (dk_at dksJ10_equals_0 2 rfl rfl)
theorem dJ10_equals_5 : decode cJ10_equals 5 = .ok (.iconst 1, 1) := dk_4 (dk_at dksJ10_equals_0 5 rfl rfl)
theorem dJ10_equals_6 : decode cJ10_equals 6 = .ok (.ireturn, 1) := dk_172 (dk_at dksJ10_equals_0 6 rfl rfl)
theorem dJ10_equals_7 : decode cJ10_equals 7 = .ok (.aload_n 1, 1) := dk_43 (dk_at dksJ10_equals_0 7 rfl rfl)
theorem dJ10_equals_8 : decode cJ10_equals 8 = .ok (.instanceof 10, 3) := dk_193 0 10 (dk_at dksJ10_equals_0 8 rfl rfl)
theorem dJ10_equals_11 : decode cJ10_equals 11 = .ok (.ifCond .eq 43, 3) := dk_153 0 43 (dk_at dksJ10_equals_0 11 rfl rfl)
theorem dJ10_equals_14 : decode cJ10_equals 14 = .ok (.aload_n 1, 1) := dk_43 (dk_at dksJ10_equals_0 14 rfl rfl)
theorem dJ10_equals_15 : decode cJ10_equals 15 = .ok (.checkcast 10, 3) := dk_192 0 10 (dk_at dksJ10_equals_0 15 rfl rfl)
theorem dJ10_equals_18 : decode cJ10_equals 18 = .ok (.astore_n 2, 1) := dk_77 (dk_at dksJ10_equals_0 18 rfl rfl)
theorem dJ10_equals_19 : decode cJ10_equals 19 = .ok (.getstatic 38, 3) := dk_178 0 38 (dk_at dksJ10_equals_0 19 rfl rfl)
theorem dJ10_equals_22 : decode cJ10_equals 22 = .ok (.ifCond .eq 14, 3) := dk_153 0 14 (dk_at dksJ10_equals_1 0 rfl rfl)
theorem dJ10_equals_25 : decode cJ10_equals 25 = .ok (.aload_n 0, 1) := dk_42 (dk_at dksJ10_equals_1 3 rfl rfl)
theorem dJ10_equals_26 : decode cJ10_equals 26 = .ok (.getfield 15, 3) := dk_180 0 15 (dk_at dksJ10_equals_1 4 rfl rfl)
theorem dJ10_equals_29 : decode cJ10_equals 29 = .ok (.aload_n 2, 1) := dk_44 (dk_at dksJ10_equals_1 7 rfl rfl)
theorem dJ10_equals_30 : decode cJ10_equals 30 = .ok (.getfield 15, 3) := dk_180 0 15 (dk_at dksJ10_equals_1 8 rfl rfl)
theorem dJ10_equals_33 : decode cJ10_equals 33 = .ok (.if_icmp .ne 21, 3) := dk_160 0 21 (dk_at dksJ10_equals_1 11 rfl rfl)
theorem dJ10_equals_36 : decode cJ10_equals 36 = .ok (.aload_n 0, 1) := dk_42 (dk_at dksJ10_equals_1 14 rfl rfl)
theorem dJ10_equals_37 : decode cJ10_equals 37 = .ok (.getfield 9, 3) := dk_180 0 9 (dk_at dksJ10_equals_1 15 rfl rfl)
theorem dJ10_equals_40 : decode cJ10_equals 40 = .ok (.aload_n 2, 1) := dk_44 (dk_at dksJ10_equals_1 18 rfl rfl)
theorem dJ10_equals_41 : decode cJ10_equals 41 = .ok (.getfield 9, 3) := dk_180 0 9 (dk_at dksJ10_equals_1 19 rfl rfl)
theorem dJ10_equals_44 : decode cJ10_equals 44 = .ok (.invokestatic 541, 3) := dk_184 2 29 (dk_at dksJ10_equals_2 0 rfl rfl)
theorem dJ10_equals_47 : decode cJ10_equals 47 = .ok (.ifCond .eq 7, 3) := dk_153 0 7 (dk_at dksJ10_equals_2 3 rfl rfl)
theorem dJ10_equals_50 : decode cJ10_equals 50 = .ok (.iconst 1, 1) := dk_4 (dk_at dksJ10_equals_2 6 rfl rfl)
theorem dJ10_equals_51 : decode cJ10_equals 51 = .ok (.goto 4, 3) := dk_167 0 4 (dk_at dksJ10_equals_2 7 rfl rfl)
theorem dJ10_equals_54 : decode cJ10_equals 54 = .ok (.iconst 0, 1) := dk_3 (dk_at dksJ10_equals_2 10 rfl rfl)
theorem dJ10_equals_55 : decode cJ10_equals 55 = .ok (.ireturn, 1) := dk_172 (dk_at dksJ10_equals_2 11 rfl rfl)
abbrev cJ10_charAt : ByteArray := prog_42_method_56_code
def yJ10_charAt : MethodName := ⟨RJ10, "charAt", "(I)C"⟩
def dkwJ10_charAt_1 : List UInt8 := [172]
abbrev dktJ10_charAt_1 : List UInt8 := dkwJ10_charAt_1 ++ []
def dkwJ10_charAt_0 : List UInt8 := [42, 182, 1, 236, 153, 0, 12, 42, 180, 0, 9, 27, 184, 1, 239, 172, 42, 180, 0, 9, 27, 184, 1, 242]
abbrev dktJ10_charAt_0 : List UInt8 := dkwJ10_charAt_0 ++ dktJ10_charAt_1
theorem dksJ10_charAt_0 : cJ10_charAt.data.toList.drop 0 = dktJ10_charAt_0 := by decide +kernel
theorem dksJ10_charAt_1 : cJ10_charAt.data.toList.drop 24 = dktJ10_charAt_1 := dk_seg dksJ10_charAt_0 24 rfl rfl
theorem dJ10_charAt_0 : decode cJ10_charAt 0 = .ok (.aload_n 0, 1) := dk_42 (dk_at dksJ10_charAt_0 0 rfl rfl)
theorem dJ10_charAt_1 : decode cJ10_charAt 1 = .ok (.invokevirtual 492, 3) := dk_182 1 236 (dk_at dksJ10_charAt_0 1 rfl rfl)
theorem dJ10_charAt_4 : decode cJ10_charAt 4 = .ok (.ifCond .eq 12, 3) := dk_153 0 12 (dk_at dksJ10_charAt_0 4 rfl rfl)
theorem dJ10_charAt_7 : decode cJ10_charAt 7 = .ok (.aload_n 0, 1) := dk_42 (dk_at dksJ10_charAt_0 7 rfl rfl)
theorem dJ10_charAt_8 : decode cJ10_charAt 8 = .ok (.getfield 9, 3) := dk_180 0 9 (dk_at dksJ10_charAt_0 8 rfl rfl)
theorem dJ10_charAt_11 : decode cJ10_charAt 11 = .ok (.iload_n 1, 1) := dk_27 (dk_at dksJ10_charAt_0 11 rfl rfl)
theorem dJ10_charAt_12 : decode cJ10_charAt 12 = .ok (.invokestatic 495, 3) := dk_184 1 239 (dk_at dksJ10_charAt_0 12 rfl rfl)
theorem dJ10_charAt_15 : decode cJ10_charAt 15 = .ok (.ireturn, 1) := dk_172 (dk_at dksJ10_charAt_0 15 rfl rfl)
theorem dJ10_charAt_16 : decode cJ10_charAt 16 = .ok (.aload_n 0, 1) := dk_42 (dk_at dksJ10_charAt_0 16 rfl rfl)
theorem dJ10_charAt_17 : decode cJ10_charAt 17 = .ok (.getfield 9, 3) := dk_180 0 9 (dk_at dksJ10_charAt_0 17 rfl rfl)
theorem dJ10_charAt_20 : decode cJ10_charAt 20 = .ok (.iload_n 1, 1) := dk_27 (dk_at dksJ10_charAt_0 20 rfl rfl)
theorem dJ10_charAt_21 : decode cJ10_charAt 21 = .ok (.invokestatic 498, 3) := dk_184 1 242 (dk_at dksJ10_charAt_0 21 rfl rfl)
theorem dJ10_charAt_24 : decode cJ10_charAt 24 = .ok (.ireturn, 1) := dk_172 (dk_at dksJ10_charAt_1 0 rfl rfl)
abbrev cJ10_isLatin1 : ByteArray := prog_42_method_154_code
def yJ10_isLatin1 : MethodName := ⟨RJ10, "isLatin1", "()Z"⟩
def dkwJ10_isLatin1_0 : List UInt8 := [178, 0, 38, 153, 0, 14, 42, 180, 0, 15, 154, 0, 7, 4, 167, 0, 4, 3, 172]
abbrev dktJ10_isLatin1_0 : List UInt8 := dkwJ10_isLatin1_0 ++ []
theorem dksJ10_isLatin1_0 : cJ10_isLatin1.data.toList.drop 0 = dktJ10_isLatin1_0 := by decide +kernel
theorem dJ10_isLatin1_0 : decode cJ10_isLatin1 0 = .ok (.getstatic 38, 3) := dk_178 0 38 (dk_at dksJ10_isLatin1_0 0 rfl rfl)
theorem dJ10_isLatin1_3 : decode cJ10_isLatin1 3 = .ok (.ifCond .eq 14, 3) := dk_153 0 14 (dk_at dksJ10_isLatin1_0 3 rfl rfl)
theorem dJ10_isLatin1_6 : decode cJ10_isLatin1 6 = .ok (.aload_n 0, 1) := dk_42 (dk_at dksJ10_isLatin1_0 6 rfl rfl)
theorem dJ10_isLatin1_7 : decode cJ10_isLatin1 7 = .ok (.getfield 15, 3) := dk_180 0 15 (dk_at dksJ10_isLatin1_0 7 rfl rfl)
theorem dJ10_isLatin1_10 : decode cJ10_isLatin1 10 = .ok (.ifCond .ne 7, 3) := dk_154 0 7 (dk_at dksJ10_isLatin1_0 10 rfl rfl)
theorem dJ10_isLatin1_13 : decode cJ10_isLatin1 13 = .ok (.iconst 1, 1) := dk_4 (dk_at dksJ10_isLatin1_0 13 rfl rfl)
theorem dJ10_isLatin1_14 : decode cJ10_isLatin1 14 = .ok (.goto 4, 3) := dk_167 0 4 (dk_at dksJ10_isLatin1_0 14 rfl rfl)
theorem dJ10_isLatin1_17 : decode cJ10_isLatin1 17 = .ok (.iconst 0, 1) := dk_3 (dk_at dksJ10_isLatin1_0 17 rfl rfl)
theorem dJ10_isLatin1_18 : decode cJ10_isLatin1 18 = .ok (.ireturn, 1) := dk_172 (dk_at dksJ10_isLatin1_0 18 rfl rfl)
abbrev cJ10_checkIndex : ByteArray := prog_42_method_155_code
def yJ10_checkIndex : MethodName := ⟨RJ10, "checkIndex", "(II)V"⟩
def dkwJ10_checkIndex_0 : List UInt8 := [26, 27, 178, 4, 29, 184, 4, 35, 87, 177]
abbrev dktJ10_checkIndex_0 : List UInt8 := dkwJ10_checkIndex_0 ++ []
theorem dksJ10_checkIndex_0 : cJ10_checkIndex.data.toList.drop 0 = dktJ10_checkIndex_0 := by decide +kernel
theorem dJ10_checkIndex_0 : decode cJ10_checkIndex 0 = .ok (.iload_n 0, 1) := dk_26 (dk_at dksJ10_checkIndex_0 0 rfl rfl)
theorem dJ10_checkIndex_1 : decode cJ10_checkIndex 1 = .ok (.iload_n 1, 1) := dk_27 (dk_at dksJ10_checkIndex_0 1 rfl rfl)
theorem dJ10_checkIndex_2 : decode cJ10_checkIndex 2 = .ok (.getstatic 1053, 3) := dk_178 4 29 (dk_at dksJ10_checkIndex_0 2 rfl rfl)
theorem dJ10_checkIndex_5 : decode cJ10_checkIndex 5 = .ok (.invokestatic 1059, 3) := dk_184 4 35 (dk_at dksJ10_checkIndex_0 5 rfl rfl)
theorem dJ10_checkIndex_8 : decode cJ10_checkIndex 8 = .ok (.pop, 1) := dk_87 (dk_at dksJ10_checkIndex_0 8 rfl rfl)
theorem dJ10_checkIndex_9 : decode cJ10_checkIndex 9 = .ok (.return_, 1) := dk_177 (dk_at dksJ10_checkIndex_0 9 rfl rfl)
abbrev cJ10_value : ByteArray := prog_42_method_153_code
def yJ10_value : MethodName := ⟨RJ10, "value", "()[B"⟩
theorem dJ10_value_0 : decode cJ10_value 0 = .ok (.aload_n 0, 1) := by decide +kernel
theorem dJ10_value_1 : decode cJ10_value 1 = .ok (.getfield 9, 3) := by decide +kernel
theorem dJ10_value_4 : decode cJ10_value 4 = .ok (.areturn, 1) := by decide +kernel
abbrev cJ10_init_3 : ByteArray := prog_42_method_151_code
def yJ10_init_3 : MethodName := ⟨RJ10, "<init>", "([BB)V"⟩
def dkwJ10_init_3_0 : List UInt8 := [42, 183, 0, 1, 42, 43, 181, 0, 9, 42, 28, 181, 0, 15, 177]
abbrev dktJ10_init_3_0 : List UInt8 := dkwJ10_init_3_0 ++ []
theorem dksJ10_init_3_0 : cJ10_init_3.data.toList.drop 0 = dktJ10_init_3_0 := by decide +kernel
theorem dJ10_init_3_0 : decode cJ10_init_3 0 = .ok (.aload_n 0, 1) := dk_42 (dk_at dksJ10_init_3_0 0 rfl rfl)
theorem dJ10_init_3_1 : decode cJ10_init_3 1 = .ok (.invokespecial 1, 3) := dk_183 0 1 (dk_at dksJ10_init_3_0 1 rfl rfl)
theorem dJ10_init_3_4 : decode cJ10_init_3 4 = .ok (.aload_n 0, 1) := dk_42 (dk_at dksJ10_init_3_0 4 rfl rfl)
theorem dJ10_init_3_5 : decode cJ10_init_3 5 = .ok (.aload_n 1, 1) := dk_43 (dk_at dksJ10_init_3_0 5 rfl rfl)
theorem dJ10_init_3_6 : decode cJ10_init_3 6 = .ok (.putfield 9, 3) := dk_181 0 9 (dk_at dksJ10_init_3_0 6 rfl rfl)
theorem dJ10_init_3_9 : decode cJ10_init_3 9 = .ok (.aload_n 0, 1) := dk_42 (dk_at dksJ10_init_3_0 9 rfl rfl)
theorem dJ10_init_3_10 : decode cJ10_init_3 10 = .ok (.iload_n 2, 1) := dk_28 (dk_at dksJ10_init_3_0 10 rfl rfl)
theorem dJ10_init_3_11 : decode cJ10_init_3 11 = .ok (.putfield 15, 3) := dk_181 0 15 (dk_at dksJ10_init_3_0 11 rfl rfl)
theorem dJ10_init_3_14 : decode cJ10_init_3 14 = .ok (.return_, 1) := dk_177 (dk_at dksJ10_init_3_0 14 rfl rfl)
theorem q78 : (Jvm.Cond.initialized "java/lang/String") ∈ lw_all := lw_g (lw_at lw_m1 13 rfl) rfl
theorem q251 : (Jvm.Cond.laysStatic "java/lang/String" "COMPACT_STRINGS" "Z") ∈ lw_tbl := lw_at lw_m1 186 rfl
theorem q262 : (Jvm.Cond.fieldLink "java/lang/String" (1048 : Nat) "java/lang/AbstractStringBuilder" "maybeLatin1" "Z") ∈ lw_all := lw_g (lw_at lw_m1 197 rfl) rfl
theorem q524 : (Jvm.Cond.instantiable "java/lang/String" (4 : Nat)) ∈ lw_all := lw_g (lw_at lw_m2 219 rfl) rfl
theorem q526 : (Jvm.Cond.instanceMethod ({ cls := "java/lang/String", name := "<init>", desc := "(Ljava/lang/StringBuilder;)V" } : Jvm.MethodName)) ∈ lw_all := lw_g (lw_at lw_m2 221 rfl) rfl
theorem q527 : (Jvm.Cond.code ({ cls := "java/lang/String", name := "<init>", desc := "(Ljava/lang/StringBuilder;)V" } : Jvm.MethodName) prog_42_method_53_code (2 : Nat) (Option.none : Option Jvm.ClassFile.FieldType)) ∈ lw_all := lw_g (lw_at lw_m2 222 rfl) rfl
theorem q528 : (Jvm.Cond.methodLink "java/lang/String" (489 : Nat) ({ cls := "java/lang/String", name := "<init>", desc := "(Ljava/lang/AbstractStringBuilder;Ljava/lang/Void;)V" } : Jvm.MethodName)) ∈ lw_all := lw_g (lw_at lw_m2 223 rfl) rfl
theorem q529 : (Jvm.Cond.instanceMethod ({ cls := "java/lang/String", name := "<init>", desc := "(Ljava/lang/AbstractStringBuilder;Ljava/lang/Void;)V" } : Jvm.MethodName)) ∈ lw_all := lw_g (lw_at lw_m2 224 rfl) rfl
theorem q530 : (Jvm.Cond.code ({ cls := "java/lang/String", name := "<init>", desc := "(Ljava/lang/AbstractStringBuilder;Ljava/lang/Void;)V" } : Jvm.MethodName) prog_42_method_150_code (5 : Nat) (Option.none : Option Jvm.ClassFile.FieldType)) ∈ lw_all := lw_g (lw_at lw_m2 225 rfl) rfl
theorem q531 : (Jvm.Cond.methodLink "java/lang/String" (1 : Nat) ({ cls := "java/lang/Object", name := "<init>", desc := "()V" } : Jvm.MethodName)) ∈ lw_all := lw_g (lw_at lw_m2 226 rfl) rfl
theorem q532 : (Jvm.Cond.methodLink "java/lang/String" (552 : Nat) ({ cls := "java/lang/AbstractStringBuilder", name := "getValue", desc := "()[B" } : Jvm.MethodName)) ∈ lw_all := lw_g (lw_at lw_m2 227 rfl) rfl
theorem q537 : (Jvm.Cond.methodLink "java/lang/String" (549 : Nat) ({ cls := "java/lang/AbstractStringBuilder", name := "length", desc := "()I" } : Jvm.MethodName)) ∈ lw_all := lw_g (lw_at lw_m2 232 rfl) rfl
theorem q545 : (Jvm.Cond.methodLink "java/lang/String" (1047 : Nat) ({ cls := "java/lang/AbstractStringBuilder", name := "isLatin1", desc := "()Z" } : Jvm.MethodName)) ∈ lw_all := lw_g (lw_at lw_m3 0 rfl) rfl
theorem q550 : (Jvm.Cond.methodLink "java/lang/String" (54 : Nat) ({ cls := "java/util/Arrays", name := "copyOfRange", desc := "([BII)[B" } : Jvm.MethodName)) ∈ lw_all := lw_g (lw_at lw_m3 5 rfl) rfl
theorem q629 : (Jvm.Cond.static ({ cls := "java/lang/String", name := "checkBoundsBeginEnd", desc := "(III)V" } : Jvm.MethodName)) ∈ lw_all := lw_g (lw_at lw_m3 84 rfl) rfl
theorem q630 : (Jvm.Cond.code ({ cls := "java/lang/String", name := "checkBoundsBeginEnd", desc := "(III)V" } : Jvm.MethodName) prog_42_method_158_code (3 : Nat) (Option.none : Option Jvm.ClassFile.FieldType)) ∈ lw_all := lw_g (lw_at lw_m3 85 rfl) rfl
theorem q631 : (Jvm.Cond.fieldLink "java/lang/String" (1053 : Nat) "jdk/internal/util/Preconditions" "SIOOBE_FORMATTER" "Ljava/util/function/BiFunction;") ∈ lw_all := lw_g (lw_at lw_m3 86 rfl) rfl
theorem q633 : (Jvm.Cond.methodLink "java/lang/String" (1062 : Nat) ({ cls := "jdk/internal/util/Preconditions", name := "checkFromToIndex", desc := "(IIILjava/util/function/BiFunction;)I" } : Jvm.MethodName)) ∈ lw_all := lw_g (lw_at lw_m3 88 rfl) rfl
theorem q666 : (Jvm.Cond.instanceMethod ({ cls := "java/lang/String", name := "length", desc := "()I" } : Jvm.MethodName)) ∈ lw_all := lw_g (lw_at lw_m3 121 rfl) rfl
theorem q667 : (Jvm.Cond.selects "java/lang/String" ({ cls := "java/lang/String", name := "length", desc := "()I" } : Jvm.MethodName) ({ cls := "java/lang/String", name := "length", desc := "()I" } : Jvm.MethodName)) ∈ lw_all := lw_g (lw_at lw_m3 122 rfl) rfl
theorem q668 : (Jvm.Cond.code ({ cls := "java/lang/String", name := "length", desc := "()I" } : Jvm.MethodName) prog_42_method_54_code (1 : Nat) (Option.some Jvm.ClassFile.FieldType.int)) ∈ lw_all := lw_g (lw_at lw_m3 123 rfl) rfl
theorem q669 : (Jvm.Cond.methodLink "java/lang/String" (335 : Nat) ({ cls := "java/lang/String", name := "coder", desc := "()B" } : Jvm.MethodName)) ∈ lw_all := lw_g (lw_at lw_m3 124 rfl) rfl
theorem q670 : (Jvm.Cond.instanceMethod ({ cls := "java/lang/String", name := "coder", desc := "()B" } : Jvm.MethodName)) ∈ lw_all := lw_g (lw_at lw_m3 125 rfl) rfl
theorem q671 : (Jvm.Cond.selects "java/lang/String" ({ cls := "java/lang/String", name := "coder", desc := "()B" } : Jvm.MethodName) ({ cls := "java/lang/String", name := "coder", desc := "()B" } : Jvm.MethodName)) ∈ lw_all := lw_g (lw_at lw_m3 126 rfl) rfl
theorem q672 : (Jvm.Cond.code ({ cls := "java/lang/String", name := "coder", desc := "()B" } : Jvm.MethodName) prog_42_method_152_code (1 : Nat) (Option.some Jvm.ClassFile.FieldType.byte)) ∈ lw_all := lw_g (lw_at lw_m3 127 rfl) rfl
theorem q673 : (Jvm.Cond.fieldLink "java/lang/String" (38 : Nat) "java/lang/String" "COMPACT_STRINGS" "Z") ∈ lw_all := lw_g (lw_at lw_m3 128 rfl) rfl
theorem q697 : (Jvm.Cond.static ({ cls := "java/lang/String", name := "checkBoundsOffCount", desc := "(III)I" } : Jvm.MethodName)) ∈ lw_all := lw_g (lw_at lw_m3 152 rfl) rfl
theorem q698 : (Jvm.Cond.code ({ cls := "java/lang/String", name := "checkBoundsOffCount", desc := "(III)I" } : Jvm.MethodName) prog_42_method_157_code (3 : Nat) (Option.some Jvm.ClassFile.FieldType.int)) ∈ lw_all := lw_g (lw_at lw_m3 153 rfl) rfl
theorem q699 : (Jvm.Cond.methodLink "java/lang/String" (1065 : Nat) ({ cls := "jdk/internal/util/Preconditions", name := "checkFromIndexSize", desc := "(IIILjava/util/function/BiFunction;)I" } : Jvm.MethodName)) ∈ lw_all := lw_g (lw_at lw_m3 154 rfl) rfl
theorem q703 : (Jvm.Cond.instanceMethod ({ cls := "java/lang/String", name := "getBytes", desc := "([BIB)V" } : Jvm.MethodName)) ∈ lw_all := lw_g (lw_at lw_m3 158 rfl) rfl
theorem q704 : (Jvm.Cond.selects "java/lang/String" ({ cls := "java/lang/String", name := "getBytes", desc := "([BIB)V" } : Jvm.MethodName) ({ cls := "java/lang/String", name := "getBytes", desc := "([BIB)V" } : Jvm.MethodName)) ∈ lw_all := lw_g (lw_at lw_m3 159 rfl) rfl
theorem q705 : (Jvm.Cond.code ({ cls := "java/lang/String", name := "getBytes", desc := "([BIB)V" } : Jvm.MethodName) prog_42_method_147_code (4 : Nat) (Option.none : Option Jvm.ClassFile.FieldType)) ∈ lw_all := lw_g (lw_at lw_m3 160 rfl) rfl
theorem q706 : (Jvm.Cond.methodLink "java/lang/String" (212 : Nat) ({ cls := "java/lang/System", name := "arraycopy", desc := "(Ljava/lang/Object;ILjava/lang/Object;II)V" } : Jvm.MethodName)) ∈ lw_all := lw_g (lw_at lw_m3 161 rfl) rfl
theorem q707 : (Jvm.Cond.methodLink "java/lang/String" (106 : Nat) ({ cls := "java/lang/StringLatin1", name := "inflate", desc := "([BI[BII)V" } : Jvm.MethodName)) ∈ lw_all := lw_g (lw_at lw_m3 162 rfl) rfl
theorem q723 : (Jvm.Cond.methodLink "java/lang/String" (1051 : Nat) ({ cls := "java/lang/StringUTF16", name := "compress", desc := "([BII)[B" } : Jvm.MethodName)) ∈ lw_all := lw_g (lw_at lw_m3 178 rfl) rfl
theorem q733 : (Jvm.Cond.methodLink "java/lang/String" (47 : Nat) ({ cls := "java/lang/StringUTF16", name := "coderFromArrayLen", desc := "([BI)B" } : Jvm.MethodName)) ∈ lw_all := lw_g (lw_at lw_m3 188 rfl) rfl
theorem q736 : (Jvm.Cond.fieldLink "java/lang/String" (9 : Nat) "java/lang/String" "value" "[B") ∈ lw_all := lw_g (lw_at lw_m3 191 rfl) rfl
theorem q737 : (Jvm.Cond.fieldLink "java/lang/String" (15 : Nat) "java/lang/String" "coder" "B") ∈ lw_all := lw_g (lw_at lw_m3 192 rfl) rfl
theorem q738 : (Jvm.Cond.laysFinal "java/lang/String" "java/lang/String" "value" "[B") ∈ lw_all := lw_g (lw_at lw_m3 193 rfl) rfl
theorem q739 : (Jvm.Cond.soleField "java/lang/String" "value") ∈ lw_all := lw_g (lw_at lw_m3 194 rfl) rfl
theorem q740 : (Jvm.Cond.laysFinal "java/lang/String" "java/lang/String" "coder" "B") ∈ lw_all := lw_g (lw_at lw_m3 195 rfl) rfl
theorem q741 : (Jvm.Cond.soleField "java/lang/String" "coder") ∈ lw_all := lw_g (lw_at lw_m3 196 rfl) rfl
theorem q742 : (Jvm.Cond.lays "java/lang/String" "java/lang/String" "hash" "I") ∈ lw_all := lw_g (lw_at lw_m3 197 rfl) rfl
theorem q743 : (Jvm.Cond.soleField "java/lang/String" "hash") ∈ lw_all := lw_g (lw_at lw_m3 198 rfl) rfl
theorem q744 : (Jvm.Cond.lays "java/lang/String" "java/lang/String" "hashIsZero" "Z") ∈ lw_all := lw_g (lw_at lw_m3 199 rfl) rfl
theorem q745 : (Jvm.Cond.soleField "java/lang/String" "hashIsZero") ∈ lw_all := lw_g (lw_at lw_m3 200 rfl) rfl
theorem q746 : (Jvm.Cond.superclass "java/lang/String" "java/lang/Object") ∈ lw_all := lw_g (lw_at lw_m3 201 rfl) rfl
theorem q756 : (Jvm.Cond.instanceMethod ({ cls := "java/lang/String", name := "equals", desc := "(Ljava/lang/Object;)Z" } : Jvm.MethodName)) ∈ lw_all := lw_g (lw_at lw_m3 211 rfl) rfl
theorem q757 : (Jvm.Cond.selects "java/lang/String" ({ cls := "java/lang/String", name := "equals", desc := "(Ljava/lang/Object;)Z" } : Jvm.MethodName) ({ cls := "java/lang/String", name := "equals", desc := "(Ljava/lang/Object;)Z" } : Jvm.MethodName)) ∈ lw_all := lw_g (lw_at lw_m3 212 rfl) rfl
theorem q758 : (Jvm.Cond.code ({ cls := "java/lang/String", name := "equals", desc := "(Ljava/lang/Object;)Z" } : Jvm.MethodName) prog_42_method_66_code (3 : Nat) (Option.some Jvm.ClassFile.FieldType.boolean)) ∈ lw_all := lw_g (lw_at lw_m3 213 rfl) rfl
theorem q759 : (Jvm.Cond.classLink "java/lang/String" (10 : Nat) "java/lang/String") ∈ lw_all := lw_g (lw_at lw_m3 214 rfl) rfl
theorem q760 : (Jvm.Cond.methodLink "java/lang/String" (541 : Nat) ({ cls := "java/lang/StringLatin1", name := "equals", desc := "([B[B)Z" } : Jvm.MethodName)) ∈ lw_all := lw_g (lw_at lw_m3 215 rfl) rfl
theorem q765 : (Jvm.Cond.instanceMethod ({ cls := "java/lang/String", name := "charAt", desc := "(I)C" } : Jvm.MethodName)) ∈ lw_all := lw_g (lw_at lw_m3 220 rfl) rfl
theorem q766 : (Jvm.Cond.selects "java/lang/String" ({ cls := "java/lang/String", name := "charAt", desc := "(I)C" } : Jvm.MethodName) ({ cls := "java/lang/String", name := "charAt", desc := "(I)C" } : Jvm.MethodName)) ∈ lw_all := lw_g (lw_at lw_m3 221 rfl) rfl
theorem q767 : (Jvm.Cond.code ({ cls := "java/lang/String", name := "charAt", desc := "(I)C" } : Jvm.MethodName) prog_42_method_56_code (2 : Nat) (Option.some Jvm.ClassFile.FieldType.char)) ∈ lw_all := lw_g (lw_at lw_m3 222 rfl) rfl
theorem q768 : (Jvm.Cond.methodLink "java/lang/String" (492 : Nat) ({ cls := "java/lang/String", name := "isLatin1", desc := "()Z" } : Jvm.MethodName)) ∈ lw_all := lw_g (lw_at lw_m3 223 rfl) rfl
theorem q769 : (Jvm.Cond.instanceMethod ({ cls := "java/lang/String", name := "isLatin1", desc := "()Z" } : Jvm.MethodName)) ∈ lw_all := lw_g (lw_at lw_m3 224 rfl) rfl
theorem q770 : (Jvm.Cond.selects "java/lang/String" ({ cls := "java/lang/String", name := "isLatin1", desc := "()Z" } : Jvm.MethodName) ({ cls := "java/lang/String", name := "isLatin1", desc := "()Z" } : Jvm.MethodName)) ∈ lw_all := lw_g (lw_at lw_m3 225 rfl) rfl
theorem q771 : (Jvm.Cond.code ({ cls := "java/lang/String", name := "isLatin1", desc := "()Z" } : Jvm.MethodName) prog_42_method_154_code (1 : Nat) (Option.some Jvm.ClassFile.FieldType.boolean)) ∈ lw_all := lw_g (lw_at lw_m3 226 rfl) rfl
theorem q772 : (Jvm.Cond.methodLink "java/lang/String" (495 : Nat) ({ cls := "java/lang/StringLatin1", name := "charAt", desc := "([BI)C" } : Jvm.MethodName)) ∈ lw_all := lw_g (lw_at lw_m3 227 rfl) rfl
theorem q776 : (Jvm.Cond.static ({ cls := "java/lang/String", name := "checkIndex", desc := "(II)V" } : Jvm.MethodName)) ∈ lw_all := lw_g (lw_at lw_m3 231 rfl) rfl
theorem q777 : (Jvm.Cond.code ({ cls := "java/lang/String", name := "checkIndex", desc := "(II)V" } : Jvm.MethodName) prog_42_method_155_code (2 : Nat) (Option.none : Option Jvm.ClassFile.FieldType)) ∈ lw_all := lw_g (lw_at lw_m3 232 rfl) rfl
theorem q778 : (Jvm.Cond.methodLink "java/lang/String" (1059 : Nat) ({ cls := "jdk/internal/util/Preconditions", name := "checkIndex", desc := "(IILjava/util/function/BiFunction;)I" } : Jvm.MethodName)) ∈ lw_all := lw_g (lw_at lw_m3 233 rfl) rfl
theorem q779 : (Jvm.Cond.methodLink "java/lang/String" (498 : Nat) ({ cls := "java/lang/StringUTF16", name := "charAt", desc := "([BI)C" } : Jvm.MethodName)) ∈ lw_all := lw_g (lw_at lw_m3 234 rfl) rfl
theorem q879 : (Jvm.Cond.selects "java/lang/String" ({ cls := "java/lang/Object", name := "getClass", desc := "()Ljava/lang/Class;" } : Jvm.MethodName) ({ cls := "java/lang/Object", name := "getClass", desc := "()Ljava/lang/Class;" } : Jvm.MethodName)) ∈ lw_all := lw_g (lw_at lw_m4 94 rfl) rfl
theorem q1205 : (Jvm.Cond.castable "java/lang/String" "java/lang/CharSequence") ∈ lw_tbl := lw_at lw_m5 180 rfl
theorem q1206 : (Jvm.Cond.selects "java/lang/String" ({ cls := "java/lang/CharSequence", name := "length", desc := "()I" } : Jvm.MethodName) ({ cls := "java/lang/String", name := "length", desc := "()I" } : Jvm.MethodName)) ∈ lw_all := lw_g (lw_at lw_m5 181 rfl) rfl
theorem q1207 : (Jvm.Cond.unhidden "java/lang/String" "length" "()I") ∈ lw_tbl := lw_at lw_m5 182 rfl
theorem q1208 : (Jvm.Cond.publicMethod ({ cls := "java/lang/String", name := "length", desc := "()I" } : Jvm.MethodName)) ∈ lw_tbl := lw_at lw_m5 183 rfl
theorem q1235 : (Jvm.Cond.instanceMethod ({ cls := "java/lang/String", name := "value", desc := "()[B" } : Jvm.MethodName)) ∈ lw_all := lw_g (lw_at lw_m5 210 rfl) rfl
theorem q1236 : (Jvm.Cond.selects "java/lang/String" ({ cls := "java/lang/String", name := "value", desc := "()[B" } : Jvm.MethodName) ({ cls := "java/lang/String", name := "value", desc := "()[B" } : Jvm.MethodName)) ∈ lw_all := lw_g (lw_at lw_m5 211 rfl) rfl
theorem q1237 : (Jvm.Cond.code ({ cls := "java/lang/String", name := "value", desc := "()[B" } : Jvm.MethodName) prog_42_method_153_code (1 : Nat) (Option.some (Jvm.ClassFile.FieldType.array Jvm.ClassFile.FieldType.byte))) ∈ lw_all := lw_g (lw_at lw_m5 212 rfl) rfl
theorem q1246 : (Jvm.Cond.selects "java/lang/String" ({ cls := "java/lang/CharSequence", name := "charAt", desc := "(I)C" } : Jvm.MethodName) ({ cls := "java/lang/String", name := "charAt", desc := "(I)C" } : Jvm.MethodName)) ∈ lw_all := lw_g (lw_at lw_m5 221 rfl) rfl
theorem q1247 : (Jvm.Cond.unhidden "java/lang/String" "charAt" "(I)C") ∈ lw_tbl := lw_at lw_m5 222 rfl
theorem q1248 : (Jvm.Cond.publicMethod ({ cls := "java/lang/String", name := "charAt", desc := "(I)C" } : Jvm.MethodName)) ∈ lw_tbl := lw_at lw_m5 223 rfl
theorem q1386 : (Jvm.Cond.instanceMethod ({ cls := "java/lang/String", name := "<init>", desc := "([BB)V" } : Jvm.MethodName)) ∈ lw_all := lw_g (lw_at lw_m6 121 rfl) rfl
theorem q1387 : (Jvm.Cond.code ({ cls := "java/lang/String", name := "<init>", desc := "([BB)V" } : Jvm.MethodName) prog_42_method_151_code (3 : Nat) (Option.none : Option Jvm.ClassFile.FieldType)) ∈ lw_all := lw_g (lw_at lw_m6 122 rfl) rfl
theorem q2447 : (Jvm.Cond.castable "java/lang/String" "java/lang/Object") ∈ lw_tbl := lw_at lw_m10 222 rfl
theorem in_J10 : ∀ w ∈ wsJ100, w ∈ lw_all := lw_in wsJ100 [738, 740, 742, 744] (by decide +kernel) (by decide +kernel)
/-! java/util/Arrays -/
set_option maxRecDepth 100000
def RJ16 : String := "java/util/Arrays"
abbrev cJ16_copyOfRange : ByteArray := prog_54_method_132_code
def yJ16_copyOfRange : MethodName := ⟨RJ16, "copyOfRange", "([BII)[B"⟩
def dkwJ16_copyOfRange_1 : List UInt8 := [176]
abbrev dktJ16_copyOfRange_1 : List UInt8 := dkwJ16_copyOfRange_1 ++ []
def dkwJ16_copyOfRange_0 : List UInt8 := [27, 154, 0, 9, 28, 42, 190, 159, 0, 10, 42, 27, 28, 184, 1, 83, 176, 42, 182, 1, 54, 192, 1, 55]
abbrev dktJ16_copyOfRange_0 : List UInt8 := dkwJ16_copyOfRange_0 ++ dktJ16_copyOfRange_1
theorem dksJ16_copyOfRange_0 : cJ16_copyOfRange.data.toList.drop 0 = dktJ16_copyOfRange_0 := by decide +kernel
theorem dksJ16_copyOfRange_1 : cJ16_copyOfRange.data.toList.drop 24 = dktJ16_copyOfRange_1 := dk_seg dksJ16_copyOfRange_0 24 rfl rfl
theorem dJ16_copyOfRange_0 : decode cJ16_copyOfRange 0 = .ok (.iload_n 1, 1) := dk_27 (dk_at dksJ16_copyOfRange_0 0 rfl rfl)
theorem dJ16_copyOfRange_1 : decode cJ16_copyOfRange 1 = .ok (.ifCond .ne 9, 3) := dk_154 0 9 (dk_at dksJ16_copyOfRange_0 1 rfl rfl)
theorem dJ16_copyOfRange_4 : decode cJ16_copyOfRange 4 = .ok (.iload_n 2, 1) := dk_28 (dk_at dksJ16_copyOfRange_0 4 rfl rfl)
theorem dJ16_copyOfRange_5 : decode cJ16_copyOfRange 5 = .ok (.aload_n 0, 1) := dk_42 (dk_at dksJ16_copyOfRange_0 5 rfl rfl)
theorem dJ16_copyOfRange_6 : decode cJ16_copyOfRange 6 = .ok (.arraylength, 1) := dk_190 (dk_at dksJ16_copyOfRange_0 6 rfl rfl)
theorem dJ16_copyOfRange_7 : decode cJ16_copyOfRange 7 = .ok (.if_icmp .eq 10, 3) := dk_159 0 10 (dk_at dksJ16_copyOfRange_0 7 rfl rfl)
theorem dJ16_copyOfRange_10 : decode cJ16_copyOfRange 10 = .ok (.aload_n 0, 1) := dk_42 (dk_at dksJ16_copyOfRange_0 10 rfl rfl)
theorem dJ16_copyOfRange_11 : decode cJ16_copyOfRange 11 = .ok (.iload_n 1, 1) := dk_27 (dk_at dksJ16_copyOfRange_0 11 rfl rfl)
theorem dJ16_copyOfRange_12 : decode cJ16_copyOfRange 12 = .ok (.iload_n 2, 1) := dk_28 (dk_at dksJ16_copyOfRange_0 12 rfl rfl)
theorem dJ16_copyOfRange_13 : decode cJ16_copyOfRange 13 = .ok (.invokestatic 339, 3) := dk_184 1 83 (dk_at dksJ16_copyOfRange_0 13 rfl rfl)
theorem dJ16_copyOfRange_16 : decode cJ16_copyOfRange 16 = .ok (.areturn, 1) := dk_176 (dk_at dksJ16_copyOfRange_0 16 rfl rfl)
theorem dJ16_copyOfRange_17 : decode cJ16_copyOfRange 17 = .ok (.aload_n 0, 1) := dk_42 (dk_at dksJ16_copyOfRange_0 17 rfl rfl)
theorem dJ16_copyOfRange_18 : decode cJ16_copyOfRange 18 = .ok (.invokevirtual 310, 3) := dk_182 1 54 (dk_at dksJ16_copyOfRange_0 18 rfl rfl)
theorem dJ16_copyOfRange_21 : decode cJ16_copyOfRange 21 = .ok (.checkcast 311, 3) := dk_192 1 55 (dk_at dksJ16_copyOfRange_0 21 rfl rfl)
theorem dJ16_copyOfRange_24 : decode cJ16_copyOfRange 24 = .ok (.areturn, 1) := dk_176 (dk_at dksJ16_copyOfRange_1 0 rfl rfl)
abbrev cJ16_copyOfRangeByte : ByteArray := prog_54_method_133_code
def yJ16_copyOfRangeByte : MethodName := ⟨RJ16, "copyOfRangeByte", "([BII)[B"⟩
def dkwJ16_copyOfRangeByte_1 : List UInt8 := [184, 1, 48, 184, 0, 150, 25, 4, 176]
abbrev dktJ16_copyOfRangeByte_1 : List UInt8 := dkwJ16_copyOfRangeByte_1 ++ []
def dkwJ16_copyOfRangeByte_0 : List UInt8 := [27, 28, 184, 1, 87, 28, 27, 100, 62, 29, 188, 8, 58, 4, 42, 27, 25, 4, 3, 42, 190, 27, 100, 29]
abbrev dktJ16_copyOfRangeByte_0 : List UInt8 := dkwJ16_copyOfRangeByte_0 ++ dktJ16_copyOfRangeByte_1
theorem dksJ16_copyOfRangeByte_0 : cJ16_copyOfRangeByte.data.toList.drop 0 = dktJ16_copyOfRangeByte_0 := by decide +kernel
theorem dksJ16_copyOfRangeByte_1 : cJ16_copyOfRangeByte.data.toList.drop 24 = dktJ16_copyOfRangeByte_1 := dk_seg dksJ16_copyOfRangeByte_0 24 rfl rfl
theorem dJ16_copyOfRangeByte_0 : decode cJ16_copyOfRangeByte 0 = .ok (.iload_n 1, 1) := dk_27 (dk_at dksJ16_copyOfRangeByte_0 0 rfl rfl)
theorem dJ16_copyOfRangeByte_1 : decode cJ16_copyOfRangeByte 1 = .ok (.iload_n 2, 1) := dk_28 (dk_at dksJ16_copyOfRangeByte_0 1 rfl rfl)
theorem dJ16_copyOfRangeByte_2 : decode cJ16_copyOfRangeByte 2 = .ok (.invokestatic 343, 3) := dk_184 1 87 (dk_at dksJ16_copyOfRangeByte_0 2 rfl rfl)
theorem dJ16_copyOfRangeByte_5 : decode cJ16_copyOfRangeByte 5 = .ok (.iload_n 2, 1) := dk_28 (dk_at dksJ16_copyOfRangeByte_0 5 rfl rfl)
theorem dJ16_copyOfRangeByte_6 : decode cJ16_copyOfRangeByte 6 = .ok (.iload_n 1, 1) := dk_27 (dk_at dksJ16_copyOfRangeByte_0 6 rfl rfl)
theorem dJ16_copyOfRangeByte_7 : decode cJ16_copyOfRangeByte 7 = .ok (.isub, 1) := dk_100 (dk_at dksJ16_copyOfRangeByte_0 7 rfl rfl)
theorem dJ16_copyOfRangeByte_8 : decode cJ16_copyOfRangeByte 8 = .ok (.istore_n 3, 1) := dk_62 (dk_at dksJ16_copyOfRangeByte_0 8 rfl rfl)
theorem dJ16_copyOfRangeByte_9 : decode cJ16_copyOfRangeByte 9 = .ok (.iload_n 3, 1) := dk_29 (dk_at dksJ16_copyOfRangeByte_0 9 rfl rfl)
theorem dJ16_copyOfRangeByte_10 : decode cJ16_copyOfRangeByte 10 = .ok (.newarray .byte, 2) := dk_188_8 (dk_at dksJ16_copyOfRangeByte_0 10 rfl rfl)
theorem dJ16_copyOfRangeByte_12 : decode cJ16_copyOfRangeByte 12 = .ok (.astore 4, 2) := dk_58 4 (dk_at dksJ16_copyOfRangeByte_0 12 rfl rfl)
theorem dJ16_copyOfRangeByte_14 : decode cJ16_copyOfRangeByte 14 = .ok (.aload_n 0, 1) := dk_42 (dk_at dksJ16_copyOfRangeByte_0 14 rfl rfl)
theorem dJ16_copyOfRangeByte_15 : decode cJ16_copyOfRangeByte 15 = .ok (.iload_n 1, 1) := dk_27 (dk_at dksJ16_copyOfRangeByte_0 15 rfl rfl)
theorem dJ16_copyOfRangeByte_16 : decode cJ16_copyOfRangeByte 16 = .ok (.aload 4, 2) := dk_25 4 (dk_at dksJ16_copyOfRangeByte_0 16 rfl rfl)
theorem dJ16_copyOfRangeByte_18 : decode cJ16_copyOfRangeByte 18 = .ok (.iconst 0, 1) := dk_3 (dk_at dksJ16_copyOfRangeByte_0 18 rfl rfl)
theorem dJ16_copyOfRangeByte_19 : decode cJ16_copyOfRangeByte 19 = .ok (.aload_n 0, 1) := dk_42 (dk_at dksJ16_copyOfRangeByte_0 19 rfl rfl)
theorem dJ16_copyOfRangeByte_20 : decode cJ16_copyOfRangeByte 20 = .ok (.arraylength, 1) := dk_190 (dk_at dksJ16_copyOfRangeByte_0 20 rfl rfl)
theorem dJ16_copyOfRangeByte_21 : decode cJ16_copyOfRangeByte 21 = .ok (.iload_n 1, 1) := dk_27 (dk_at dksJ16_copyOfRangeByte_0 21 rfl rfl)
theorem dJ16_copyOfRangeByte_22 : decode cJ16_copyOfRangeByte 22 = .ok (.isub, 1) := dk_100 (dk_at dksJ16_copyOfRangeByte_0 22 rfl rfl)
theorem dJ16_copyOfRangeByte_23 : decode cJ16_copyOfRangeByte 23 = .ok (.iload_n 3, 1) := dk_29 (dk_at dksJ16_copyOfRangeByte_0 23 rfl rfl)
theorem dJ16_copyOfRangeByte_24 : decode cJ16_copyOfRangeByte 24 = .ok (.invokestatic 304, 3) := dk_184 1 48 (dk_at dksJ16_copyOfRangeByte_1 0 rfl rfl)
theorem dJ16_copyOfRangeByte_27 : decode cJ16_copyOfRangeByte 27 = .ok (.invokestatic 150, 3) := dk_184 0 150 (dk_at dksJ16_copyOfRangeByte_1 3 rfl rfl)
theorem dJ16_copyOfRangeByte_30 : decode cJ16_copyOfRangeByte 30 = .ok (.aload 4, 2) := dk_25 4 (dk_at dksJ16_copyOfRangeByte_1 6 rfl rfl)
theorem dJ16_copyOfRangeByte_32 : decode cJ16_copyOfRangeByte 32 = .ok (.areturn, 1) := dk_176 (dk_at dksJ16_copyOfRangeByte_1 8 rfl rfl)
abbrev cJ16_checkLength : ByteArray := prog_54_method_131_code
def yJ16_checkLength : MethodName := ⟨RJ16, "checkLength", "(II)V"⟩
def dkwJ16_checkLength_1 : List UInt8 := [182, 0, 50, 27, 182, 0, 54, 182, 0, 61, 183, 0, 65, 191, 177]
abbrev dktJ16_checkLength_1 : List UInt8 := dkwJ16_checkLength_1 ++ []
def dkwJ16_checkLength_0 : List UInt8 := [27, 26, 162, 0, 35, 187, 0, 43, 89, 187, 0, 45, 89, 183, 0, 47, 26, 182, 0, 54, 19, 1, 81]
abbrev dktJ16_checkLength_0 : List UInt8 := dkwJ16_checkLength_0 ++ dktJ16_checkLength_1
theorem dksJ16_checkLength_0 : cJ16_checkLength.data.toList.drop 0 = dktJ16_checkLength_0 := by decide +kernel
theorem dksJ16_checkLength_1 : cJ16_checkLength.data.toList.drop 23 = dktJ16_checkLength_1 := dk_seg dksJ16_checkLength_0 23 rfl rfl
theorem dJ16_checkLength_0 : decode cJ16_checkLength 0 = .ok (.iload_n 1, 1) := dk_27 (dk_at dksJ16_checkLength_0 0 rfl rfl)
theorem dJ16_checkLength_1 : decode cJ16_checkLength 1 = .ok (.iload_n 0, 1) := dk_26 (dk_at dksJ16_checkLength_0 1 rfl rfl)
theorem dJ16_checkLength_2 : decode cJ16_checkLength 2 = .ok (.if_icmp .ge 35, 3) := dk_162 0 35 (dk_at dksJ16_checkLength_0 2 rfl rfl)
theorem dJ16_checkLength_5 : decode cJ16_checkLength 5 = .ok (.new 43, 3) := dk_187 0 43 (dk_at dksJ16_checkLength_0 5 rfl rfl)
theorem dJ16_checkLength_8 : decode cJ16_checkLength 8 = .ok (.dup, 1) := dk_89 (dk_at dksJ16_checkLength_0 8 rfl rfl)
theorem dJ16_checkLength_9 : decode cJ16_checkLength 9 = .ok (.new 45, 3) := dk_187 0 45 (dk_at dksJ16_checkLength_0 9 rfl rfl)
theorem dJ16_checkLength_12 : decode cJ16_checkLength 12 = .ok (.dup, 1) := dk_89 (dk_at dksJ16_checkLength_0 12 rfl rfl)
theorem dJ16_checkLength_13 : decode cJ16_checkLength 13 = .ok (.invokespecial 47, 3) := dk_183 0 47 (dk_at dksJ16_checkLength_0 13 rfl rfl)
theorem dJ16_checkLength_16 : decode cJ16_checkLength 16 = .ok (.iload_n 0, 1) := dk_26 (dk_at dksJ16_checkLength_0 16 rfl rfl)
theorem dJ16_checkLength_17 : decode cJ16_checkLength 17 = .ok (.invokevirtual 54, 3) := dk_182 0 54 (dk_at dksJ16_checkLength_0 17 rfl rfl)
theorem dJ16_checkLength_20 : decode cJ16_checkLength 20 = .ok (.ldc_w 337, 3) := dk_19 1 81 (dk_at dksJ16_checkLength_0 20 rfl rfl)
theorem dJ16_checkLength_23 : decode cJ16_checkLength 23 = .ok (.invokevirtual 50, 3) := dk_182 0 50 (dk_at dksJ16_checkLength_1 0 rfl rfl)
theorem dJ16_checkLength_26 : decode cJ16_checkLength 26 = .ok (.iload_n 1, 1) := dk_27 (dk_at dksJ16_checkLength_1 3 rfl rfl)
theorem dJ16_checkLength_27 : decode cJ16_checkLength 27 = .ok (.invokevirtual 54, 3) := dk_182 0 54 (dk_at dksJ16_checkLength_1 4 rfl rfl)
theorem dJ16_checkLength_30 : decode cJ16_checkLength 30 = .ok (.invokevirtual 61, 3) := dk_182 0 61 (dk_at dksJ16_checkLength_1 7 rfl rfl)
theorem dJ16_checkLength_33 : decode cJ16_checkLength 33 = .ok (.invokespecial 65, 3) := dk_183 0 65 (dk_at dksJ16_checkLength_1 10 rfl rfl)
theorem dJ16_checkLength_36 : decode cJ16_checkLength 36 = .ok (.athrow, 1) := dk_191 (dk_at dksJ16_checkLength_1 13 rfl rfl)
theorem dJ16_checkLength_37 : decode cJ16_checkLength 37 = .ok (.return_, 1) := dk_177 (dk_at dksJ16_checkLength_1 14 rfl rfl)
abbrev cJ16_copyOf : ByteArray := prog_54_method_121_code
def yJ16_copyOf : MethodName := ⟨RJ16, "copyOf", "([BI)[B"⟩
def dkwJ16_copyOf_1 : List UInt8 := [27, 184, 1, 48, 184, 0, 150, 44, 176]
abbrev dktJ16_copyOf_1 : List UInt8 := dkwJ16_copyOf_1 ++ []
def dkwJ16_copyOf_0 : List UInt8 := [27, 42, 190, 160, 0, 11, 42, 182, 1, 54, 192, 1, 55, 176, 27, 188, 8, 77, 42, 3, 44, 3, 42, 190]
abbrev dktJ16_copyOf_0 : List UInt8 := dkwJ16_copyOf_0 ++ dktJ16_copyOf_1
theorem dksJ16_copyOf_0 : cJ16_copyOf.data.toList.drop 0 = dktJ16_copyOf_0 := by decide +kernel
theorem dksJ16_copyOf_1 : cJ16_copyOf.data.toList.drop 24 = dktJ16_copyOf_1 := dk_seg dksJ16_copyOf_0 24 rfl rfl
theorem dJ16_copyOf_0 : decode cJ16_copyOf 0 = .ok (.iload_n 1, 1) := dk_27 (dk_at dksJ16_copyOf_0 0 rfl rfl)
theorem dJ16_copyOf_1 : decode cJ16_copyOf 1 = .ok (.aload_n 0, 1) := dk_42 (dk_at dksJ16_copyOf_0 1 rfl rfl)
theorem dJ16_copyOf_2 : decode cJ16_copyOf 2 = .ok (.arraylength, 1) := dk_190 (dk_at dksJ16_copyOf_0 2 rfl rfl)
theorem dJ16_copyOf_3 : decode cJ16_copyOf 3 = .ok (.if_icmp .ne 11, 3) := dk_160 0 11 (dk_at dksJ16_copyOf_0 3 rfl rfl)
theorem dJ16_copyOf_6 : decode cJ16_copyOf 6 = .ok (.aload_n 0, 1) := dk_42 (dk_at dksJ16_copyOf_0 6 rfl rfl)
theorem dJ16_copyOf_7 : decode cJ16_copyOf 7 = .ok (.invokevirtual 310, 3) := dk_182 1 54 (dk_at dksJ16_copyOf_0 7 rfl rfl)
theorem dJ16_copyOf_10 : decode cJ16_copyOf 10 = .ok (.checkcast 311, 3) := dk_192 1 55 (dk_at dksJ16_copyOf_0 10 rfl rfl)
theorem dJ16_copyOf_13 : decode cJ16_copyOf 13 = .ok (.areturn, 1) := dk_176 (dk_at dksJ16_copyOf_0 13 rfl rfl)
theorem dJ16_copyOf_14 : decode cJ16_copyOf 14 = .ok (.iload_n 1, 1) := dk_27 (dk_at dksJ16_copyOf_0 14 rfl rfl)
theorem dJ16_copyOf_15 : decode cJ16_copyOf 15 = .ok (.newarray .byte, 2) := dk_188_8 (dk_at dksJ16_copyOf_0 15 rfl rfl)
theorem dJ16_copyOf_17 : decode cJ16_copyOf 17 = .ok (.astore_n 2, 1) := dk_77 (dk_at dksJ16_copyOf_0 17 rfl rfl)
theorem dJ16_copyOf_18 : decode cJ16_copyOf 18 = .ok (.aload_n 0, 1) := dk_42 (dk_at dksJ16_copyOf_0 18 rfl rfl)
theorem dJ16_copyOf_19 : decode cJ16_copyOf 19 = .ok (.iconst 0, 1) := dk_3 (dk_at dksJ16_copyOf_0 19 rfl rfl)
theorem dJ16_copyOf_20 : decode cJ16_copyOf 20 = .ok (.aload_n 2, 1) := dk_44 (dk_at dksJ16_copyOf_0 20 rfl rfl)
theorem dJ16_copyOf_21 : decode cJ16_copyOf 21 = .ok (.iconst 0, 1) := dk_3 (dk_at dksJ16_copyOf_0 21 rfl rfl)
theorem dJ16_copyOf_22 : decode cJ16_copyOf 22 = .ok (.aload_n 0, 1) := dk_42 (dk_at dksJ16_copyOf_0 22 rfl rfl)
theorem dJ16_copyOf_23 : decode cJ16_copyOf 23 = .ok (.arraylength, 1) := dk_190 (dk_at dksJ16_copyOf_0 23 rfl rfl)
theorem dJ16_copyOf_24 : decode cJ16_copyOf 24 = .ok (.iload_n 1, 1) := dk_27 (dk_at dksJ16_copyOf_1 0 rfl rfl)
theorem dJ16_copyOf_25 : decode cJ16_copyOf 25 = .ok (.invokestatic 304, 3) := dk_184 1 48 (dk_at dksJ16_copyOf_1 1 rfl rfl)
theorem dJ16_copyOf_28 : decode cJ16_copyOf 28 = .ok (.invokestatic 150, 3) := dk_184 0 150 (dk_at dksJ16_copyOf_1 4 rfl rfl)
theorem dJ16_copyOf_31 : decode cJ16_copyOf 31 = .ok (.aload_n 2, 1) := dk_44 (dk_at dksJ16_copyOf_1 7 rfl rfl)
theorem dJ16_copyOf_32 : decode cJ16_copyOf 32 = .ok (.areturn, 1) := dk_176 (dk_at dksJ16_copyOf_1 8 rfl rfl)
abbrev cJ16_copyOf_2 : ByteArray := prog_54_method_119_code
def yJ16_copyOf_2 : MethodName := ⟨RJ16, "copyOf", "([Ljava/lang/Object;I)[Ljava/lang/Object;"⟩
def dkwJ16_copyOf_2_0 : List UInt8 := [42, 27, 42, 182, 0, 86, 184, 1, 44, 176]
abbrev dktJ16_copyOf_2_0 : List UInt8 := dkwJ16_copyOf_2_0 ++ []
theorem dksJ16_copyOf_2_0 : cJ16_copyOf_2.data.toList.drop 0 = dktJ16_copyOf_2_0 := by decide +kernel
theorem dJ16_copyOf_2_0 : decode cJ16_copyOf_2 0 = .ok (.aload_n 0, 1) := dk_42 (dk_at dksJ16_copyOf_2_0 0 rfl rfl)
theorem dJ16_copyOf_2_1 : decode cJ16_copyOf_2 1 = .ok (.iload_n 1, 1) := dk_27 (dk_at dksJ16_copyOf_2_0 1 rfl rfl)
theorem dJ16_copyOf_2_2 : decode cJ16_copyOf_2 2 = .ok (.aload_n 0, 1) := dk_42 (dk_at dksJ16_copyOf_2_0 2 rfl rfl)
theorem dJ16_copyOf_2_3 : decode cJ16_copyOf_2 3 = .ok (.invokevirtual 86, 3) := dk_182 0 86 (dk_at dksJ16_copyOf_2_0 3 rfl rfl)
theorem dJ16_copyOf_2_6 : decode cJ16_copyOf_2 6 = .ok (.invokestatic 300, 3) := dk_184 1 44 (dk_at dksJ16_copyOf_2_0 6 rfl rfl)
theorem dJ16_copyOf_2_9 : decode cJ16_copyOf_2 9 = .ok (.areturn, 1) := dk_176 (dk_at dksJ16_copyOf_2_0 9 rfl rfl)
abbrev cJ16_copyOf_3 : ByteArray := prog_54_method_120_code
def yJ16_copyOf_3 : MethodName := ⟨RJ16, "copyOf", "([Ljava/lang/Object;ILjava/lang/Class;)[Ljava/lang/Object;"⟩
def dkwJ16_copyOf_3_1 : List UInt8 := [78, 42, 3, 45, 3, 42, 190, 27, 184, 1, 48, 184, 0, 150, 45, 176]
abbrev dktJ16_copyOf_3_1 : List UInt8 := dkwJ16_copyOf_3_1 ++ []
def dkwJ16_copyOf_3_0 : List UInt8 := [44, 18, 110, 166, 0, 10, 27, 189, 0, 2, 167, 0, 14, 44, 182, 0, 90, 27, 184, 0, 95, 192, 0, 110]
abbrev dktJ16_copyOf_3_0 : List UInt8 := dkwJ16_copyOf_3_0 ++ dktJ16_copyOf_3_1
theorem dksJ16_copyOf_3_0 : cJ16_copyOf_3.data.toList.drop 0 = dktJ16_copyOf_3_0 := by decide +kernel
theorem dksJ16_copyOf_3_1 : cJ16_copyOf_3.data.toList.drop 24 = dktJ16_copyOf_3_1 := dk_seg dksJ16_copyOf_3_0 24 rfl rfl
theorem dJ16_copyOf_3_0 : decode cJ16_copyOf_3 0 = .ok (.aload_n 2, 1) := dk_44 (dk_at dksJ16_copyOf_3_0 0 rfl rfl)
theorem dJ16_copyOf_3_1 : decode cJ16_copyOf_3 1 = .ok (.ldc 110, 2) := dk_18 110 (dk_at dksJ16_copyOf_3_0 1 rfl rfl)
theorem dJ16_copyOf_3_3 : decode cJ16_copyOf_3 3 = .ok (.if_acmp .ne 10, 3) := dk_166 0 10 (dk_at dksJ16_copyOf_3_0 3 rfl rfl)
theorem dJ16_copyOf_3_6 : decode cJ16_copyOf_3 6 = .ok (.iload_n 1, 1) := dk_27 (dk_at dksJ16_copyOf_3_0 6 rfl rfl)
theorem dJ16_copyOf_3_7 : decode cJ16_copyOf_3 7 = .ok (.anewarray 2, 3) := dk_189 0 2 (dk_at dksJ16_copyOf_3_0 7 rfl rfl)
theorem dJ16_copyOf_3_10 : decode cJ16_copyOf_3 10 = .ok (.goto 14, 3) := dk_167 0 14 (dk_at dksJ16_copyOf_3_0 10 rfl rfl)
theorem dJ16_copyOf_3_13 : decode cJ16_copyOf_3 13 = .ok (.aload_n 2, 1) := dk_44 (dk_at dksJ16_copyOf_3_0 13 rfl rfl)
theorem dJ16_copyOf_3_14 : decode cJ16_copyOf_3 14 = .ok (.invokevirtual 90, 3) := dk_182 0 90 (dk_at dksJ16_copyOf_3_0 14 rfl rfl)
theorem dJ16_copyOf_3_17 : decode cJ16_copyOf_3 17 = .ok (.iload_n 1, 1) := dk_27 (dk_at dksJ16_copyOf_3_0 17 rfl rfl)
theorem dJ16_copyOf_3_18 : decode cJ16_copyOf_3 18 = .ok (.invokestatic 95, 3) := dk_184 0 95 (dk_at dksJ16_copyOf_3_0 18 rfl rfl)
theorem dJ16_copyOf_3_21 : decode cJ16_copyOf_3 21 = .ok (.checkcast 110, 3) := dk_192 0 110 (dk_at dksJ16_copyOf_3_0 21 rfl rfl)
theorem dJ16_copyOf_3_24 : decode cJ16_copyOf_3 24 = .ok (.astore_n 3, 1) := dk_78 (dk_at dksJ16_copyOf_3_1 0 rfl rfl)
theorem dJ16_copyOf_3_25 : decode cJ16_copyOf_3 25 = .ok (.aload_n 0, 1) := dk_42 (dk_at dksJ16_copyOf_3_1 1 rfl rfl)
theorem dJ16_copyOf_3_26 : decode cJ16_copyOf_3 26 = .ok (.iconst 0, 1) := dk_3 (dk_at dksJ16_copyOf_3_1 2 rfl rfl)
theorem dJ16_copyOf_3_27 : decode cJ16_copyOf_3 27 = .ok (.aload_n 3, 1) := dk_45 (dk_at dksJ16_copyOf_3_1 3 rfl rfl)
theorem dJ16_copyOf_3_28 : decode cJ16_copyOf_3 28 = .ok (.iconst 0, 1) := dk_3 (dk_at dksJ16_copyOf_3_1 4 rfl rfl)
theorem dJ16_copyOf_3_29 : decode cJ16_copyOf_3 29 = .ok (.aload_n 0, 1) := dk_42 (dk_at dksJ16_copyOf_3_1 5 rfl rfl)
theorem dJ16_copyOf_3_30 : decode cJ16_copyOf_3 30 = .ok (.arraylength, 1) := dk_190 (dk_at dksJ16_copyOf_3_1 6 rfl rfl)
theorem dJ16_copyOf_3_31 : decode cJ16_copyOf_3 31 = .ok (.iload_n 1, 1) := dk_27 (dk_at dksJ16_copyOf_3_1 7 rfl rfl)
theorem dJ16_copyOf_3_32 : decode cJ16_copyOf_3 32 = .ok (.invokestatic 304, 3) := dk_184 1 48 (dk_at dksJ16_copyOf_3_1 8 rfl rfl)
theorem dJ16_copyOf_3_35 : decode cJ16_copyOf_3 35 = .ok (.invokestatic 150, 3) := dk_184 0 150 (dk_at dksJ16_copyOf_3_1 11 rfl rfl)
theorem dJ16_copyOf_3_38 : decode cJ16_copyOf_3 38 = .ok (.aload_n 3, 1) := dk_45 (dk_at dksJ16_copyOf_3_1 14 rfl rfl)
theorem dJ16_copyOf_3_39 : decode cJ16_copyOf_3 39 = .ok (.areturn, 1) := dk_176 (dk_at dksJ16_copyOf_3_1 15 rfl rfl)
abbrev cJ16_fill : ByteArray := prog_54_method_110_code
def yJ16_fill : MethodName := ⟨RJ16, "fill", "([BIIB)V"⟩
def dkwJ16_fill_1 : List UInt8 := [167, 255, 242, 177]
abbrev dktJ16_fill_1 : List UInt8 := dkwJ16_fill_1 ++ []
def dkwJ16_fill_0 : List UInt8 := [42, 190, 27, 28, 184, 0, 13, 27, 54, 4, 21, 4, 28, 162, 0, 14, 42, 21, 4, 29, 84, 132, 4, 1]
abbrev dktJ16_fill_0 : List UInt8 := dkwJ16_fill_0 ++ dktJ16_fill_1
theorem dksJ16_fill_0 : cJ16_fill.data.toList.drop 0 = dktJ16_fill_0 := by decide +kernel
theorem dksJ16_fill_1 : cJ16_fill.data.toList.drop 24 = dktJ16_fill_1 := dk_seg dksJ16_fill_0 24 rfl rfl
theorem dJ16_fill_0 : decode cJ16_fill 0 = .ok (.aload_n 0, 1) := dk_42 (dk_at dksJ16_fill_0 0 rfl rfl)
theorem dJ16_fill_1 : decode cJ16_fill 1 = .ok (.arraylength, 1) := dk_190 (dk_at dksJ16_fill_0 1 rfl rfl)
theorem dJ16_fill_2 : decode cJ16_fill 2 = .ok (.iload_n 1, 1) := dk_27 (dk_at dksJ16_fill_0 2 rfl rfl)
theorem dJ16_fill_3 : decode cJ16_fill 3 = .ok (.iload_n 2, 1) := dk_28 (dk_at dksJ16_fill_0 3 rfl rfl)
theorem dJ16_fill_4 : decode cJ16_fill 4 = .ok (.invokestatic 13, 3) := dk_184 0 13 (dk_at dksJ16_fill_0 4 rfl rfl)
theorem dJ16_fill_7 : decode cJ16_fill 7 = .ok (.iload_n 1, 1) := dk_27 (dk_at dksJ16_fill_0 7 rfl rfl)
theorem dJ16_fill_8 : decode cJ16_fill 8 = .ok (.istore 4, 2) := dk_54 4 (dk_at dksJ16_fill_0 8 rfl rfl)
theorem dJ16_fill_10 : decode cJ16_fill 10 = .ok (.iload 4, 2) := dk_21 4 (dk_at dksJ16_fill_0 10 rfl rfl)
theorem dJ16_fill_12 : decode cJ16_fill 12 = .ok (.iload_n 2, 1) := dk_28 (dk_at dksJ16_fill_0 12 rfl rfl)
theorem dJ16_fill_13 : decode cJ16_fill 13 = .ok (.if_icmp .ge 14, 3) := dk_162 0 14 (dk_at dksJ16_fill_0 13 rfl rfl)
theorem dJ16_fill_16 : decode cJ16_fill 16 = .ok (.aload_n 0, 1) := dk_42 (dk_at dksJ16_fill_0 16 rfl rfl)
theorem dJ16_fill_17 : decode cJ16_fill 17 = .ok (.iload 4, 2) := dk_21 4 (dk_at dksJ16_fill_0 17 rfl rfl)
theorem dJ16_fill_19 : decode cJ16_fill 19 = .ok (.iload_n 3, 1) := dk_29 (dk_at dksJ16_fill_0 19 rfl rfl)
theorem dJ16_fill_20 : decode cJ16_fill 20 = .ok (.bastore, 1) := dk_84 (dk_at dksJ16_fill_0 20 rfl rfl)
theorem dJ16_fill_21 : decode cJ16_fill 21 = .ok (.iinc 4 1, 3) := dk_132 4 1 (dk_at dksJ16_fill_0 21 rfl rfl)
theorem dJ16_fill_24 : decode cJ16_fill 24 = .ok (.goto (-14), 3) := dk_167 255 242 (dk_at dksJ16_fill_1 0 rfl rfl)
theorem dJ16_fill_27 : decode cJ16_fill 27 = .ok (.return_, 1) := dk_177 (dk_at dksJ16_fill_1 3 rfl rfl)
abbrev cJ16_rangeCheck : ByteArray := prog_54_method_30_code
def yJ16_rangeCheck : MethodName := ⟨RJ16, "rangeCheck", "(III)V"⟩
def dkwJ16_rangeCheck_3 : List UInt8 := [183, 0, 70, 191, 177]
abbrev dktJ16_rangeCheck_3 : List UInt8 := dkwJ16_rangeCheck_3 ++ []
def dkwJ16_rangeCheck_2 : List UInt8 := [27, 156, 0, 12, 187, 0, 68, 89, 27, 183, 0, 70, 191, 28, 26, 164, 0, 12, 187, 0, 68, 89, 28]
abbrev dktJ16_rangeCheck_2 : List UInt8 := dkwJ16_rangeCheck_2 ++ dktJ16_rangeCheck_3
def dkwJ16_rangeCheck_1 : List UInt8 := [182, 0, 54, 18, 57, 182, 0, 50, 28, 182, 0, 54, 18, 59, 182, 0, 50, 182, 0, 61, 183, 0, 65, 191]
abbrev dktJ16_rangeCheck_1 : List UInt8 := dkwJ16_rangeCheck_1 ++ dktJ16_rangeCheck_2
def dkwJ16_rangeCheck_0 : List UInt8 := [27, 28, 164, 0, 44, 187, 0, 43, 89, 187, 0, 45, 89, 183, 0, 47, 18, 48, 182, 0, 50, 27]
abbrev dktJ16_rangeCheck_0 : List UInt8 := dkwJ16_rangeCheck_0 ++ dktJ16_rangeCheck_1
theorem dksJ16_rangeCheck_0 : cJ16_rangeCheck.data.toList.drop 0 = dktJ16_rangeCheck_0 := by decide +kernel
theorem dksJ16_rangeCheck_1 : cJ16_rangeCheck.data.toList.drop 22 = dktJ16_rangeCheck_1 := dk_seg dksJ16_rangeCheck_0 22 rfl rfl
theorem dksJ16_rangeCheck_2 : cJ16_rangeCheck.data.toList.drop 46 = dktJ16_rangeCheck_2 := dk_seg dksJ16_rangeCheck_1 24 rfl rfl
theorem dksJ16_rangeCheck_3 : cJ16_rangeCheck.data.toList.drop 69 = dktJ16_rangeCheck_3 := dk_seg dksJ16_rangeCheck_2 23 rfl rfl
theorem dJ16_rangeCheck_0 : decode cJ16_rangeCheck 0 = .ok (.iload_n 1, 1) := dk_27 (dk_at dksJ16_rangeCheck_0 0 rfl rfl)
theorem dJ16_rangeCheck_1 : decode cJ16_rangeCheck 1 = .ok (.iload_n 2, 1) := dk_28 (dk_at dksJ16_rangeCheck_0 1 rfl rfl)
theorem dJ16_rangeCheck_2 : decode cJ16_rangeCheck 2 = .ok (.if_icmp .le 44, 3) := dk_164 0 44 (dk_at dksJ16_rangeCheck_0 2 rfl rfl)
theorem dJ16_rangeCheck_5 : decode cJ16_rangeCheck 5 = .ok (.new 43, 3) := dk_187 0 43 (dk_at dksJ16_rangeCheck_0 5 rfl rfl)
theorem dJ16_rangeCheck_8 : decode cJ16_rangeCheck 8 = .ok (.dup, 1) := dk_89 (dk_at dksJ16_rangeCheck_0 8 rfl rfl)
theorem dJ16_rangeCheck_9 : decode cJ16_rangeCheck 9 = .ok (.new 45, 3) := dk_187 0 45 (dk_at dksJ16_rangeCheck_0 9 rfl rfl)
theorem dJ16_rangeCheck_12 : decode cJ16_rangeCheck 12 = .ok (.dup, 1) := dk_89 (dk_at dksJ16_rangeCheck_0 12 rfl rfl)
theorem dJ16_rangeCheck_13 : decode cJ16_rangeCheck 13 = .ok (.invokespecial 47, 3) := dk_183 0 47 (dk_at dksJ16_rangeCheck_0 13 rfl rfl)
theorem dJ16_rangeCheck_16 : decode cJ16_rangeCheck 16 = .ok (.ldc 48, 2) := dk_18 48 (dk_at dksJ16_rangeCheck_0 16 rfl rfl)
theorem dJ16_rangeCheck_18 : decode cJ16_rangeCheck 18 = .ok (.invokevirtual 50, 3) := dk_182 0 50 (dk_at dksJ16_rangeCheck_0 18 rfl rfl)
theorem dJ16_rangeCheck_21 : decode cJ16_rangeCheck 21 = .ok (.iload_n 1, 1) := dk_27 (dk_at dksJ16_rangeCheck_0 21 rfl rfl)
theorem dJ16_rangeCheck_22 : decode cJ16_rangeCheck 22 = .ok (.invokevirtual 54, 3) := dk_182 0 54 (dk_at dksJ16_rangeCheck_1 0 rfl rfl)
theorem dJ16_rangeCheck_25 : decode cJ16_rangeCheck 25 = .ok (.ldc 57, 2) := dk_18 57 (dk_at dksJ16_rangeCheck_1 3 rfl rfl)
theorem dJ16_rangeCheck_27 : decode cJ16_rangeCheck 27 = .ok (.invokevirtual 50, 3) := dk_182 0 50 (dk_at dksJ16_rangeCheck_1 5 rfl rfl)
theorem dJ16_rangeCheck_30 : decode cJ16_rangeCheck 30 = .ok (.iload_n 2, 1) := dk_28 (dk_at dksJ16_rangeCheck_1 8 rfl rfl)
theorem dJ16_rangeCheck_31 : decode cJ16_rangeCheck 31 = .ok (.invokevirtual 54, 3) := dk_182 0 54 (dk_at dksJ16_rangeCheck_1 9 rfl rfl)
theorem dJ16_rangeCheck_34 : decode cJ16_rangeCheck 34 = .ok (.ldc 59, 2) := dk_18 59 (dk_at dksJ16_rangeCheck_1 12 rfl rfl)
theorem dJ16_rangeCheck_36 : decode cJ16_rangeCheck 36 = .ok (.invokevirtual 50, 3) := dk_182 0 50 (dk_at dksJ16_rangeCheck_1 14 rfl rfl)
theorem dJ16_rangeCheck_39 : decode cJ16_rangeCheck 39 = .ok (.invokevirtual 61, 3) := dk_182 0 61 (dk_at dksJ16_rangeCheck_1 17 rfl rfl)
theorem dJ16_rangeCheck_42 : decode cJ16_rangeCheck 42 = .ok (.invokespecial 65, 3) := dk_183 0 65 (dk_at dksJ16_rangeCheck_1 20 rfl rfl)
theorem dJ16_rangeCheck_45 : decode cJ16_rangeCheck 45 = .ok (.athrow, 1) := dk_191 (dk_at dksJ16_rangeCheck_1 23 rfl rfl)
theorem dJ16_rangeCheck_46 : decode cJ16_rangeCheck 46 = .ok (.iload_n 1, 1) := dk_27 (dk_at dksJ16_rangeCheck_2 0 rfl rfl)
theorem dJ16_rangeCheck_47 : decode cJ16_rangeCheck 47 = .ok (.ifCond .ge 12, 3) := dk_156 0 12 (dk_at dksJ16_rangeCheck_2 1 rfl rfl)
theorem dJ16_rangeCheck_50 : decode cJ16_rangeCheck 50 = .ok (.new 68, 3) := dk_187 0 68 (dk_at dksJ16_rangeCheck_2 4 rfl rfl)
theorem dJ16_rangeCheck_53 : decode cJ16_rangeCheck 53 = .ok (.dup, 1) := dk_89 (dk_at dksJ16_rangeCheck_2 7 rfl rfl)
theorem dJ16_rangeCheck_54 : decode cJ16_rangeCheck 54 = .ok (.iload_n 1, 1) := dk_27 (dk_at dksJ16_rangeCheck_2 8 rfl rfl)
theorem dJ16_rangeCheck_55 : decode cJ16_rangeCheck 55 = .ok (.invokespecial 70, 3) := dk_183 0 70 (dk_at dksJ16_rangeCheck_2 9 rfl rfl)
theorem dJ16_rangeCheck_58 : decode cJ16_rangeCheck 58 = .ok (.athrow, 1) := dk_191 (dk_at dksJ16_rangeCheck_2 12 rfl rfl)
theorem dJ16_rangeCheck_59 : decode cJ16_rangeCheck 59 = .ok (.iload_n 2, 1) := dk_28 (dk_at dksJ16_rangeCheck_2 13 rfl rfl)
theorem dJ16_rangeCheck_60 : decode cJ16_rangeCheck 60 = .ok (.iload_n 0, 1) := dk_26 (dk_at dksJ16_rangeCheck_2 14 rfl rfl)
theorem dJ16_rangeCheck_61 : decode cJ16_rangeCheck 61 = .ok (.if_icmp .le 12, 3) := dk_164 0 12 (dk_at dksJ16_rangeCheck_2 15 rfl rfl)
theorem dJ16_rangeCheck_64 : decode cJ16_rangeCheck 64 = .ok (.new 68, 3) := dk_187 0 68 (dk_at dksJ16_rangeCheck_2 18 rfl rfl)
theorem dJ16_rangeCheck_67 : decode cJ16_rangeCheck 67 = .ok (.dup, 1) := dk_89 (dk_at dksJ16_rangeCheck_2 21 rfl rfl)
theorem dJ16_rangeCheck_68 : decode cJ16_rangeCheck 68 = .ok (.iload_n 2, 1) := dk_28 (dk_at dksJ16_rangeCheck_2 22 rfl rfl)
theorem dJ16_rangeCheck_69 : decode cJ16_rangeCheck 69 = .ok (.invokespecial 70, 3) := dk_183 0 70 (dk_at dksJ16_rangeCheck_3 0 rfl rfl)
theorem dJ16_rangeCheck_72 : decode cJ16_rangeCheck 72 = .ok (.athrow, 1) := dk_191 (dk_at dksJ16_rangeCheck_3 3 rfl rfl)
theorem dJ16_rangeCheck_73 : decode cJ16_rangeCheck 73 = .ok (.return_, 1) := dk_177 (dk_at dksJ16_rangeCheck_3 4 rfl rfl)
theorem q85 : (Jvm.Cond.initialized "java/util/Arrays") ∈ lw_all := lw_g (lw_at lw_m1 20 rfl) rfl
theorem q551 : (Jvm.Cond.static ({ cls := "java/util/Arrays", name := "copyOfRange", desc := "([BII)[B" } : Jvm.MethodName)) ∈ lw_all := lw_g (lw_at lw_m3 6 rfl) rfl
theorem q552 : (Jvm.Cond.code ({ cls := "java/util/Arrays", name := "copyOfRange", desc := "([BII)[B" } : Jvm.MethodName) prog_54_method_132_code (3 : Nat) (Option.some (Jvm.ClassFile.FieldType.array Jvm.ClassFile.FieldType.byte))) ∈ lw_all := lw_g (lw_at lw_m3 7 rfl) rfl
theorem q553 : (Jvm.Cond.methodLink "java/util/Arrays" (339 : Nat) ({ cls := "java/util/Arrays", name := "copyOfRangeByte", desc := "([BII)[B" } : Jvm.MethodName)) ∈ lw_all := lw_g (lw_at lw_m3 8 rfl) rfl
theorem q554 : (Jvm.Cond.static ({ cls := "java/util/Arrays", name := "copyOfRangeByte", desc := "([BII)[B" } : Jvm.MethodName)) ∈ lw_all := lw_g (lw_at lw_m3 9 rfl) rfl
theorem q555 : (Jvm.Cond.code ({ cls := "java/util/Arrays", name := "copyOfRangeByte", desc := "([BII)[B" } : Jvm.MethodName) prog_54_method_133_code (5 : Nat) (Option.some (Jvm.ClassFile.FieldType.array Jvm.ClassFile.FieldType.byte))) ∈ lw_all := lw_g (lw_at lw_m3 10 rfl) rfl
theorem q556 : (Jvm.Cond.methodLink "java/util/Arrays" (343 : Nat) ({ cls := "java/util/Arrays", name := "checkLength", desc := "(II)V" } : Jvm.MethodName)) ∈ lw_all := lw_g (lw_at lw_m3 11 rfl) rfl
theorem q557 : (Jvm.Cond.static ({ cls := "java/util/Arrays", name := "checkLength", desc := "(II)V" } : Jvm.MethodName)) ∈ lw_all := lw_g (lw_at lw_m3 12 rfl) rfl
theorem q558 : (Jvm.Cond.code ({ cls := "java/util/Arrays", name := "checkLength", desc := "(II)V" } : Jvm.MethodName) prog_54_method_131_code (2 : Nat) (Option.none : Option Jvm.ClassFile.FieldType)) ∈ lw_all := lw_g (lw_at lw_m3 13 rfl) rfl
theorem q559 : (Jvm.Cond.classLink "java/util/Arrays" (43 : Nat) "java/lang/IllegalArgumentException") ∈ lw_all := lw_g (lw_at lw_m3 14 rfl) rfl
theorem q568 : (Jvm.Cond.classLink "java/util/Arrays" (45 : Nat) "java/lang/StringBuilder") ∈ lw_all := lw_g (lw_at lw_m3 23 rfl) rfl
theorem q569 : (Jvm.Cond.methodLink "java/util/Arrays" (47 : Nat) ({ cls := "java/lang/StringBuilder", name := "<init>", desc := "()V" } : Jvm.MethodName)) ∈ lw_all := lw_g (lw_at lw_m3 24 rfl) rfl
theorem q570 : (Jvm.Cond.methodLink "java/util/Arrays" (54 : Nat) ({ cls := "java/lang/StringBuilder", name := "append", desc := "(I)Ljava/lang/StringBuilder;" } : Jvm.MethodName)) ∈ lw_all := lw_g (lw_at lw_m3 25 rfl) rfl
theorem q598 : (Jvm.Cond.static ({ cls := "java/util/Arrays", name := "copyOf", desc := "([BI)[B" } : Jvm.MethodName)) ∈ lw_all := lw_g (lw_at lw_m3 53 rfl) rfl
theorem q599 : (Jvm.Cond.code ({ cls := "java/util/Arrays", name := "copyOf", desc := "([BI)[B" } : Jvm.MethodName) prog_54_method_121_code (3 : Nat) (Option.some (Jvm.ClassFile.FieldType.array Jvm.ClassFile.FieldType.byte))) ∈ lw_all := lw_g (lw_at lw_m3 54 rfl) rfl
theorem q600 : (Jvm.Cond.methodLink "java/util/Arrays" (310 : Nat) ({ cls := "[B", name := "clone", desc := "()Ljava/lang/Object;" } : Jvm.MethodName)) ∈ lw_all := lw_g (lw_at lw_m3 55 rfl) rfl
theorem q606 : (Jvm.Cond.classLink "java/util/Arrays" (311 : Nat) "[B") ∈ lw_all := lw_g (lw_at lw_m3 61 rfl) rfl
theorem q607 : (Jvm.Cond.methodLink "java/util/Arrays" (304 : Nat) ({ cls := "java/lang/Math", name := "min", desc := "(II)I" } : Jvm.MethodName)) ∈ lw_all := lw_g (lw_at lw_m3 62 rfl) rfl
theorem q608 : (Jvm.Cond.methodLink "java/util/Arrays" (150 : Nat) ({ cls := "java/lang/System", name := "arraycopy", desc := "(Ljava/lang/Object;ILjava/lang/Object;II)V" } : Jvm.MethodName)) ∈ lw_all := lw_g (lw_at lw_m3 63 rfl) rfl
theorem q650 : (Jvm.Cond.stringRef "java/util/Arrays" (337 : Nat) " > ") ∈ lw_tbl := lw_at lw_m3 105 rfl
theorem q651 : (Jvm.Cond.methodLink "java/util/Arrays" (50 : Nat) ({ cls := "java/lang/StringBuilder", name := "append", desc := "(Ljava/lang/String;)Ljava/lang/StringBuilder;" } : Jvm.MethodName)) ∈ lw_all := lw_g (lw_at lw_m3 106 rfl) rfl
theorem q708 : (Jvm.Cond.methodLink "java/util/Arrays" (61 : Nat) ({ cls := "java/lang/StringBuilder", name := "toString", desc := "()Ljava/lang/String;" } : Jvm.MethodName)) ∈ lw_all := lw_g (lw_at lw_m3 163 rfl) rfl
theorem q709 : (Jvm.Cond.methodLink "java/util/Arrays" (65 : Nat) ({ cls := "java/lang/IllegalArgumentException", name := "<init>", desc := "(Ljava/lang/String;)V" } : Jvm.MethodName)) ∈ lw_all := lw_g (lw_at lw_m3 164 rfl) rfl
theorem q850 : (Jvm.Cond.static ({ cls := "java/util/Arrays", name := "copyOf", desc := "([Ljava/lang/Object;I)[Ljava/lang/Object;" } : Jvm.MethodName)) ∈ lw_all := lw_g (lw_at lw_m4 65 rfl) rfl
theorem q851 : (Jvm.Cond.code ({ cls := "java/util/Arrays", name := "copyOf", desc := "([Ljava/lang/Object;I)[Ljava/lang/Object;" } : Jvm.MethodName) prog_54_method_119_code (2 : Nat) (Option.some (Jvm.ClassFile.FieldType.array (Jvm.ClassFile.FieldType.object "java/lang/Object")))) ∈ lw_all := lw_g (lw_at lw_m4 66 rfl) rfl
theorem q852 : (Jvm.Cond.methodLink "java/util/Arrays" (86 : Nat) ({ cls := "java/lang/Object", name := "getClass", desc := "()Ljava/lang/Class;" } : Jvm.MethodName)) ∈ lw_all := lw_g (lw_at lw_m4 67 rfl) rfl
theorem q885 : (Jvm.Cond.methodLink "java/util/Arrays" (300 : Nat) ({ cls := "java/util/Arrays", name := "copyOf", desc := "([Ljava/lang/Object;ILjava/lang/Class;)[Ljava/lang/Object;" } : Jvm.MethodName)) ∈ lw_all := lw_g (lw_at lw_m4 100 rfl) rfl
theorem q886 : (Jvm.Cond.static ({ cls := "java/util/Arrays", name := "copyOf", desc := "([Ljava/lang/Object;ILjava/lang/Class;)[Ljava/lang/Object;" } : Jvm.MethodName)) ∈ lw_all := lw_g (lw_at lw_m4 101 rfl) rfl
theorem q887 : (Jvm.Cond.code ({ cls := "java/util/Arrays", name := "copyOf", desc := "([Ljava/lang/Object;ILjava/lang/Class;)[Ljava/lang/Object;" } : Jvm.MethodName) prog_54_method_120_code (4 : Nat) (Option.some (Jvm.ClassFile.FieldType.array (Jvm.ClassFile.FieldType.object "java/lang/Object")))) ∈ lw_all := lw_g (lw_at lw_m4 102 rfl) rfl
theorem q888 : (Jvm.Cond.classLink "java/util/Arrays" (110 : Nat) "[Ljava/lang/Object;") ∈ lw_all := lw_g (lw_at lw_m4 103 rfl) rfl
theorem q890 : (Jvm.Cond.classLink "java/util/Arrays" (2 : Nat) "java/lang/Object") ∈ lw_all := lw_g (lw_at lw_m4 105 rfl) rfl
theorem q926 : (Jvm.Cond.static ({ cls := "java/util/Arrays", name := "fill", desc := "([BIIB)V" } : Jvm.MethodName)) ∈ lw_all := lw_g (lw_at lw_m4 141 rfl) rfl
theorem q927 : (Jvm.Cond.code ({ cls := "java/util/Arrays", name := "fill", desc := "([BIIB)V" } : Jvm.MethodName) prog_54_method_110_code (5 : Nat) (Option.none : Option Jvm.ClassFile.FieldType)) ∈ lw_all := lw_g (lw_at lw_m4 142 rfl) rfl
theorem q928 : (Jvm.Cond.methodLink "java/util/Arrays" (13 : Nat) ({ cls := "java/util/Arrays", name := "rangeCheck", desc := "(III)V" } : Jvm.MethodName)) ∈ lw_all := lw_g (lw_at lw_m4 143 rfl) rfl
theorem q929 : (Jvm.Cond.static ({ cls := "java/util/Arrays", name := "rangeCheck", desc := "(III)V" } : Jvm.MethodName)) ∈ lw_all := lw_g (lw_at lw_m4 144 rfl) rfl
theorem q930 : (Jvm.Cond.code ({ cls := "java/util/Arrays", name := "rangeCheck", desc := "(III)V" } : Jvm.MethodName) prog_54_method_30_code (3 : Nat) (Option.none : Option Jvm.ClassFile.FieldType)) ∈ lw_all := lw_g (lw_at lw_m4 145 rfl) rfl
theorem q931 : (Jvm.Cond.stringRef "java/util/Arrays" (48 : Nat) "fromIndex(") ∈ lw_tbl := lw_at lw_m4 146 rfl
theorem q932 : (Jvm.Cond.stringRef "java/util/Arrays" (57 : Nat) ") > toIndex(") ∈ lw_tbl := lw_at lw_m4 147 rfl
theorem q933 : (Jvm.Cond.stringRef "java/util/Arrays" (59 : Nat) ")") ∈ lw_tbl := lw_at lw_m4 148 rfl
theorem q934 : (Jvm.Cond.classLink "java/util/Arrays" (68 : Nat) "java/lang/ArrayIndexOutOfBoundsException") ∈ lw_all := lw_g (lw_at lw_m4 149 rfl) rfl
theorem q945 : (Jvm.Cond.methodLink "java/util/Arrays" (70 : Nat) ({ cls := "java/lang/ArrayIndexOutOfBoundsException", name := "<init>", desc := "(I)V" } : Jvm.MethodName)) ∈ lw_all := lw_g (lw_at lw_m4 160 rfl) rfl
/-! jdk/internal/util/ArraysSupport -/
set_option maxRecDepth 100000
def RJ18 : String := "jdk/internal/util/ArraysSupport"
abbrev cJ18_newLength : ByteArray := prog_62_method_27_code
def yJ18_newLength : MethodName := ⟨RJ18, "newLength", "(III)I"⟩
def dkwJ18_newLength_1 : List UInt8 := [184, 0, 201, 172]
abbrev dktJ18_newLength_1 : List UInt8 := dkwJ18_newLength_1 ++ []
def dkwJ18_newLength_0 : List UInt8 := [26, 27, 28, 184, 0, 194, 96, 62, 3, 29, 162, 0, 11, 29, 18, 200, 163, 0, 5, 29, 172, 26, 27]
abbrev dktJ18_newLength_0 : List UInt8 := dkwJ18_newLength_0 ++ dktJ18_newLength_1
theorem dksJ18_newLength_0 : cJ18_newLength.data.toList.drop 0 = dktJ18_newLength_0 := by decide +kernel
theorem dksJ18_newLength_1 : cJ18_newLength.data.toList.drop 23 = dktJ18_newLength_1 := dk_seg dksJ18_newLength_0 23 rfl rfl
theorem dJ18_newLength_0 : decode cJ18_newLength 0 = .ok (.iload_n 0, 1) := dk_26 (dk_at dksJ18_newLength_0 0 rfl rfl)
theorem dJ18_newLength_1 : decode cJ18_newLength 1 = .ok (.iload_n 1, 1) := dk_27 (dk_at dksJ18_newLength_0 1 rfl rfl)
theorem dJ18_newLength_2 : decode cJ18_newLength 2 = .ok (.iload_n 2, 1) := dk_28 (dk_at dksJ18_newLength_0 2 rfl rfl)
theorem dJ18_newLength_3 : decode cJ18_newLength 3 = .ok (.invokestatic 194, 3) := dk_184 0 194 (dk_at dksJ18_newLength_0 3 rfl rfl)
theorem dJ18_newLength_6 : decode cJ18_newLength 6 = .ok (.iadd, 1) := dk_96 (dk_at dksJ18_newLength_0 6 rfl rfl)
theorem dJ18_newLength_7 : decode cJ18_newLength 7 = .ok (.istore_n 3, 1) := dk_62 (dk_at dksJ18_newLength_0 7 rfl rfl)
theorem dJ18_newLength_8 : decode cJ18_newLength 8 = .ok (.iconst 0, 1) := dk_3 (dk_at dksJ18_newLength_0 8 rfl rfl)
theorem dJ18_newLength_9 : decode cJ18_newLength 9 = .ok (.iload_n 3, 1) := dk_29 (dk_at dksJ18_newLength_0 9 rfl rfl)
theorem dJ18_newLength_10 : decode cJ18_newLength 10 = .ok (.if_icmp .ge 11, 3) := dk_162 0 11 (dk_at dksJ18_newLength_0 10 rfl rfl)
theorem dJ18_newLength_13 : decode cJ18_newLength 13 = .ok (.iload_n 3, 1) := dk_29 (dk_at dksJ18_newLength_0 13 rfl rfl)
theorem dJ18_newLength_14 : decode cJ18_newLength 14 = .ok (.ldc 200, 2) := dk_18 200 (dk_at dksJ18_newLength_0 14 rfl rfl)
theorem dJ18_newLength_16 : decode cJ18_newLength 16 = .ok (.if_icmp .gt 5, 3) := dk_163 0 5 (dk_at dksJ18_newLength_0 16 rfl rfl)
theorem dJ18_newLength_19 : decode cJ18_newLength 19 = .ok (.iload_n 3, 1) := dk_29 (dk_at dksJ18_newLength_0 19 rfl rfl)
theorem dJ18_newLength_20 : decode cJ18_newLength 20 = .ok (.ireturn, 1) := dk_172 (dk_at dksJ18_newLength_0 20 rfl rfl)
theorem dJ18_newLength_21 : decode cJ18_newLength 21 = .ok (.iload_n 0, 1) := dk_26 (dk_at dksJ18_newLength_0 21 rfl rfl)
theorem dJ18_newLength_22 : decode cJ18_newLength 22 = .ok (.iload_n 1, 1) := dk_27 (dk_at dksJ18_newLength_0 22 rfl rfl)
theorem dJ18_newLength_23 : decode cJ18_newLength 23 = .ok (.invokestatic 201, 3) := dk_184 0 201 (dk_at dksJ18_newLength_1 0 rfl rfl)
theorem dJ18_newLength_26 : decode cJ18_newLength 26 = .ok (.ireturn, 1) := dk_172 (dk_at dksJ18_newLength_1 3 rfl rfl)
abbrev cJ18_hugeLength : ByteArray := prog_62_method_28_code
def yJ18_hugeLength : MethodName := ⟨RJ18, "hugeLength", "(II)I"⟩
def dkwJ18_hugeLength_2 : List UInt8 := [191, 28, 18, 200, 163, 0, 6, 18, 200, 172, 28, 172]
abbrev dktJ18_hugeLength_2 : List UInt8 := dkwJ18_hugeLength_2 ++ []
def dkwJ18_hugeLength_1 : List UInt8 := [26, 182, 0, 98, 18, 208, 182, 0, 94, 27, 182, 0, 98, 18, 210, 182, 0, 94, 182, 0, 101, 183, 0, 212]
abbrev dktJ18_hugeLength_1 : List UInt8 := dkwJ18_hugeLength_1 ++ dktJ18_hugeLength_2
def dkwJ18_hugeLength_0 : List UInt8 := [26, 27, 96, 61, 28, 156, 0, 44, 187, 0, 204, 89, 187, 0, 89, 89, 183, 0, 91, 18, 206, 182, 0, 94]
abbrev dktJ18_hugeLength_0 : List UInt8 := dkwJ18_hugeLength_0 ++ dktJ18_hugeLength_1
theorem dksJ18_hugeLength_0 : cJ18_hugeLength.data.toList.drop 0 = dktJ18_hugeLength_0 := by decide +kernel
theorem dksJ18_hugeLength_1 : cJ18_hugeLength.data.toList.drop 24 = dktJ18_hugeLength_1 := dk_seg dksJ18_hugeLength_0 24 rfl rfl
theorem dksJ18_hugeLength_2 : cJ18_hugeLength.data.toList.drop 48 = dktJ18_hugeLength_2 := dk_seg dksJ18_hugeLength_1 24 rfl rfl
theorem dJ18_hugeLength_0 : decode cJ18_hugeLength 0 = .ok (.iload_n 0, 1) := dk_26 (dk_at dksJ18_hugeLength_0 0 rfl rfl)
theorem dJ18_hugeLength_1 : decode cJ18_hugeLength 1 = .ok (.iload_n 1, 1) := dk_27 (dk_at dksJ18_hugeLength_0 1 rfl rfl)
theorem dJ18_hugeLength_2 : decode cJ18_hugeLength 2 = .ok (.iadd, 1) := dk_96 (dk_at dksJ18_hugeLength_0 2 rfl rfl)
theorem dJ18_hugeLength_3 : decode cJ18_hugeLength 3 = .ok (.istore_n 2, 1) := dk_61 (dk_at dksJ18_hugeLength_0 3 rfl rfl)
theorem dJ18_hugeLength_4 : decode cJ18_hugeLength 4 = .ok (.iload_n 2, 1) := dk_28 (dk_at dksJ18_hugeLength_0 4 rfl rfl)
theorem dJ18_hugeLength_5 : decode cJ18_hugeLength 5 = .ok (.ifCond .ge 44, 3) := dk_156 0 44 (dk_at dksJ18_hugeLength_0 5 rfl rfl)
theorem dJ18_hugeLength_8 : decode cJ18_hugeLength 8 = .ok (.new 204, 3) := dk_187 0 204 (dk_at dksJ18_hugeLength_0 8 rfl rfl)
theorem dJ18_hugeLength_11 : decode cJ18_hugeLength 11 = .ok (.dup, 1) := dk_89 (dk_at dksJ18_hugeLength_0 11 rfl rfl)
theorem dJ18_hugeLength_12 : decode cJ18_hugeLength 12 = .ok (.new 89, 3) := dk_187 0 89 (dk_at dksJ18_hugeLength_0 12 rfl rfl)
theorem dJ18_hugeLength_15 : decode cJ18_hugeLength 15 = .ok (.dup, 1) := dk_89 (dk_at dksJ18_hugeLength_0 15 rfl rfl)
theorem dJ18_hugeLength_16 : decode cJ18_hugeLength 16 = .ok (.invokespecial 91, 3) := dk_183 0 91 (dk_at dksJ18_hugeLength_0 16 rfl rfl)
theorem dJ18_hugeLength_19 : decode cJ18_hugeLength 19 = .ok (.ldc 206, 2) := dk_18 206 (dk_at dksJ18_hugeLength_0 19 rfl rfl)
theorem dJ18_hugeLength_21 : decode cJ18_hugeLength 21 = .ok (.invokevirtual 94, 3) := dk_182 0 94 (dk_at dksJ18_hugeLength_0 21 rfl rfl)
theorem dJ18_hugeLength_24 : decode cJ18_hugeLength 24 = .ok (.iload_n 0, 1) := dk_26 (dk_at dksJ18_hugeLength_1 0 rfl rfl)
theorem dJ18_hugeLength_25 : decode cJ18_hugeLength 25 = .ok (.invokevirtual 98, 3) := dk_182 0 98 (dk_at dksJ18_hugeLength_1 1 rfl rfl)
theorem dJ18_hugeLength_28 : decode cJ18_hugeLength 28 = .ok (.ldc 208, 2) := dk_18 208 (dk_at dksJ18_hugeLength_1 4 rfl rfl)
theorem dJ18_hugeLength_30 : decode cJ18_hugeLength 30 = .ok (.invokevirtual 94, 3) := dk_182 0 94 (dk_at dksJ18_hugeLength_1 6 rfl rfl)
theorem dJ18_hugeLength_33 : decode cJ18_hugeLength 33 = .ok (.iload_n 1, 1) := dk_27 (dk_at dksJ18_hugeLength_1 9 rfl rfl)
theorem dJ18_hugeLength_34 : decode cJ18_hugeLength 34 = .ok (.invokevirtual 98, 3) := dk_182 0 98 (dk_at dksJ18_hugeLength_1 10 rfl rfl)
theorem dJ18_hugeLength_37 : decode cJ18_hugeLength 37 = .ok (.ldc 210, 2) := dk_18 210 (dk_at dksJ18_hugeLength_1 13 rfl rfl)
theorem dJ18_hugeLength_39 : decode cJ18_hugeLength 39 = .ok (.invokevirtual 94, 3) := dk_182 0 94 (dk_at dksJ18_hugeLength_1 15 rfl rfl)
theorem dJ18_hugeLength_42 : decode cJ18_hugeLength 42 = .ok (.invokevirtual 101, 3) := dk_182 0 101 (dk_at dksJ18_hugeLength_1 18 rfl rfl)
theorem dJ18_hugeLength_45 : decode cJ18_hugeLength 45 = .ok (.invokespecial 212, 3) := dk_183 0 212 (dk_at dksJ18_hugeLength_1 21 rfl rfl)
theorem dJ18_hugeLength_48 : decode cJ18_hugeLength 48 = .ok (.athrow, 1) := dk_191 (dk_at dksJ18_hugeLength_2 0 rfl rfl)
theorem dJ18_hugeLength_49 : decode cJ18_hugeLength 49 = .ok (.iload_n 2, 1) := dk_28 (dk_at dksJ18_hugeLength_2 1 rfl rfl)
theorem dJ18_hugeLength_50 : decode cJ18_hugeLength 50 = .ok (.ldc 200, 2) := dk_18 200 (dk_at dksJ18_hugeLength_2 2 rfl rfl)
theorem dJ18_hugeLength_52 : decode cJ18_hugeLength 52 = .ok (.if_icmp .gt 6, 3) := dk_163 0 6 (dk_at dksJ18_hugeLength_2 4 rfl rfl)
theorem dJ18_hugeLength_55 : decode cJ18_hugeLength 55 = .ok (.ldc 200, 2) := dk_18 200 (dk_at dksJ18_hugeLength_2 7 rfl rfl)
theorem dJ18_hugeLength_57 : decode cJ18_hugeLength 57 = .ok (.ireturn, 1) := dk_172 (dk_at dksJ18_hugeLength_2 9 rfl rfl)
theorem dJ18_hugeLength_58 : decode cJ18_hugeLength 58 = .ok (.iload_n 2, 1) := dk_28 (dk_at dksJ18_hugeLength_2 10 rfl rfl)
theorem dJ18_hugeLength_59 : decode cJ18_hugeLength 59 = .ok (.ireturn, 1) := dk_172 (dk_at dksJ18_hugeLength_2 11 rfl rfl)
theorem q87 : (Jvm.Cond.initialized "jdk/internal/util/ArraysSupport") ∈ lw_all := lw_g (lw_at lw_m1 22 rfl) rfl
theorem q589 : (Jvm.Cond.static ({ cls := "jdk/internal/util/ArraysSupport", name := "newLength", desc := "(III)I" } : Jvm.MethodName)) ∈ lw_all := lw_g (lw_at lw_m3 44 rfl) rfl
theorem q590 : (Jvm.Cond.code ({ cls := "jdk/internal/util/ArraysSupport", name := "newLength", desc := "(III)I" } : Jvm.MethodName) prog_62_method_27_code (4 : Nat) (Option.some Jvm.ClassFile.FieldType.int)) ∈ lw_all := lw_g (lw_at lw_m3 45 rfl) rfl
theorem q591 : (Jvm.Cond.methodLink "jdk/internal/util/ArraysSupport" (194 : Nat) ({ cls := "java/lang/Math", name := "max", desc := "(II)I" } : Jvm.MethodName)) ∈ lw_all := lw_g (lw_at lw_m3 46 rfl) rfl
theorem q592 : (Jvm.Cond.constant "jdk/internal/util/ArraysSupport" (200 : Nat) (2147483639 : Int32)) ∈ lw_all := lw_g (lw_at lw_m3 47 rfl) rfl
theorem q593 : (Jvm.Cond.methodLink "jdk/internal/util/ArraysSupport" (201 : Nat) ({ cls := "jdk/internal/util/ArraysSupport", name := "hugeLength", desc := "(II)I" } : Jvm.MethodName)) ∈ lw_all := lw_g (lw_at lw_m3 48 rfl) rfl
theorem q594 : (Jvm.Cond.static ({ cls := "jdk/internal/util/ArraysSupport", name := "hugeLength", desc := "(II)I" } : Jvm.MethodName)) ∈ lw_all := lw_g (lw_at lw_m3 49 rfl) rfl
theorem q595 : (Jvm.Cond.code ({ cls := "jdk/internal/util/ArraysSupport", name := "hugeLength", desc := "(II)I" } : Jvm.MethodName) prog_62_method_28_code (3 : Nat) (Option.some Jvm.ClassFile.FieldType.int)) ∈ lw_all := lw_g (lw_at lw_m3 50 rfl) rfl
/-! java/lang/StringLatin1 -/
set_option maxRecDepth 100000
def RJ19 : String := "java/lang/StringLatin1"
abbrev cJ19_inflate : ByteArray := prog_45_method_50_code
def yJ19_inflate : MethodName := ⟨RJ19, "inflate", "([BI[BII)V"⟩
def dkwJ19_inflate_0 : List UInt8 := [42, 27, 44, 29, 21, 4, 184, 0, 240, 177]
abbrev dktJ19_inflate_0 : List UInt8 := dkwJ19_inflate_0 ++ []
theorem dksJ19_inflate_0 : cJ19_inflate.data.toList.drop 0 = dktJ19_inflate_0 := by decide +kernel
theorem dJ19_inflate_0 : decode cJ19_inflate 0 = .ok (.aload_n 0, 1) := dk_42 (dk_at dksJ19_inflate_0 0 rfl rfl)
theorem dJ19_inflate_1 : decode cJ19_inflate 1 = .ok (.iload_n 1, 1) := dk_27 (dk_at dksJ19_inflate_0 1 rfl rfl)
theorem dJ19_inflate_2 : decode cJ19_inflate 2 = .ok (.aload_n 2, 1) := dk_44 (dk_at dksJ19_inflate_0 2 rfl rfl)
theorem dJ19_inflate_3 : decode cJ19_inflate 3 = .ok (.iload_n 3, 1) := dk_29 (dk_at dksJ19_inflate_0 3 rfl rfl)
theorem dJ19_inflate_4 : decode cJ19_inflate 4 = .ok (.iload 4, 2) := dk_21 4 (dk_at dksJ19_inflate_0 4 rfl rfl)
theorem dJ19_inflate_6 : decode cJ19_inflate 6 = .ok (.invokestatic 240, 3) := dk_184 0 240 (dk_at dksJ19_inflate_0 6 rfl rfl)
theorem dJ19_inflate_9 : decode cJ19_inflate 9 = .ok (.return_, 1) := dk_177 (dk_at dksJ19_inflate_0 9 rfl rfl)
abbrev cJ19_equals : ByteArray := prog_45_method_13_code
def yJ19_equals : MethodName := ⟨RJ19, "equals", "([B[B)Z"⟩
def dkwJ19_equals_1 : List UInt8 := [3, 172, 132, 2, 1, 167, 255, 236, 4, 172, 3, 172]
abbrev dktJ19_equals_1 : List UInt8 := dkwJ19_equals_1 ++ []
def dkwJ19_equals_0 : List UInt8 := [42, 190, 43, 190, 160, 0, 30, 3, 61, 28, 42, 190, 162, 0, 20, 42, 28, 51, 43, 28, 51, 159, 0, 5]
abbrev dktJ19_equals_0 : List UInt8 := dkwJ19_equals_0 ++ dktJ19_equals_1
theorem dksJ19_equals_0 : cJ19_equals.data.toList.drop 0 = dktJ19_equals_0 := by decide +kernel
theorem dksJ19_equals_1 : cJ19_equals.data.toList.drop 24 = dktJ19_equals_1 := dk_seg dksJ19_equals_0 24 rfl rfl
theorem dJ19_equals_0 : decode cJ19_equals 0 = .ok (.aload_n 0, 1) := dk_42 (dk_at dksJ19_equals_0 0 rfl rfl)
theorem dJ19_equals_1 : decode cJ19_equals 1 = .ok (.arraylength, 1) := dk_190 (dk_at dksJ19_equals_0 1 rfl rfl)
theorem dJ19_equals_2 : decode cJ19_equals 2 = .ok (.aload_n 1, 1) := dk_43 (dk_at dksJ19_equals_0 2 rfl rfl)
theorem dJ19_equals_3 : decode cJ19_equals 3 = .ok (.arraylength, 1) := dk_190 (dk_at dksJ19_equals_0 3 rfl rfl)
theorem dJ19_equals_4 : decode cJ19_equals 4 = .ok (.if_icmp .ne 30, 3) := dk_160 0 30 (dk_at dksJ19_equals_0 4 rfl rfl)
theorem dJ19_equals_7 : decode cJ19_equals 7 = .ok (.iconst 0, 1) := dk_3 (dk_at dksJ19_equals_0 7 rfl rfl)
theorem dJ19_equals_8 : decode cJ19_equals 8 = .ok (.istore_n 2, 1) := dk_61 (dk_at dksJ19_equals_0 8 rfl rfl)
theorem dJ19_equals_9 : decode cJ19_equals 9 = .ok (.iload_n 2, 1) := dk_28 (dk_at dksJ19_equals_0 9 rfl rfl)
theorem dJ19_equals_10 : decode cJ19_equals 10 = .ok (.aload_n 0, 1) := dk_42 (dk_at dksJ19_equals_0 10 rfl rfl)
theorem dJ19_equals_11 : decode cJ19_equals 11 = .ok (.arraylength, 1) := dk_190 (dk_at dksJ19_equals_0 11 rfl rfl)
theorem dJ19_equals_12 : decode cJ19_equals 12 = .ok (.if_icmp .ge 20, 3) := dk_162 0 20 (dk_at dksJ19_equals_0 12 rfl rfl)
theorem dJ19_equals_15 : decode cJ19_equals 15 = .ok (.aload_n 0, 1) := dk_42 (dk_at dksJ19_equals_0 15 rfl rfl)
theorem dJ19_equals_16 : decode cJ19_equals 16 = .ok (.iload_n 2, 1) := dk_28 (dk_at dksJ19_equals_0 16 rfl rfl)
theorem dJ19_equals_17 : decode cJ19_equals 17 = .ok (.baload, 1) := dk_51 (dk_at dksJ19_equals_0 17 rfl rfl)
theorem dJ19_equals_18 : decode cJ19_equals 18 = .ok (.aload_n 1, 1) := dk_43 (dk_at dksJ19_equals_0 18 rfl rfl)
theorem dJ19_equals_19 : decode cJ19_equals 19 = .ok (.iload_n 2, 1) := dk_28 (dk_at dksJ19_equals_0 19 rfl rfl)
theorem dJ19_equals_20 : decode cJ19_equals 20 = .ok (.baload, 1) := dk_51 (dk_at dksJ19_equals_0 20 rfl rfl)
theorem dJ19_equals_21 : decode cJ19_equals 21 = .ok (.if_icmp .eq 5, 3) := dk_159 0 5 (dk_at dksJ19_equals_0 21 rfl rfl)
theorem dJ19_equals_24 : decode cJ19_equals 24 = .ok (.iconst 0, 1) := dk_3 (dk_at dksJ19_equals_1 0 rfl rfl)
theorem dJ19_equals_25 : decode cJ19_equals 25 = .ok (.ireturn, 1) := dk_172 (dk_at dksJ19_equals_1 1 rfl rfl)
theorem dJ19_equals_26 : decode cJ19_equals 26 = .ok (.iinc 2 1, 3) := dk_132 2 1 (dk_at dksJ19_equals_1 2 rfl rfl)
theorem dJ19_equals_29 : decode cJ19_equals 29 = .ok (.goto (-20), 3) := dk_167 255 236 (dk_at dksJ19_equals_1 5 rfl rfl)
theorem dJ19_equals_32 : decode cJ19_equals 32 = .ok (.iconst 1, 1) := dk_4 (dk_at dksJ19_equals_1 8 rfl rfl)
theorem dJ19_equals_33 : decode cJ19_equals 33 = .ok (.ireturn, 1) := dk_172 (dk_at dksJ19_equals_1 9 rfl rfl)
theorem dJ19_equals_34 : decode cJ19_equals 34 = .ok (.iconst 0, 1) := dk_3 (dk_at dksJ19_equals_1 10 rfl rfl)
theorem dJ19_equals_35 : decode cJ19_equals 35 = .ok (.ireturn, 1) := dk_172 (dk_at dksJ19_equals_1 11 rfl rfl)
abbrev cJ19_charAt : ByteArray := prog_45_method_2_code
def yJ19_charAt : MethodName := ⟨RJ19, "charAt", "([BI)C"⟩
def dkwJ19_charAt_0 : List UInt8 := [27, 42, 190, 184, 0, 9, 42, 27, 51, 17, 0, 255, 126, 146, 172]
abbrev dktJ19_charAt_0 : List UInt8 := dkwJ19_charAt_0 ++ []
theorem dksJ19_charAt_0 : cJ19_charAt.data.toList.drop 0 = dktJ19_charAt_0 := by decide +kernel
theorem dJ19_charAt_0 : decode cJ19_charAt 0 = .ok (.iload_n 1, 1) := dk_27 (dk_at dksJ19_charAt_0 0 rfl rfl)
theorem dJ19_charAt_1 : decode cJ19_charAt 1 = .ok (.aload_n 0, 1) := dk_42 (dk_at dksJ19_charAt_0 1 rfl rfl)
theorem dJ19_charAt_2 : decode cJ19_charAt 2 = .ok (.arraylength, 1) := dk_190 (dk_at dksJ19_charAt_0 2 rfl rfl)
theorem dJ19_charAt_3 : decode cJ19_charAt 3 = .ok (.invokestatic 9, 3) := dk_184 0 9 (dk_at dksJ19_charAt_0 3 rfl rfl)
theorem dJ19_charAt_6 : decode cJ19_charAt 6 = .ok (.aload_n 0, 1) := dk_42 (dk_at dksJ19_charAt_0 6 rfl rfl)
theorem dJ19_charAt_7 : decode cJ19_charAt 7 = .ok (.iload_n 1, 1) := dk_27 (dk_at dksJ19_charAt_0 7 rfl rfl)
theorem dJ19_charAt_8 : decode cJ19_charAt 8 = .ok (.baload, 1) := dk_51 (dk_at dksJ19_charAt_0 8 rfl rfl)
theorem dJ19_charAt_9 : decode cJ19_charAt 9 = .ok (.sipush 255, 3) := dk_17 0 255 (dk_at dksJ19_charAt_0 9 rfl rfl)
theorem dJ19_charAt_12 : decode cJ19_charAt 12 = .ok (.iand, 1) := dk_126 (dk_at dksJ19_charAt_0 12 rfl rfl)
theorem dJ19_charAt_13 : decode cJ19_charAt 13 = .ok (.i2c, 1) := dk_146 (dk_at dksJ19_charAt_0 13 rfl rfl)
theorem dJ19_charAt_14 : decode cJ19_charAt 14 = .ok (.ireturn, 1) := dk_172 (dk_at dksJ19_charAt_0 14 rfl rfl)
abbrev cJ19_fillNull : ByteArray := prog_45_method_48_code
def yJ19_fillNull : MethodName := ⟨RJ19, "fillNull", "([BII)V"⟩
def dkwJ19_fillNull_0 : List UInt8 := [42, 27, 28, 3, 184, 0, 236, 177]
abbrev dktJ19_fillNull_0 : List UInt8 := dkwJ19_fillNull_0 ++ []
theorem dksJ19_fillNull_0 : cJ19_fillNull.data.toList.drop 0 = dktJ19_fillNull_0 := by decide +kernel
theorem dJ19_fillNull_0 : decode cJ19_fillNull 0 = .ok (.aload_n 0, 1) := dk_42 (dk_at dksJ19_fillNull_0 0 rfl rfl)
theorem dJ19_fillNull_1 : decode cJ19_fillNull 1 = .ok (.iload_n 1, 1) := dk_27 (dk_at dksJ19_fillNull_0 1 rfl rfl)
theorem dJ19_fillNull_2 : decode cJ19_fillNull 2 = .ok (.iload_n 2, 1) := dk_28 (dk_at dksJ19_fillNull_0 2 rfl rfl)
theorem dJ19_fillNull_3 : decode cJ19_fillNull 3 = .ok (.iconst 0, 1) := dk_3 (dk_at dksJ19_fillNull_0 3 rfl rfl)
theorem dJ19_fillNull_4 : decode cJ19_fillNull 4 = .ok (.invokestatic 236, 3) := dk_184 0 236 (dk_at dksJ19_fillNull_0 4 rfl rfl)
theorem dJ19_fillNull_7 : decode cJ19_fillNull 7 = .ok (.return_, 1) := dk_177 (dk_at dksJ19_fillNull_0 7 rfl rfl)
abbrev cJ19_canEncode : ByteArray := prog_45_method_3_code
def yJ19_canEncode : MethodName := ⟨RJ19, "canEncode", "(C)Z"⟩
def dkwJ19_canEncode_0 : List UInt8 := [26, 17, 0, 255, 163, 0, 7, 4, 167, 0, 4, 3, 172]
abbrev dktJ19_canEncode_0 : List UInt8 := dkwJ19_canEncode_0 ++ []
theorem dksJ19_canEncode_0 : cJ19_canEncode.data.toList.drop 0 = dktJ19_canEncode_0 := by decide +kernel
theorem dJ19_canEncode_0 : decode cJ19_canEncode 0 = .ok (.iload_n 0, 1) := dk_26 (dk_at dksJ19_canEncode_0 0 rfl rfl)
theorem dJ19_canEncode_1 : decode cJ19_canEncode 1 = .ok (.sipush 255, 3) := dk_17 0 255 (dk_at dksJ19_canEncode_0 1 rfl rfl)
theorem dJ19_canEncode_4 : decode cJ19_canEncode 4 = .ok (.if_icmp .gt 7, 3) := dk_163 0 7 (dk_at dksJ19_canEncode_0 4 rfl rfl)
theorem dJ19_canEncode_7 : decode cJ19_canEncode 7 = .ok (.iconst 1, 1) := dk_4 (dk_at dksJ19_canEncode_0 7 rfl rfl)
theorem dJ19_canEncode_8 : decode cJ19_canEncode 8 = .ok (.goto 4, 3) := dk_167 0 4 (dk_at dksJ19_canEncode_0 8 rfl rfl)
theorem dJ19_canEncode_11 : decode cJ19_canEncode 11 = .ok (.iconst 0, 1) := dk_3 (dk_at dksJ19_canEncode_0 11 rfl rfl)
theorem dJ19_canEncode_12 : decode cJ19_canEncode 12 = .ok (.ireturn, 1) := dk_172 (dk_at dksJ19_canEncode_0 12 rfl rfl)
abbrev cJ19_newString : ByteArray := prog_45_method_47_code
def yJ19_newString : MethodName := ⟨RJ19, "newString", "([BII)Ljava/lang/String;"⟩
def dkwJ19_newString_0 : List UInt8 := [28, 154, 0, 6, 18, 151, 176, 187, 0, 1, 89, 42, 27, 27, 28, 96, 184, 0, 232, 3, 183, 0, 112, 176]
abbrev dktJ19_newString_0 : List UInt8 := dkwJ19_newString_0 ++ []
theorem dksJ19_newString_0 : cJ19_newString.data.toList.drop 0 = dktJ19_newString_0 := by decide +kernel
theorem dJ19_newString_0 : decode cJ19_newString 0 = .ok (.iload_n 2, 1) := dk_28 (dk_at dksJ19_newString_0 0 rfl rfl)
theorem dJ19_newString_1 : decode cJ19_newString 1 = .ok (.ifCond .ne 6, 3) := dk_154 0 6 (dk_at dksJ19_newString_0 1 rfl rfl)
theorem dJ19_newString_4 : decode cJ19_newString 4 = .ok (.ldc 151, 2) := dk_18 151 (dk_at dksJ19_newString_0 4 rfl rfl)
theorem dJ19_newString_6 : decode cJ19_newString 6 = .ok (.areturn, 1) := dk_176 (dk_at dksJ19_newString_0 6 rfl rfl)
theorem dJ19_newString_7 : decode cJ19_newString 7 = .ok (.new 1, 3) := dk_187 0 1 (dk_at dksJ19_newString_0 7 rfl rfl)
theorem dJ19_newString_10 : decode cJ19_newString 10 = .ok (.dup, 1) := dk_89 (dk_at dksJ19_newString_0 10 rfl rfl)
theorem dJ19_newString_11 : decode cJ19_newString 11 = .ok (.aload_n 0, 1) := dk_42 (dk_at dksJ19_newString_0 11 rfl rfl)
theorem dJ19_newString_12 : decode cJ19_newString 12 = .ok (.iload_n 1, 1) := dk_27 (dk_at dksJ19_newString_0 12 rfl rfl)
theorem dJ19_newString_13 : decode cJ19_newString 13 = .ok (.iload_n 1, 1) := dk_27 (dk_at dksJ19_newString_0 13 rfl rfl)
theorem dJ19_newString_14 : decode cJ19_newString 14 = .ok (.iload_n 2, 1) := dk_28 (dk_at dksJ19_newString_0 14 rfl rfl)
theorem dJ19_newString_15 : decode cJ19_newString 15 = .ok (.iadd, 1) := dk_96 (dk_at dksJ19_newString_0 15 rfl rfl)
theorem dJ19_newString_16 : decode cJ19_newString 16 = .ok (.invokestatic 232, 3) := dk_184 0 232 (dk_at dksJ19_newString_0 16 rfl rfl)
theorem dJ19_newString_19 : decode cJ19_newString 19 = .ok (.iconst 0, 1) := dk_3 (dk_at dksJ19_newString_0 19 rfl rfl)
theorem dJ19_newString_20 : decode cJ19_newString 20 = .ok (.invokespecial 112, 3) := dk_183 0 112 (dk_at dksJ19_newString_0 20 rfl rfl)
theorem dJ19_newString_23 : decode cJ19_newString 23 = .ok (.areturn, 1) := dk_176 (dk_at dksJ19_newString_0 23 rfl rfl)
theorem q89 : (Jvm.Cond.initialized "java/lang/StringLatin1") ∈ lw_all := lw_g (lw_at lw_m1 24 rfl) rfl
theorem q688 : (Jvm.Cond.static ({ cls := "java/lang/StringLatin1", name := "inflate", desc := "([BI[BII)V" } : Jvm.MethodName)) ∈ lw_all := lw_g (lw_at lw_m3 143 rfl) rfl
theorem q689 : (Jvm.Cond.code ({ cls := "java/lang/StringLatin1", name := "inflate", desc := "([BI[BII)V" } : Jvm.MethodName) prog_45_method_50_code (5 : Nat) (Option.none : Option Jvm.ClassFile.FieldType)) ∈ lw_all := lw_g (lw_at lw_m3 144 rfl) rfl
theorem q690 : (Jvm.Cond.methodLink "java/lang/StringLatin1" (240 : Nat) ({ cls := "java/lang/StringUTF16", name := "inflate", desc := "([BI[BII)V" } : Jvm.MethodName)) ∈ lw_all := lw_g (lw_at lw_m3 145 rfl) rfl
theorem q761 : (Jvm.Cond.static ({ cls := "java/lang/StringLatin1", name := "equals", desc := "([B[B)Z" } : Jvm.MethodName)) ∈ lw_all := lw_g (lw_at lw_m3 216 rfl) rfl
theorem q762 : (Jvm.Cond.code ({ cls := "java/lang/StringLatin1", name := "equals", desc := "([B[B)Z" } : Jvm.MethodName) prog_45_method_13_code (3 : Nat) (Option.some Jvm.ClassFile.FieldType.boolean)) ∈ lw_all := lw_g (lw_at lw_m3 217 rfl) rfl
theorem q773 : (Jvm.Cond.static ({ cls := "java/lang/StringLatin1", name := "charAt", desc := "([BI)C" } : Jvm.MethodName)) ∈ lw_all := lw_g (lw_at lw_m3 228 rfl) rfl
theorem q774 : (Jvm.Cond.code ({ cls := "java/lang/StringLatin1", name := "charAt", desc := "([BI)C" } : Jvm.MethodName) prog_45_method_2_code (2 : Nat) (Option.some Jvm.ClassFile.FieldType.char)) ∈ lw_all := lw_g (lw_at lw_m3 229 rfl) rfl
theorem q775 : (Jvm.Cond.methodLink "java/lang/StringLatin1" (9 : Nat) ({ cls := "java/lang/String", name := "checkIndex", desc := "(II)V" } : Jvm.MethodName)) ∈ lw_all := lw_g (lw_at lw_m3 230 rfl) rfl
theorem q923 : (Jvm.Cond.static ({ cls := "java/lang/StringLatin1", name := "fillNull", desc := "([BII)V" } : Jvm.MethodName)) ∈ lw_all := lw_g (lw_at lw_m4 138 rfl) rfl
theorem q924 : (Jvm.Cond.code ({ cls := "java/lang/StringLatin1", name := "fillNull", desc := "([BII)V" } : Jvm.MethodName) prog_45_method_48_code (3 : Nat) (Option.none : Option Jvm.ClassFile.FieldType)) ∈ lw_all := lw_g (lw_at lw_m4 139 rfl) rfl
theorem q925 : (Jvm.Cond.methodLink "java/lang/StringLatin1" (236 : Nat) ({ cls := "java/util/Arrays", name := "fill", desc := "([BIIB)V" } : Jvm.MethodName)) ∈ lw_all := lw_g (lw_at lw_m4 140 rfl) rfl
theorem q1161 : (Jvm.Cond.static ({ cls := "java/lang/StringLatin1", name := "canEncode", desc := "(C)Z" } : Jvm.MethodName)) ∈ lw_all := lw_g (lw_at lw_m5 136 rfl) rfl
theorem q1162 : (Jvm.Cond.code ({ cls := "java/lang/StringLatin1", name := "canEncode", desc := "(C)Z" } : Jvm.MethodName) prog_45_method_3_code (1 : Nat) (Option.some Jvm.ClassFile.FieldType.boolean)) ∈ lw_all := lw_g (lw_at lw_m5 137 rfl) rfl
theorem q1380 : (Jvm.Cond.static ({ cls := "java/lang/StringLatin1", name := "newString", desc := "([BII)Ljava/lang/String;" } : Jvm.MethodName)) ∈ lw_all := lw_g (lw_at lw_m6 115 rfl) rfl
theorem q1381 : (Jvm.Cond.code ({ cls := "java/lang/StringLatin1", name := "newString", desc := "([BII)Ljava/lang/String;" } : Jvm.MethodName) prog_45_method_47_code (3 : Nat) (Option.some (Jvm.ClassFile.FieldType.object "java/lang/String"))) ∈ lw_all := lw_g (lw_at lw_m6 116 rfl) rfl
theorem q1382 : (Jvm.Cond.stringRef "java/lang/StringLatin1" (151 : Nat) "") ∈ lw_tbl := lw_at lw_m6 117 rfl
theorem q1383 : (Jvm.Cond.classLink "java/lang/StringLatin1" (1 : Nat) "java/lang/String") ∈ lw_all := lw_g (lw_at lw_m6 118 rfl) rfl
theorem q1384 : (Jvm.Cond.methodLink "java/lang/StringLatin1" (232 : Nat) ({ cls := "java/util/Arrays", name := "copyOfRange", desc := "([BII)[B" } : Jvm.MethodName)) ∈ lw_all := lw_g (lw_at lw_m6 119 rfl) rfl
theorem q1385 : (Jvm.Cond.methodLink "java/lang/StringLatin1" (112 : Nat) ({ cls := "java/lang/String", name := "<init>", desc := "([BB)V" } : Jvm.MethodName)) ∈ lw_all := lw_g (lw_at lw_m6 120 rfl) rfl
