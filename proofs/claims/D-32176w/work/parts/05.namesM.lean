/-! DialectdepotModel -/
set_option maxRecDepth 100000
def RX3 : String := "DialectdepotModel"
def TX3 : u_T := fun k => match k with
  | 0 => ("DialectdepotModel", "thrown", "I", false)
  | 1 => ("DialectdepotModel", "streets", "I", false)
  | 2 => ("DialectdepotModel", "names", "I", false)
  | 3 => ("DialectdepotModel", "usages", "I", false)
  | 4 => ("DialectdepotModel", "carriers", "I", false)
  | 5 => ("DialectdepotModel", "parcels", "I", false)
  | 6 => ("DialectdepotModel", "today", "I", false)
  | 7 => ("DialectdepotModel", "size", "[I", true)
  | 8 => ("DialectdepotModel", "letters", "[I", true)
  | 9 => ("DialectdepotModel", "uGroup", "[I", true)
  | 10 => ("DialectdepotModel", "uName", "[I", true)
  | 11 => ("DialectdepotModel", "uStreet", "[I", true)
  | 12 => ("DialectdepotModel", "uFrom", "[I", true)
  | 13 => ("DialectdepotModel", "uTo", "[I", true)
  | 14 => ("DialectdepotModel", "tape", "[I", true)
  | 15 => ("DialectdepotModel", "tapeMany", "I", false)
  | 16 => ("DialectdepotModel", "from", "I", false)
  | 17 => ("DialectdepotModel", "to", "I", false)
  | 18 => ("DialectdepotModel", "orWord", "[C", true)
  | 19 => ("DialectdepotModel", "notWord", "[C", true)
  | 20 => ("DialectdepotModel", "round", "[I", true)
  | 21 => ("DialectdepotModel", "room", "[I", true)
  | 22 => ("DialectdepotModel", "lessons", "[I", true)
  | 23 => ("DialectdepotModel", "read", "I", false)
  | 24 => ("DialectdepotModel", "unread", "I", false)
  | 25 => ("DialectdepotModel", "fault", "I", false)
  | 26 => ("DialectdepotModel", "faultAt", "I", false)
  | 27 => ("DialectdepotModel", "wanted", "[I", true)
  | 28 => ("DialectdepotModel", "unwanted", "[I", true)
  | 29 => ("DialectdepotModel", "writer", "[I", true)
  | 30 => ("DialectdepotModel", "age", "[I", true)
  | 31 => ("DialectdepotModel", "truth", "[I", true)
  | 32 => ("DialectdepotModel", "since", "[I", true)
  | 33 => ("DialectdepotModel", "state", "[I", true)
  | 34 => ("DialectdepotModel", "backs", "[I", true)
  | 35 => ("DialectdepotModel", "why", "[I", true)
  | 36 => ("DialectdepotModel", "waited", "[I", true)
  | 37 => ("DialectdepotModel", "backFrom", "[I", true)
  | 38 => ("DialectdepotModel", "given", "[I", true)
  | 39 => ("DialectdepotModel", "attempts", "I", false)
  | 40 => ("DialectdepotModel", "givenUp", "I", false)
  | 41 => ("DialectdepotModel", "known", "I", false)
  | 42 => ("DialectdepotModel", "arrived", "I", false)
  | 43 => ("DialectdepotModel", "triesOfArrived", "I", false)
  | 44 => ("DialectdepotModel", "aParcel", "[I", true)
  | 45 => ("DialectdepotModel", "aCarrier", "[I", true)
  | 46 => ("DialectdepotModel", "aStreet", "[I", true)
  | 47 => ("DialectdepotModel", "aDay", "[I", true)
  | 48 => ("DialectdepotModel", "aDone", "[Z", true)
  | 49 => ("DialectdepotModel", "plan", "[I", true)
  | 50 => ("DialectdepotModel", "claimsEver", "I", false)
  | 51 => ("DialectdepotModel", "claims", "[I", true)
  | 52 => ("DialectdepotModel", "turn", "[I", true)
  | 53 => ("DialectdepotModel", "ruled", "[I", true)
  | 54 => ("DialectdepotModel", "ruledOn", "[I", true)
  | 55 => ("DialectdepotModel", "dispute", "[I", true)
  | _ => ("DialectdepotModel", "wasAppealed", "[Z", true)
def tyX3 : Nat → FieldType := fun k => match k with
  | 0 => .int
  | 1 => .int
  | 2 => .int
  | 3 => .int
  | 4 => .int
  | 5 => .int
  | 6 => .int
  | 7 => .array .int
  | 8 => .array .int
  | 9 => .array .int
  | 10 => .array .int
  | 11 => .array .int
  | 12 => .array .int
  | 13 => .array .int
  | 14 => .array .int
  | 15 => .int
  | 16 => .int
  | 17 => .int
  | 18 => .array .char
  | 19 => .array .char
  | 20 => .array .int
  | 21 => .array .int
  | 22 => .array .int
  | 23 => .int
  | 24 => .int
  | 25 => .int
  | 26 => .int
  | 27 => .array .int
  | 28 => .array .int
  | 29 => .array .int
  | 30 => .array .int
  | 31 => .array .int
  | 32 => .array .int
  | 33 => .array .int
  | 34 => .array .int
  | 35 => .array .int
  | 36 => .array .int
  | 37 => .array .int
  | 38 => .array .int
  | 39 => .int
  | 40 => .int
  | 41 => .int
  | 42 => .int
  | 43 => .int
  | 44 => .array .int
  | 45 => .array .int
  | 46 => .array .int
  | 47 => .array .int
  | 48 => .array .boolean
  | 49 => .array .int
  | 50 => .int
  | 51 => .array .int
  | 52 => .array .int
  | 53 => .array .int
  | 54 => .array .int
  | 55 => .array .int
  | _ => .array .boolean
abbrev wsX30 : List Cond := u_ws RX3 TX3 57
set_option maxRecDepth 100000 in
theorem nmX3 : ∀ a, a < 57 → ∀ b, b < 57 → a ≠ b → (TX3 a).2.1 ≠ (TX3 b).2.1 := by decide +kernel
set_option maxRecDepth 100000 in
theorem tyX3_ok : ∀ k, k < 57 → parseFieldDescriptor (TX3 k).2.2.1 = some (tyX3 k) := by decide +kernel
abbrev cX3_thrown : ByteArray := prog_23_method_1_code
def yX3_thrown : MethodName := ⟨RX3, "thrown", "()I"⟩
theorem dX3_thrown_0 : decode cX3_thrown 0 = .ok (.aload_n 0, 1) := by decide +kernel
theorem dX3_thrown_1 : decode cX3_thrown 1 = .ok (.getfield 1, 3) := by decide +kernel
theorem dX3_thrown_4 : decode cX3_thrown 4 = .ok (.ireturn, 1) := by decide +kernel
abbrev cX3_init : ByteArray := prog_23_method_5_code
def yX3_init : MethodName := ⟨RX3, "<init>", "()V"⟩
def dkwX3_init_16 : List UInt8 := [177]
abbrev dktX3_init_16 : List UInt8 := dkwX3_init_16 ++ []
def dkwX3_init_15 : List UInt8 := [167, 255, 233, 3, 60, 27, 16, 48, 162, 0, 16, 42, 180, 0, 109, 27, 2, 79, 132, 1, 1, 167, 255, 240]
abbrev dktX3_init_15 : List UInt8 := dkwX3_init_15 ++ dktX3_init_16
def dkwX3_init_14 : List UInt8 := [16, 12, 162, 0, 23, 42, 180, 0, 115, 27, 2, 79, 42, 180, 0, 121, 27, 2, 79, 132, 1, 1]
abbrev dktX3_init_14 : List UInt8 := dkwX3_init_14 ++ dktX3_init_15
def dkwX3_init_13 : List UInt8 := [188, 10, 181, 0, 118, 42, 16, 12, 188, 10, 181, 0, 121, 42, 16, 12, 188, 4, 181, 0, 124, 3, 60, 27]
abbrev dktX3_init_13 : List UInt8 := dkwX3_init_13 ++ dktX3_init_14
def dkwX3_init_12 : List UInt8 := [188, 10, 181, 0, 109, 42, 16, 48, 188, 10, 181, 0, 112, 42, 16, 12, 188, 10, 181, 0, 115, 42, 16, 12]
abbrev dktX3_init_12 : List UInt8 := dkwX3_init_12 ++ dktX3_init_13
def dkwX3_init_11 : List UInt8 := [181, 0, 99, 42, 17, 0, 200, 188, 4, 181, 0, 102, 42, 16, 40, 188, 10, 181, 0, 106, 42, 16, 48]
abbrev dktX3_init_11 : List UInt8 := dkwX3_init_11 ++ dktX3_init_12
def dkwX3_init_10 : List UInt8 := [42, 17, 0, 200, 188, 10, 181, 0, 93, 42, 17, 0, 200, 188, 10, 181, 0, 96, 42, 17, 0, 200, 188, 10]
abbrev dktX3_init_10 : List UInt8 := dkwX3_init_10 ++ dktX3_init_11
def dkwX3_init_9 : List UInt8 := [17, 1, 64, 188, 10, 181, 0, 84, 42, 8, 188, 10, 181, 0, 87, 42, 17, 0, 200, 188, 10, 181, 0, 90]
abbrev dktX3_init_9 : List UInt8 := dkwX3_init_9 ++ dktX3_init_10
def dkwX3_init_8 : List UInt8 := [188, 10, 181, 0, 75, 42, 16, 40, 188, 10, 181, 0, 78, 42, 16, 40, 188, 10, 181, 0, 81, 42]
abbrev dktX3_init_8 : List UInt8 := dkwX3_init_8 ++ dktX3_init_9
def dkwX3_init_7 : List UInt8 := [188, 10, 181, 0, 66, 42, 16, 40, 188, 10, 181, 0, 69, 42, 16, 40, 188, 10, 181, 0, 72, 42, 16, 40]
abbrev dktX3_init_7 : List UInt8 := dkwX3_init_7 ++ dktX3_init_8
def dkwX3_init_6 : List UInt8 := [188, 10, 181, 0, 57, 42, 16, 40, 188, 10, 181, 0, 60, 42, 16, 40, 188, 10, 181, 0, 63, 42, 16, 40]
abbrev dktX3_init_6 : List UInt8 := dkwX3_init_6 ++ dktX3_init_7
def dkwX3_init_5 : List UInt8 := [181, 0, 48, 42, 17, 7, 128, 188, 10, 181, 0, 51, 42, 16, 40, 188, 10, 181, 0, 54, 42, 16, 40]
abbrev dktX3_init_5 : List UInt8 := dkwX3_init_5 ++ dktX3_init_6
def dkwX3_init_4 : List UInt8 := [89, 4, 16, 111, 85, 89, 5, 16, 116, 85, 181, 0, 42, 42, 8, 188, 10, 181, 0, 45, 42, 8, 188, 10]
abbrev dktX3_init_4 : List UInt8 := dkwX3_init_4 ++ dktX3_init_5
def dkwX3_init_3 : List UInt8 := [188, 5, 89, 3, 16, 111, 85, 89, 4, 16, 114, 85, 181, 0, 38, 42, 6, 188, 5, 89, 3, 16, 110, 85]
abbrev dktX3_init_3 : List UInt8 := dkwX3_init_3 ++ dktX3_init_4
def dkwX3_init_2 : List UInt8 := [188, 10, 181, 0, 29, 42, 16, 30, 188, 10, 181, 0, 32, 42, 16, 48, 188, 10, 181, 0, 35, 42, 5]
abbrev dktX3_init_2 : List UInt8 := dkwX3_init_2 ++ dktX3_init_3
def dkwX3_init_1 : List UInt8 := [188, 10, 181, 0, 20, 42, 16, 30, 188, 10, 181, 0, 23, 42, 16, 30, 188, 10, 181, 0, 26, 42, 16, 30]
abbrev dktX3_init_1 : List UInt8 := dkwX3_init_1 ++ dktX3_init_2
def dkwX3_init_0 : List UInt8 := [42, 183, 0, 7, 42, 16, 12, 188, 10, 181, 0, 13, 42, 16, 96, 188, 10, 181, 0, 17, 42, 16, 30]
abbrev dktX3_init_0 : List UInt8 := dkwX3_init_0 ++ dktX3_init_1
theorem dksX3_init_0 : cX3_init.data.toList.drop 0 = dktX3_init_0 := by decide +kernel
theorem dksX3_init_1 : cX3_init.data.toList.drop 23 = dktX3_init_1 := dk_seg dksX3_init_0 23 rfl rfl
theorem dksX3_init_2 : cX3_init.data.toList.drop 47 = dktX3_init_2 := dk_seg dksX3_init_1 24 rfl rfl
theorem dksX3_init_3 : cX3_init.data.toList.drop 70 = dktX3_init_3 := dk_seg dksX3_init_2 23 rfl rfl
theorem dksX3_init_4 : cX3_init.data.toList.drop 94 = dktX3_init_4 := dk_seg dksX3_init_3 24 rfl rfl
theorem dksX3_init_5 : cX3_init.data.toList.drop 118 = dktX3_init_5 := dk_seg dksX3_init_4 24 rfl rfl
theorem dksX3_init_6 : cX3_init.data.toList.drop 141 = dktX3_init_6 := dk_seg dksX3_init_5 23 rfl rfl
theorem dksX3_init_7 : cX3_init.data.toList.drop 165 = dktX3_init_7 := dk_seg dksX3_init_6 24 rfl rfl
theorem dksX3_init_8 : cX3_init.data.toList.drop 189 = dktX3_init_8 := dk_seg dksX3_init_7 24 rfl rfl
theorem dksX3_init_9 : cX3_init.data.toList.drop 211 = dktX3_init_9 := dk_seg dksX3_init_8 22 rfl rfl
theorem dksX3_init_10 : cX3_init.data.toList.drop 235 = dktX3_init_10 := dk_seg dksX3_init_9 24 rfl rfl
theorem dksX3_init_11 : cX3_init.data.toList.drop 259 = dktX3_init_11 := dk_seg dksX3_init_10 24 rfl rfl
theorem dksX3_init_12 : cX3_init.data.toList.drop 282 = dktX3_init_12 := dk_seg dksX3_init_11 23 rfl rfl
theorem dksX3_init_13 : cX3_init.data.toList.drop 306 = dktX3_init_13 := dk_seg dksX3_init_12 24 rfl rfl
theorem dksX3_init_14 : cX3_init.data.toList.drop 330 = dktX3_init_14 := dk_seg dksX3_init_13 24 rfl rfl
theorem dksX3_init_15 : cX3_init.data.toList.drop 352 = dktX3_init_15 := dk_seg dksX3_init_14 22 rfl rfl
theorem dksX3_init_16 : cX3_init.data.toList.drop 376 = dktX3_init_16 := dk_seg dksX3_init_15 24 rfl rfl
theorem dX3_init_0 : decode cX3_init 0 = .ok (.aload_n 0, 1) := dk_42 (dk_at dksX3_init_0 0 rfl rfl)
theorem dX3_init_1 : decode cX3_init 1 = .ok (.invokespecial 7, 3) := dk_183 0 7 (dk_at dksX3_init_0 1 rfl rfl)
theorem dX3_init_4 : decode cX3_init 4 = .ok (.aload_n 0, 1) := dk_42 (dk_at dksX3_init_0 4 rfl rfl)
theorem dX3_init_5 : decode cX3_init 5 = .ok (.bipush 12, 2) := dk_16 12 (dk_at dksX3_init_0 5 rfl rfl)
theorem dX3_init_7 : decode cX3_init 7 = .ok (.newarray .int, 2) := dk_188_10 (dk_at dksX3_init_0 7 rfl rfl)
theorem dX3_init_9 : decode cX3_init 9 = .ok (.putfield 13, 3) := dk_181 0 13 (dk_at dksX3_init_0 9 rfl rfl)
theorem dX3_init_12 : decode cX3_init 12 = .ok (.aload_n 0, 1) := dk_42 (dk_at dksX3_init_0 12 rfl rfl)
theorem dX3_init_13 : decode cX3_init 13 = .ok (.bipush 96, 2) := dk_16 96 (dk_at dksX3_init_0 13 rfl rfl)
theorem dX3_init_15 : decode cX3_init 15 = .ok (.newarray .int, 2) := dk_188_10 (dk_at dksX3_init_0 15 rfl rfl)
theorem dX3_init_17 : decode cX3_init 17 = .ok (.putfield 17, 3) := dk_181 0 17 (dk_at dksX3_init_0 17 rfl rfl)
theorem dX3_init_20 : decode cX3_init 20 = .ok (.aload_n 0, 1) := dk_42 (dk_at dksX3_init_0 20 rfl rfl)
theorem dX3_init_21 : decode cX3_init 21 = .ok (.bipush 30, 2) := dk_16 30 (dk_at dksX3_init_0 21 rfl rfl)
theorem dX3_init_23 : decode cX3_init 23 = .ok (.newarray .int, 2) := dk_188_10 (dk_at dksX3_init_1 0 rfl rfl)
theorem dX3_init_25 : decode cX3_init 25 = .ok (.putfield 20, 3) := dk_181 0 20 (dk_at dksX3_init_1 2 rfl rfl)
theorem dX3_init_28 : decode cX3_init 28 = .ok (.aload_n 0, 1) := dk_42 (dk_at dksX3_init_1 5 rfl rfl)
theorem dX3_init_29 : decode cX3_init 29 = .ok (.bipush 30, 2) := dk_16 30 (dk_at dksX3_init_1 6 rfl rfl)
theorem dX3_init_31 : decode cX3_init 31 = .ok (.newarray .int, 2) := dk_188_10 (dk_at dksX3_init_1 8 rfl rfl)
theorem dX3_init_33 : decode cX3_init 33 = .ok (.putfield 23, 3) := dk_181 0 23 (dk_at dksX3_init_1 10 rfl rfl)
theorem dX3_init_36 : decode cX3_init 36 = .ok (.aload_n 0, 1) := dk_42 (dk_at dksX3_init_1 13 rfl rfl)
theorem dX3_init_37 : decode cX3_init 37 = .ok (.bipush 30, 2) := dk_16 30 (dk_at dksX3_init_1 14 rfl rfl)
theorem dX3_init_39 : decode cX3_init 39 = .ok (.newarray .int, 2) := dk_188_10 (dk_at dksX3_init_1 16 rfl rfl)
theorem dX3_init_41 : decode cX3_init 41 = .ok (.putfield 26, 3) := dk_181 0 26 (dk_at dksX3_init_1 18 rfl rfl)
theorem dX3_init_44 : decode cX3_init 44 = .ok (.aload_n 0, 1) := dk_42 (dk_at dksX3_init_1 21 rfl rfl)
theorem dX3_init_45 : decode cX3_init 45 = .ok (.bipush 30, 2) := dk_16 30 (dk_at dksX3_init_1 22 rfl rfl)
theorem dX3_init_47 : decode cX3_init 47 = .ok (.newarray .int, 2) := dk_188_10 (dk_at dksX3_init_2 0 rfl rfl)
theorem dX3_init_49 : decode cX3_init 49 = .ok (.putfield 29, 3) := dk_181 0 29 (dk_at dksX3_init_2 2 rfl rfl)
theorem dX3_init_52 : decode cX3_init 52 = .ok (.aload_n 0, 1) := dk_42 (dk_at dksX3_init_2 5 rfl rfl)
theorem dX3_init_53 : decode cX3_init 53 = .ok (.bipush 30, 2) := dk_16 30 (dk_at dksX3_init_2 6 rfl rfl)
theorem dX3_init_55 : decode cX3_init 55 = .ok (.newarray .int, 2) := dk_188_10 (dk_at dksX3_init_2 8 rfl rfl)
theorem dX3_init_57 : decode cX3_init 57 = .ok (.putfield 32, 3) := dk_181 0 32 (dk_at dksX3_init_2 10 rfl rfl)
theorem dX3_init_60 : decode cX3_init 60 = .ok (.aload_n 0, 1) := dk_42 (dk_at dksX3_init_2 13 rfl rfl)
theorem dX3_init_61 : decode cX3_init 61 = .ok (.bipush 48, 2) := dk_16 48 (dk_at dksX3_init_2 14 rfl rfl)
theorem dX3_init_63 : decode cX3_init 63 = .ok (.newarray .int, 2) := dk_188_10 (dk_at dksX3_init_2 16 rfl rfl)
theorem dX3_init_65 : decode cX3_init 65 = .ok (.putfield 35, 3) := dk_181 0 35 (dk_at dksX3_init_2 18 rfl rfl)
theorem dX3_init_68 : decode cX3_init 68 = .ok (.aload_n 0, 1) := dk_42 (dk_at dksX3_init_2 21 rfl rfl)
theorem dX3_init_69 : decode cX3_init 69 = .ok (.iconst 2, 1) := dk_5 (dk_at dksX3_init_2 22 rfl rfl)
theorem dX3_init_70 : decode cX3_init 70 = .ok (.newarray .char, 2) := dk_188_5 (dk_at dksX3_init_3 0 rfl rfl)
theorem dX3_init_72 : decode cX3_init 72 = .ok (.dup, 1) := dk_89 (dk_at dksX3_init_3 2 rfl rfl)
theorem dX3_init_73 : decode cX3_init 73 = .ok (.iconst 0, 1) := dk_3 (dk_at dksX3_init_3 3 rfl rfl)
theorem dX3_init_74 : decode cX3_init 74 = .ok (.bipush 111, 2) := dk_16 111 (dk_at dksX3_init_3 4 rfl rfl)
theorem dX3_init_76 : decode cX3_init 76 = .ok (.castore, 1) := dk_85 (dk_at dksX3_init_3 6 rfl rfl)
theorem dX3_init_77 : decode cX3_init 77 = .ok (.dup, 1) := dk_89 (dk_at dksX3_init_3 7 rfl rfl)
theorem dX3_init_78 : decode cX3_init 78 = .ok (.iconst 1, 1) := dk_4 (dk_at dksX3_init_3 8 rfl rfl)
theorem dX3_init_79 : decode cX3_init 79 = .ok (.bipush 114, 2) := dk_16 114 (dk_at dksX3_init_3 9 rfl rfl)
theorem dX3_init_81 : decode cX3_init 81 = .ok (.castore, 1) := dk_85 (dk_at dksX3_init_3 11 rfl rfl)
theorem dX3_init_82 : decode cX3_init 82 = .ok (.putfield 38, 3) := dk_181 0 38 (dk_at dksX3_init_3 12 rfl rfl)
theorem dX3_init_85 : decode cX3_init 85 = .ok (.aload_n 0, 1) := dk_42 (dk_at dksX3_init_3 15 rfl rfl)
theorem dX3_init_86 : decode cX3_init 86 = .ok (.iconst 3, 1) := dk_6 (dk_at dksX3_init_3 16 rfl rfl)
theorem dX3_init_87 : decode cX3_init 87 = .ok (.newarray .char, 2) := dk_188_5 (dk_at dksX3_init_3 17 rfl rfl)
theorem dX3_init_89 : decode cX3_init 89 = .ok (.dup, 1) := dk_89 (dk_at dksX3_init_3 19 rfl rfl)
theorem dX3_init_90 : decode cX3_init 90 = .ok (.iconst 0, 1) := dk_3 (dk_at dksX3_init_3 20 rfl rfl)
theorem dX3_init_91 : decode cX3_init 91 = .ok (.bipush 110, 2) := dk_16 110 (dk_at dksX3_init_3 21 rfl rfl)
theorem dX3_init_93 : decode cX3_init 93 = .ok (.castore, 1) := dk_85 (dk_at dksX3_init_3 23 rfl rfl)
theorem dX3_init_94 : decode cX3_init 94 = .ok (.dup, 1) := dk_89 (dk_at dksX3_init_4 0 rfl rfl)
theorem dX3_init_95 : decode cX3_init 95 = .ok (.iconst 1, 1) := dk_4 (dk_at dksX3_init_4 1 rfl rfl)
theorem dX3_init_96 : decode cX3_init 96 = .ok (.bipush 111, 2) := dk_16 111 (dk_at dksX3_init_4 2 rfl rfl)
theorem dX3_init_98 : decode cX3_init 98 = .ok (.castore, 1) := dk_85 (dk_at dksX3_init_4 4 rfl rfl)
theorem dX3_init_99 : decode cX3_init 99 = .ok (.dup, 1) := dk_89 (dk_at dksX3_init_4 5 rfl rfl)
theorem dX3_init_100 : decode cX3_init 100 = .ok (.iconst 2, 1) := dk_5 (dk_at dksX3_init_4 6 rfl rfl)
theorem dX3_init_101 : decode cX3_init 101 = .ok (.bipush 116, 2) := dk_16 116 (dk_at dksX3_init_4 7 rfl rfl)
theorem dX3_init_103 : decode cX3_init 103 = .ok (.castore, 1) := dk_85 (dk_at dksX3_init_4 9 rfl rfl)
theorem dX3_init_104 : decode cX3_init 104 = .ok (.putfield 42, 3) := dk_181 0 42 (dk_at dksX3_init_4 10 rfl rfl)
theorem dX3_init_107 : decode cX3_init 107 = .ok (.aload_n 0, 1) := dk_42 (dk_at dksX3_init_4 13 rfl rfl)
theorem dX3_init_108 : decode cX3_init 108 = .ok (.iconst 5, 1) := dk_8 (dk_at dksX3_init_4 14 rfl rfl)
theorem dX3_init_109 : decode cX3_init 109 = .ok (.newarray .int, 2) := dk_188_10 (dk_at dksX3_init_4 15 rfl rfl)
theorem dX3_init_111 : decode cX3_init 111 = .ok (.putfield 45, 3) := dk_181 0 45 (dk_at dksX3_init_4 17 rfl rfl)
theorem dX3_init_114 : decode cX3_init 114 = .ok (.aload_n 0, 1) := dk_42 (dk_at dksX3_init_4 20 rfl rfl)
theorem dX3_init_115 : decode cX3_init 115 = .ok (.iconst 5, 1) := dk_8 (dk_at dksX3_init_4 21 rfl rfl)
theorem dX3_init_116 : decode cX3_init 116 = .ok (.newarray .int, 2) := dk_188_10 (dk_at dksX3_init_4 22 rfl rfl)
theorem dX3_init_118 : decode cX3_init 118 = .ok (.putfield 48, 3) := dk_181 0 48 (dk_at dksX3_init_5 0 rfl rfl)
theorem dX3_init_121 : decode cX3_init 121 = .ok (.aload_n 0, 1) := dk_42 (dk_at dksX3_init_5 3 rfl rfl)
theorem dX3_init_122 : decode cX3_init 122 = .ok (.sipush 1920, 3) := dk_17 7 128 (dk_at dksX3_init_5 4 rfl rfl)
theorem dX3_init_125 : decode cX3_init 125 = .ok (.newarray .int, 2) := dk_188_10 (dk_at dksX3_init_5 7 rfl rfl)
theorem dX3_init_127 : decode cX3_init 127 = .ok (.putfield 51, 3) := dk_181 0 51 (dk_at dksX3_init_5 9 rfl rfl)
theorem dX3_init_130 : decode cX3_init 130 = .ok (.aload_n 0, 1) := dk_42 (dk_at dksX3_init_5 12 rfl rfl)
theorem dX3_init_131 : decode cX3_init 131 = .ok (.bipush 40, 2) := dk_16 40 (dk_at dksX3_init_5 13 rfl rfl)
theorem dX3_init_133 : decode cX3_init 133 = .ok (.newarray .int, 2) := dk_188_10 (dk_at dksX3_init_5 15 rfl rfl)
theorem dX3_init_135 : decode cX3_init 135 = .ok (.putfield 54, 3) := dk_181 0 54 (dk_at dksX3_init_5 17 rfl rfl)
theorem dX3_init_138 : decode cX3_init 138 = .ok (.aload_n 0, 1) := dk_42 (dk_at dksX3_init_5 20 rfl rfl)
theorem dX3_init_139 : decode cX3_init 139 = .ok (.bipush 40, 2) := dk_16 40 (dk_at dksX3_init_5 21 rfl rfl)
theorem dX3_init_141 : decode cX3_init 141 = .ok (.newarray .int, 2) := dk_188_10 (dk_at dksX3_init_6 0 rfl rfl)
theorem dX3_init_143 : decode cX3_init 143 = .ok (.putfield 57, 3) := dk_181 0 57 (dk_at dksX3_init_6 2 rfl rfl)
theorem dX3_init_146 : decode cX3_init 146 = .ok (.aload_n 0, 1) := dk_42 (dk_at dksX3_init_6 5 rfl rfl)
theorem dX3_init_147 : decode cX3_init 147 = .ok (.bipush 40, 2) := dk_16 40 (dk_at dksX3_init_6 6 rfl rfl)
theorem dX3_init_149 : decode cX3_init 149 = .ok (.newarray .int, 2) := dk_188_10 (dk_at dksX3_init_6 8 rfl rfl)
theorem dX3_init_151 : decode cX3_init 151 = .ok (.putfield 60, 3) := dk_181 0 60 (dk_at dksX3_init_6 10 rfl rfl)
theorem dX3_init_154 : decode cX3_init 154 = .ok (.aload_n 0, 1) := dk_42 (dk_at dksX3_init_6 13 rfl rfl)
theorem dX3_init_155 : decode cX3_init 155 = .ok (.bipush 40, 2) := dk_16 40 (dk_at dksX3_init_6 14 rfl rfl)
theorem dX3_init_157 : decode cX3_init 157 = .ok (.newarray .int, 2) := dk_188_10 (dk_at dksX3_init_6 16 rfl rfl)
theorem dX3_init_159 : decode cX3_init 159 = .ok (.putfield 63, 3) := dk_181 0 63 (dk_at dksX3_init_6 18 rfl rfl)
theorem dX3_init_162 : decode cX3_init 162 = .ok (.aload_n 0, 1) := dk_42 (dk_at dksX3_init_6 21 rfl rfl)
theorem dX3_init_163 : decode cX3_init 163 = .ok (.bipush 40, 2) := dk_16 40 (dk_at dksX3_init_6 22 rfl rfl)
theorem dX3_init_165 : decode cX3_init 165 = .ok (.newarray .int, 2) := dk_188_10 (dk_at dksX3_init_7 0 rfl rfl)
theorem dX3_init_167 : decode cX3_init 167 = .ok (.putfield 66, 3) := dk_181 0 66 (dk_at dksX3_init_7 2 rfl rfl)
theorem dX3_init_170 : decode cX3_init 170 = .ok (.aload_n 0, 1) := dk_42 (dk_at dksX3_init_7 5 rfl rfl)
theorem dX3_init_171 : decode cX3_init 171 = .ok (.bipush 40, 2) := dk_16 40 (dk_at dksX3_init_7 6 rfl rfl)
theorem dX3_init_173 : decode cX3_init 173 = .ok (.newarray .int, 2) := dk_188_10 (dk_at dksX3_init_7 8 rfl rfl)
theorem dX3_init_175 : decode cX3_init 175 = .ok (.putfield 69, 3) := dk_181 0 69 (dk_at dksX3_init_7 10 rfl rfl)
theorem dX3_init_178 : decode cX3_init 178 = .ok (.aload_n 0, 1) := dk_42 (dk_at dksX3_init_7 13 rfl rfl)
theorem dX3_init_179 : decode cX3_init 179 = .ok (.bipush 40, 2) := dk_16 40 (dk_at dksX3_init_7 14 rfl rfl)
theorem dX3_init_181 : decode cX3_init 181 = .ok (.newarray .int, 2) := dk_188_10 (dk_at dksX3_init_7 16 rfl rfl)
theorem dX3_init_183 : decode cX3_init 183 = .ok (.putfield 72, 3) := dk_181 0 72 (dk_at dksX3_init_7 18 rfl rfl)
theorem dX3_init_186 : decode cX3_init 186 = .ok (.aload_n 0, 1) := dk_42 (dk_at dksX3_init_7 21 rfl rfl)
theorem dX3_init_187 : decode cX3_init 187 = .ok (.bipush 40, 2) := dk_16 40 (dk_at dksX3_init_7 22 rfl rfl)
theorem dX3_init_189 : decode cX3_init 189 = .ok (.newarray .int, 2) := dk_188_10 (dk_at dksX3_init_8 0 rfl rfl)
theorem dX3_init_191 : decode cX3_init 191 = .ok (.putfield 75, 3) := dk_181 0 75 (dk_at dksX3_init_8 2 rfl rfl)
theorem dX3_init_194 : decode cX3_init 194 = .ok (.aload_n 0, 1) := dk_42 (dk_at dksX3_init_8 5 rfl rfl)
theorem dX3_init_195 : decode cX3_init 195 = .ok (.bipush 40, 2) := dk_16 40 (dk_at dksX3_init_8 6 rfl rfl)
theorem dX3_init_197 : decode cX3_init 197 = .ok (.newarray .int, 2) := dk_188_10 (dk_at dksX3_init_8 8 rfl rfl)
theorem dX3_init_199 : decode cX3_init 199 = .ok (.putfield 78, 3) := dk_181 0 78 (dk_at dksX3_init_8 10 rfl rfl)
theorem dX3_init_202 : decode cX3_init 202 = .ok (.aload_n 0, 1) := dk_42 (dk_at dksX3_init_8 13 rfl rfl)
theorem dX3_init_203 : decode cX3_init 203 = .ok (.bipush 40, 2) := dk_16 40 (dk_at dksX3_init_8 14 rfl rfl)
theorem dX3_init_205 : decode cX3_init 205 = .ok (.newarray .int, 2) := dk_188_10 (dk_at dksX3_init_8 16 rfl rfl)
theorem dX3_init_207 : decode cX3_init 207 = .ok (.putfield 81, 3) := dk_181 0 81 (dk_at dksX3_init_8 18 rfl rfl)
theorem dX3_init_210 : decode cX3_init 210 = .ok (.aload_n 0, 1) := dk_42 (dk_at dksX3_init_8 21 rfl rfl)
theorem dX3_init_211 : decode cX3_init 211 = .ok (.sipush 320, 3) := dk_17 1 64 (dk_at dksX3_init_9 0 rfl rfl)
theorem dX3_init_214 : decode cX3_init 214 = .ok (.newarray .int, 2) := dk_188_10 (dk_at dksX3_init_9 3 rfl rfl)
theorem dX3_init_216 : decode cX3_init 216 = .ok (.putfield 84, 3) := dk_181 0 84 (dk_at dksX3_init_9 5 rfl rfl)
theorem dX3_init_219 : decode cX3_init 219 = .ok (.aload_n 0, 1) := dk_42 (dk_at dksX3_init_9 8 rfl rfl)
theorem dX3_init_220 : decode cX3_init 220 = .ok (.iconst 5, 1) := dk_8 (dk_at dksX3_init_9 9 rfl rfl)
theorem dX3_init_221 : decode cX3_init 221 = .ok (.newarray .int, 2) := dk_188_10 (dk_at dksX3_init_9 10 rfl rfl)
theorem dX3_init_223 : decode cX3_init 223 = .ok (.putfield 87, 3) := dk_181 0 87 (dk_at dksX3_init_9 12 rfl rfl)
theorem dX3_init_226 : decode cX3_init 226 = .ok (.aload_n 0, 1) := dk_42 (dk_at dksX3_init_9 15 rfl rfl)
theorem dX3_init_227 : decode cX3_init 227 = .ok (.sipush 200, 3) := dk_17 0 200 (dk_at dksX3_init_9 16 rfl rfl)
theorem dX3_init_230 : decode cX3_init 230 = .ok (.newarray .int, 2) := dk_188_10 (dk_at dksX3_init_9 19 rfl rfl)
theorem dX3_init_232 : decode cX3_init 232 = .ok (.putfield 90, 3) := dk_181 0 90 (dk_at dksX3_init_9 21 rfl rfl)
theorem dX3_init_235 : decode cX3_init 235 = .ok (.aload_n 0, 1) := dk_42 (dk_at dksX3_init_10 0 rfl rfl)
theorem dX3_init_236 : decode cX3_init 236 = .ok (.sipush 200, 3) := dk_17 0 200 (dk_at dksX3_init_10 1 rfl rfl)
theorem dX3_init_239 : decode cX3_init 239 = .ok (.newarray .int, 2) := dk_188_10 (dk_at dksX3_init_10 4 rfl rfl)
theorem dX3_init_241 : decode cX3_init 241 = .ok (.putfield 93, 3) := dk_181 0 93 (dk_at dksX3_init_10 6 rfl rfl)
theorem dX3_init_244 : decode cX3_init 244 = .ok (.aload_n 0, 1) := dk_42 (dk_at dksX3_init_10 9 rfl rfl)
theorem dX3_init_245 : decode cX3_init 245 = .ok (.sipush 200, 3) := dk_17 0 200 (dk_at dksX3_init_10 10 rfl rfl)
theorem dX3_init_248 : decode cX3_init 248 = .ok (.newarray .int, 2) := dk_188_10 (dk_at dksX3_init_10 13 rfl rfl)
theorem dX3_init_250 : decode cX3_init 250 = .ok (.putfield 96, 3) := dk_181 0 96 (dk_at dksX3_init_10 15 rfl rfl)
theorem dX3_init_253 : decode cX3_init 253 = .ok (.aload_n 0, 1) := dk_42 (dk_at dksX3_init_10 18 rfl rfl)
theorem dX3_init_254 : decode cX3_init 254 = .ok (.sipush 200, 3) := dk_17 0 200 (dk_at dksX3_init_10 19 rfl rfl)
theorem dX3_init_257 : decode cX3_init 257 = .ok (.newarray .int, 2) := dk_188_10 (dk_at dksX3_init_10 22 rfl rfl)
theorem dX3_init_259 : decode cX3_init 259 = .ok (.putfield 99, 3) := dk_181 0 99 (dk_at dksX3_init_11 0 rfl rfl)
theorem dX3_init_262 : decode cX3_init 262 = .ok (.aload_n 0, 1) := dk_42 (dk_at dksX3_init_11 3 rfl rfl)
theorem dX3_init_263 : decode cX3_init 263 = .ok (.sipush 200, 3) := dk_17 0 200 (dk_at dksX3_init_11 4 rfl rfl)
theorem dX3_init_266 : decode cX3_init 266 = .ok (.newarray .boolean, 2) := dk_188_4 (dk_at dksX3_init_11 7 rfl rfl)
theorem dX3_init_268 : decode cX3_init 268 = .ok (.putfield 102, 3) := dk_181 0 102 (dk_at dksX3_init_11 9 rfl rfl)
theorem dX3_init_271 : decode cX3_init 271 = .ok (.aload_n 0, 1) := dk_42 (dk_at dksX3_init_11 12 rfl rfl)
theorem dX3_init_272 : decode cX3_init 272 = .ok (.bipush 40, 2) := dk_16 40 (dk_at dksX3_init_11 13 rfl rfl)
theorem dX3_init_274 : decode cX3_init 274 = .ok (.newarray .int, 2) := dk_188_10 (dk_at dksX3_init_11 15 rfl rfl)
theorem dX3_init_276 : decode cX3_init 276 = .ok (.putfield 106, 3) := dk_181 0 106 (dk_at dksX3_init_11 17 rfl rfl)
theorem dX3_init_279 : decode cX3_init 279 = .ok (.aload_n 0, 1) := dk_42 (dk_at dksX3_init_11 20 rfl rfl)
theorem dX3_init_280 : decode cX3_init 280 = .ok (.bipush 48, 2) := dk_16 48 (dk_at dksX3_init_11 21 rfl rfl)
theorem dX3_init_282 : decode cX3_init 282 = .ok (.newarray .int, 2) := dk_188_10 (dk_at dksX3_init_12 0 rfl rfl)
theorem dX3_init_284 : decode cX3_init 284 = .ok (.putfield 109, 3) := dk_181 0 109 (dk_at dksX3_init_12 2 rfl rfl)
theorem dX3_init_287 : decode cX3_init 287 = .ok (.aload_n 0, 1) := dk_42 (dk_at dksX3_init_12 5 rfl rfl)
theorem dX3_init_288 : decode cX3_init 288 = .ok (.bipush 48, 2) := dk_16 48 (dk_at dksX3_init_12 6 rfl rfl)
theorem dX3_init_290 : decode cX3_init 290 = .ok (.newarray .int, 2) := dk_188_10 (dk_at dksX3_init_12 8 rfl rfl)
theorem dX3_init_292 : decode cX3_init 292 = .ok (.putfield 112, 3) := dk_181 0 112 (dk_at dksX3_init_12 10 rfl rfl)
theorem dX3_init_295 : decode cX3_init 295 = .ok (.aload_n 0, 1) := dk_42 (dk_at dksX3_init_12 13 rfl rfl)
theorem dX3_init_296 : decode cX3_init 296 = .ok (.bipush 12, 2) := dk_16 12 (dk_at dksX3_init_12 14 rfl rfl)
theorem dX3_init_298 : decode cX3_init 298 = .ok (.newarray .int, 2) := dk_188_10 (dk_at dksX3_init_12 16 rfl rfl)
theorem dX3_init_300 : decode cX3_init 300 = .ok (.putfield 115, 3) := dk_181 0 115 (dk_at dksX3_init_12 18 rfl rfl)
theorem dX3_init_303 : decode cX3_init 303 = .ok (.aload_n 0, 1) := dk_42 (dk_at dksX3_init_12 21 rfl rfl)
theorem dX3_init_304 : decode cX3_init 304 = .ok (.bipush 12, 2) := dk_16 12 (dk_at dksX3_init_12 22 rfl rfl)
theorem dX3_init_306 : decode cX3_init 306 = .ok (.newarray .int, 2) := dk_188_10 (dk_at dksX3_init_13 0 rfl rfl)
theorem dX3_init_308 : decode cX3_init 308 = .ok (.putfield 118, 3) := dk_181 0 118 (dk_at dksX3_init_13 2 rfl rfl)
theorem dX3_init_311 : decode cX3_init 311 = .ok (.aload_n 0, 1) := dk_42 (dk_at dksX3_init_13 5 rfl rfl)
theorem dX3_init_312 : decode cX3_init 312 = .ok (.bipush 12, 2) := dk_16 12 (dk_at dksX3_init_13 6 rfl rfl)
theorem dX3_init_314 : decode cX3_init 314 = .ok (.newarray .int, 2) := dk_188_10 (dk_at dksX3_init_13 8 rfl rfl)
theorem dX3_init_316 : decode cX3_init 316 = .ok (.putfield 121, 3) := dk_181 0 121 (dk_at dksX3_init_13 10 rfl rfl)
theorem dX3_init_319 : decode cX3_init 319 = .ok (.aload_n 0, 1) := dk_42 (dk_at dksX3_init_13 13 rfl rfl)
theorem dX3_init_320 : decode cX3_init 320 = .ok (.bipush 12, 2) := dk_16 12 (dk_at dksX3_init_13 14 rfl rfl)
theorem dX3_init_322 : decode cX3_init 322 = .ok (.newarray .boolean, 2) := dk_188_4 (dk_at dksX3_init_13 16 rfl rfl)
theorem dX3_init_324 : decode cX3_init 324 = .ok (.putfield 124, 3) := dk_181 0 124 (dk_at dksX3_init_13 18 rfl rfl)
theorem dX3_init_327 : decode cX3_init 327 = .ok (.iconst 0, 1) := dk_3 (dk_at dksX3_init_13 21 rfl rfl)
theorem dX3_init_328 : decode cX3_init 328 = .ok (.istore_n 1, 1) := dk_60 (dk_at dksX3_init_13 22 rfl rfl)
theorem dX3_init_329 : decode cX3_init 329 = .ok (.iload_n 1, 1) := dk_27 (dk_at dksX3_init_13 23 rfl rfl)
theorem dX3_init_330 : decode cX3_init 330 = .ok (.bipush 12, 2) := dk_16 12 (dk_at dksX3_init_14 0 rfl rfl)
theorem dX3_init_332 : decode cX3_init 332 = .ok (.if_icmp .ge 23, 3) := dk_162 0 23 (dk_at dksX3_init_14 2 rfl rfl)
theorem dX3_init_335 : decode cX3_init 335 = .ok (.aload_n 0, 1) := dk_42 (dk_at dksX3_init_14 5 rfl rfl)
theorem dX3_init_336 : decode cX3_init 336 = .ok (.getfield 115, 3) := dk_180 0 115 (dk_at dksX3_init_14 6 rfl rfl)
theorem dX3_init_339 : decode cX3_init 339 = .ok (.iload_n 1, 1) := dk_27 (dk_at dksX3_init_14 9 rfl rfl)
theorem dX3_init_340 : decode cX3_init 340 = .ok (.iconst (-1), 1) := dk_2 (dk_at dksX3_init_14 10 rfl rfl)
theorem dX3_init_341 : decode cX3_init 341 = .ok (.iastore, 1) := dk_79 (dk_at dksX3_init_14 11 rfl rfl)
theorem dX3_init_342 : decode cX3_init 342 = .ok (.aload_n 0, 1) := dk_42 (dk_at dksX3_init_14 12 rfl rfl)
theorem dX3_init_343 : decode cX3_init 343 = .ok (.getfield 121, 3) := dk_180 0 121 (dk_at dksX3_init_14 13 rfl rfl)
theorem dX3_init_346 : decode cX3_init 346 = .ok (.iload_n 1, 1) := dk_27 (dk_at dksX3_init_14 16 rfl rfl)
theorem dX3_init_347 : decode cX3_init 347 = .ok (.iconst (-1), 1) := dk_2 (dk_at dksX3_init_14 17 rfl rfl)
theorem dX3_init_348 : decode cX3_init 348 = .ok (.iastore, 1) := dk_79 (dk_at dksX3_init_14 18 rfl rfl)
theorem dX3_init_349 : decode cX3_init 349 = .ok (.iinc 1 1, 3) := dk_132 1 1 (dk_at dksX3_init_14 19 rfl rfl)
theorem dX3_init_352 : decode cX3_init 352 = .ok (.goto (-23), 3) := dk_167 255 233 (dk_at dksX3_init_15 0 rfl rfl)
theorem dX3_init_355 : decode cX3_init 355 = .ok (.iconst 0, 1) := dk_3 (dk_at dksX3_init_15 3 rfl rfl)
theorem dX3_init_356 : decode cX3_init 356 = .ok (.istore_n 1, 1) := dk_60 (dk_at dksX3_init_15 4 rfl rfl)
theorem dX3_init_357 : decode cX3_init 357 = .ok (.iload_n 1, 1) := dk_27 (dk_at dksX3_init_15 5 rfl rfl)
theorem dX3_init_358 : decode cX3_init 358 = .ok (.bipush 48, 2) := dk_16 48 (dk_at dksX3_init_15 6 rfl rfl)
theorem dX3_init_360 : decode cX3_init 360 = .ok (.if_icmp .ge 16, 3) := dk_162 0 16 (dk_at dksX3_init_15 8 rfl rfl)
theorem dX3_init_363 : decode cX3_init 363 = .ok (.aload_n 0, 1) := dk_42 (dk_at dksX3_init_15 11 rfl rfl)
theorem dX3_init_364 : decode cX3_init 364 = .ok (.getfield 109, 3) := dk_180 0 109 (dk_at dksX3_init_15 12 rfl rfl)
theorem dX3_init_367 : decode cX3_init 367 = .ok (.iload_n 1, 1) := dk_27 (dk_at dksX3_init_15 15 rfl rfl)
theorem dX3_init_368 : decode cX3_init 368 = .ok (.iconst (-1), 1) := dk_2 (dk_at dksX3_init_15 16 rfl rfl)
theorem dX3_init_369 : decode cX3_init 369 = .ok (.iastore, 1) := dk_79 (dk_at dksX3_init_15 17 rfl rfl)
theorem dX3_init_370 : decode cX3_init 370 = .ok (.iinc 1 1, 3) := dk_132 1 1 (dk_at dksX3_init_15 18 rfl rfl)
theorem dX3_init_373 : decode cX3_init 373 = .ok (.goto (-16), 3) := dk_167 255 240 (dk_at dksX3_init_15 21 rfl rfl)
theorem dX3_init_376 : decode cX3_init 376 = .ok (.return_, 1) := dk_177 (dk_at dksX3_init_16 0 rfl rfl)
abbrev cX3_addStreet : ByteArray := prog_23_method_11_code
def yX3_addStreet : MethodName := ⟨RX3, "addStreet", "()I"⟩
def dkwX3_addStreet_1 : List UInt8 := [153, 0, 5, 3, 172, 42, 89, 180, 0, 127, 4, 96, 181, 0, 127, 42, 180, 0, 127, 4, 100, 172]
abbrev dktX3_addStreet_1 : List UInt8 := dkwX3_addStreet_1 ++ []
def dkwX3_addStreet_0 : List UInt8 := [42, 3, 181, 0, 1, 42, 42, 180, 0, 127, 16, 8, 162, 0, 7, 4, 167, 0, 4, 3, 4, 182, 0, 134]
abbrev dktX3_addStreet_0 : List UInt8 := dkwX3_addStreet_0 ++ dktX3_addStreet_1
theorem dksX3_addStreet_0 : cX3_addStreet.data.toList.drop 0 = dktX3_addStreet_0 := by decide +kernel
theorem dksX3_addStreet_1 : cX3_addStreet.data.toList.drop 24 = dktX3_addStreet_1 := dk_seg dksX3_addStreet_0 24 rfl rfl
theorem dX3_addStreet_0 : decode cX3_addStreet 0 = .ok (.aload_n 0, 1) := dk_42 (dk_at dksX3_addStreet_0 0 rfl rfl)
theorem dX3_addStreet_1 : decode cX3_addStreet 1 = .ok (.iconst 0, 1) := dk_3 (dk_at dksX3_addStreet_0 1 rfl rfl)
theorem dX3_addStreet_2 : decode cX3_addStreet 2 = .ok (.putfield 1, 3) := dk_181 0 1 (dk_at dksX3_addStreet_0 2 rfl rfl)
theorem dX3_addStreet_5 : decode cX3_addStreet 5 = .ok (.aload_n 0, 1) := dk_42 (dk_at dksX3_addStreet_0 5 rfl rfl)
theorem dX3_addStreet_6 : decode cX3_addStreet 6 = .ok (.aload_n 0, 1) := dk_42 (dk_at dksX3_addStreet_0 6 rfl rfl)
theorem dX3_addStreet_7 : decode cX3_addStreet 7 = .ok (.getfield 127, 3) := dk_180 0 127 (dk_at dksX3_addStreet_0 7 rfl rfl)
theorem dX3_addStreet_10 : decode cX3_addStreet 10 = .ok (.bipush 8, 2) := dk_16 8 (dk_at dksX3_addStreet_0 10 rfl rfl)
theorem dX3_addStreet_12 : decode cX3_addStreet 12 = .ok (.if_icmp .ge 7, 3) := dk_162 0 7 (dk_at dksX3_addStreet_0 12 rfl rfl)
theorem dX3_addStreet_15 : decode cX3_addStreet 15 = .ok (.iconst 1, 1) := dk_4 (dk_at dksX3_addStreet_0 15 rfl rfl)
theorem dX3_addStreet_16 : decode cX3_addStreet 16 = .ok (.goto 4, 3) := dk_167 0 4 (dk_at dksX3_addStreet_0 16 rfl rfl)
theorem dX3_addStreet_19 : decode cX3_addStreet 19 = .ok (.iconst 0, 1) := dk_3 (dk_at dksX3_addStreet_0 19 rfl rfl)
theorem dX3_addStreet_20 : decode cX3_addStreet 20 = .ok (.iconst 1, 1) := dk_4 (dk_at dksX3_addStreet_0 20 rfl rfl)
theorem dX3_addStreet_21 : decode cX3_addStreet 21 = .ok (.invokevirtual 134, 3) := dk_182 0 134 (dk_at dksX3_addStreet_0 21 rfl rfl)
theorem dX3_addStreet_24 : decode cX3_addStreet 24 = .ok (.ifCond .eq 5, 3) := dk_153 0 5 (dk_at dksX3_addStreet_1 0 rfl rfl)
theorem dX3_addStreet_27 : decode cX3_addStreet 27 = .ok (.iconst 0, 1) := dk_3 (dk_at dksX3_addStreet_1 3 rfl rfl)
theorem dX3_addStreet_28 : decode cX3_addStreet 28 = .ok (.ireturn, 1) := dk_172 (dk_at dksX3_addStreet_1 4 rfl rfl)
theorem dX3_addStreet_29 : decode cX3_addStreet 29 = .ok (.aload_n 0, 1) := dk_42 (dk_at dksX3_addStreet_1 5 rfl rfl)
theorem dX3_addStreet_30 : decode cX3_addStreet 30 = .ok (.dup, 1) := dk_89 (dk_at dksX3_addStreet_1 6 rfl rfl)
theorem dX3_addStreet_31 : decode cX3_addStreet 31 = .ok (.getfield 127, 3) := dk_180 0 127 (dk_at dksX3_addStreet_1 7 rfl rfl)
theorem dX3_addStreet_34 : decode cX3_addStreet 34 = .ok (.iconst 1, 1) := dk_4 (dk_at dksX3_addStreet_1 10 rfl rfl)
theorem dX3_addStreet_35 : decode cX3_addStreet 35 = .ok (.iadd, 1) := dk_96 (dk_at dksX3_addStreet_1 11 rfl rfl)
theorem dX3_addStreet_36 : decode cX3_addStreet 36 = .ok (.putfield 127, 3) := dk_181 0 127 (dk_at dksX3_addStreet_1 12 rfl rfl)
theorem dX3_addStreet_39 : decode cX3_addStreet 39 = .ok (.aload_n 0, 1) := dk_42 (dk_at dksX3_addStreet_1 15 rfl rfl)
theorem dX3_addStreet_40 : decode cX3_addStreet 40 = .ok (.getfield 127, 3) := dk_180 0 127 (dk_at dksX3_addStreet_1 16 rfl rfl)
theorem dX3_addStreet_43 : decode cX3_addStreet 43 = .ok (.iconst 1, 1) := dk_4 (dk_at dksX3_addStreet_1 19 rfl rfl)
theorem dX3_addStreet_44 : decode cX3_addStreet 44 = .ok (.isub, 1) := dk_100 (dk_at dksX3_addStreet_1 20 rfl rfl)
theorem dX3_addStreet_45 : decode cX3_addStreet 45 = .ok (.ireturn, 1) := dk_172 (dk_at dksX3_addStreet_1 21 rfl rfl)
abbrev cX3_fails : ByteArray := prog_23_method_4_code
def yX3_fails : MethodName := ⟨RX3, "fails", "(ZI)Z"⟩
def dkwX3_fails_1 : List UInt8 := [167, 0, 4, 3, 172]
abbrev dktX3_fails_1 : List UInt8 := dkwX3_fails_1 ++ []
def dkwX3_fails_0 : List UInt8 := [27, 154, 0, 15, 42, 180, 0, 1, 154, 0, 8, 42, 28, 181, 0, 1, 42, 180, 0, 1, 153, 0, 7, 4]
abbrev dktX3_fails_0 : List UInt8 := dkwX3_fails_0 ++ dktX3_fails_1
theorem dksX3_fails_0 : cX3_fails.data.toList.drop 0 = dktX3_fails_0 := by decide +kernel
theorem dksX3_fails_1 : cX3_fails.data.toList.drop 24 = dktX3_fails_1 := dk_seg dksX3_fails_0 24 rfl rfl
theorem dX3_fails_0 : decode cX3_fails 0 = .ok (.iload_n 1, 1) := dk_27 (dk_at dksX3_fails_0 0 rfl rfl)
theorem dX3_fails_1 : decode cX3_fails 1 = .ok (.ifCond .ne 15, 3) := dk_154 0 15 (dk_at dksX3_fails_0 1 rfl rfl)
theorem dX3_fails_4 : decode cX3_fails 4 = .ok (.aload_n 0, 1) := dk_42 (dk_at dksX3_fails_0 4 rfl rfl)
theorem dX3_fails_5 : decode cX3_fails 5 = .ok (.getfield 1, 3) := dk_180 0 1 (dk_at dksX3_fails_0 5 rfl rfl)
theorem dX3_fails_8 : decode cX3_fails 8 = .ok (.ifCond .ne 8, 3) := dk_154 0 8 (dk_at dksX3_fails_0 8 rfl rfl)
theorem dX3_fails_11 : decode cX3_fails 11 = .ok (.aload_n 0, 1) := dk_42 (dk_at dksX3_fails_0 11 rfl rfl)
theorem dX3_fails_12 : decode cX3_fails 12 = .ok (.iload_n 2, 1) := dk_28 (dk_at dksX3_fails_0 12 rfl rfl)
theorem dX3_fails_13 : decode cX3_fails 13 = .ok (.putfield 1, 3) := dk_181 0 1 (dk_at dksX3_fails_0 13 rfl rfl)
theorem dX3_fails_16 : decode cX3_fails 16 = .ok (.aload_n 0, 1) := dk_42 (dk_at dksX3_fails_0 16 rfl rfl)
theorem dX3_fails_17 : decode cX3_fails 17 = .ok (.getfield 1, 3) := dk_180 0 1 (dk_at dksX3_fails_0 17 rfl rfl)
theorem dX3_fails_20 : decode cX3_fails 20 = .ok (.ifCond .eq 7, 3) := dk_153 0 7 (dk_at dksX3_fails_0 20 rfl rfl)
theorem dX3_fails_23 : decode cX3_fails 23 = .ok (.iconst 1, 1) := dk_4 (dk_at dksX3_fails_0 23 rfl rfl)
theorem dX3_fails_24 : decode cX3_fails 24 = .ok (.goto 4, 3) := dk_167 0 4 (dk_at dksX3_fails_1 0 rfl rfl)
theorem dX3_fails_27 : decode cX3_fails 27 = .ok (.iconst 0, 1) := dk_3 (dk_at dksX3_fails_1 3 rfl rfl)
theorem dX3_fails_28 : decode cX3_fails 28 = .ok (.ireturn, 1) := dk_172 (dk_at dksX3_fails_1 4 rfl rfl)
abbrev cX3_addName : ByteArray := prog_23_method_15_code
def yX3_addName : MethodName := ⟨RX3, "addName", "()I"⟩
def dkwX3_addName_8 : List UInt8 := [42, 180, 0, 138, 4, 100, 172]
abbrev dktX3_addName_8 : List UInt8 := dkwX3_addName_8 ++ []
def dkwX3_addName_7 : List UInt8 := [42, 180, 0, 138, 42, 180, 0, 157, 79, 42, 3, 181, 0, 157, 42, 89, 180, 0, 138, 4, 96, 181, 0, 138]
abbrev dktX3_addName_7 : List UInt8 := dkwX3_addName_7 ++ dktX3_addName_8
def dkwX3_addName_6 : List UInt8 := [42, 180, 0, 138, 104, 28, 96, 42, 180, 0, 35, 28, 46, 79, 132, 2, 1, 167, 255, 225, 42, 180, 0, 13]
abbrev dktX3_addName_6 : List UInt8 := dkwX3_addName_6 ++ dktX3_addName_7
def dkwX3_addName_5 : List UInt8 := [182, 0, 134, 153, 0, 5, 3, 172, 3, 61, 28, 42, 180, 0, 157, 162, 0, 29, 42, 180, 0, 17, 16, 8]
abbrev dktX3_addName_5 : List UInt8 := dkwX3_addName_5 ++ dktX3_addName_6
def dkwX3_addName_4 : List UInt8 := [180, 0, 42, 182, 0, 160, 154, 0, 15, 42, 182, 0, 164, 2, 160, 0, 7, 4, 167, 0, 4, 3, 4]
abbrev dktX3_addName_4 : List UInt8 := dkwX3_addName_4 ++ dktX3_addName_5
def dkwX3_addName_3 : List UInt8 := [180, 0, 157, 181, 0, 147, 42, 27, 153, 0, 37, 42, 42, 180, 0, 38, 182, 0, 160, 154, 0, 26, 42, 42]
abbrev dktX3_addName_3 : List UInt8 := dkwX3_addName_3 ++ dktX3_addName_4
def dkwX3_addName_2 : List UInt8 := [28, 46, 16, 97, 16, 122, 184, 0, 130, 126, 60, 132, 2, 1, 167, 255, 229, 42, 3, 181, 0, 150, 42, 42]
abbrev dktX3_addName_2 : List UInt8 := dkwX3_addName_2 ++ dktX3_addName_3
def dkwX3_addName_1 : List UInt8 := [153, 0, 7, 4, 167, 0, 4, 3, 60, 3, 61, 28, 42, 180, 0, 157, 162, 0, 25, 27, 42, 180, 0, 35]
abbrev dktX3_addName_1 : List UInt8 := dkwX3_addName_1 ++ dktX3_addName_2
def dkwX3_addName_0 : List UInt8 := [42, 3, 181, 0, 1, 42, 180, 0, 138, 16, 12, 162, 0, 20, 42, 180, 0, 157, 4, 16, 8, 184, 0, 130]
abbrev dktX3_addName_0 : List UInt8 := dkwX3_addName_0 ++ dktX3_addName_1
theorem dksX3_addName_0 : cX3_addName.data.toList.drop 0 = dktX3_addName_0 := by decide +kernel
theorem dksX3_addName_1 : cX3_addName.data.toList.drop 24 = dktX3_addName_1 := dk_seg dksX3_addName_0 24 rfl rfl
theorem dksX3_addName_2 : cX3_addName.data.toList.drop 48 = dktX3_addName_2 := dk_seg dksX3_addName_1 24 rfl rfl
theorem dksX3_addName_3 : cX3_addName.data.toList.drop 72 = dktX3_addName_3 := dk_seg dksX3_addName_2 24 rfl rfl
theorem dksX3_addName_4 : cX3_addName.data.toList.drop 96 = dktX3_addName_4 := dk_seg dksX3_addName_3 24 rfl rfl
theorem dksX3_addName_5 : cX3_addName.data.toList.drop 119 = dktX3_addName_5 := dk_seg dksX3_addName_4 23 rfl rfl
theorem dksX3_addName_6 : cX3_addName.data.toList.drop 143 = dktX3_addName_6 := dk_seg dksX3_addName_5 24 rfl rfl
theorem dksX3_addName_7 : cX3_addName.data.toList.drop 167 = dktX3_addName_7 := dk_seg dksX3_addName_6 24 rfl rfl
theorem dksX3_addName_8 : cX3_addName.data.toList.drop 191 = dktX3_addName_8 := dk_seg dksX3_addName_7 24 rfl rfl
theorem dX3_addName_0 : decode cX3_addName 0 = .ok (.aload_n 0, 1) := dk_42 (dk_at dksX3_addName_0 0 rfl rfl)
theorem dX3_addName_1 : decode cX3_addName 1 = .ok (.iconst 0, 1) := dk_3 (dk_at dksX3_addName_0 1 rfl rfl)
theorem dX3_addName_2 : decode cX3_addName 2 = .ok (.putfield 1, 3) := dk_181 0 1 (dk_at dksX3_addName_0 2 rfl rfl)
theorem dX3_addName_5 : decode cX3_addName 5 = .ok (.aload_n 0, 1) := dk_42 (dk_at dksX3_addName_0 5 rfl rfl)
theorem dX3_addName_6 : decode cX3_addName 6 = .ok (.getfield 138, 3) := dk_180 0 138 (dk_at dksX3_addName_0 6 rfl rfl)
theorem dX3_addName_9 : decode cX3_addName 9 = .ok (.bipush 12, 2) := dk_16 12 (dk_at dksX3_addName_0 9 rfl rfl)
theorem dX3_addName_11 : decode cX3_addName 11 = .ok (.if_icmp .ge 20, 3) := dk_162 0 20 (dk_at dksX3_addName_0 11 rfl rfl)
theorem dX3_addName_14 : decode cX3_addName 14 = .ok (.aload_n 0, 1) := dk_42 (dk_at dksX3_addName_0 14 rfl rfl)
theorem dX3_addName_15 : decode cX3_addName 15 = .ok (.getfield 157, 3) := dk_180 0 157 (dk_at dksX3_addName_0 15 rfl rfl)
theorem dX3_addName_18 : decode cX3_addName 18 = .ok (.iconst 1, 1) := dk_4 (dk_at dksX3_addName_0 18 rfl rfl)
theorem dX3_addName_19 : decode cX3_addName 19 = .ok (.bipush 8, 2) := dk_16 8 (dk_at dksX3_addName_0 19 rfl rfl)
theorem dX3_addName_21 : decode cX3_addName 21 = .ok (.invokestatic 130, 3) := dk_184 0 130 (dk_at dksX3_addName_0 21 rfl rfl)
theorem dX3_addName_24 : decode cX3_addName 24 = .ok (.ifCond .eq 7, 3) := dk_153 0 7 (dk_at dksX3_addName_1 0 rfl rfl)
theorem dX3_addName_27 : decode cX3_addName 27 = .ok (.iconst 1, 1) := dk_4 (dk_at dksX3_addName_1 3 rfl rfl)
theorem dX3_addName_28 : decode cX3_addName 28 = .ok (.goto 4, 3) := dk_167 0 4 (dk_at dksX3_addName_1 4 rfl rfl)
theorem dX3_addName_31 : decode cX3_addName 31 = .ok (.iconst 0, 1) := dk_3 (dk_at dksX3_addName_1 7 rfl rfl)
theorem dX3_addName_32 : decode cX3_addName 32 = .ok (.istore_n 1, 1) := dk_60 (dk_at dksX3_addName_1 8 rfl rfl)
theorem dX3_addName_33 : decode cX3_addName 33 = .ok (.iconst 0, 1) := dk_3 (dk_at dksX3_addName_1 9 rfl rfl)
theorem dX3_addName_34 : decode cX3_addName 34 = .ok (.istore_n 2, 1) := dk_61 (dk_at dksX3_addName_1 10 rfl rfl)
theorem dX3_addName_35 : decode cX3_addName 35 = .ok (.iload_n 2, 1) := dk_28 (dk_at dksX3_addName_1 11 rfl rfl)
theorem dX3_addName_36 : decode cX3_addName 36 = .ok (.aload_n 0, 1) := dk_42 (dk_at dksX3_addName_1 12 rfl rfl)
theorem dX3_addName_37 : decode cX3_addName 37 = .ok (.getfield 157, 3) := dk_180 0 157 (dk_at dksX3_addName_1 13 rfl rfl)
theorem dX3_addName_40 : decode cX3_addName 40 = .ok (.if_icmp .ge 25, 3) := dk_162 0 25 (dk_at dksX3_addName_1 16 rfl rfl)
theorem dX3_addName_43 : decode cX3_addName 43 = .ok (.iload_n 1, 1) := dk_27 (dk_at dksX3_addName_1 19 rfl rfl)
theorem dX3_addName_44 : decode cX3_addName 44 = .ok (.aload_n 0, 1) := dk_42 (dk_at dksX3_addName_1 20 rfl rfl)
theorem dX3_addName_45 : decode cX3_addName 45 = .ok (.getfield 35, 3) := dk_180 0 35 (dk_at dksX3_addName_1 21 rfl rfl)
theorem dX3_addName_48 : decode cX3_addName 48 = .ok (.iload_n 2, 1) := dk_28 (dk_at dksX3_addName_2 0 rfl rfl)
theorem dX3_addName_49 : decode cX3_addName 49 = .ok (.iaload, 1) := dk_46 (dk_at dksX3_addName_2 1 rfl rfl)
theorem dX3_addName_50 : decode cX3_addName 50 = .ok (.bipush 97, 2) := dk_16 97 (dk_at dksX3_addName_2 2 rfl rfl)
theorem dX3_addName_52 : decode cX3_addName 52 = .ok (.bipush 122, 2) := dk_16 122 (dk_at dksX3_addName_2 4 rfl rfl)
theorem dX3_addName_54 : decode cX3_addName 54 = .ok (.invokestatic 130, 3) := dk_184 0 130 (dk_at dksX3_addName_2 6 rfl rfl)
theorem dX3_addName_57 : decode cX3_addName 57 = .ok (.iand, 1) := dk_126 (dk_at dksX3_addName_2 9 rfl rfl)
theorem dX3_addName_58 : decode cX3_addName 58 = .ok (.istore_n 1, 1) := dk_60 (dk_at dksX3_addName_2 10 rfl rfl)
theorem dX3_addName_59 : decode cX3_addName 59 = .ok (.iinc 2 1, 3) := dk_132 2 1 (dk_at dksX3_addName_2 11 rfl rfl)
theorem dX3_addName_62 : decode cX3_addName 62 = .ok (.goto (-27), 3) := dk_167 255 229 (dk_at dksX3_addName_2 14 rfl rfl)
theorem dX3_addName_65 : decode cX3_addName 65 = .ok (.aload_n 0, 1) := dk_42 (dk_at dksX3_addName_2 17 rfl rfl)
theorem dX3_addName_66 : decode cX3_addName 66 = .ok (.iconst 0, 1) := dk_3 (dk_at dksX3_addName_2 18 rfl rfl)
theorem dX3_addName_67 : decode cX3_addName 67 = .ok (.putfield 150, 3) := dk_181 0 150 (dk_at dksX3_addName_2 19 rfl rfl)
theorem dX3_addName_70 : decode cX3_addName 70 = .ok (.aload_n 0, 1) := dk_42 (dk_at dksX3_addName_2 22 rfl rfl)
theorem dX3_addName_71 : decode cX3_addName 71 = .ok (.aload_n 0, 1) := dk_42 (dk_at dksX3_addName_2 23 rfl rfl)
theorem dX3_addName_72 : decode cX3_addName 72 = .ok (.getfield 157, 3) := dk_180 0 157 (dk_at dksX3_addName_3 0 rfl rfl)
theorem dX3_addName_75 : decode cX3_addName 75 = .ok (.putfield 147, 3) := dk_181 0 147 (dk_at dksX3_addName_3 3 rfl rfl)
theorem dX3_addName_78 : decode cX3_addName 78 = .ok (.aload_n 0, 1) := dk_42 (dk_at dksX3_addName_3 6 rfl rfl)
theorem dX3_addName_79 : decode cX3_addName 79 = .ok (.iload_n 1, 1) := dk_27 (dk_at dksX3_addName_3 7 rfl rfl)
theorem dX3_addName_80 : decode cX3_addName 80 = .ok (.ifCond .eq 37, 3) := dk_153 0 37 (dk_at dksX3_addName_3 8 rfl rfl)
theorem dX3_addName_83 : decode cX3_addName 83 = .ok (.aload_n 0, 1) := dk_42 (dk_at dksX3_addName_3 11 rfl rfl)
theorem dX3_addName_84 : decode cX3_addName 84 = .ok (.aload_n 0, 1) := dk_42 (dk_at dksX3_addName_3 12 rfl rfl)
theorem dX3_addName_85 : decode cX3_addName 85 = .ok (.getfield 38, 3) := dk_180 0 38 (dk_at dksX3_addName_3 13 rfl rfl)
theorem dX3_addName_88 : decode cX3_addName 88 = .ok (.invokevirtual 160, 3) := dk_182 0 160 (dk_at dksX3_addName_3 16 rfl rfl)
theorem dX3_addName_91 : decode cX3_addName 91 = .ok (.ifCond .ne 26, 3) := dk_154 0 26 (dk_at dksX3_addName_3 19 rfl rfl)
theorem dX3_addName_94 : decode cX3_addName 94 = .ok (.aload_n 0, 1) := dk_42 (dk_at dksX3_addName_3 22 rfl rfl)
theorem dX3_addName_95 : decode cX3_addName 95 = .ok (.aload_n 0, 1) := dk_42 (dk_at dksX3_addName_3 23 rfl rfl)
theorem dX3_addName_96 : decode cX3_addName 96 = .ok (.getfield 42, 3) := dk_180 0 42 (dk_at dksX3_addName_4 0 rfl rfl)
theorem dX3_addName_99 : decode cX3_addName 99 = .ok (.invokevirtual 160, 3) := dk_182 0 160 (dk_at dksX3_addName_4 3 rfl rfl)
theorem dX3_addName_102 : decode cX3_addName 102 = .ok (.ifCond .ne 15, 3) := dk_154 0 15 (dk_at dksX3_addName_4 6 rfl rfl)
theorem dX3_addName_105 : decode cX3_addName 105 = .ok (.aload_n 0, 1) := dk_42 (dk_at dksX3_addName_4 9 rfl rfl)
theorem dX3_addName_106 : decode cX3_addName 106 = .ok (.invokevirtual 164, 3) := dk_182 0 164 (dk_at dksX3_addName_4 10 rfl rfl)
theorem dX3_addName_109 : decode cX3_addName 109 = .ok (.iconst (-1), 1) := dk_2 (dk_at dksX3_addName_4 13 rfl rfl)
theorem dX3_addName_110 : decode cX3_addName 110 = .ok (.if_icmp .ne 7, 3) := dk_160 0 7 (dk_at dksX3_addName_4 14 rfl rfl)
theorem dX3_addName_113 : decode cX3_addName 113 = .ok (.iconst 1, 1) := dk_4 (dk_at dksX3_addName_4 17 rfl rfl)
theorem dX3_addName_114 : decode cX3_addName 114 = .ok (.goto 4, 3) := dk_167 0 4 (dk_at dksX3_addName_4 18 rfl rfl)
theorem dX3_addName_117 : decode cX3_addName 117 = .ok (.iconst 0, 1) := dk_3 (dk_at dksX3_addName_4 21 rfl rfl)
theorem dX3_addName_118 : decode cX3_addName 118 = .ok (.iconst 1, 1) := dk_4 (dk_at dksX3_addName_4 22 rfl rfl)
theorem dX3_addName_119 : decode cX3_addName 119 = .ok (.invokevirtual 134, 3) := dk_182 0 134 (dk_at dksX3_addName_5 0 rfl rfl)
theorem dX3_addName_122 : decode cX3_addName 122 = .ok (.ifCond .eq 5, 3) := dk_153 0 5 (dk_at dksX3_addName_5 3 rfl rfl)
theorem dX3_addName_125 : decode cX3_addName 125 = .ok (.iconst 0, 1) := dk_3 (dk_at dksX3_addName_5 6 rfl rfl)
theorem dX3_addName_126 : decode cX3_addName 126 = .ok (.ireturn, 1) := dk_172 (dk_at dksX3_addName_5 7 rfl rfl)
theorem dX3_addName_127 : decode cX3_addName 127 = .ok (.iconst 0, 1) := dk_3 (dk_at dksX3_addName_5 8 rfl rfl)
theorem dX3_addName_128 : decode cX3_addName 128 = .ok (.istore_n 2, 1) := dk_61 (dk_at dksX3_addName_5 9 rfl rfl)
theorem dX3_addName_129 : decode cX3_addName 129 = .ok (.iload_n 2, 1) := dk_28 (dk_at dksX3_addName_5 10 rfl rfl)
theorem dX3_addName_130 : decode cX3_addName 130 = .ok (.aload_n 0, 1) := dk_42 (dk_at dksX3_addName_5 11 rfl rfl)
theorem dX3_addName_131 : decode cX3_addName 131 = .ok (.getfield 157, 3) := dk_180 0 157 (dk_at dksX3_addName_5 12 rfl rfl)
theorem dX3_addName_134 : decode cX3_addName 134 = .ok (.if_icmp .ge 29, 3) := dk_162 0 29 (dk_at dksX3_addName_5 15 rfl rfl)
theorem dX3_addName_137 : decode cX3_addName 137 = .ok (.aload_n 0, 1) := dk_42 (dk_at dksX3_addName_5 18 rfl rfl)
theorem dX3_addName_138 : decode cX3_addName 138 = .ok (.getfield 17, 3) := dk_180 0 17 (dk_at dksX3_addName_5 19 rfl rfl)
theorem dX3_addName_141 : decode cX3_addName 141 = .ok (.bipush 8, 2) := dk_16 8 (dk_at dksX3_addName_5 22 rfl rfl)
theorem dX3_addName_143 : decode cX3_addName 143 = .ok (.aload_n 0, 1) := dk_42 (dk_at dksX3_addName_6 0 rfl rfl)
theorem dX3_addName_144 : decode cX3_addName 144 = .ok (.getfield 138, 3) := dk_180 0 138 (dk_at dksX3_addName_6 1 rfl rfl)
theorem dX3_addName_147 : decode cX3_addName 147 = .ok (.imul, 1) := dk_104 (dk_at dksX3_addName_6 4 rfl rfl)
theorem dX3_addName_148 : decode cX3_addName 148 = .ok (.iload_n 2, 1) := dk_28 (dk_at dksX3_addName_6 5 rfl rfl)
theorem dX3_addName_149 : decode cX3_addName 149 = .ok (.iadd, 1) := dk_96 (dk_at dksX3_addName_6 6 rfl rfl)
theorem dX3_addName_150 : decode cX3_addName 150 = .ok (.aload_n 0, 1) := dk_42 (dk_at dksX3_addName_6 7 rfl rfl)
theorem dX3_addName_151 : decode cX3_addName 151 = .ok (.getfield 35, 3) := dk_180 0 35 (dk_at dksX3_addName_6 8 rfl rfl)
theorem dX3_addName_154 : decode cX3_addName 154 = .ok (.iload_n 2, 1) := dk_28 (dk_at dksX3_addName_6 11 rfl rfl)
theorem dX3_addName_155 : decode cX3_addName 155 = .ok (.iaload, 1) := dk_46 (dk_at dksX3_addName_6 12 rfl rfl)
theorem dX3_addName_156 : decode cX3_addName 156 = .ok (.iastore, 1) := dk_79 (dk_at dksX3_addName_6 13 rfl rfl)
theorem dX3_addName_157 : decode cX3_addName 157 = .ok (.iinc 2 1, 3) := dk_132 2 1 (dk_at dksX3_addName_6 14 rfl rfl)
theorem dX3_addName_160 : decode cX3_addName 160 = .ok (.goto (-31), 3) := dk_167 255 225 (dk_at dksX3_addName_6 17 rfl rfl)
theorem dX3_addName_163 : decode cX3_addName 163 = .ok (.aload_n 0, 1) := dk_42 (dk_at dksX3_addName_6 20 rfl rfl)
theorem dX3_addName_164 : decode cX3_addName 164 = .ok (.getfield 13, 3) := dk_180 0 13 (dk_at dksX3_addName_6 21 rfl rfl)
theorem dX3_addName_167 : decode cX3_addName 167 = .ok (.aload_n 0, 1) := dk_42 (dk_at dksX3_addName_7 0 rfl rfl)
theorem dX3_addName_168 : decode cX3_addName 168 = .ok (.getfield 138, 3) := dk_180 0 138 (dk_at dksX3_addName_7 1 rfl rfl)
theorem dX3_addName_171 : decode cX3_addName 171 = .ok (.aload_n 0, 1) := dk_42 (dk_at dksX3_addName_7 4 rfl rfl)
theorem dX3_addName_172 : decode cX3_addName 172 = .ok (.getfield 157, 3) := dk_180 0 157 (dk_at dksX3_addName_7 5 rfl rfl)
theorem dX3_addName_175 : decode cX3_addName 175 = .ok (.iastore, 1) := dk_79 (dk_at dksX3_addName_7 8 rfl rfl)
theorem dX3_addName_176 : decode cX3_addName 176 = .ok (.aload_n 0, 1) := dk_42 (dk_at dksX3_addName_7 9 rfl rfl)
theorem dX3_addName_177 : decode cX3_addName 177 = .ok (.iconst 0, 1) := dk_3 (dk_at dksX3_addName_7 10 rfl rfl)
theorem dX3_addName_178 : decode cX3_addName 178 = .ok (.putfield 157, 3) := dk_181 0 157 (dk_at dksX3_addName_7 11 rfl rfl)
theorem dX3_addName_181 : decode cX3_addName 181 = .ok (.aload_n 0, 1) := dk_42 (dk_at dksX3_addName_7 14 rfl rfl)
theorem dX3_addName_182 : decode cX3_addName 182 = .ok (.dup, 1) := dk_89 (dk_at dksX3_addName_7 15 rfl rfl)
theorem dX3_addName_183 : decode cX3_addName 183 = .ok (.getfield 138, 3) := dk_180 0 138 (dk_at dksX3_addName_7 16 rfl rfl)
theorem dX3_addName_186 : decode cX3_addName 186 = .ok (.iconst 1, 1) := dk_4 (dk_at dksX3_addName_7 19 rfl rfl)
theorem dX3_addName_187 : decode cX3_addName 187 = .ok (.iadd, 1) := dk_96 (dk_at dksX3_addName_7 20 rfl rfl)
theorem dX3_addName_188 : decode cX3_addName 188 = .ok (.putfield 138, 3) := dk_181 0 138 (dk_at dksX3_addName_7 21 rfl rfl)
theorem dX3_addName_191 : decode cX3_addName 191 = .ok (.aload_n 0, 1) := dk_42 (dk_at dksX3_addName_8 0 rfl rfl)
theorem dX3_addName_192 : decode cX3_addName 192 = .ok (.getfield 138, 3) := dk_180 0 138 (dk_at dksX3_addName_8 1 rfl rfl)
theorem dX3_addName_195 : decode cX3_addName 195 = .ok (.iconst 1, 1) := dk_4 (dk_at dksX3_addName_8 4 rfl rfl)
theorem dX3_addName_196 : decode cX3_addName 196 = .ok (.isub, 1) := dk_100 (dk_at dksX3_addName_8 5 rfl rfl)
theorem dX3_addName_197 : decode cX3_addName 197 = .ok (.ireturn, 1) := dk_172 (dk_at dksX3_addName_8 6 rfl rfl)
abbrev cX3_in : ByteArray := prog_23_method_2_code
def yX3_in : MethodName := ⟨RX3, "in", "(III)Z"⟩
def dkwX3_in_0 : List UInt8 := [26, 27, 161, 0, 12, 26, 28, 163, 0, 7, 4, 167, 0, 4, 3, 172]
abbrev dktX3_in_0 : List UInt8 := dkwX3_in_0 ++ []
theorem dksX3_in_0 : cX3_in.data.toList.drop 0 = dktX3_in_0 := by decide +kernel
theorem dX3_in_0 : decode cX3_in 0 = .ok (.iload_n 0, 1) := dk_26 (dk_at dksX3_in_0 0 rfl rfl)
theorem dX3_in_1 : decode cX3_in 1 = .ok (.iload_n 1, 1) := dk_27 (dk_at dksX3_in_0 1 rfl rfl)
theorem dX3_in_2 : decode cX3_in 2 = .ok (.if_icmp .lt 12, 3) := dk_161 0 12 (dk_at dksX3_in_0 2 rfl rfl)
theorem dX3_in_5 : decode cX3_in 5 = .ok (.iload_n 0, 1) := dk_26 (dk_at dksX3_in_0 5 rfl rfl)
theorem dX3_in_6 : decode cX3_in 6 = .ok (.iload_n 2, 1) := dk_28 (dk_at dksX3_in_0 6 rfl rfl)
theorem dX3_in_7 : decode cX3_in 7 = .ok (.if_icmp .gt 7, 3) := dk_163 0 7 (dk_at dksX3_in_0 7 rfl rfl)
theorem dX3_in_10 : decode cX3_in 10 = .ok (.iconst 1, 1) := dk_4 (dk_at dksX3_in_0 10 rfl rfl)
theorem dX3_in_11 : decode cX3_in 11 = .ok (.goto 4, 3) := dk_167 0 4 (dk_at dksX3_in_0 11 rfl rfl)
theorem dX3_in_14 : decode cX3_in 14 = .ok (.iconst 0, 1) := dk_3 (dk_at dksX3_in_0 14 rfl rfl)
theorem dX3_in_15 : decode cX3_in 15 = .ok (.ireturn, 1) := dk_172 (dk_at dksX3_in_0 15 rfl rfl)
abbrev cX3_isWord : ByteArray := prog_23_method_12_code
def yX3_isWord : MethodName := ⟨RX3, "isWord", "([C)Z"⟩
def dkwX3_isWord_2 : List UInt8 := [167, 255, 228, 4, 172]
abbrev dktX3_isWord_2 : List UInt8 := dkwX3_isWord_2 ++ []
def dkwX3_isWord_1 : List UInt8 := [42, 180, 0, 35, 42, 180, 0, 150, 28, 96, 46, 43, 28, 52, 159, 0, 5, 3, 172, 132, 2, 1]
abbrev dktX3_isWord_1 : List UInt8 := dkwX3_isWord_1 ++ dktX3_isWord_2
def dkwX3_isWord_0 : List UInt8 := [42, 180, 0, 147, 42, 180, 0, 150, 100, 43, 190, 159, 0, 5, 3, 172, 3, 61, 28, 43, 190, 162, 0, 28]
abbrev dktX3_isWord_0 : List UInt8 := dkwX3_isWord_0 ++ dktX3_isWord_1
theorem dksX3_isWord_0 : cX3_isWord.data.toList.drop 0 = dktX3_isWord_0 := by decide +kernel
theorem dksX3_isWord_1 : cX3_isWord.data.toList.drop 24 = dktX3_isWord_1 := dk_seg dksX3_isWord_0 24 rfl rfl
theorem dksX3_isWord_2 : cX3_isWord.data.toList.drop 46 = dktX3_isWord_2 := dk_seg dksX3_isWord_1 22 rfl rfl
theorem dX3_isWord_0 : decode cX3_isWord 0 = .ok (.aload_n 0, 1) := dk_42 (dk_at dksX3_isWord_0 0 rfl rfl)
theorem dX3_isWord_1 : decode cX3_isWord 1 = .ok (.getfield 147, 3) := dk_180 0 147 (dk_at dksX3_isWord_0 1 rfl rfl)
theorem dX3_isWord_4 : decode cX3_isWord 4 = .ok (.aload_n 0, 1) := dk_42 (dk_at dksX3_isWord_0 4 rfl rfl)
theorem dX3_isWord_5 : decode cX3_isWord 5 = .ok (.getfield 150, 3) := dk_180 0 150 (dk_at dksX3_isWord_0 5 rfl rfl)
theorem dX3_isWord_8 : decode cX3_isWord 8 = .ok (.isub, 1) := dk_100 (dk_at dksX3_isWord_0 8 rfl rfl)
theorem dX3_isWord_9 : decode cX3_isWord 9 = .ok (.aload_n 1, 1) := dk_43 (dk_at dksX3_isWord_0 9 rfl rfl)
theorem dX3_isWord_10 : decode cX3_isWord 10 = .ok (.arraylength, 1) := dk_190 (dk_at dksX3_isWord_0 10 rfl rfl)
theorem dX3_isWord_11 : decode cX3_isWord 11 = .ok (.if_icmp .eq 5, 3) := dk_159 0 5 (dk_at dksX3_isWord_0 11 rfl rfl)
theorem dX3_isWord_14 : decode cX3_isWord 14 = .ok (.iconst 0, 1) := dk_3 (dk_at dksX3_isWord_0 14 rfl rfl)
theorem dX3_isWord_15 : decode cX3_isWord 15 = .ok (.ireturn, 1) := dk_172 (dk_at dksX3_isWord_0 15 rfl rfl)
theorem dX3_isWord_16 : decode cX3_isWord 16 = .ok (.iconst 0, 1) := dk_3 (dk_at dksX3_isWord_0 16 rfl rfl)
theorem dX3_isWord_17 : decode cX3_isWord 17 = .ok (.istore_n 2, 1) := dk_61 (dk_at dksX3_isWord_0 17 rfl rfl)
theorem dX3_isWord_18 : decode cX3_isWord 18 = .ok (.iload_n 2, 1) := dk_28 (dk_at dksX3_isWord_0 18 rfl rfl)
theorem dX3_isWord_19 : decode cX3_isWord 19 = .ok (.aload_n 1, 1) := dk_43 (dk_at dksX3_isWord_0 19 rfl rfl)
theorem dX3_isWord_20 : decode cX3_isWord 20 = .ok (.arraylength, 1) := dk_190 (dk_at dksX3_isWord_0 20 rfl rfl)
theorem dX3_isWord_21 : decode cX3_isWord 21 = .ok (.if_icmp .ge 28, 3) := dk_162 0 28 (dk_at dksX3_isWord_0 21 rfl rfl)
theorem dX3_isWord_24 : decode cX3_isWord 24 = .ok (.aload_n 0, 1) := dk_42 (dk_at dksX3_isWord_1 0 rfl rfl)
theorem dX3_isWord_25 : decode cX3_isWord 25 = .ok (.getfield 35, 3) := dk_180 0 35 (dk_at dksX3_isWord_1 1 rfl rfl)
theorem dX3_isWord_28 : decode cX3_isWord 28 = .ok (.aload_n 0, 1) := dk_42 (dk_at dksX3_isWord_1 4 rfl rfl)
theorem dX3_isWord_29 : decode cX3_isWord 29 = .ok (.getfield 150, 3) := dk_180 0 150 (dk_at dksX3_isWord_1 5 rfl rfl)
theorem dX3_isWord_32 : decode cX3_isWord 32 = .ok (.iload_n 2, 1) := dk_28 (dk_at dksX3_isWord_1 8 rfl rfl)
theorem dX3_isWord_33 : decode cX3_isWord 33 = .ok (.iadd, 1) := dk_96 (dk_at dksX3_isWord_1 9 rfl rfl)
theorem dX3_isWord_34 : decode cX3_isWord 34 = .ok (.iaload, 1) := dk_46 (dk_at dksX3_isWord_1 10 rfl rfl)
theorem dX3_isWord_35 : decode cX3_isWord 35 = .ok (.aload_n 1, 1) := dk_43 (dk_at dksX3_isWord_1 11 rfl rfl)
theorem dX3_isWord_36 : decode cX3_isWord 36 = .ok (.iload_n 2, 1) := dk_28 (dk_at dksX3_isWord_1 12 rfl rfl)
theorem dX3_isWord_37 : decode cX3_isWord 37 = .ok (.caload, 1) := dk_52 (dk_at dksX3_isWord_1 13 rfl rfl)
theorem dX3_isWord_38 : decode cX3_isWord 38 = .ok (.if_icmp .eq 5, 3) := dk_159 0 5 (dk_at dksX3_isWord_1 14 rfl rfl)
theorem dX3_isWord_41 : decode cX3_isWord 41 = .ok (.iconst 0, 1) := dk_3 (dk_at dksX3_isWord_1 17 rfl rfl)
theorem dX3_isWord_42 : decode cX3_isWord 42 = .ok (.ireturn, 1) := dk_172 (dk_at dksX3_isWord_1 18 rfl rfl)
theorem dX3_isWord_43 : decode cX3_isWord 43 = .ok (.iinc 2 1, 3) := dk_132 2 1 (dk_at dksX3_isWord_1 19 rfl rfl)
theorem dX3_isWord_46 : decode cX3_isWord 46 = .ok (.goto (-28), 3) := dk_167 255 228 (dk_at dksX3_isWord_2 0 rfl rfl)
theorem dX3_isWord_49 : decode cX3_isWord 49 = .ok (.iconst 1, 1) := dk_4 (dk_at dksX3_isWord_2 3 rfl rfl)
theorem dX3_isWord_50 : decode cX3_isWord 50 = .ok (.ireturn, 1) := dk_172 (dk_at dksX3_isWord_2 4 rfl rfl)
abbrev cX3_nameHere : ByteArray := prog_23_method_14_code
def yX3_nameHere : MethodName := ⟨RX3, "nameHere", "()I"⟩
def dkwX3_nameHere_1 : List UInt8 := [167, 255, 235, 2, 172]
abbrev dktX3_nameHere_1 : List UInt8 := dkwX3_nameHere_1 ++ []
def dkwX3_nameHere_0 : List UInt8 := [3, 60, 27, 42, 180, 0, 138, 162, 0, 19, 42, 27, 182, 0, 153, 153, 0, 5, 27, 172, 132, 1, 1]
abbrev dktX3_nameHere_0 : List UInt8 := dkwX3_nameHere_0 ++ dktX3_nameHere_1
theorem dksX3_nameHere_0 : cX3_nameHere.data.toList.drop 0 = dktX3_nameHere_0 := by decide +kernel
theorem dksX3_nameHere_1 : cX3_nameHere.data.toList.drop 23 = dktX3_nameHere_1 := dk_seg dksX3_nameHere_0 23 rfl rfl
theorem dX3_nameHere_0 : decode cX3_nameHere 0 = .ok (.iconst 0, 1) := dk_3 (dk_at dksX3_nameHere_0 0 rfl rfl)
theorem dX3_nameHere_1 : decode cX3_nameHere 1 = .ok (.istore_n 1, 1) := dk_60 (dk_at dksX3_nameHere_0 1 rfl rfl)
theorem dX3_nameHere_2 : decode cX3_nameHere 2 = .ok (.iload_n 1, 1) := dk_27 (dk_at dksX3_nameHere_0 2 rfl rfl)
theorem dX3_nameHere_3 : decode cX3_nameHere 3 = .ok (.aload_n 0, 1) := dk_42 (dk_at dksX3_nameHere_0 3 rfl rfl)
theorem dX3_nameHere_4 : decode cX3_nameHere 4 = .ok (.getfield 138, 3) := dk_180 0 138 (dk_at dksX3_nameHere_0 4 rfl rfl)
theorem dX3_nameHere_7 : decode cX3_nameHere 7 = .ok (.if_icmp .ge 19, 3) := dk_162 0 19 (dk_at dksX3_nameHere_0 7 rfl rfl)
theorem dX3_nameHere_10 : decode cX3_nameHere 10 = .ok (.aload_n 0, 1) := dk_42 (dk_at dksX3_nameHere_0 10 rfl rfl)
theorem dX3_nameHere_11 : decode cX3_nameHere 11 = .ok (.iload_n 1, 1) := dk_27 (dk_at dksX3_nameHere_0 11 rfl rfl)
theorem dX3_nameHere_12 : decode cX3_nameHere 12 = .ok (.invokevirtual 153, 3) := dk_182 0 153 (dk_at dksX3_nameHere_0 12 rfl rfl)
theorem dX3_nameHere_15 : decode cX3_nameHere 15 = .ok (.ifCond .eq 5, 3) := dk_153 0 5 (dk_at dksX3_nameHere_0 15 rfl rfl)
theorem dX3_nameHere_18 : decode cX3_nameHere 18 = .ok (.iload_n 1, 1) := dk_27 (dk_at dksX3_nameHere_0 18 rfl rfl)
theorem dX3_nameHere_19 : decode cX3_nameHere 19 = .ok (.ireturn, 1) := dk_172 (dk_at dksX3_nameHere_0 19 rfl rfl)
theorem dX3_nameHere_20 : decode cX3_nameHere 20 = .ok (.iinc 1 1, 3) := dk_132 1 1 (dk_at dksX3_nameHere_0 20 rfl rfl)
theorem dX3_nameHere_23 : decode cX3_nameHere 23 = .ok (.goto (-21), 3) := dk_167 255 235 (dk_at dksX3_nameHere_1 0 rfl rfl)
theorem dX3_nameHere_26 : decode cX3_nameHere 26 = .ok (.iconst (-1), 1) := dk_2 (dk_at dksX3_nameHere_1 3 rfl rfl)
theorem dX3_nameHere_27 : decode cX3_nameHere 27 = .ok (.ireturn, 1) := dk_172 (dk_at dksX3_nameHere_1 4 rfl rfl)
abbrev cX3_isName : ByteArray := prog_23_method_13_code
def yX3_isName : MethodName := ⟨RX3, "isName", "(I)Z"⟩
def dkwX3_isName_2 : List UInt8 := [180, 0, 150, 28, 96, 46, 159, 0, 5, 3, 172, 132, 2, 1, 167, 255, 216, 4, 172]
abbrev dktX3_isName_2 : List UInt8 := dkwX3_isName_2 ++ []
def dkwX3_isName_1 : List UInt8 := [180, 0, 13, 27, 46, 162, 0, 36, 42, 180, 0, 17, 16, 8, 27, 104, 28, 96, 46, 42, 180, 0, 35, 42]
abbrev dktX3_isName_1 : List UInt8 := dkwX3_isName_1 ++ dktX3_isName_2
def dkwX3_isName_0 : List UInt8 := [42, 180, 0, 13, 27, 46, 42, 180, 0, 147, 42, 180, 0, 150, 100, 159, 0, 5, 3, 172, 3, 61, 28, 42]
abbrev dktX3_isName_0 : List UInt8 := dkwX3_isName_0 ++ dktX3_isName_1
theorem dksX3_isName_0 : cX3_isName.data.toList.drop 0 = dktX3_isName_0 := by decide +kernel
theorem dksX3_isName_1 : cX3_isName.data.toList.drop 24 = dktX3_isName_1 := dk_seg dksX3_isName_0 24 rfl rfl
theorem dksX3_isName_2 : cX3_isName.data.toList.drop 48 = dktX3_isName_2 := dk_seg dksX3_isName_1 24 rfl rfl
theorem dX3_isName_0 : decode cX3_isName 0 = .ok (.aload_n 0, 1) := dk_42 (dk_at dksX3_isName_0 0 rfl rfl)
theorem dX3_isName_1 : decode cX3_isName 1 = .ok (.getfield 13, 3) := dk_180 0 13 (dk_at dksX3_isName_0 1 rfl rfl)
theorem dX3_isName_4 : decode cX3_isName 4 = .ok (.iload_n 1, 1) := dk_27 (dk_at dksX3_isName_0 4 rfl rfl)
theorem dX3_isName_5 : decode cX3_isName 5 = .ok (.iaload, 1) := dk_46 (dk_at dksX3_isName_0 5 rfl rfl)
theorem dX3_isName_6 : decode cX3_isName 6 = .ok (.aload_n 0, 1) := dk_42 (dk_at dksX3_isName_0 6 rfl rfl)
theorem dX3_isName_7 : decode cX3_isName 7 = .ok (.getfield 147, 3) := dk_180 0 147 (dk_at dksX3_isName_0 7 rfl rfl)
theorem dX3_isName_10 : decode cX3_isName 10 = .ok (.aload_n 0, 1) := dk_42 (dk_at dksX3_isName_0 10 rfl rfl)
theorem dX3_isName_11 : decode cX3_isName 11 = .ok (.getfield 150, 3) := dk_180 0 150 (dk_at dksX3_isName_0 11 rfl rfl)
theorem dX3_isName_14 : decode cX3_isName 14 = .ok (.isub, 1) := dk_100 (dk_at dksX3_isName_0 14 rfl rfl)
theorem dX3_isName_15 : decode cX3_isName 15 = .ok (.if_icmp .eq 5, 3) := dk_159 0 5 (dk_at dksX3_isName_0 15 rfl rfl)
theorem dX3_isName_18 : decode cX3_isName 18 = .ok (.iconst 0, 1) := dk_3 (dk_at dksX3_isName_0 18 rfl rfl)
theorem dX3_isName_19 : decode cX3_isName 19 = .ok (.ireturn, 1) := dk_172 (dk_at dksX3_isName_0 19 rfl rfl)
theorem dX3_isName_20 : decode cX3_isName 20 = .ok (.iconst 0, 1) := dk_3 (dk_at dksX3_isName_0 20 rfl rfl)
theorem dX3_isName_21 : decode cX3_isName 21 = .ok (.istore_n 2, 1) := dk_61 (dk_at dksX3_isName_0 21 rfl rfl)
theorem dX3_isName_22 : decode cX3_isName 22 = .ok (.iload_n 2, 1) := dk_28 (dk_at dksX3_isName_0 22 rfl rfl)
theorem dX3_isName_23 : decode cX3_isName 23 = .ok (.aload_n 0, 1) := dk_42 (dk_at dksX3_isName_0 23 rfl rfl)
theorem dX3_isName_24 : decode cX3_isName 24 = .ok (.getfield 13, 3) := dk_180 0 13 (dk_at dksX3_isName_1 0 rfl rfl)
theorem dX3_isName_27 : decode cX3_isName 27 = .ok (.iload_n 1, 1) := dk_27 (dk_at dksX3_isName_1 3 rfl rfl)
theorem dX3_isName_28 : decode cX3_isName 28 = .ok (.iaload, 1) := dk_46 (dk_at dksX3_isName_1 4 rfl rfl)
theorem dX3_isName_29 : decode cX3_isName 29 = .ok (.if_icmp .ge 36, 3) := dk_162 0 36 (dk_at dksX3_isName_1 5 rfl rfl)
theorem dX3_isName_32 : decode cX3_isName 32 = .ok (.aload_n 0, 1) := dk_42 (dk_at dksX3_isName_1 8 rfl rfl)
theorem dX3_isName_33 : decode cX3_isName 33 = .ok (.getfield 17, 3) := dk_180 0 17 (dk_at dksX3_isName_1 9 rfl rfl)
theorem dX3_isName_36 : decode cX3_isName 36 = .ok (.bipush 8, 2) := dk_16 8 (dk_at dksX3_isName_1 12 rfl rfl)
theorem dX3_isName_38 : decode cX3_isName 38 = .ok (.iload_n 1, 1) := dk_27 (dk_at dksX3_isName_1 14 rfl rfl)
theorem dX3_isName_39 : decode cX3_isName 39 = .ok (.imul, 1) := dk_104 (dk_at dksX3_isName_1 15 rfl rfl)
theorem dX3_isName_40 : decode cX3_isName 40 = .ok (.iload_n 2, 1) := dk_28 (dk_at dksX3_isName_1 16 rfl rfl)
theorem dX3_isName_41 : decode cX3_isName 41 = .ok (.iadd, 1) := dk_96 (dk_at dksX3_isName_1 17 rfl rfl)
theorem dX3_isName_42 : decode cX3_isName 42 = .ok (.iaload, 1) := dk_46 (dk_at dksX3_isName_1 18 rfl rfl)
theorem dX3_isName_43 : decode cX3_isName 43 = .ok (.aload_n 0, 1) := dk_42 (dk_at dksX3_isName_1 19 rfl rfl)
theorem dX3_isName_44 : decode cX3_isName 44 = .ok (.getfield 35, 3) := dk_180 0 35 (dk_at dksX3_isName_1 20 rfl rfl)
theorem dX3_isName_47 : decode cX3_isName 47 = .ok (.aload_n 0, 1) := dk_42 (dk_at dksX3_isName_1 23 rfl rfl)
theorem dX3_isName_48 : decode cX3_isName 48 = .ok (.getfield 150, 3) := dk_180 0 150 (dk_at dksX3_isName_2 0 rfl rfl)
theorem dX3_isName_51 : decode cX3_isName 51 = .ok (.iload_n 2, 1) := dk_28 (dk_at dksX3_isName_2 3 rfl rfl)
theorem dX3_isName_52 : decode cX3_isName 52 = .ok (.iadd, 1) := dk_96 (dk_at dksX3_isName_2 4 rfl rfl)
theorem dX3_isName_53 : decode cX3_isName 53 = .ok (.iaload, 1) := dk_46 (dk_at dksX3_isName_2 5 rfl rfl)
theorem dX3_isName_54 : decode cX3_isName 54 = .ok (.if_icmp .eq 5, 3) := dk_159 0 5 (dk_at dksX3_isName_2 6 rfl rfl)
theorem dX3_isName_57 : decode cX3_isName 57 = .ok (.iconst 0, 1) := dk_3 (dk_at dksX3_isName_2 9 rfl rfl)
theorem dX3_isName_58 : decode cX3_isName 58 = .ok (.ireturn, 1) := dk_172 (dk_at dksX3_isName_2 10 rfl rfl)
theorem dX3_isName_59 : decode cX3_isName 59 = .ok (.iinc 2 1, 3) := dk_132 2 1 (dk_at dksX3_isName_2 11 rfl rfl)
theorem dX3_isName_62 : decode cX3_isName 62 = .ok (.goto (-40), 3) := dk_167 255 216 (dk_at dksX3_isName_2 14 rfl rfl)
theorem dX3_isName_65 : decode cX3_isName 65 = .ok (.iconst 1, 1) := dk_4 (dk_at dksX3_isName_2 17 rfl rfl)
theorem dX3_isName_66 : decode cX3_isName 66 = .ok (.ireturn, 1) := dk_172 (dk_at dksX3_isName_2 18 rfl rfl)
abbrev cX3_addUsage : ByteArray := prog_23_method_17_code
def yX3_addUsage : MethodName := ⟨RX3, "addUsage", "(IIIII)I"⟩
def dkwX3_addUsage_7 : List UInt8 := [181, 0, 168, 42, 180, 0, 168, 172]
abbrev dktX3_addUsage_7 : List UInt8 := dkwX3_addUsage_7 ++ []
def dkwX3_addUsage_6 : List UInt8 := [180, 0, 168, 21, 4, 79, 42, 180, 0, 32, 42, 180, 0, 168, 21, 5, 79, 42, 89, 180, 0, 168, 4, 96]
abbrev dktX3_addUsage_6 : List UInt8 := dkwX3_addUsage_6 ++ dktX3_addUsage_7
def dkwX3_addUsage_5 : List UInt8 := [180, 0, 23, 42, 180, 0, 168, 28, 79, 42, 180, 0, 26, 42, 180, 0, 168, 29, 79, 42, 180, 0, 29, 42]
abbrev dktX3_addUsage_5 : List UInt8 := dkwX3_addUsage_5 ++ dktX3_addUsage_6
def dkwX3_addUsage_4 : List UInt8 := [167, 0, 4, 3, 6, 182, 0, 134, 153, 0, 5, 3, 172, 42, 180, 0, 20, 42, 180, 0, 168, 27, 79, 42]
abbrev dktX3_addUsage_4 : List UInt8 := dkwX3_addUsage_4 ++ dktX3_addUsage_5
def dkwX3_addUsage_3 : List UInt8 := [180, 0, 168, 16, 30, 162, 0, 20, 42, 27, 28, 21, 4, 21, 5, 182, 0, 180, 153, 0, 7, 4]
abbrev dktX3_addUsage_3 : List UInt8 := dkwX3_addUsage_3 ++ dktX3_addUsage_4
def dkwX3_addUsage_2 : List UInt8 := [184, 0, 130, 153, 0, 7, 4, 167, 0, 4, 3, 5, 182, 0, 134, 153, 0, 5, 3, 172, 42, 42]
abbrev dktX3_addUsage_2 : List UInt8 := dkwX3_addUsage_2 ++ dktX3_addUsage_3
def dkwX3_addUsage_1 : List UInt8 := [184, 0, 177, 153, 0, 30, 21, 4, 3, 16, 99, 184, 0, 130, 153, 0, 19, 21, 5, 21, 4, 16, 99]
abbrev dktX3_addUsage_1 : List UInt8 := dkwX3_addUsage_1 ++ dktX3_addUsage_2
def dkwX3_addUsage_0 : List UInt8 := [42, 3, 181, 0, 1, 42, 28, 182, 0, 171, 154, 0, 54, 42, 29, 182, 0, 174, 154, 0, 46, 42, 27]
abbrev dktX3_addUsage_0 : List UInt8 := dkwX3_addUsage_0 ++ dktX3_addUsage_1
theorem dksX3_addUsage_0 : cX3_addUsage.data.toList.drop 0 = dktX3_addUsage_0 := by decide +kernel
theorem dksX3_addUsage_1 : cX3_addUsage.data.toList.drop 23 = dktX3_addUsage_1 := dk_seg dksX3_addUsage_0 23 rfl rfl
theorem dksX3_addUsage_2 : cX3_addUsage.data.toList.drop 46 = dktX3_addUsage_2 := dk_seg dksX3_addUsage_1 23 rfl rfl
theorem dksX3_addUsage_3 : cX3_addUsage.data.toList.drop 68 = dktX3_addUsage_3 := dk_seg dksX3_addUsage_2 22 rfl rfl
theorem dksX3_addUsage_4 : cX3_addUsage.data.toList.drop 90 = dktX3_addUsage_4 := dk_seg dksX3_addUsage_3 22 rfl rfl
theorem dksX3_addUsage_5 : cX3_addUsage.data.toList.drop 114 = dktX3_addUsage_5 := dk_seg dksX3_addUsage_4 24 rfl rfl
theorem dksX3_addUsage_6 : cX3_addUsage.data.toList.drop 138 = dktX3_addUsage_6 := dk_seg dksX3_addUsage_5 24 rfl rfl
theorem dksX3_addUsage_7 : cX3_addUsage.data.toList.drop 162 = dktX3_addUsage_7 := dk_seg dksX3_addUsage_6 24 rfl rfl
theorem dX3_addUsage_0 : decode cX3_addUsage 0 = .ok (.aload_n 0, 1) := dk_42 (dk_at dksX3_addUsage_0 0 rfl rfl)
theorem dX3_addUsage_1 : decode cX3_addUsage 1 = .ok (.iconst 0, 1) := dk_3 (dk_at dksX3_addUsage_0 1 rfl rfl)
theorem dX3_addUsage_2 : decode cX3_addUsage 2 = .ok (.putfield 1, 3) := dk_181 0 1 (dk_at dksX3_addUsage_0 2 rfl rfl)
theorem dX3_addUsage_5 : decode cX3_addUsage 5 = .ok (.aload_n 0, 1) := dk_42 (dk_at dksX3_addUsage_0 5 rfl rfl)
theorem dX3_addUsage_6 : decode cX3_addUsage 6 = .ok (.iload_n 2, 1) := dk_28 (dk_at dksX3_addUsage_0 6 rfl rfl)
theorem dX3_addUsage_7 : decode cX3_addUsage 7 = .ok (.invokevirtual 171, 3) := dk_182 0 171 (dk_at dksX3_addUsage_0 7 rfl rfl)
theorem dX3_addUsage_10 : decode cX3_addUsage 10 = .ok (.ifCond .ne 54, 3) := dk_154 0 54 (dk_at dksX3_addUsage_0 10 rfl rfl)
theorem dX3_addUsage_13 : decode cX3_addUsage 13 = .ok (.aload_n 0, 1) := dk_42 (dk_at dksX3_addUsage_0 13 rfl rfl)
theorem dX3_addUsage_14 : decode cX3_addUsage 14 = .ok (.iload_n 3, 1) := dk_29 (dk_at dksX3_addUsage_0 14 rfl rfl)
theorem dX3_addUsage_15 : decode cX3_addUsage 15 = .ok (.invokevirtual 174, 3) := dk_182 0 174 (dk_at dksX3_addUsage_0 15 rfl rfl)
theorem dX3_addUsage_18 : decode cX3_addUsage 18 = .ok (.ifCond .ne 46, 3) := dk_154 0 46 (dk_at dksX3_addUsage_0 18 rfl rfl)
theorem dX3_addUsage_21 : decode cX3_addUsage 21 = .ok (.aload_n 0, 1) := dk_42 (dk_at dksX3_addUsage_0 21 rfl rfl)
theorem dX3_addUsage_22 : decode cX3_addUsage 22 = .ok (.iload_n 1, 1) := dk_27 (dk_at dksX3_addUsage_0 22 rfl rfl)
theorem dX3_addUsage_23 : decode cX3_addUsage 23 = .ok (.invokestatic 177, 3) := dk_184 0 177 (dk_at dksX3_addUsage_1 0 rfl rfl)
theorem dX3_addUsage_26 : decode cX3_addUsage 26 = .ok (.ifCond .eq 30, 3) := dk_153 0 30 (dk_at dksX3_addUsage_1 3 rfl rfl)
theorem dX3_addUsage_29 : decode cX3_addUsage 29 = .ok (.iload 4, 2) := dk_21 4 (dk_at dksX3_addUsage_1 6 rfl rfl)
theorem dX3_addUsage_31 : decode cX3_addUsage 31 = .ok (.iconst 0, 1) := dk_3 (dk_at dksX3_addUsage_1 8 rfl rfl)
theorem dX3_addUsage_32 : decode cX3_addUsage 32 = .ok (.bipush 99, 2) := dk_16 99 (dk_at dksX3_addUsage_1 9 rfl rfl)
theorem dX3_addUsage_34 : decode cX3_addUsage 34 = .ok (.invokestatic 130, 3) := dk_184 0 130 (dk_at dksX3_addUsage_1 11 rfl rfl)
theorem dX3_addUsage_37 : decode cX3_addUsage 37 = .ok (.ifCond .eq 19, 3) := dk_153 0 19 (dk_at dksX3_addUsage_1 14 rfl rfl)
theorem dX3_addUsage_40 : decode cX3_addUsage 40 = .ok (.iload 5, 2) := dk_21 5 (dk_at dksX3_addUsage_1 17 rfl rfl)
theorem dX3_addUsage_42 : decode cX3_addUsage 42 = .ok (.iload 4, 2) := dk_21 4 (dk_at dksX3_addUsage_1 19 rfl rfl)
theorem dX3_addUsage_44 : decode cX3_addUsage 44 = .ok (.bipush 99, 2) := dk_16 99 (dk_at dksX3_addUsage_1 21 rfl rfl)
theorem dX3_addUsage_46 : decode cX3_addUsage 46 = .ok (.invokestatic 130, 3) := dk_184 0 130 (dk_at dksX3_addUsage_2 0 rfl rfl)
theorem dX3_addUsage_49 : decode cX3_addUsage 49 = .ok (.ifCond .eq 7, 3) := dk_153 0 7 (dk_at dksX3_addUsage_2 3 rfl rfl)
theorem dX3_addUsage_52 : decode cX3_addUsage 52 = .ok (.iconst 1, 1) := dk_4 (dk_at dksX3_addUsage_2 6 rfl rfl)
theorem dX3_addUsage_53 : decode cX3_addUsage 53 = .ok (.goto 4, 3) := dk_167 0 4 (dk_at dksX3_addUsage_2 7 rfl rfl)
theorem dX3_addUsage_56 : decode cX3_addUsage 56 = .ok (.iconst 0, 1) := dk_3 (dk_at dksX3_addUsage_2 10 rfl rfl)
theorem dX3_addUsage_57 : decode cX3_addUsage 57 = .ok (.iconst 2, 1) := dk_5 (dk_at dksX3_addUsage_2 11 rfl rfl)
theorem dX3_addUsage_58 : decode cX3_addUsage 58 = .ok (.invokevirtual 134, 3) := dk_182 0 134 (dk_at dksX3_addUsage_2 12 rfl rfl)
theorem dX3_addUsage_61 : decode cX3_addUsage 61 = .ok (.ifCond .eq 5, 3) := dk_153 0 5 (dk_at dksX3_addUsage_2 15 rfl rfl)
theorem dX3_addUsage_64 : decode cX3_addUsage 64 = .ok (.iconst 0, 1) := dk_3 (dk_at dksX3_addUsage_2 18 rfl rfl)
theorem dX3_addUsage_65 : decode cX3_addUsage 65 = .ok (.ireturn, 1) := dk_172 (dk_at dksX3_addUsage_2 19 rfl rfl)
theorem dX3_addUsage_66 : decode cX3_addUsage 66 = .ok (.aload_n 0, 1) := dk_42 (dk_at dksX3_addUsage_2 20 rfl rfl)
theorem dX3_addUsage_67 : decode cX3_addUsage 67 = .ok (.aload_n 0, 1) := dk_42 (dk_at dksX3_addUsage_2 21 rfl rfl)
theorem dX3_addUsage_68 : decode cX3_addUsage 68 = .ok (.getfield 168, 3) := dk_180 0 168 (dk_at dksX3_addUsage_3 0 rfl rfl)
theorem dX3_addUsage_71 : decode cX3_addUsage 71 = .ok (.bipush 30, 2) := dk_16 30 (dk_at dksX3_addUsage_3 3 rfl rfl)
theorem dX3_addUsage_73 : decode cX3_addUsage 73 = .ok (.if_icmp .ge 20, 3) := dk_162 0 20 (dk_at dksX3_addUsage_3 5 rfl rfl)
theorem dX3_addUsage_76 : decode cX3_addUsage 76 = .ok (.aload_n 0, 1) := dk_42 (dk_at dksX3_addUsage_3 8 rfl rfl)
theorem dX3_addUsage_77 : decode cX3_addUsage 77 = .ok (.iload_n 1, 1) := dk_27 (dk_at dksX3_addUsage_3 9 rfl rfl)
theorem dX3_addUsage_78 : decode cX3_addUsage 78 = .ok (.iload_n 2, 1) := dk_28 (dk_at dksX3_addUsage_3 10 rfl rfl)
theorem dX3_addUsage_79 : decode cX3_addUsage 79 = .ok (.iload 4, 2) := dk_21 4 (dk_at dksX3_addUsage_3 11 rfl rfl)
theorem dX3_addUsage_81 : decode cX3_addUsage 81 = .ok (.iload 5, 2) := dk_21 5 (dk_at dksX3_addUsage_3 13 rfl rfl)
theorem dX3_addUsage_83 : decode cX3_addUsage 83 = .ok (.invokevirtual 180, 3) := dk_182 0 180 (dk_at dksX3_addUsage_3 15 rfl rfl)
theorem dX3_addUsage_86 : decode cX3_addUsage 86 = .ok (.ifCond .eq 7, 3) := dk_153 0 7 (dk_at dksX3_addUsage_3 18 rfl rfl)
theorem dX3_addUsage_89 : decode cX3_addUsage 89 = .ok (.iconst 1, 1) := dk_4 (dk_at dksX3_addUsage_3 21 rfl rfl)
theorem dX3_addUsage_90 : decode cX3_addUsage 90 = .ok (.goto 4, 3) := dk_167 0 4 (dk_at dksX3_addUsage_4 0 rfl rfl)
theorem dX3_addUsage_93 : decode cX3_addUsage 93 = .ok (.iconst 0, 1) := dk_3 (dk_at dksX3_addUsage_4 3 rfl rfl)
theorem dX3_addUsage_94 : decode cX3_addUsage 94 = .ok (.iconst 3, 1) := dk_6 (dk_at dksX3_addUsage_4 4 rfl rfl)
theorem dX3_addUsage_95 : decode cX3_addUsage 95 = .ok (.invokevirtual 134, 3) := dk_182 0 134 (dk_at dksX3_addUsage_4 5 rfl rfl)
theorem dX3_addUsage_98 : decode cX3_addUsage 98 = .ok (.ifCond .eq 5, 3) := dk_153 0 5 (dk_at dksX3_addUsage_4 8 rfl rfl)
theorem dX3_addUsage_101 : decode cX3_addUsage 101 = .ok (.iconst 0, 1) := dk_3 (dk_at dksX3_addUsage_4 11 rfl rfl)
theorem dX3_addUsage_102 : decode cX3_addUsage 102 = .ok (.ireturn, 1) := dk_172 (dk_at dksX3_addUsage_4 12 rfl rfl)
theorem dX3_addUsage_103 : decode cX3_addUsage 103 = .ok (.aload_n 0, 1) := dk_42 (dk_at dksX3_addUsage_4 13 rfl rfl)
theorem dX3_addUsage_104 : decode cX3_addUsage 104 = .ok (.getfield 20, 3) := dk_180 0 20 (dk_at dksX3_addUsage_4 14 rfl rfl)
theorem dX3_addUsage_107 : decode cX3_addUsage 107 = .ok (.aload_n 0, 1) := dk_42 (dk_at dksX3_addUsage_4 17 rfl rfl)
theorem dX3_addUsage_108 : decode cX3_addUsage 108 = .ok (.getfield 168, 3) := dk_180 0 168 (dk_at dksX3_addUsage_4 18 rfl rfl)
theorem dX3_addUsage_111 : decode cX3_addUsage 111 = .ok (.iload_n 1, 1) := dk_27 (dk_at dksX3_addUsage_4 21 rfl rfl)
theorem dX3_addUsage_112 : decode cX3_addUsage 112 = .ok (.iastore, 1) := dk_79 (dk_at dksX3_addUsage_4 22 rfl rfl)
theorem dX3_addUsage_113 : decode cX3_addUsage 113 = .ok (.aload_n 0, 1) := dk_42 (dk_at dksX3_addUsage_4 23 rfl rfl)
theorem dX3_addUsage_114 : decode cX3_addUsage 114 = .ok (.getfield 23, 3) := dk_180 0 23 (dk_at dksX3_addUsage_5 0 rfl rfl)
theorem dX3_addUsage_117 : decode cX3_addUsage 117 = .ok (.aload_n 0, 1) := dk_42 (dk_at dksX3_addUsage_5 3 rfl rfl)
theorem dX3_addUsage_118 : decode cX3_addUsage 118 = .ok (.getfield 168, 3) := dk_180 0 168 (dk_at dksX3_addUsage_5 4 rfl rfl)
theorem dX3_addUsage_121 : decode cX3_addUsage 121 = .ok (.iload_n 2, 1) := dk_28 (dk_at dksX3_addUsage_5 7 rfl rfl)
theorem dX3_addUsage_122 : decode cX3_addUsage 122 = .ok (.iastore, 1) := dk_79 (dk_at dksX3_addUsage_5 8 rfl rfl)
theorem dX3_addUsage_123 : decode cX3_addUsage 123 = .ok (.aload_n 0, 1) := dk_42 (dk_at dksX3_addUsage_5 9 rfl rfl)
theorem dX3_addUsage_124 : decode cX3_addUsage 124 = .ok (.getfield 26, 3) := dk_180 0 26 (dk_at dksX3_addUsage_5 10 rfl rfl)
theorem dX3_addUsage_127 : decode cX3_addUsage 127 = .ok (.aload_n 0, 1) := dk_42 (dk_at dksX3_addUsage_5 13 rfl rfl)
theorem dX3_addUsage_128 : decode cX3_addUsage 128 = .ok (.getfield 168, 3) := dk_180 0 168 (dk_at dksX3_addUsage_5 14 rfl rfl)
theorem dX3_addUsage_131 : decode cX3_addUsage 131 = .ok (.iload_n 3, 1) := dk_29 (dk_at dksX3_addUsage_5 17 rfl rfl)
theorem dX3_addUsage_132 : decode cX3_addUsage 132 = .ok (.iastore, 1) := dk_79 (dk_at dksX3_addUsage_5 18 rfl rfl)
theorem dX3_addUsage_133 : decode cX3_addUsage 133 = .ok (.aload_n 0, 1) := dk_42 (dk_at dksX3_addUsage_5 19 rfl rfl)
theorem dX3_addUsage_134 : decode cX3_addUsage 134 = .ok (.getfield 29, 3) := dk_180 0 29 (dk_at dksX3_addUsage_5 20 rfl rfl)
theorem dX3_addUsage_137 : decode cX3_addUsage 137 = .ok (.aload_n 0, 1) := dk_42 (dk_at dksX3_addUsage_5 23 rfl rfl)
theorem dX3_addUsage_138 : decode cX3_addUsage 138 = .ok (.getfield 168, 3) := dk_180 0 168 (dk_at dksX3_addUsage_6 0 rfl rfl)
theorem dX3_addUsage_141 : decode cX3_addUsage 141 = .ok (.iload 4, 2) := dk_21 4 (dk_at dksX3_addUsage_6 3 rfl rfl)
theorem dX3_addUsage_143 : decode cX3_addUsage 143 = .ok (.iastore, 1) := dk_79 (dk_at dksX3_addUsage_6 5 rfl rfl)
theorem dX3_addUsage_144 : decode cX3_addUsage 144 = .ok (.aload_n 0, 1) := dk_42 (dk_at dksX3_addUsage_6 6 rfl rfl)
theorem dX3_addUsage_145 : decode cX3_addUsage 145 = .ok (.getfield 32, 3) := dk_180 0 32 (dk_at dksX3_addUsage_6 7 rfl rfl)
theorem dX3_addUsage_148 : decode cX3_addUsage 148 = .ok (.aload_n 0, 1) := dk_42 (dk_at dksX3_addUsage_6 10 rfl rfl)
theorem dX3_addUsage_149 : decode cX3_addUsage 149 = .ok (.getfield 168, 3) := dk_180 0 168 (dk_at dksX3_addUsage_6 11 rfl rfl)
theorem dX3_addUsage_152 : decode cX3_addUsage 152 = .ok (.iload 5, 2) := dk_21 5 (dk_at dksX3_addUsage_6 14 rfl rfl)
theorem dX3_addUsage_154 : decode cX3_addUsage 154 = .ok (.iastore, 1) := dk_79 (dk_at dksX3_addUsage_6 16 rfl rfl)
theorem dX3_addUsage_155 : decode cX3_addUsage 155 = .ok (.aload_n 0, 1) := dk_42 (dk_at dksX3_addUsage_6 17 rfl rfl)
theorem dX3_addUsage_156 : decode cX3_addUsage 156 = .ok (.dup, 1) := dk_89 (dk_at dksX3_addUsage_6 18 rfl rfl)
theorem dX3_addUsage_157 : decode cX3_addUsage 157 = .ok (.getfield 168, 3) := dk_180 0 168 (dk_at dksX3_addUsage_6 19 rfl rfl)
theorem dX3_addUsage_160 : decode cX3_addUsage 160 = .ok (.iconst 1, 1) := dk_4 (dk_at dksX3_addUsage_6 22 rfl rfl)
theorem dX3_addUsage_161 : decode cX3_addUsage 161 = .ok (.iadd, 1) := dk_96 (dk_at dksX3_addUsage_6 23 rfl rfl)
theorem dX3_addUsage_162 : decode cX3_addUsage 162 = .ok (.putfield 168, 3) := dk_181 0 168 (dk_at dksX3_addUsage_7 0 rfl rfl)
theorem dX3_addUsage_165 : decode cX3_addUsage 165 = .ok (.aload_n 0, 1) := dk_42 (dk_at dksX3_addUsage_7 3 rfl rfl)
theorem dX3_addUsage_166 : decode cX3_addUsage 166 = .ok (.getfield 168, 3) := dk_180 0 168 (dk_at dksX3_addUsage_7 4 rfl rfl)
theorem dX3_addUsage_169 : decode cX3_addUsage 169 = .ok (.ireturn, 1) := dk_172 (dk_at dksX3_addUsage_7 7 rfl rfl)
abbrev cX3_noName : ByteArray := prog_23_method_7_code
def yX3_noName : MethodName := ⟨RX3, "noName", "(I)Z"⟩
def dkwX3_noName_0 : List UInt8 := [42, 27, 3, 42, 180, 0, 138, 4, 100, 184, 0, 130, 4, 182, 0, 134, 172]
abbrev dktX3_noName_0 : List UInt8 := dkwX3_noName_0 ++ []
theorem dksX3_noName_0 : cX3_noName.data.toList.drop 0 = dktX3_noName_0 := by decide +kernel
theorem dX3_noName_0 : decode cX3_noName 0 = .ok (.aload_n 0, 1) := dk_42 (dk_at dksX3_noName_0 0 rfl rfl)
theorem dX3_noName_1 : decode cX3_noName 1 = .ok (.iload_n 1, 1) := dk_27 (dk_at dksX3_noName_0 1 rfl rfl)
theorem dX3_noName_2 : decode cX3_noName 2 = .ok (.iconst 0, 1) := dk_3 (dk_at dksX3_noName_0 2 rfl rfl)
theorem dX3_noName_3 : decode cX3_noName 3 = .ok (.aload_n 0, 1) := dk_42 (dk_at dksX3_noName_0 3 rfl rfl)
theorem dX3_noName_4 : decode cX3_noName 4 = .ok (.getfield 138, 3) := dk_180 0 138 (dk_at dksX3_noName_0 4 rfl rfl)
theorem dX3_noName_7 : decode cX3_noName 7 = .ok (.iconst 1, 1) := dk_4 (dk_at dksX3_noName_0 7 rfl rfl)
theorem dX3_noName_8 : decode cX3_noName 8 = .ok (.isub, 1) := dk_100 (dk_at dksX3_noName_0 8 rfl rfl)
theorem dX3_noName_9 : decode cX3_noName 9 = .ok (.invokestatic 130, 3) := dk_184 0 130 (dk_at dksX3_noName_0 9 rfl rfl)
theorem dX3_noName_12 : decode cX3_noName 12 = .ok (.iconst 1, 1) := dk_4 (dk_at dksX3_noName_0 12 rfl rfl)
theorem dX3_noName_13 : decode cX3_noName 13 = .ok (.invokevirtual 134, 3) := dk_182 0 134 (dk_at dksX3_noName_0 13 rfl rfl)
theorem dX3_noName_16 : decode cX3_noName 16 = .ok (.ireturn, 1) := dk_172 (dk_at dksX3_noName_0 16 rfl rfl)
abbrev cX3_noStreet : ByteArray := prog_23_method_6_code
def yX3_noStreet : MethodName := ⟨RX3, "noStreet", "(I)Z"⟩
def dkwX3_noStreet_0 : List UInt8 := [42, 27, 3, 42, 180, 0, 127, 4, 100, 184, 0, 130, 4, 182, 0, 134, 172]
abbrev dktX3_noStreet_0 : List UInt8 := dkwX3_noStreet_0 ++ []
theorem dksX3_noStreet_0 : cX3_noStreet.data.toList.drop 0 = dktX3_noStreet_0 := by decide +kernel
theorem dX3_noStreet_0 : decode cX3_noStreet 0 = .ok (.aload_n 0, 1) := dk_42 (dk_at dksX3_noStreet_0 0 rfl rfl)
theorem dX3_noStreet_1 : decode cX3_noStreet 1 = .ok (.iload_n 1, 1) := dk_27 (dk_at dksX3_noStreet_0 1 rfl rfl)
theorem dX3_noStreet_2 : decode cX3_noStreet 2 = .ok (.iconst 0, 1) := dk_3 (dk_at dksX3_noStreet_0 2 rfl rfl)
theorem dX3_noStreet_3 : decode cX3_noStreet 3 = .ok (.aload_n 0, 1) := dk_42 (dk_at dksX3_noStreet_0 3 rfl rfl)
theorem dX3_noStreet_4 : decode cX3_noStreet 4 = .ok (.getfield 127, 3) := dk_180 0 127 (dk_at dksX3_noStreet_0 4 rfl rfl)
theorem dX3_noStreet_7 : decode cX3_noStreet 7 = .ok (.iconst 1, 1) := dk_4 (dk_at dksX3_noStreet_0 7 rfl rfl)
theorem dX3_noStreet_8 : decode cX3_noStreet 8 = .ok (.isub, 1) := dk_100 (dk_at dksX3_noStreet_0 8 rfl rfl)
theorem dX3_noStreet_9 : decode cX3_noStreet 9 = .ok (.invokestatic 130, 3) := dk_184 0 130 (dk_at dksX3_noStreet_0 9 rfl rfl)
theorem dX3_noStreet_12 : decode cX3_noStreet 12 = .ok (.iconst 1, 1) := dk_4 (dk_at dksX3_noStreet_0 12 rfl rfl)
theorem dX3_noStreet_13 : decode cX3_noStreet 13 = .ok (.invokevirtual 134, 3) := dk_182 0 134 (dk_at dksX3_noStreet_0 13 rfl rfl)
theorem dX3_noStreet_16 : decode cX3_noStreet 16 = .ok (.ireturn, 1) := dk_172 (dk_at dksX3_noStreet_0 16 rfl rfl)
abbrev cX3_isGroup : ByteArray := prog_23_method_10_code
def yX3_isGroup : MethodName := ⟨RX3, "isGroup", "(I)Z"⟩
def dkwX3_isGroup_0 : List UInt8 := [26, 3, 6, 184, 0, 130, 172]
abbrev dktX3_isGroup_0 : List UInt8 := dkwX3_isGroup_0 ++ []
theorem dksX3_isGroup_0 : cX3_isGroup.data.toList.drop 0 = dktX3_isGroup_0 := by decide +kernel
theorem dX3_isGroup_0 : decode cX3_isGroup 0 = .ok (.iload_n 0, 1) := dk_26 (dk_at dksX3_isGroup_0 0 rfl rfl)
theorem dX3_isGroup_1 : decode cX3_isGroup 1 = .ok (.iconst 0, 1) := dk_3 (dk_at dksX3_isGroup_0 1 rfl rfl)
theorem dX3_isGroup_2 : decode cX3_isGroup 2 = .ok (.iconst 3, 1) := dk_6 (dk_at dksX3_isGroup_0 2 rfl rfl)
theorem dX3_isGroup_3 : decode cX3_isGroup 3 = .ok (.invokestatic 130, 3) := dk_184 0 130 (dk_at dksX3_isGroup_0 3 rfl rfl)
theorem dX3_isGroup_6 : decode cX3_isGroup 6 = .ok (.ireturn, 1) := dk_172 (dk_at dksX3_isGroup_0 6 rfl rfl)
abbrev cX3_isFree : ByteArray := prog_23_method_16_code
def yX3_isFree : MethodName := ⟨RX3, "isFree", "(IIII)Z"⟩
def dkwX3_isFree_2 : List UInt8 := [180, 0, 32, 21, 5, 46, 163, 0, 5, 3, 172, 132, 5, 1, 167, 255, 197, 4, 172]
abbrev dktX3_isFree_2 : List UInt8 := dkwX3_isFree_2 ++ []
def dkwX3_isFree_1 : List UInt8 := [180, 0, 23, 21, 5, 46, 28, 160, 0, 28, 42, 180, 0, 29, 21, 5, 46, 21, 4, 163, 0, 16, 29, 42]
abbrev dktX3_isFree_1 : List UInt8 := dkwX3_isFree_1 ++ dktX3_isFree_2
def dkwX3_isFree_0 : List UInt8 := [3, 54, 5, 21, 5, 42, 180, 0, 168, 162, 0, 56, 42, 180, 0, 20, 21, 5, 46, 27, 160, 0, 39, 42]
abbrev dktX3_isFree_0 : List UInt8 := dkwX3_isFree_0 ++ dktX3_isFree_1
theorem dksX3_isFree_0 : cX3_isFree.data.toList.drop 0 = dktX3_isFree_0 := by decide +kernel
theorem dksX3_isFree_1 : cX3_isFree.data.toList.drop 24 = dktX3_isFree_1 := dk_seg dksX3_isFree_0 24 rfl rfl
theorem dksX3_isFree_2 : cX3_isFree.data.toList.drop 48 = dktX3_isFree_2 := dk_seg dksX3_isFree_1 24 rfl rfl
theorem dX3_isFree_0 : decode cX3_isFree 0 = .ok (.iconst 0, 1) := dk_3 (dk_at dksX3_isFree_0 0 rfl rfl)
theorem dX3_isFree_1 : decode cX3_isFree 1 = .ok (.istore 5, 2) := dk_54 5 (dk_at dksX3_isFree_0 1 rfl rfl)
theorem dX3_isFree_3 : decode cX3_isFree 3 = .ok (.iload 5, 2) := dk_21 5 (dk_at dksX3_isFree_0 3 rfl rfl)
theorem dX3_isFree_5 : decode cX3_isFree 5 = .ok (.aload_n 0, 1) := dk_42 (dk_at dksX3_isFree_0 5 rfl rfl)
theorem dX3_isFree_6 : decode cX3_isFree 6 = .ok (.getfield 168, 3) := dk_180 0 168 (dk_at dksX3_isFree_0 6 rfl rfl)
theorem dX3_isFree_9 : decode cX3_isFree 9 = .ok (.if_icmp .ge 56, 3) := dk_162 0 56 (dk_at dksX3_isFree_0 9 rfl rfl)
theorem dX3_isFree_12 : decode cX3_isFree 12 = .ok (.aload_n 0, 1) := dk_42 (dk_at dksX3_isFree_0 12 rfl rfl)
theorem dX3_isFree_13 : decode cX3_isFree 13 = .ok (.getfield 20, 3) := dk_180 0 20 (dk_at dksX3_isFree_0 13 rfl rfl)
theorem dX3_isFree_16 : decode cX3_isFree 16 = .ok (.iload 5, 2) := dk_21 5 (dk_at dksX3_isFree_0 16 rfl rfl)
theorem dX3_isFree_18 : decode cX3_isFree 18 = .ok (.iaload, 1) := dk_46 (dk_at dksX3_isFree_0 18 rfl rfl)
theorem dX3_isFree_19 : decode cX3_isFree 19 = .ok (.iload_n 1, 1) := dk_27 (dk_at dksX3_isFree_0 19 rfl rfl)
theorem dX3_isFree_20 : decode cX3_isFree 20 = .ok (.if_icmp .ne 39, 3) := dk_160 0 39 (dk_at dksX3_isFree_0 20 rfl rfl)
theorem dX3_isFree_23 : decode cX3_isFree 23 = .ok (.aload_n 0, 1) := dk_42 (dk_at dksX3_isFree_0 23 rfl rfl)
theorem dX3_isFree_24 : decode cX3_isFree 24 = .ok (.getfield 23, 3) := dk_180 0 23 (dk_at dksX3_isFree_1 0 rfl rfl)
theorem dX3_isFree_27 : decode cX3_isFree 27 = .ok (.iload 5, 2) := dk_21 5 (dk_at dksX3_isFree_1 3 rfl rfl)
theorem dX3_isFree_29 : decode cX3_isFree 29 = .ok (.iaload, 1) := dk_46 (dk_at dksX3_isFree_1 5 rfl rfl)
theorem dX3_isFree_30 : decode cX3_isFree 30 = .ok (.iload_n 2, 1) := dk_28 (dk_at dksX3_isFree_1 6 rfl rfl)
theorem dX3_isFree_31 : decode cX3_isFree 31 = .ok (.if_icmp .ne 28, 3) := dk_160 0 28 (dk_at dksX3_isFree_1 7 rfl rfl)
theorem dX3_isFree_34 : decode cX3_isFree 34 = .ok (.aload_n 0, 1) := dk_42 (dk_at dksX3_isFree_1 10 rfl rfl)
theorem dX3_isFree_35 : decode cX3_isFree 35 = .ok (.getfield 29, 3) := dk_180 0 29 (dk_at dksX3_isFree_1 11 rfl rfl)
theorem dX3_isFree_38 : decode cX3_isFree 38 = .ok (.iload 5, 2) := dk_21 5 (dk_at dksX3_isFree_1 14 rfl rfl)
theorem dX3_isFree_40 : decode cX3_isFree 40 = .ok (.iaload, 1) := dk_46 (dk_at dksX3_isFree_1 16 rfl rfl)
theorem dX3_isFree_41 : decode cX3_isFree 41 = .ok (.iload 4, 2) := dk_21 4 (dk_at dksX3_isFree_1 17 rfl rfl)
theorem dX3_isFree_43 : decode cX3_isFree 43 = .ok (.if_icmp .gt 16, 3) := dk_163 0 16 (dk_at dksX3_isFree_1 19 rfl rfl)
theorem dX3_isFree_46 : decode cX3_isFree 46 = .ok (.iload_n 3, 1) := dk_29 (dk_at dksX3_isFree_1 22 rfl rfl)
theorem dX3_isFree_47 : decode cX3_isFree 47 = .ok (.aload_n 0, 1) := dk_42 (dk_at dksX3_isFree_1 23 rfl rfl)
theorem dX3_isFree_48 : decode cX3_isFree 48 = .ok (.getfield 32, 3) := dk_180 0 32 (dk_at dksX3_isFree_2 0 rfl rfl)
theorem dX3_isFree_51 : decode cX3_isFree 51 = .ok (.iload 5, 2) := dk_21 5 (dk_at dksX3_isFree_2 3 rfl rfl)
theorem dX3_isFree_53 : decode cX3_isFree 53 = .ok (.iaload, 1) := dk_46 (dk_at dksX3_isFree_2 5 rfl rfl)
theorem dX3_isFree_54 : decode cX3_isFree 54 = .ok (.if_icmp .gt 5, 3) := dk_163 0 5 (dk_at dksX3_isFree_2 6 rfl rfl)
theorem dX3_isFree_57 : decode cX3_isFree 57 = .ok (.iconst 0, 1) := dk_3 (dk_at dksX3_isFree_2 9 rfl rfl)
theorem dX3_isFree_58 : decode cX3_isFree 58 = .ok (.ireturn, 1) := dk_172 (dk_at dksX3_isFree_2 10 rfl rfl)
theorem dX3_isFree_59 : decode cX3_isFree 59 = .ok (.iinc 5 1, 3) := dk_132 5 1 (dk_at dksX3_isFree_2 11 rfl rfl)
theorem dX3_isFree_62 : decode cX3_isFree 62 = .ok (.goto (-59), 3) := dk_167 255 197 (dk_at dksX3_isFree_2 14 rfl rfl)
theorem dX3_isFree_65 : decode cX3_isFree 65 = .ok (.iconst 1, 1) := dk_4 (dk_at dksX3_isFree_2 17 rfl rfl)
theorem dX3_isFree_66 : decode cX3_isFree 66 = .ok (.ireturn, 1) := dk_172 (dk_at dksX3_isFree_2 18 rfl rfl)
abbrev cX3_streetFor : ByteArray := prog_23_method_18_code
def yX3_streetFor : MethodName := ⟨RX3, "streetFor", "(III)I"⟩
def dkwX3_streetFor_4 : List UInt8 := [46, 184, 0, 130, 153, 0, 11, 42, 180, 0, 26, 21, 4, 46, 172, 132, 4, 1, 167, 255, 193, 2, 172]
abbrev dktX3_streetFor_4 : List UInt8 := dkwX3_streetFor_4 ++ []
def dkwX3_streetFor_3 : List UInt8 := [180, 0, 23, 21, 4, 46, 29, 160, 0, 32, 28, 42, 180, 0, 29, 21, 4, 46, 42, 180, 0, 32, 21, 4]
abbrev dktX3_streetFor_3 : List UInt8 := dkwX3_streetFor_3 ++ dktX3_streetFor_4
def dkwX3_streetFor_2 : List UInt8 := [54, 4, 21, 4, 42, 180, 0, 168, 162, 0, 60, 42, 180, 0, 20, 21, 4, 46, 27, 160, 0, 43, 42]
abbrev dktX3_streetFor_2 : List UInt8 := dkwX3_streetFor_2 ++ dktX3_streetFor_3
def dkwX3_streetFor_1 : List UInt8 := [16, 99, 184, 0, 130, 153, 0, 7, 4, 167, 0, 4, 3, 5, 182, 0, 134, 153, 0, 5, 3, 172, 3]
abbrev dktX3_streetFor_1 : List UInt8 := dkwX3_streetFor_1 ++ dktX3_streetFor_2
def dkwX3_streetFor_0 : List UInt8 := [42, 3, 181, 0, 1, 42, 29, 182, 0, 171, 154, 0, 33, 42, 27, 184, 0, 177, 153, 0, 17, 28, 3]
abbrev dktX3_streetFor_0 : List UInt8 := dkwX3_streetFor_0 ++ dktX3_streetFor_1
theorem dksX3_streetFor_0 : cX3_streetFor.data.toList.drop 0 = dktX3_streetFor_0 := by decide +kernel
theorem dksX3_streetFor_1 : cX3_streetFor.data.toList.drop 23 = dktX3_streetFor_1 := dk_seg dksX3_streetFor_0 23 rfl rfl
theorem dksX3_streetFor_2 : cX3_streetFor.data.toList.drop 46 = dktX3_streetFor_2 := dk_seg dksX3_streetFor_1 23 rfl rfl
theorem dksX3_streetFor_3 : cX3_streetFor.data.toList.drop 69 = dktX3_streetFor_3 := dk_seg dksX3_streetFor_2 23 rfl rfl
theorem dksX3_streetFor_4 : cX3_streetFor.data.toList.drop 93 = dktX3_streetFor_4 := dk_seg dksX3_streetFor_3 24 rfl rfl
theorem dX3_streetFor_0 : decode cX3_streetFor 0 = .ok (.aload_n 0, 1) := dk_42 (dk_at dksX3_streetFor_0 0 rfl rfl)
theorem dX3_streetFor_1 : decode cX3_streetFor 1 = .ok (.iconst 0, 1) := dk_3 (dk_at dksX3_streetFor_0 1 rfl rfl)
theorem dX3_streetFor_2 : decode cX3_streetFor 2 = .ok (.putfield 1, 3) := dk_181 0 1 (dk_at dksX3_streetFor_0 2 rfl rfl)
theorem dX3_streetFor_5 : decode cX3_streetFor 5 = .ok (.aload_n 0, 1) := dk_42 (dk_at dksX3_streetFor_0 5 rfl rfl)
theorem dX3_streetFor_6 : decode cX3_streetFor 6 = .ok (.iload_n 3, 1) := dk_29 (dk_at dksX3_streetFor_0 6 rfl rfl)
theorem dX3_streetFor_7 : decode cX3_streetFor 7 = .ok (.invokevirtual 171, 3) := dk_182 0 171 (dk_at dksX3_streetFor_0 7 rfl rfl)
theorem dX3_streetFor_10 : decode cX3_streetFor 10 = .ok (.ifCond .ne 33, 3) := dk_154 0 33 (dk_at dksX3_streetFor_0 10 rfl rfl)
theorem dX3_streetFor_13 : decode cX3_streetFor 13 = .ok (.aload_n 0, 1) := dk_42 (dk_at dksX3_streetFor_0 13 rfl rfl)
theorem dX3_streetFor_14 : decode cX3_streetFor 14 = .ok (.iload_n 1, 1) := dk_27 (dk_at dksX3_streetFor_0 14 rfl rfl)
theorem dX3_streetFor_15 : decode cX3_streetFor 15 = .ok (.invokestatic 177, 3) := dk_184 0 177 (dk_at dksX3_streetFor_0 15 rfl rfl)
theorem dX3_streetFor_18 : decode cX3_streetFor 18 = .ok (.ifCond .eq 17, 3) := dk_153 0 17 (dk_at dksX3_streetFor_0 18 rfl rfl)
theorem dX3_streetFor_21 : decode cX3_streetFor 21 = .ok (.iload_n 2, 1) := dk_28 (dk_at dksX3_streetFor_0 21 rfl rfl)
theorem dX3_streetFor_22 : decode cX3_streetFor 22 = .ok (.iconst 0, 1) := dk_3 (dk_at dksX3_streetFor_0 22 rfl rfl)
theorem dX3_streetFor_23 : decode cX3_streetFor 23 = .ok (.bipush 99, 2) := dk_16 99 (dk_at dksX3_streetFor_1 0 rfl rfl)
theorem dX3_streetFor_25 : decode cX3_streetFor 25 = .ok (.invokestatic 130, 3) := dk_184 0 130 (dk_at dksX3_streetFor_1 2 rfl rfl)
theorem dX3_streetFor_28 : decode cX3_streetFor 28 = .ok (.ifCond .eq 7, 3) := dk_153 0 7 (dk_at dksX3_streetFor_1 5 rfl rfl)
theorem dX3_streetFor_31 : decode cX3_streetFor 31 = .ok (.iconst 1, 1) := dk_4 (dk_at dksX3_streetFor_1 8 rfl rfl)
theorem dX3_streetFor_32 : decode cX3_streetFor 32 = .ok (.goto 4, 3) := dk_167 0 4 (dk_at dksX3_streetFor_1 9 rfl rfl)
theorem dX3_streetFor_35 : decode cX3_streetFor 35 = .ok (.iconst 0, 1) := dk_3 (dk_at dksX3_streetFor_1 12 rfl rfl)
theorem dX3_streetFor_36 : decode cX3_streetFor 36 = .ok (.iconst 2, 1) := dk_5 (dk_at dksX3_streetFor_1 13 rfl rfl)
theorem dX3_streetFor_37 : decode cX3_streetFor 37 = .ok (.invokevirtual 134, 3) := dk_182 0 134 (dk_at dksX3_streetFor_1 14 rfl rfl)
theorem dX3_streetFor_40 : decode cX3_streetFor 40 = .ok (.ifCond .eq 5, 3) := dk_153 0 5 (dk_at dksX3_streetFor_1 17 rfl rfl)
theorem dX3_streetFor_43 : decode cX3_streetFor 43 = .ok (.iconst 0, 1) := dk_3 (dk_at dksX3_streetFor_1 20 rfl rfl)
theorem dX3_streetFor_44 : decode cX3_streetFor 44 = .ok (.ireturn, 1) := dk_172 (dk_at dksX3_streetFor_1 21 rfl rfl)
theorem dX3_streetFor_45 : decode cX3_streetFor 45 = .ok (.iconst 0, 1) := dk_3 (dk_at dksX3_streetFor_1 22 rfl rfl)
theorem dX3_streetFor_46 : decode cX3_streetFor 46 = .ok (.istore 4, 2) := dk_54 4 (dk_at dksX3_streetFor_2 0 rfl rfl)
theorem dX3_streetFor_48 : decode cX3_streetFor 48 = .ok (.iload 4, 2) := dk_21 4 (dk_at dksX3_streetFor_2 2 rfl rfl)
theorem dX3_streetFor_50 : decode cX3_streetFor 50 = .ok (.aload_n 0, 1) := dk_42 (dk_at dksX3_streetFor_2 4 rfl rfl)
theorem dX3_streetFor_51 : decode cX3_streetFor 51 = .ok (.getfield 168, 3) := dk_180 0 168 (dk_at dksX3_streetFor_2 5 rfl rfl)
theorem dX3_streetFor_54 : decode cX3_streetFor 54 = .ok (.if_icmp .ge 60, 3) := dk_162 0 60 (dk_at dksX3_streetFor_2 8 rfl rfl)
theorem dX3_streetFor_57 : decode cX3_streetFor 57 = .ok (.aload_n 0, 1) := dk_42 (dk_at dksX3_streetFor_2 11 rfl rfl)
theorem dX3_streetFor_58 : decode cX3_streetFor 58 = .ok (.getfield 20, 3) := dk_180 0 20 (dk_at dksX3_streetFor_2 12 rfl rfl)
theorem dX3_streetFor_61 : decode cX3_streetFor 61 = .ok (.iload 4, 2) := dk_21 4 (dk_at dksX3_streetFor_2 15 rfl rfl)
theorem dX3_streetFor_63 : decode cX3_streetFor 63 = .ok (.iaload, 1) := dk_46 (dk_at dksX3_streetFor_2 17 rfl rfl)
theorem dX3_streetFor_64 : decode cX3_streetFor 64 = .ok (.iload_n 1, 1) := dk_27 (dk_at dksX3_streetFor_2 18 rfl rfl)
theorem dX3_streetFor_65 : decode cX3_streetFor 65 = .ok (.if_icmp .ne 43, 3) := dk_160 0 43 (dk_at dksX3_streetFor_2 19 rfl rfl)
theorem dX3_streetFor_68 : decode cX3_streetFor 68 = .ok (.aload_n 0, 1) := dk_42 (dk_at dksX3_streetFor_2 22 rfl rfl)
theorem dX3_streetFor_69 : decode cX3_streetFor 69 = .ok (.getfield 23, 3) := dk_180 0 23 (dk_at dksX3_streetFor_3 0 rfl rfl)
theorem dX3_streetFor_72 : decode cX3_streetFor 72 = .ok (.iload 4, 2) := dk_21 4 (dk_at dksX3_streetFor_3 3 rfl rfl)
theorem dX3_streetFor_74 : decode cX3_streetFor 74 = .ok (.iaload, 1) := dk_46 (dk_at dksX3_streetFor_3 5 rfl rfl)
theorem dX3_streetFor_75 : decode cX3_streetFor 75 = .ok (.iload_n 3, 1) := dk_29 (dk_at dksX3_streetFor_3 6 rfl rfl)
theorem dX3_streetFor_76 : decode cX3_streetFor 76 = .ok (.if_icmp .ne 32, 3) := dk_160 0 32 (dk_at dksX3_streetFor_3 7 rfl rfl)
theorem dX3_streetFor_79 : decode cX3_streetFor 79 = .ok (.iload_n 2, 1) := dk_28 (dk_at dksX3_streetFor_3 10 rfl rfl)
theorem dX3_streetFor_80 : decode cX3_streetFor 80 = .ok (.aload_n 0, 1) := dk_42 (dk_at dksX3_streetFor_3 11 rfl rfl)
theorem dX3_streetFor_81 : decode cX3_streetFor 81 = .ok (.getfield 29, 3) := dk_180 0 29 (dk_at dksX3_streetFor_3 12 rfl rfl)
theorem dX3_streetFor_84 : decode cX3_streetFor 84 = .ok (.iload 4, 2) := dk_21 4 (dk_at dksX3_streetFor_3 15 rfl rfl)
theorem dX3_streetFor_86 : decode cX3_streetFor 86 = .ok (.iaload, 1) := dk_46 (dk_at dksX3_streetFor_3 17 rfl rfl)
theorem dX3_streetFor_87 : decode cX3_streetFor 87 = .ok (.aload_n 0, 1) := dk_42 (dk_at dksX3_streetFor_3 18 rfl rfl)
theorem dX3_streetFor_88 : decode cX3_streetFor 88 = .ok (.getfield 32, 3) := dk_180 0 32 (dk_at dksX3_streetFor_3 19 rfl rfl)
theorem dX3_streetFor_91 : decode cX3_streetFor 91 = .ok (.iload 4, 2) := dk_21 4 (dk_at dksX3_streetFor_3 22 rfl rfl)
theorem dX3_streetFor_93 : decode cX3_streetFor 93 = .ok (.iaload, 1) := dk_46 (dk_at dksX3_streetFor_4 0 rfl rfl)
theorem dX3_streetFor_94 : decode cX3_streetFor 94 = .ok (.invokestatic 130, 3) := dk_184 0 130 (dk_at dksX3_streetFor_4 1 rfl rfl)
theorem dX3_streetFor_97 : decode cX3_streetFor 97 = .ok (.ifCond .eq 11, 3) := dk_153 0 11 (dk_at dksX3_streetFor_4 4 rfl rfl)
theorem dX3_streetFor_100 : decode cX3_streetFor 100 = .ok (.aload_n 0, 1) := dk_42 (dk_at dksX3_streetFor_4 7 rfl rfl)
theorem dX3_streetFor_101 : decode cX3_streetFor 101 = .ok (.getfield 26, 3) := dk_180 0 26 (dk_at dksX3_streetFor_4 8 rfl rfl)
theorem dX3_streetFor_104 : decode cX3_streetFor 104 = .ok (.iload 4, 2) := dk_21 4 (dk_at dksX3_streetFor_4 11 rfl rfl)
theorem dX3_streetFor_106 : decode cX3_streetFor 106 = .ok (.iaload, 1) := dk_46 (dk_at dksX3_streetFor_4 13 rfl rfl)
theorem dX3_streetFor_107 : decode cX3_streetFor 107 = .ok (.ireturn, 1) := dk_172 (dk_at dksX3_streetFor_4 14 rfl rfl)
theorem dX3_streetFor_108 : decode cX3_streetFor 108 = .ok (.iinc 4 1, 3) := dk_132 4 1 (dk_at dksX3_streetFor_4 15 rfl rfl)
theorem dX3_streetFor_111 : decode cX3_streetFor 111 = .ok (.goto (-63), 3) := dk_167 255 193 (dk_at dksX3_streetFor_4 18 rfl rfl)
theorem dX3_streetFor_114 : decode cX3_streetFor 114 = .ok (.iconst (-1), 1) := dk_2 (dk_at dksX3_streetFor_4 21 rfl rfl)
theorem dX3_streetFor_115 : decode cX3_streetFor 115 = .ok (.ireturn, 1) := dk_172 (dk_at dksX3_streetFor_4 22 rfl rfl)
abbrev cX3_addCarrier : ByteArray := prog_23_method_24_code
def yX3_addCarrier : MethodName := ⟨RX3, "addCarrier", "(II)I"⟩
def dkwX3_addCarrier_4 : List UInt8 := [100, 172]
abbrev dktX3_addCarrier_4 : List UInt8 := dkwX3_addCarrier_4 ++ []
def dkwX3_addCarrier_3 : List UInt8 := [180, 0, 48, 42, 180, 0, 141, 28, 79, 42, 89, 180, 0, 141, 4, 96, 181, 0, 141, 42, 180, 0, 141, 4]
abbrev dktX3_addCarrier_3 : List UInt8 := dkwX3_addCarrier_3 ++ dktX3_addCarrier_4
def dkwX3_addCarrier_2 : List UInt8 := [167, 0, 4, 3, 5, 182, 0, 134, 153, 0, 5, 3, 172, 42, 180, 0, 45, 42, 180, 0, 141, 27, 79, 42]
abbrev dktX3_addCarrier_2 : List UInt8 := dkwX3_addCarrier_2 ++ dktX3_addCarrier_3
def dkwX3_addCarrier_1 : List UInt8 := [4, 167, 0, 4, 3, 4, 182, 0, 134, 154, 0, 24, 42, 42, 180, 0, 141, 8, 162, 0, 7, 4]
abbrev dktX3_addCarrier_1 : List UInt8 := dkwX3_addCarrier_1 ++ dktX3_addCarrier_2
def dkwX3_addCarrier_0 : List UInt8 := [42, 3, 181, 0, 1, 42, 42, 27, 182, 0, 188, 153, 0, 17, 28, 4, 16, 9, 184, 0, 130, 153, 0, 7]
abbrev dktX3_addCarrier_0 : List UInt8 := dkwX3_addCarrier_0 ++ dktX3_addCarrier_1
theorem dksX3_addCarrier_0 : cX3_addCarrier.data.toList.drop 0 = dktX3_addCarrier_0 := by decide +kernel
theorem dksX3_addCarrier_1 : cX3_addCarrier.data.toList.drop 24 = dktX3_addCarrier_1 := dk_seg dksX3_addCarrier_0 24 rfl rfl
theorem dksX3_addCarrier_2 : cX3_addCarrier.data.toList.drop 46 = dktX3_addCarrier_2 := dk_seg dksX3_addCarrier_1 22 rfl rfl
theorem dksX3_addCarrier_3 : cX3_addCarrier.data.toList.drop 70 = dktX3_addCarrier_3 := dk_seg dksX3_addCarrier_2 24 rfl rfl
theorem dksX3_addCarrier_4 : cX3_addCarrier.data.toList.drop 94 = dktX3_addCarrier_4 := dk_seg dksX3_addCarrier_3 24 rfl rfl
theorem dX3_addCarrier_0 : decode cX3_addCarrier 0 = .ok (.aload_n 0, 1) := dk_42 (dk_at dksX3_addCarrier_0 0 rfl rfl)
theorem dX3_addCarrier_1 : decode cX3_addCarrier 1 = .ok (.iconst 0, 1) := dk_3 (dk_at dksX3_addCarrier_0 1 rfl rfl)
theorem dX3_addCarrier_2 : decode cX3_addCarrier 2 = .ok (.putfield 1, 3) := dk_181 0 1 (dk_at dksX3_addCarrier_0 2 rfl rfl)
theorem dX3_addCarrier_5 : decode cX3_addCarrier 5 = .ok (.aload_n 0, 1) := dk_42 (dk_at dksX3_addCarrier_0 5 rfl rfl)
theorem dX3_addCarrier_6 : decode cX3_addCarrier 6 = .ok (.aload_n 0, 1) := dk_42 (dk_at dksX3_addCarrier_0 6 rfl rfl)
theorem dX3_addCarrier_7 : decode cX3_addCarrier 7 = .ok (.iload_n 1, 1) := dk_27 (dk_at dksX3_addCarrier_0 7 rfl rfl)
theorem dX3_addCarrier_8 : decode cX3_addCarrier 8 = .ok (.invokevirtual 188, 3) := dk_182 0 188 (dk_at dksX3_addCarrier_0 8 rfl rfl)
theorem dX3_addCarrier_11 : decode cX3_addCarrier 11 = .ok (.ifCond .eq 17, 3) := dk_153 0 17 (dk_at dksX3_addCarrier_0 11 rfl rfl)
theorem dX3_addCarrier_14 : decode cX3_addCarrier 14 = .ok (.iload_n 2, 1) := dk_28 (dk_at dksX3_addCarrier_0 14 rfl rfl)
theorem dX3_addCarrier_15 : decode cX3_addCarrier 15 = .ok (.iconst 1, 1) := dk_4 (dk_at dksX3_addCarrier_0 15 rfl rfl)
theorem dX3_addCarrier_16 : decode cX3_addCarrier 16 = .ok (.bipush 9, 2) := dk_16 9 (dk_at dksX3_addCarrier_0 16 rfl rfl)
theorem dX3_addCarrier_18 : decode cX3_addCarrier 18 = .ok (.invokestatic 130, 3) := dk_184 0 130 (dk_at dksX3_addCarrier_0 18 rfl rfl)
theorem dX3_addCarrier_21 : decode cX3_addCarrier 21 = .ok (.ifCond .eq 7, 3) := dk_153 0 7 (dk_at dksX3_addCarrier_0 21 rfl rfl)
theorem dX3_addCarrier_24 : decode cX3_addCarrier 24 = .ok (.iconst 1, 1) := dk_4 (dk_at dksX3_addCarrier_1 0 rfl rfl)
theorem dX3_addCarrier_25 : decode cX3_addCarrier 25 = .ok (.goto 4, 3) := dk_167 0 4 (dk_at dksX3_addCarrier_1 1 rfl rfl)
theorem dX3_addCarrier_28 : decode cX3_addCarrier 28 = .ok (.iconst 0, 1) := dk_3 (dk_at dksX3_addCarrier_1 4 rfl rfl)
theorem dX3_addCarrier_29 : decode cX3_addCarrier 29 = .ok (.iconst 1, 1) := dk_4 (dk_at dksX3_addCarrier_1 5 rfl rfl)
theorem dX3_addCarrier_30 : decode cX3_addCarrier 30 = .ok (.invokevirtual 134, 3) := dk_182 0 134 (dk_at dksX3_addCarrier_1 6 rfl rfl)
theorem dX3_addCarrier_33 : decode cX3_addCarrier 33 = .ok (.ifCond .ne 24, 3) := dk_154 0 24 (dk_at dksX3_addCarrier_1 9 rfl rfl)
theorem dX3_addCarrier_36 : decode cX3_addCarrier 36 = .ok (.aload_n 0, 1) := dk_42 (dk_at dksX3_addCarrier_1 12 rfl rfl)
theorem dX3_addCarrier_37 : decode cX3_addCarrier 37 = .ok (.aload_n 0, 1) := dk_42 (dk_at dksX3_addCarrier_1 13 rfl rfl)
theorem dX3_addCarrier_38 : decode cX3_addCarrier 38 = .ok (.getfield 141, 3) := dk_180 0 141 (dk_at dksX3_addCarrier_1 14 rfl rfl)
theorem dX3_addCarrier_41 : decode cX3_addCarrier 41 = .ok (.iconst 5, 1) := dk_8 (dk_at dksX3_addCarrier_1 17 rfl rfl)
theorem dX3_addCarrier_42 : decode cX3_addCarrier 42 = .ok (.if_icmp .ge 7, 3) := dk_162 0 7 (dk_at dksX3_addCarrier_1 18 rfl rfl)
theorem dX3_addCarrier_45 : decode cX3_addCarrier 45 = .ok (.iconst 1, 1) := dk_4 (dk_at dksX3_addCarrier_1 21 rfl rfl)
theorem dX3_addCarrier_46 : decode cX3_addCarrier 46 = .ok (.goto 4, 3) := dk_167 0 4 (dk_at dksX3_addCarrier_2 0 rfl rfl)
theorem dX3_addCarrier_49 : decode cX3_addCarrier 49 = .ok (.iconst 0, 1) := dk_3 (dk_at dksX3_addCarrier_2 3 rfl rfl)
theorem dX3_addCarrier_50 : decode cX3_addCarrier 50 = .ok (.iconst 2, 1) := dk_5 (dk_at dksX3_addCarrier_2 4 rfl rfl)
theorem dX3_addCarrier_51 : decode cX3_addCarrier 51 = .ok (.invokevirtual 134, 3) := dk_182 0 134 (dk_at dksX3_addCarrier_2 5 rfl rfl)
theorem dX3_addCarrier_54 : decode cX3_addCarrier 54 = .ok (.ifCond .eq 5, 3) := dk_153 0 5 (dk_at dksX3_addCarrier_2 8 rfl rfl)
theorem dX3_addCarrier_57 : decode cX3_addCarrier 57 = .ok (.iconst 0, 1) := dk_3 (dk_at dksX3_addCarrier_2 11 rfl rfl)
theorem dX3_addCarrier_58 : decode cX3_addCarrier 58 = .ok (.ireturn, 1) := dk_172 (dk_at dksX3_addCarrier_2 12 rfl rfl)
theorem dX3_addCarrier_59 : decode cX3_addCarrier 59 = .ok (.aload_n 0, 1) := dk_42 (dk_at dksX3_addCarrier_2 13 rfl rfl)
theorem dX3_addCarrier_60 : decode cX3_addCarrier 60 = .ok (.getfield 45, 3) := dk_180 0 45 (dk_at dksX3_addCarrier_2 14 rfl rfl)
theorem dX3_addCarrier_63 : decode cX3_addCarrier 63 = .ok (.aload_n 0, 1) := dk_42 (dk_at dksX3_addCarrier_2 17 rfl rfl)
theorem dX3_addCarrier_64 : decode cX3_addCarrier 64 = .ok (.getfield 141, 3) := dk_180 0 141 (dk_at dksX3_addCarrier_2 18 rfl rfl)
theorem dX3_addCarrier_67 : decode cX3_addCarrier 67 = .ok (.iload_n 1, 1) := dk_27 (dk_at dksX3_addCarrier_2 21 rfl rfl)
theorem dX3_addCarrier_68 : decode cX3_addCarrier 68 = .ok (.iastore, 1) := dk_79 (dk_at dksX3_addCarrier_2 22 rfl rfl)
theorem dX3_addCarrier_69 : decode cX3_addCarrier 69 = .ok (.aload_n 0, 1) := dk_42 (dk_at dksX3_addCarrier_2 23 rfl rfl)
theorem dX3_addCarrier_70 : decode cX3_addCarrier 70 = .ok (.getfield 48, 3) := dk_180 0 48 (dk_at dksX3_addCarrier_3 0 rfl rfl)
theorem dX3_addCarrier_73 : decode cX3_addCarrier 73 = .ok (.aload_n 0, 1) := dk_42 (dk_at dksX3_addCarrier_3 3 rfl rfl)
theorem dX3_addCarrier_74 : decode cX3_addCarrier 74 = .ok (.getfield 141, 3) := dk_180 0 141 (dk_at dksX3_addCarrier_3 4 rfl rfl)
theorem dX3_addCarrier_77 : decode cX3_addCarrier 77 = .ok (.iload_n 2, 1) := dk_28 (dk_at dksX3_addCarrier_3 7 rfl rfl)
theorem dX3_addCarrier_78 : decode cX3_addCarrier 78 = .ok (.iastore, 1) := dk_79 (dk_at dksX3_addCarrier_3 8 rfl rfl)
theorem dX3_addCarrier_79 : decode cX3_addCarrier 79 = .ok (.aload_n 0, 1) := dk_42 (dk_at dksX3_addCarrier_3 9 rfl rfl)
theorem dX3_addCarrier_80 : decode cX3_addCarrier 80 = .ok (.dup, 1) := dk_89 (dk_at dksX3_addCarrier_3 10 rfl rfl)
theorem dX3_addCarrier_81 : decode cX3_addCarrier 81 = .ok (.getfield 141, 3) := dk_180 0 141 (dk_at dksX3_addCarrier_3 11 rfl rfl)
theorem dX3_addCarrier_84 : decode cX3_addCarrier 84 = .ok (.iconst 1, 1) := dk_4 (dk_at dksX3_addCarrier_3 14 rfl rfl)
theorem dX3_addCarrier_85 : decode cX3_addCarrier 85 = .ok (.iadd, 1) := dk_96 (dk_at dksX3_addCarrier_3 15 rfl rfl)
theorem dX3_addCarrier_86 : decode cX3_addCarrier 86 = .ok (.putfield 141, 3) := dk_181 0 141 (dk_at dksX3_addCarrier_3 16 rfl rfl)
theorem dX3_addCarrier_89 : decode cX3_addCarrier 89 = .ok (.aload_n 0, 1) := dk_42 (dk_at dksX3_addCarrier_3 19 rfl rfl)
theorem dX3_addCarrier_90 : decode cX3_addCarrier 90 = .ok (.getfield 141, 3) := dk_180 0 141 (dk_at dksX3_addCarrier_3 20 rfl rfl)
theorem dX3_addCarrier_93 : decode cX3_addCarrier 93 = .ok (.iconst 1, 1) := dk_4 (dk_at dksX3_addCarrier_3 23 rfl rfl)
theorem dX3_addCarrier_94 : decode cX3_addCarrier 94 = .ok (.isub, 1) := dk_100 (dk_at dksX3_addCarrier_4 0 rfl rfl)
theorem dX3_addCarrier_95 : decode cX3_addCarrier 95 = .ok (.ireturn, 1) := dk_172 (dk_at dksX3_addCarrier_4 1 rfl rfl)
abbrev cX3_isRound : ByteArray := prog_23_method_23_code
def yX3_isRound : MethodName := ⟨RX3, "isRound", "(I)Z"⟩
def dkwX3_isRound_0 : List UInt8 := [27, 3, 4, 42, 180, 0, 127, 120, 4, 100, 184, 0, 130, 172]
abbrev dktX3_isRound_0 : List UInt8 := dkwX3_isRound_0 ++ []
theorem dksX3_isRound_0 : cX3_isRound.data.toList.drop 0 = dktX3_isRound_0 := by decide +kernel
theorem dX3_isRound_0 : decode cX3_isRound 0 = .ok (.iload_n 1, 1) := dk_27 (dk_at dksX3_isRound_0 0 rfl rfl)
theorem dX3_isRound_1 : decode cX3_isRound 1 = .ok (.iconst 0, 1) := dk_3 (dk_at dksX3_isRound_0 1 rfl rfl)
theorem dX3_isRound_2 : decode cX3_isRound 2 = .ok (.iconst 1, 1) := dk_4 (dk_at dksX3_isRound_0 2 rfl rfl)
theorem dX3_isRound_3 : decode cX3_isRound 3 = .ok (.aload_n 0, 1) := dk_42 (dk_at dksX3_isRound_0 3 rfl rfl)
theorem dX3_isRound_4 : decode cX3_isRound 4 = .ok (.getfield 127, 3) := dk_180 0 127 (dk_at dksX3_isRound_0 4 rfl rfl)
theorem dX3_isRound_7 : decode cX3_isRound 7 = .ok (.ishl, 1) := dk_120 (dk_at dksX3_isRound_0 7 rfl rfl)
theorem dX3_isRound_8 : decode cX3_isRound 8 = .ok (.iconst 1, 1) := dk_4 (dk_at dksX3_isRound_0 8 rfl rfl)
theorem dX3_isRound_9 : decode cX3_isRound 9 = .ok (.isub, 1) := dk_100 (dk_at dksX3_isRound_0 9 rfl rfl)
theorem dX3_isRound_10 : decode cX3_isRound 10 = .ok (.invokestatic 130, 3) := dk_184 0 130 (dk_at dksX3_isRound_0 10 rfl rfl)
theorem dX3_isRound_13 : decode cX3_isRound 13 = .ok (.ireturn, 1) := dk_172 (dk_at dksX3_isRound_0 13 rfl rfl)
abbrev cX3_setRound : ByteArray := prog_23_method_25_code
def yX3_setRound : MethodName := ⟨RX3, "setRound", "(II)I"⟩
def dkwX3_setRound_1 : List UInt8 := [153, 0, 5, 3, 172, 42, 180, 0, 45, 27, 46, 62, 42, 180, 0, 45, 27, 28, 79, 29, 172]
abbrev dktX3_setRound_1 : List UInt8 := dkwX3_setRound_1 ++ []
def dkwX3_setRound_0 : List UInt8 := [42, 3, 181, 0, 1, 42, 27, 182, 0, 191, 154, 0, 16, 42, 42, 28, 182, 0, 188, 5, 182, 0, 134]
abbrev dktX3_setRound_0 : List UInt8 := dkwX3_setRound_0 ++ dktX3_setRound_1
theorem dksX3_setRound_0 : cX3_setRound.data.toList.drop 0 = dktX3_setRound_0 := by decide +kernel
theorem dksX3_setRound_1 : cX3_setRound.data.toList.drop 23 = dktX3_setRound_1 := dk_seg dksX3_setRound_0 23 rfl rfl
theorem dX3_setRound_0 : decode cX3_setRound 0 = .ok (.aload_n 0, 1) := dk_42 (dk_at dksX3_setRound_0 0 rfl rfl)
theorem dX3_setRound_1 : decode cX3_setRound 1 = .ok (.iconst 0, 1) := dk_3 (dk_at dksX3_setRound_0 1 rfl rfl)
theorem dX3_setRound_2 : decode cX3_setRound 2 = .ok (.putfield 1, 3) := dk_181 0 1 (dk_at dksX3_setRound_0 2 rfl rfl)
theorem dX3_setRound_5 : decode cX3_setRound 5 = .ok (.aload_n 0, 1) := dk_42 (dk_at dksX3_setRound_0 5 rfl rfl)
theorem dX3_setRound_6 : decode cX3_setRound 6 = .ok (.iload_n 1, 1) := dk_27 (dk_at dksX3_setRound_0 6 rfl rfl)
theorem dX3_setRound_7 : decode cX3_setRound 7 = .ok (.invokevirtual 191, 3) := dk_182 0 191 (dk_at dksX3_setRound_0 7 rfl rfl)
theorem dX3_setRound_10 : decode cX3_setRound 10 = .ok (.ifCond .ne 16, 3) := dk_154 0 16 (dk_at dksX3_setRound_0 10 rfl rfl)
theorem dX3_setRound_13 : decode cX3_setRound 13 = .ok (.aload_n 0, 1) := dk_42 (dk_at dksX3_setRound_0 13 rfl rfl)
theorem dX3_setRound_14 : decode cX3_setRound 14 = .ok (.aload_n 0, 1) := dk_42 (dk_at dksX3_setRound_0 14 rfl rfl)
theorem dX3_setRound_15 : decode cX3_setRound 15 = .ok (.iload_n 2, 1) := dk_28 (dk_at dksX3_setRound_0 15 rfl rfl)
theorem dX3_setRound_16 : decode cX3_setRound 16 = .ok (.invokevirtual 188, 3) := dk_182 0 188 (dk_at dksX3_setRound_0 16 rfl rfl)
theorem dX3_setRound_19 : decode cX3_setRound 19 = .ok (.iconst 2, 1) := dk_5 (dk_at dksX3_setRound_0 19 rfl rfl)
theorem dX3_setRound_20 : decode cX3_setRound 20 = .ok (.invokevirtual 134, 3) := dk_182 0 134 (dk_at dksX3_setRound_0 20 rfl rfl)
theorem dX3_setRound_23 : decode cX3_setRound 23 = .ok (.ifCond .eq 5, 3) := dk_153 0 5 (dk_at dksX3_setRound_1 0 rfl rfl)
theorem dX3_setRound_26 : decode cX3_setRound 26 = .ok (.iconst 0, 1) := dk_3 (dk_at dksX3_setRound_1 3 rfl rfl)
theorem dX3_setRound_27 : decode cX3_setRound 27 = .ok (.ireturn, 1) := dk_172 (dk_at dksX3_setRound_1 4 rfl rfl)
theorem dX3_setRound_28 : decode cX3_setRound 28 = .ok (.aload_n 0, 1) := dk_42 (dk_at dksX3_setRound_1 5 rfl rfl)
theorem dX3_setRound_29 : decode cX3_setRound 29 = .ok (.getfield 45, 3) := dk_180 0 45 (dk_at dksX3_setRound_1 6 rfl rfl)
theorem dX3_setRound_32 : decode cX3_setRound 32 = .ok (.iload_n 1, 1) := dk_27 (dk_at dksX3_setRound_1 9 rfl rfl)
theorem dX3_setRound_33 : decode cX3_setRound 33 = .ok (.iaload, 1) := dk_46 (dk_at dksX3_setRound_1 10 rfl rfl)
theorem dX3_setRound_34 : decode cX3_setRound 34 = .ok (.istore_n 3, 1) := dk_62 (dk_at dksX3_setRound_1 11 rfl rfl)
theorem dX3_setRound_35 : decode cX3_setRound 35 = .ok (.aload_n 0, 1) := dk_42 (dk_at dksX3_setRound_1 12 rfl rfl)
theorem dX3_setRound_36 : decode cX3_setRound 36 = .ok (.getfield 45, 3) := dk_180 0 45 (dk_at dksX3_setRound_1 13 rfl rfl)
theorem dX3_setRound_39 : decode cX3_setRound 39 = .ok (.iload_n 1, 1) := dk_27 (dk_at dksX3_setRound_1 16 rfl rfl)
theorem dX3_setRound_40 : decode cX3_setRound 40 = .ok (.iload_n 2, 1) := dk_28 (dk_at dksX3_setRound_1 17 rfl rfl)
theorem dX3_setRound_41 : decode cX3_setRound 41 = .ok (.iastore, 1) := dk_79 (dk_at dksX3_setRound_1 18 rfl rfl)
theorem dX3_setRound_42 : decode cX3_setRound 42 = .ok (.iload_n 3, 1) := dk_29 (dk_at dksX3_setRound_1 19 rfl rfl)
theorem dX3_setRound_43 : decode cX3_setRound 43 = .ok (.ireturn, 1) := dk_172 (dk_at dksX3_setRound_1 20 rfl rfl)
abbrev cX3_noCarrier : ByteArray := prog_23_method_8_code
def yX3_noCarrier : MethodName := ⟨RX3, "noCarrier", "(I)Z"⟩
def dkwX3_noCarrier_0 : List UInt8 := [42, 27, 3, 42, 180, 0, 141, 4, 100, 184, 0, 130, 4, 182, 0, 134, 172]
abbrev dktX3_noCarrier_0 : List UInt8 := dkwX3_noCarrier_0 ++ []
theorem dksX3_noCarrier_0 : cX3_noCarrier.data.toList.drop 0 = dktX3_noCarrier_0 := by decide +kernel
theorem dX3_noCarrier_0 : decode cX3_noCarrier 0 = .ok (.aload_n 0, 1) := dk_42 (dk_at dksX3_noCarrier_0 0 rfl rfl)
theorem dX3_noCarrier_1 : decode cX3_noCarrier 1 = .ok (.iload_n 1, 1) := dk_27 (dk_at dksX3_noCarrier_0 1 rfl rfl)
theorem dX3_noCarrier_2 : decode cX3_noCarrier 2 = .ok (.iconst 0, 1) := dk_3 (dk_at dksX3_noCarrier_0 2 rfl rfl)
theorem dX3_noCarrier_3 : decode cX3_noCarrier 3 = .ok (.aload_n 0, 1) := dk_42 (dk_at dksX3_noCarrier_0 3 rfl rfl)
theorem dX3_noCarrier_4 : decode cX3_noCarrier 4 = .ok (.getfield 141, 3) := dk_180 0 141 (dk_at dksX3_noCarrier_0 4 rfl rfl)
theorem dX3_noCarrier_7 : decode cX3_noCarrier 7 = .ok (.iconst 1, 1) := dk_4 (dk_at dksX3_noCarrier_0 7 rfl rfl)
theorem dX3_noCarrier_8 : decode cX3_noCarrier 8 = .ok (.isub, 1) := dk_100 (dk_at dksX3_noCarrier_0 8 rfl rfl)
theorem dX3_noCarrier_9 : decode cX3_noCarrier 9 = .ok (.invokestatic 130, 3) := dk_184 0 130 (dk_at dksX3_noCarrier_0 9 rfl rfl)
theorem dX3_noCarrier_12 : decode cX3_noCarrier 12 = .ok (.iconst 1, 1) := dk_4 (dk_at dksX3_noCarrier_0 12 rfl rfl)
theorem dX3_noCarrier_13 : decode cX3_noCarrier 13 = .ok (.invokevirtual 134, 3) := dk_182 0 134 (dk_at dksX3_noCarrier_0 13 rfl rfl)
theorem dX3_noCarrier_16 : decode cX3_noCarrier 16 = .ok (.ireturn, 1) := dk_172 (dk_at dksX3_noCarrier_0 16 rfl rfl)
abbrev cX3_setRoom : ByteArray := prog_23_method_26_code
def yX3_setRoom : MethodName := ⟨RX3, "setRoom", "(II)I"⟩
def dkwX3_setRoom_1 : List UInt8 := [182, 0, 134, 153, 0, 5, 3, 172, 42, 180, 0, 48, 27, 46, 62, 42, 180, 0, 48, 27, 28, 79, 29, 172]
abbrev dktX3_setRoom_1 : List UInt8 := dkwX3_setRoom_1 ++ []
def dkwX3_setRoom_0 : List UInt8 := [42, 3, 181, 0, 1, 42, 27, 182, 0, 191, 154, 0, 18, 42, 28, 4, 16, 9, 184, 0, 130, 5]
abbrev dktX3_setRoom_0 : List UInt8 := dkwX3_setRoom_0 ++ dktX3_setRoom_1
theorem dksX3_setRoom_0 : cX3_setRoom.data.toList.drop 0 = dktX3_setRoom_0 := by decide +kernel
theorem dksX3_setRoom_1 : cX3_setRoom.data.toList.drop 22 = dktX3_setRoom_1 := dk_seg dksX3_setRoom_0 22 rfl rfl
theorem dX3_setRoom_0 : decode cX3_setRoom 0 = .ok (.aload_n 0, 1) := dk_42 (dk_at dksX3_setRoom_0 0 rfl rfl)
theorem dX3_setRoom_1 : decode cX3_setRoom 1 = .ok (.iconst 0, 1) := dk_3 (dk_at dksX3_setRoom_0 1 rfl rfl)
theorem dX3_setRoom_2 : decode cX3_setRoom 2 = .ok (.putfield 1, 3) := dk_181 0 1 (dk_at dksX3_setRoom_0 2 rfl rfl)
theorem dX3_setRoom_5 : decode cX3_setRoom 5 = .ok (.aload_n 0, 1) := dk_42 (dk_at dksX3_setRoom_0 5 rfl rfl)
theorem dX3_setRoom_6 : decode cX3_setRoom 6 = .ok (.iload_n 1, 1) := dk_27 (dk_at dksX3_setRoom_0 6 rfl rfl)
theorem dX3_setRoom_7 : decode cX3_setRoom 7 = .ok (.invokevirtual 191, 3) := dk_182 0 191 (dk_at dksX3_setRoom_0 7 rfl rfl)
theorem dX3_setRoom_10 : decode cX3_setRoom 10 = .ok (.ifCond .ne 18, 3) := dk_154 0 18 (dk_at dksX3_setRoom_0 10 rfl rfl)
theorem dX3_setRoom_13 : decode cX3_setRoom 13 = .ok (.aload_n 0, 1) := dk_42 (dk_at dksX3_setRoom_0 13 rfl rfl)
theorem dX3_setRoom_14 : decode cX3_setRoom 14 = .ok (.iload_n 2, 1) := dk_28 (dk_at dksX3_setRoom_0 14 rfl rfl)
theorem dX3_setRoom_15 : decode cX3_setRoom 15 = .ok (.iconst 1, 1) := dk_4 (dk_at dksX3_setRoom_0 15 rfl rfl)
theorem dX3_setRoom_16 : decode cX3_setRoom 16 = .ok (.bipush 9, 2) := dk_16 9 (dk_at dksX3_setRoom_0 16 rfl rfl)
theorem dX3_setRoom_18 : decode cX3_setRoom 18 = .ok (.invokestatic 130, 3) := dk_184 0 130 (dk_at dksX3_setRoom_0 18 rfl rfl)
theorem dX3_setRoom_21 : decode cX3_setRoom 21 = .ok (.iconst 2, 1) := dk_5 (dk_at dksX3_setRoom_0 21 rfl rfl)
theorem dX3_setRoom_22 : decode cX3_setRoom 22 = .ok (.invokevirtual 134, 3) := dk_182 0 134 (dk_at dksX3_setRoom_1 0 rfl rfl)
theorem dX3_setRoom_25 : decode cX3_setRoom 25 = .ok (.ifCond .eq 5, 3) := dk_153 0 5 (dk_at dksX3_setRoom_1 3 rfl rfl)
theorem dX3_setRoom_28 : decode cX3_setRoom 28 = .ok (.iconst 0, 1) := dk_3 (dk_at dksX3_setRoom_1 6 rfl rfl)
theorem dX3_setRoom_29 : decode cX3_setRoom 29 = .ok (.ireturn, 1) := dk_172 (dk_at dksX3_setRoom_1 7 rfl rfl)
theorem dX3_setRoom_30 : decode cX3_setRoom 30 = .ok (.aload_n 0, 1) := dk_42 (dk_at dksX3_setRoom_1 8 rfl rfl)
theorem dX3_setRoom_31 : decode cX3_setRoom 31 = .ok (.getfield 48, 3) := dk_180 0 48 (dk_at dksX3_setRoom_1 9 rfl rfl)
theorem dX3_setRoom_34 : decode cX3_setRoom 34 = .ok (.iload_n 1, 1) := dk_27 (dk_at dksX3_setRoom_1 12 rfl rfl)
theorem dX3_setRoom_35 : decode cX3_setRoom 35 = .ok (.iaload, 1) := dk_46 (dk_at dksX3_setRoom_1 13 rfl rfl)
theorem dX3_setRoom_36 : decode cX3_setRoom 36 = .ok (.istore_n 3, 1) := dk_62 (dk_at dksX3_setRoom_1 14 rfl rfl)
theorem dX3_setRoom_37 : decode cX3_setRoom 37 = .ok (.aload_n 0, 1) := dk_42 (dk_at dksX3_setRoom_1 15 rfl rfl)
theorem dX3_setRoom_38 : decode cX3_setRoom 38 = .ok (.getfield 48, 3) := dk_180 0 48 (dk_at dksX3_setRoom_1 16 rfl rfl)
theorem dX3_setRoom_41 : decode cX3_setRoom 41 = .ok (.iload_n 1, 1) := dk_27 (dk_at dksX3_setRoom_1 19 rfl rfl)
theorem dX3_setRoom_42 : decode cX3_setRoom 42 = .ok (.iload_n 2, 1) := dk_28 (dk_at dksX3_setRoom_1 20 rfl rfl)
theorem dX3_setRoom_43 : decode cX3_setRoom 43 = .ok (.iastore, 1) := dk_79 (dk_at dksX3_setRoom_1 21 rfl rfl)
theorem dX3_setRoom_44 : decode cX3_setRoom 44 = .ok (.iload_n 3, 1) := dk_29 (dk_at dksX3_setRoom_1 22 rfl rfl)
theorem dX3_setRoom_45 : decode cX3_setRoom 45 = .ok (.ireturn, 1) := dk_172 (dk_at dksX3_setRoom_1 23 rfl rfl)
abbrev cX3_lesson : ByteArray := prog_23_method_27_code
def yX3_lesson : MethodName := ⟨RX3, "lesson", "(IIII)I"⟩
def dkwX3_lesson_2 : List UInt8 := [180, 0, 51, 27, 28, 29, 21, 4, 184, 0, 184, 46, 172]
abbrev dktX3_lesson_2 : List UInt8 := dkwX3_lesson_2 ++ []
def dkwX3_lesson_1 : List UInt8 := [182, 0, 174, 154, 0, 15, 42, 29, 184, 0, 177, 5, 182, 0, 134, 153, 0, 7, 3, 167, 0, 16, 42]
abbrev dktX3_lesson_1 : List UInt8 := dkwX3_lesson_1 ++ dktX3_lesson_2
def dkwX3_lesson_0 : List UInt8 := [42, 3, 181, 0, 1, 42, 27, 182, 0, 191, 154, 0, 32, 42, 28, 182, 0, 171, 154, 0, 24, 42, 21, 4]
abbrev dktX3_lesson_0 : List UInt8 := dkwX3_lesson_0 ++ dktX3_lesson_1
theorem dksX3_lesson_0 : cX3_lesson.data.toList.drop 0 = dktX3_lesson_0 := by decide +kernel
theorem dksX3_lesson_1 : cX3_lesson.data.toList.drop 24 = dktX3_lesson_1 := dk_seg dksX3_lesson_0 24 rfl rfl
theorem dksX3_lesson_2 : cX3_lesson.data.toList.drop 47 = dktX3_lesson_2 := dk_seg dksX3_lesson_1 23 rfl rfl
theorem dX3_lesson_0 : decode cX3_lesson 0 = .ok (.aload_n 0, 1) := dk_42 (dk_at dksX3_lesson_0 0 rfl rfl)
theorem dX3_lesson_1 : decode cX3_lesson 1 = .ok (.iconst 0, 1) := dk_3 (dk_at dksX3_lesson_0 1 rfl rfl)
theorem dX3_lesson_2 : decode cX3_lesson 2 = .ok (.putfield 1, 3) := dk_181 0 1 (dk_at dksX3_lesson_0 2 rfl rfl)
theorem dX3_lesson_5 : decode cX3_lesson 5 = .ok (.aload_n 0, 1) := dk_42 (dk_at dksX3_lesson_0 5 rfl rfl)
theorem dX3_lesson_6 : decode cX3_lesson 6 = .ok (.iload_n 1, 1) := dk_27 (dk_at dksX3_lesson_0 6 rfl rfl)
theorem dX3_lesson_7 : decode cX3_lesson 7 = .ok (.invokevirtual 191, 3) := dk_182 0 191 (dk_at dksX3_lesson_0 7 rfl rfl)
theorem dX3_lesson_10 : decode cX3_lesson 10 = .ok (.ifCond .ne 32, 3) := dk_154 0 32 (dk_at dksX3_lesson_0 10 rfl rfl)
theorem dX3_lesson_13 : decode cX3_lesson 13 = .ok (.aload_n 0, 1) := dk_42 (dk_at dksX3_lesson_0 13 rfl rfl)
theorem dX3_lesson_14 : decode cX3_lesson 14 = .ok (.iload_n 2, 1) := dk_28 (dk_at dksX3_lesson_0 14 rfl rfl)
theorem dX3_lesson_15 : decode cX3_lesson 15 = .ok (.invokevirtual 171, 3) := dk_182 0 171 (dk_at dksX3_lesson_0 15 rfl rfl)
theorem dX3_lesson_18 : decode cX3_lesson 18 = .ok (.ifCond .ne 24, 3) := dk_154 0 24 (dk_at dksX3_lesson_0 18 rfl rfl)
theorem dX3_lesson_21 : decode cX3_lesson 21 = .ok (.aload_n 0, 1) := dk_42 (dk_at dksX3_lesson_0 21 rfl rfl)
theorem dX3_lesson_22 : decode cX3_lesson 22 = .ok (.iload 4, 2) := dk_21 4 (dk_at dksX3_lesson_0 22 rfl rfl)
theorem dX3_lesson_24 : decode cX3_lesson 24 = .ok (.invokevirtual 174, 3) := dk_182 0 174 (dk_at dksX3_lesson_1 0 rfl rfl)
theorem dX3_lesson_27 : decode cX3_lesson 27 = .ok (.ifCond .ne 15, 3) := dk_154 0 15 (dk_at dksX3_lesson_1 3 rfl rfl)
theorem dX3_lesson_30 : decode cX3_lesson 30 = .ok (.aload_n 0, 1) := dk_42 (dk_at dksX3_lesson_1 6 rfl rfl)
theorem dX3_lesson_31 : decode cX3_lesson 31 = .ok (.iload_n 3, 1) := dk_29 (dk_at dksX3_lesson_1 7 rfl rfl)
theorem dX3_lesson_32 : decode cX3_lesson 32 = .ok (.invokestatic 177, 3) := dk_184 0 177 (dk_at dksX3_lesson_1 8 rfl rfl)
theorem dX3_lesson_35 : decode cX3_lesson 35 = .ok (.iconst 2, 1) := dk_5 (dk_at dksX3_lesson_1 11 rfl rfl)
theorem dX3_lesson_36 : decode cX3_lesson 36 = .ok (.invokevirtual 134, 3) := dk_182 0 134 (dk_at dksX3_lesson_1 12 rfl rfl)
theorem dX3_lesson_39 : decode cX3_lesson 39 = .ok (.ifCond .eq 7, 3) := dk_153 0 7 (dk_at dksX3_lesson_1 15 rfl rfl)
theorem dX3_lesson_42 : decode cX3_lesson 42 = .ok (.iconst 0, 1) := dk_3 (dk_at dksX3_lesson_1 18 rfl rfl)
theorem dX3_lesson_43 : decode cX3_lesson 43 = .ok (.goto 16, 3) := dk_167 0 16 (dk_at dksX3_lesson_1 19 rfl rfl)
theorem dX3_lesson_46 : decode cX3_lesson 46 = .ok (.aload_n 0, 1) := dk_42 (dk_at dksX3_lesson_1 22 rfl rfl)
theorem dX3_lesson_47 : decode cX3_lesson 47 = .ok (.getfield 51, 3) := dk_180 0 51 (dk_at dksX3_lesson_2 0 rfl rfl)
theorem dX3_lesson_50 : decode cX3_lesson 50 = .ok (.iload_n 1, 1) := dk_27 (dk_at dksX3_lesson_2 3 rfl rfl)
theorem dX3_lesson_51 : decode cX3_lesson 51 = .ok (.iload_n 2, 1) := dk_28 (dk_at dksX3_lesson_2 4 rfl rfl)
theorem dX3_lesson_52 : decode cX3_lesson 52 = .ok (.iload_n 3, 1) := dk_29 (dk_at dksX3_lesson_2 5 rfl rfl)
theorem dX3_lesson_53 : decode cX3_lesson 53 = .ok (.iload 4, 2) := dk_21 4 (dk_at dksX3_lesson_2 6 rfl rfl)
theorem dX3_lesson_55 : decode cX3_lesson 55 = .ok (.invokestatic 184, 3) := dk_184 0 184 (dk_at dksX3_lesson_2 8 rfl rfl)
theorem dX3_lesson_58 : decode cX3_lesson 58 = .ok (.iaload, 1) := dk_46 (dk_at dksX3_lesson_2 11 rfl rfl)
theorem dX3_lesson_59 : decode cX3_lesson 59 = .ok (.ireturn, 1) := dk_172 (dk_at dksX3_lesson_2 12 rfl rfl)
abbrev cX3_place : ByteArray := prog_23_method_21_code
def yX3_place : MethodName := ⟨RX3, "place", "(IIII)I"⟩
def dkwX3_place_0 : List UInt8 := [26, 16, 12, 104, 27, 96, 7, 104, 28, 96, 16, 8, 104, 29, 96, 172]
abbrev dktX3_place_0 : List UInt8 := dkwX3_place_0 ++ []
theorem dksX3_place_0 : cX3_place.data.toList.drop 0 = dktX3_place_0 := by decide +kernel
theorem dX3_place_0 : decode cX3_place 0 = .ok (.iload_n 0, 1) := dk_26 (dk_at dksX3_place_0 0 rfl rfl)
theorem dX3_place_1 : decode cX3_place 1 = .ok (.bipush 12, 2) := dk_16 12 (dk_at dksX3_place_0 1 rfl rfl)
theorem dX3_place_3 : decode cX3_place 3 = .ok (.imul, 1) := dk_104 (dk_at dksX3_place_0 3 rfl rfl)
theorem dX3_place_4 : decode cX3_place 4 = .ok (.iload_n 1, 1) := dk_27 (dk_at dksX3_place_0 4 rfl rfl)
theorem dX3_place_5 : decode cX3_place 5 = .ok (.iadd, 1) := dk_96 (dk_at dksX3_place_0 5 rfl rfl)
theorem dX3_place_6 : decode cX3_place 6 = .ok (.iconst 4, 1) := dk_7 (dk_at dksX3_place_0 6 rfl rfl)
theorem dX3_place_7 : decode cX3_place 7 = .ok (.imul, 1) := dk_104 (dk_at dksX3_place_0 7 rfl rfl)
theorem dX3_place_8 : decode cX3_place 8 = .ok (.iload_n 2, 1) := dk_28 (dk_at dksX3_place_0 8 rfl rfl)
theorem dX3_place_9 : decode cX3_place 9 = .ok (.iadd, 1) := dk_96 (dk_at dksX3_place_0 9 rfl rfl)
theorem dX3_place_10 : decode cX3_place 10 = .ok (.bipush 8, 2) := dk_16 8 (dk_at dksX3_place_0 10 rfl rfl)
theorem dX3_place_12 : decode cX3_place 12 = .ok (.imul, 1) := dk_104 (dk_at dksX3_place_0 12 rfl rfl)
theorem dX3_place_13 : decode cX3_place 13 = .ok (.iload_n 3, 1) := dk_29 (dk_at dksX3_place_0 13 rfl rfl)
theorem dX3_place_14 : decode cX3_place 14 = .ok (.iadd, 1) := dk_96 (dk_at dksX3_place_0 14 rfl rfl)
theorem dX3_place_15 : decode cX3_place 15 = .ok (.ireturn, 1) := dk_172 (dk_at dksX3_place_0 15 rfl rfl)
abbrev cX3_tell : ByteArray := prog_23_method_28_code
def yX3_tell : MethodName := ⟨RX3, "tell", "(IIII)I"⟩
def dkwX3_tell_2 : List UInt8 := [21, 4, 6, 182, 0, 194, 42, 180, 0, 51, 27, 28, 29, 21, 4, 184, 0, 184, 46, 172]
abbrev dktX3_tell_2 : List UInt8 := dkwX3_tell_2 ++ []
def dkwX3_tell_1 : List UInt8 := [182, 0, 174, 154, 0, 15, 42, 29, 184, 0, 177, 5, 182, 0, 134, 153, 0, 5, 3, 172, 42, 27, 28, 29]
abbrev dktX3_tell_1 : List UInt8 := dkwX3_tell_1 ++ dktX3_tell_2
def dkwX3_tell_0 : List UInt8 := [42, 3, 181, 0, 1, 42, 27, 182, 0, 191, 154, 0, 32, 42, 28, 182, 0, 171, 154, 0, 24, 42, 21, 4]
abbrev dktX3_tell_0 : List UInt8 := dkwX3_tell_0 ++ dktX3_tell_1
theorem dksX3_tell_0 : cX3_tell.data.toList.drop 0 = dktX3_tell_0 := by decide +kernel
theorem dksX3_tell_1 : cX3_tell.data.toList.drop 24 = dktX3_tell_1 := dk_seg dksX3_tell_0 24 rfl rfl
theorem dksX3_tell_2 : cX3_tell.data.toList.drop 48 = dktX3_tell_2 := dk_seg dksX3_tell_1 24 rfl rfl
theorem dX3_tell_0 : decode cX3_tell 0 = .ok (.aload_n 0, 1) := dk_42 (dk_at dksX3_tell_0 0 rfl rfl)
theorem dX3_tell_1 : decode cX3_tell 1 = .ok (.iconst 0, 1) := dk_3 (dk_at dksX3_tell_0 1 rfl rfl)
theorem dX3_tell_2 : decode cX3_tell 2 = .ok (.putfield 1, 3) := dk_181 0 1 (dk_at dksX3_tell_0 2 rfl rfl)
theorem dX3_tell_5 : decode cX3_tell 5 = .ok (.aload_n 0, 1) := dk_42 (dk_at dksX3_tell_0 5 rfl rfl)
theorem dX3_tell_6 : decode cX3_tell 6 = .ok (.iload_n 1, 1) := dk_27 (dk_at dksX3_tell_0 6 rfl rfl)
theorem dX3_tell_7 : decode cX3_tell 7 = .ok (.invokevirtual 191, 3) := dk_182 0 191 (dk_at dksX3_tell_0 7 rfl rfl)
theorem dX3_tell_10 : decode cX3_tell 10 = .ok (.ifCond .ne 32, 3) := dk_154 0 32 (dk_at dksX3_tell_0 10 rfl rfl)
theorem dX3_tell_13 : decode cX3_tell 13 = .ok (.aload_n 0, 1) := dk_42 (dk_at dksX3_tell_0 13 rfl rfl)
theorem dX3_tell_14 : decode cX3_tell 14 = .ok (.iload_n 2, 1) := dk_28 (dk_at dksX3_tell_0 14 rfl rfl)
theorem dX3_tell_15 : decode cX3_tell 15 = .ok (.invokevirtual 171, 3) := dk_182 0 171 (dk_at dksX3_tell_0 15 rfl rfl)
theorem dX3_tell_18 : decode cX3_tell 18 = .ok (.ifCond .ne 24, 3) := dk_154 0 24 (dk_at dksX3_tell_0 18 rfl rfl)
theorem dX3_tell_21 : decode cX3_tell 21 = .ok (.aload_n 0, 1) := dk_42 (dk_at dksX3_tell_0 21 rfl rfl)
theorem dX3_tell_22 : decode cX3_tell 22 = .ok (.iload 4, 2) := dk_21 4 (dk_at dksX3_tell_0 22 rfl rfl)
theorem dX3_tell_24 : decode cX3_tell 24 = .ok (.invokevirtual 174, 3) := dk_182 0 174 (dk_at dksX3_tell_1 0 rfl rfl)
theorem dX3_tell_27 : decode cX3_tell 27 = .ok (.ifCond .ne 15, 3) := dk_154 0 15 (dk_at dksX3_tell_1 3 rfl rfl)
theorem dX3_tell_30 : decode cX3_tell 30 = .ok (.aload_n 0, 1) := dk_42 (dk_at dksX3_tell_1 6 rfl rfl)
theorem dX3_tell_31 : decode cX3_tell 31 = .ok (.iload_n 3, 1) := dk_29 (dk_at dksX3_tell_1 7 rfl rfl)
theorem dX3_tell_32 : decode cX3_tell 32 = .ok (.invokestatic 177, 3) := dk_184 0 177 (dk_at dksX3_tell_1 8 rfl rfl)
theorem dX3_tell_35 : decode cX3_tell 35 = .ok (.iconst 2, 1) := dk_5 (dk_at dksX3_tell_1 11 rfl rfl)
theorem dX3_tell_36 : decode cX3_tell 36 = .ok (.invokevirtual 134, 3) := dk_182 0 134 (dk_at dksX3_tell_1 12 rfl rfl)
theorem dX3_tell_39 : decode cX3_tell 39 = .ok (.ifCond .eq 5, 3) := dk_153 0 5 (dk_at dksX3_tell_1 15 rfl rfl)
theorem dX3_tell_42 : decode cX3_tell 42 = .ok (.iconst 0, 1) := dk_3 (dk_at dksX3_tell_1 18 rfl rfl)
theorem dX3_tell_43 : decode cX3_tell 43 = .ok (.ireturn, 1) := dk_172 (dk_at dksX3_tell_1 19 rfl rfl)
theorem dX3_tell_44 : decode cX3_tell 44 = .ok (.aload_n 0, 1) := dk_42 (dk_at dksX3_tell_1 20 rfl rfl)
theorem dX3_tell_45 : decode cX3_tell 45 = .ok (.iload_n 1, 1) := dk_27 (dk_at dksX3_tell_1 21 rfl rfl)
theorem dX3_tell_46 : decode cX3_tell 46 = .ok (.iload_n 2, 1) := dk_28 (dk_at dksX3_tell_1 22 rfl rfl)
theorem dX3_tell_47 : decode cX3_tell 47 = .ok (.iload_n 3, 1) := dk_29 (dk_at dksX3_tell_1 23 rfl rfl)
theorem dX3_tell_48 : decode cX3_tell 48 = .ok (.iload 4, 2) := dk_21 4 (dk_at dksX3_tell_2 0 rfl rfl)
theorem dX3_tell_50 : decode cX3_tell 50 = .ok (.iconst 3, 1) := dk_6 (dk_at dksX3_tell_2 2 rfl rfl)
theorem dX3_tell_51 : decode cX3_tell 51 = .ok (.invokevirtual 194, 3) := dk_182 0 194 (dk_at dksX3_tell_2 3 rfl rfl)
theorem dX3_tell_54 : decode cX3_tell 54 = .ok (.aload_n 0, 1) := dk_42 (dk_at dksX3_tell_2 6 rfl rfl)
theorem dX3_tell_55 : decode cX3_tell 55 = .ok (.getfield 51, 3) := dk_180 0 51 (dk_at dksX3_tell_2 7 rfl rfl)
theorem dX3_tell_58 : decode cX3_tell 58 = .ok (.iload_n 1, 1) := dk_27 (dk_at dksX3_tell_2 10 rfl rfl)
theorem dX3_tell_59 : decode cX3_tell 59 = .ok (.iload_n 2, 1) := dk_28 (dk_at dksX3_tell_2 11 rfl rfl)
theorem dX3_tell_60 : decode cX3_tell 60 = .ok (.iload_n 3, 1) := dk_29 (dk_at dksX3_tell_2 12 rfl rfl)
theorem dX3_tell_61 : decode cX3_tell 61 = .ok (.iload 4, 2) := dk_21 4 (dk_at dksX3_tell_2 13 rfl rfl)
theorem dX3_tell_63 : decode cX3_tell 63 = .ok (.invokestatic 184, 3) := dk_184 0 184 (dk_at dksX3_tell_2 15 rfl rfl)
theorem dX3_tell_66 : decode cX3_tell 66 = .ok (.iaload, 1) := dk_46 (dk_at dksX3_tell_2 18 rfl rfl)
theorem dX3_tell_67 : decode cX3_tell 67 = .ok (.ireturn, 1) := dk_172 (dk_at dksX3_tell_2 19 rfl rfl)
abbrev cX3_learns : ByteArray := prog_23_method_22_code
def yX3_learns : MethodName := ⟨RX3, "learns", "(IIIII)V"⟩
def dkwX3_learns_2 : List UInt8 := [162, 0, 8, 16, 247, 167, 0, 5, 21, 6, 79, 177]
abbrev dktX3_learns_2 : List UInt8 := dkwX3_learns_2 ++ []
def dkwX3_learns_1 : List UInt8 := [29, 21, 4, 184, 0, 184, 21, 6, 16, 9, 164, 0, 8, 16, 9, 167, 0, 17, 21, 6, 16, 247]
abbrev dktX3_learns_1 : List UInt8 := dkwX3_learns_1 ++ dktX3_learns_2
def dkwX3_learns_0 : List UInt8 := [42, 180, 0, 51, 27, 28, 29, 21, 4, 184, 0, 184, 46, 21, 5, 96, 54, 6, 42, 180, 0, 51, 27, 28]
abbrev dktX3_learns_0 : List UInt8 := dkwX3_learns_0 ++ dktX3_learns_1
theorem dksX3_learns_0 : cX3_learns.data.toList.drop 0 = dktX3_learns_0 := by decide +kernel
theorem dksX3_learns_1 : cX3_learns.data.toList.drop 24 = dktX3_learns_1 := dk_seg dksX3_learns_0 24 rfl rfl
theorem dksX3_learns_2 : cX3_learns.data.toList.drop 46 = dktX3_learns_2 := dk_seg dksX3_learns_1 22 rfl rfl
theorem dX3_learns_0 : decode cX3_learns 0 = .ok (.aload_n 0, 1) := dk_42 (dk_at dksX3_learns_0 0 rfl rfl)
theorem dX3_learns_1 : decode cX3_learns 1 = .ok (.getfield 51, 3) := dk_180 0 51 (dk_at dksX3_learns_0 1 rfl rfl)
theorem dX3_learns_4 : decode cX3_learns 4 = .ok (.iload_n 1, 1) := dk_27 (dk_at dksX3_learns_0 4 rfl rfl)
theorem dX3_learns_5 : decode cX3_learns 5 = .ok (.iload_n 2, 1) := dk_28 (dk_at dksX3_learns_0 5 rfl rfl)
theorem dX3_learns_6 : decode cX3_learns 6 = .ok (.iload_n 3, 1) := dk_29 (dk_at dksX3_learns_0 6 rfl rfl)
theorem dX3_learns_7 : decode cX3_learns 7 = .ok (.iload 4, 2) := dk_21 4 (dk_at dksX3_learns_0 7 rfl rfl)
theorem dX3_learns_9 : decode cX3_learns 9 = .ok (.invokestatic 184, 3) := dk_184 0 184 (dk_at dksX3_learns_0 9 rfl rfl)
theorem dX3_learns_12 : decode cX3_learns 12 = .ok (.iaload, 1) := dk_46 (dk_at dksX3_learns_0 12 rfl rfl)
theorem dX3_learns_13 : decode cX3_learns 13 = .ok (.iload 5, 2) := dk_21 5 (dk_at dksX3_learns_0 13 rfl rfl)
theorem dX3_learns_15 : decode cX3_learns 15 = .ok (.iadd, 1) := dk_96 (dk_at dksX3_learns_0 15 rfl rfl)
theorem dX3_learns_16 : decode cX3_learns 16 = .ok (.istore 6, 2) := dk_54 6 (dk_at dksX3_learns_0 16 rfl rfl)
theorem dX3_learns_18 : decode cX3_learns 18 = .ok (.aload_n 0, 1) := dk_42 (dk_at dksX3_learns_0 18 rfl rfl)
theorem dX3_learns_19 : decode cX3_learns 19 = .ok (.getfield 51, 3) := dk_180 0 51 (dk_at dksX3_learns_0 19 rfl rfl)
theorem dX3_learns_22 : decode cX3_learns 22 = .ok (.iload_n 1, 1) := dk_27 (dk_at dksX3_learns_0 22 rfl rfl)
theorem dX3_learns_23 : decode cX3_learns 23 = .ok (.iload_n 2, 1) := dk_28 (dk_at dksX3_learns_0 23 rfl rfl)
theorem dX3_learns_24 : decode cX3_learns 24 = .ok (.iload_n 3, 1) := dk_29 (dk_at dksX3_learns_1 0 rfl rfl)
theorem dX3_learns_25 : decode cX3_learns 25 = .ok (.iload 4, 2) := dk_21 4 (dk_at dksX3_learns_1 1 rfl rfl)
theorem dX3_learns_27 : decode cX3_learns 27 = .ok (.invokestatic 184, 3) := dk_184 0 184 (dk_at dksX3_learns_1 3 rfl rfl)
theorem dX3_learns_30 : decode cX3_learns 30 = .ok (.iload 6, 2) := dk_21 6 (dk_at dksX3_learns_1 6 rfl rfl)
theorem dX3_learns_32 : decode cX3_learns 32 = .ok (.bipush 9, 2) := dk_16 9 (dk_at dksX3_learns_1 8 rfl rfl)
theorem dX3_learns_34 : decode cX3_learns 34 = .ok (.if_icmp .le 8, 3) := dk_164 0 8 (dk_at dksX3_learns_1 10 rfl rfl)
theorem dX3_learns_37 : decode cX3_learns 37 = .ok (.bipush 9, 2) := dk_16 9 (dk_at dksX3_learns_1 13 rfl rfl)
theorem dX3_learns_39 : decode cX3_learns 39 = .ok (.goto 17, 3) := dk_167 0 17 (dk_at dksX3_learns_1 15 rfl rfl)
theorem dX3_learns_42 : decode cX3_learns 42 = .ok (.iload 6, 2) := dk_21 6 (dk_at dksX3_learns_1 18 rfl rfl)
theorem dX3_learns_44 : decode cX3_learns 44 = .ok (.bipush (-9), 2) := dk_16 247 (dk_at dksX3_learns_1 20 rfl rfl)
theorem dX3_learns_46 : decode cX3_learns 46 = .ok (.if_icmp .ge 8, 3) := dk_162 0 8 (dk_at dksX3_learns_2 0 rfl rfl)
theorem dX3_learns_49 : decode cX3_learns 49 = .ok (.bipush (-9), 2) := dk_16 247 (dk_at dksX3_learns_2 3 rfl rfl)
theorem dX3_learns_51 : decode cX3_learns 51 = .ok (.goto 5, 3) := dk_167 0 5 (dk_at dksX3_learns_2 5 rfl rfl)
theorem dX3_learns_54 : decode cX3_learns 54 = .ok (.iload 6, 2) := dk_21 6 (dk_at dksX3_learns_2 8 rfl rfl)
theorem dX3_learns_56 : decode cX3_learns 56 = .ok (.iastore, 1) := dk_79 (dk_at dksX3_learns_2 10 rfl rfl)
theorem dX3_learns_57 : decode cX3_learns 57 = .ok (.return_, 1) := dk_177 (dk_at dksX3_learns_2 11 rfl rfl)
abbrev cX3_feed : ByteArray := prog_23_method_29_code
def yX3_feed : MethodName := ⟨RX3, "feed", "(II)I"⟩
def dkwX3_feed_9 : List UInt8 := [180, 0, 157, 172]
abbrev dktX3_feed_9 : List UInt8 := dkwX3_feed_9 ++ []
def dkwX3_feed_8 : List UInt8 := [180, 0, 157, 21, 6, 79, 42, 89, 180, 0, 157, 4, 96, 181, 0, 157, 132, 5, 1, 167, 255, 189, 42]
abbrev dktX3_feed_8 : List UInt8 := dkwX3_feed_8 ++ dktX3_feed_9
def dkwX3_feed_7 : List UInt8 := [7, 112, 104, 100, 122, 17, 0, 255, 126, 54, 6, 21, 6, 154, 0, 6, 167, 0, 24, 42, 180, 0, 35, 42]
abbrev dktX3_feed_7 : List UInt8 := dkwX3_feed_7 ++ dktX3_feed_8
def dkwX3_feed_6 : List UInt8 := [21, 5, 16, 8, 162, 0, 66, 21, 5, 7, 162, 0, 7, 27, 167, 0, 4, 28, 16, 24, 16, 8, 21, 5]
abbrev dktX3_feed_6 : List UInt8 := dkwX3_feed_6 ++ dktX3_feed_7
def dkwX3_feed_5 : List UInt8 := [29, 96, 16, 48, 163, 0, 7, 4, 167, 0, 4, 3, 5, 182, 0, 134, 153, 0, 5, 3, 172, 3, 54, 5]
abbrev dktX3_feed_5 : List UInt8 := dkwX3_feed_5 ++ dktX3_feed_6
def dkwX3_feed_4 : List UInt8 := [4, 96, 62, 132, 5, 1, 167, 255, 171, 42, 21, 4, 4, 182, 0, 134, 154, 0, 27, 42, 42, 180, 0, 157]
abbrev dktX3_feed_4 : List UInt8 := dkwX3_feed_4 ++ dktX3_feed_5
def dkwX3_feed_3 : List UInt8 := [184, 0, 130, 153, 0, 7, 4, 167, 0, 4, 3, 126, 54, 4, 29, 21, 6, 154, 0, 7, 3, 167, 0, 4]
abbrev dktX3_feed_3 : List UInt8 := dkwX3_feed_3 ++ dktX3_feed_4
def dkwX3_feed_2 : List UInt8 := [54, 6, 21, 4, 21, 6, 153, 0, 22, 21, 6, 16, 32, 159, 0, 15, 21, 6, 16, 97, 16, 122]
abbrev dktX3_feed_2 : List UInt8 := dkwX3_feed_2 ++ dktX3_feed_3
def dkwX3_feed_1 : List UInt8 := [162, 0, 7, 27, 167, 0, 4, 28, 16, 24, 16, 8, 21, 5, 7, 112, 104, 100, 122, 17, 0, 255, 126]
abbrev dktX3_feed_1 : List UInt8 := dkwX3_feed_1 ++ dktX3_feed_2
def dkwX3_feed_0 : List UInt8 := [42, 3, 181, 0, 1, 3, 62, 4, 54, 4, 3, 54, 5, 21, 5, 16, 8, 162, 0, 84, 21, 5, 7]
abbrev dktX3_feed_0 : List UInt8 := dkwX3_feed_0 ++ dktX3_feed_1
theorem dksX3_feed_0 : cX3_feed.data.toList.drop 0 = dktX3_feed_0 := by decide +kernel
theorem dksX3_feed_1 : cX3_feed.data.toList.drop 23 = dktX3_feed_1 := dk_seg dksX3_feed_0 23 rfl rfl
theorem dksX3_feed_2 : cX3_feed.data.toList.drop 46 = dktX3_feed_2 := dk_seg dksX3_feed_1 23 rfl rfl
theorem dksX3_feed_3 : cX3_feed.data.toList.drop 68 = dktX3_feed_3 := dk_seg dksX3_feed_2 22 rfl rfl
theorem dksX3_feed_4 : cX3_feed.data.toList.drop 92 = dktX3_feed_4 := dk_seg dksX3_feed_3 24 rfl rfl
theorem dksX3_feed_5 : cX3_feed.data.toList.drop 116 = dktX3_feed_5 := dk_seg dksX3_feed_4 24 rfl rfl
theorem dksX3_feed_6 : cX3_feed.data.toList.drop 140 = dktX3_feed_6 := dk_seg dksX3_feed_5 24 rfl rfl
theorem dksX3_feed_7 : cX3_feed.data.toList.drop 164 = dktX3_feed_7 := dk_seg dksX3_feed_6 24 rfl rfl
theorem dksX3_feed_8 : cX3_feed.data.toList.drop 188 = dktX3_feed_8 := dk_seg dksX3_feed_7 24 rfl rfl
theorem dksX3_feed_9 : cX3_feed.data.toList.drop 211 = dktX3_feed_9 := dk_seg dksX3_feed_8 23 rfl rfl
theorem dX3_feed_0 : decode cX3_feed 0 = .ok (.aload_n 0, 1) := dk_42 (dk_at dksX3_feed_0 0 rfl rfl)
theorem dX3_feed_1 : decode cX3_feed 1 = .ok (.iconst 0, 1) := dk_3 (dk_at dksX3_feed_0 1 rfl rfl)
theorem dX3_feed_2 : decode cX3_feed 2 = .ok (.putfield 1, 3) := dk_181 0 1 (dk_at dksX3_feed_0 2 rfl rfl)
theorem dX3_feed_5 : decode cX3_feed 5 = .ok (.iconst 0, 1) := dk_3 (dk_at dksX3_feed_0 5 rfl rfl)
theorem dX3_feed_6 : decode cX3_feed 6 = .ok (.istore_n 3, 1) := dk_62 (dk_at dksX3_feed_0 6 rfl rfl)
theorem dX3_feed_7 : decode cX3_feed 7 = .ok (.iconst 1, 1) := dk_4 (dk_at dksX3_feed_0 7 rfl rfl)
theorem dX3_feed_8 : decode cX3_feed 8 = .ok (.istore 4, 2) := dk_54 4 (dk_at dksX3_feed_0 8 rfl rfl)
theorem dX3_feed_10 : decode cX3_feed 10 = .ok (.iconst 0, 1) := dk_3 (dk_at dksX3_feed_0 10 rfl rfl)
theorem dX3_feed_11 : decode cX3_feed 11 = .ok (.istore 5, 2) := dk_54 5 (dk_at dksX3_feed_0 11 rfl rfl)
theorem dX3_feed_13 : decode cX3_feed 13 = .ok (.iload 5, 2) := dk_21 5 (dk_at dksX3_feed_0 13 rfl rfl)
theorem dX3_feed_15 : decode cX3_feed 15 = .ok (.bipush 8, 2) := dk_16 8 (dk_at dksX3_feed_0 15 rfl rfl)
theorem dX3_feed_17 : decode cX3_feed 17 = .ok (.if_icmp .ge 84, 3) := dk_162 0 84 (dk_at dksX3_feed_0 17 rfl rfl)
theorem dX3_feed_20 : decode cX3_feed 20 = .ok (.iload 5, 2) := dk_21 5 (dk_at dksX3_feed_0 20 rfl rfl)
theorem dX3_feed_22 : decode cX3_feed 22 = .ok (.iconst 4, 1) := dk_7 (dk_at dksX3_feed_0 22 rfl rfl)
theorem dX3_feed_23 : decode cX3_feed 23 = .ok (.if_icmp .ge 7, 3) := dk_162 0 7 (dk_at dksX3_feed_1 0 rfl rfl)
theorem dX3_feed_26 : decode cX3_feed 26 = .ok (.iload_n 1, 1) := dk_27 (dk_at dksX3_feed_1 3 rfl rfl)
theorem dX3_feed_27 : decode cX3_feed 27 = .ok (.goto 4, 3) := dk_167 0 4 (dk_at dksX3_feed_1 4 rfl rfl)
theorem dX3_feed_30 : decode cX3_feed 30 = .ok (.iload_n 2, 1) := dk_28 (dk_at dksX3_feed_1 7 rfl rfl)
theorem dX3_feed_31 : decode cX3_feed 31 = .ok (.bipush 24, 2) := dk_16 24 (dk_at dksX3_feed_1 8 rfl rfl)
theorem dX3_feed_33 : decode cX3_feed 33 = .ok (.bipush 8, 2) := dk_16 8 (dk_at dksX3_feed_1 10 rfl rfl)
theorem dX3_feed_35 : decode cX3_feed 35 = .ok (.iload 5, 2) := dk_21 5 (dk_at dksX3_feed_1 12 rfl rfl)
theorem dX3_feed_37 : decode cX3_feed 37 = .ok (.iconst 4, 1) := dk_7 (dk_at dksX3_feed_1 14 rfl rfl)
theorem dX3_feed_38 : decode cX3_feed 38 = .ok (.irem, 1) := dk_112 (dk_at dksX3_feed_1 15 rfl rfl)
theorem dX3_feed_39 : decode cX3_feed 39 = .ok (.imul, 1) := dk_104 (dk_at dksX3_feed_1 16 rfl rfl)
theorem dX3_feed_40 : decode cX3_feed 40 = .ok (.isub, 1) := dk_100 (dk_at dksX3_feed_1 17 rfl rfl)
theorem dX3_feed_41 : decode cX3_feed 41 = .ok (.ishr, 1) := dk_122 (dk_at dksX3_feed_1 18 rfl rfl)
theorem dX3_feed_42 : decode cX3_feed 42 = .ok (.sipush 255, 3) := dk_17 0 255 (dk_at dksX3_feed_1 19 rfl rfl)
theorem dX3_feed_45 : decode cX3_feed 45 = .ok (.iand, 1) := dk_126 (dk_at dksX3_feed_1 22 rfl rfl)
theorem dX3_feed_46 : decode cX3_feed 46 = .ok (.istore 6, 2) := dk_54 6 (dk_at dksX3_feed_2 0 rfl rfl)
theorem dX3_feed_48 : decode cX3_feed 48 = .ok (.iload 4, 2) := dk_21 4 (dk_at dksX3_feed_2 2 rfl rfl)
theorem dX3_feed_50 : decode cX3_feed 50 = .ok (.iload 6, 2) := dk_21 6 (dk_at dksX3_feed_2 4 rfl rfl)
theorem dX3_feed_52 : decode cX3_feed 52 = .ok (.ifCond .eq 22, 3) := dk_153 0 22 (dk_at dksX3_feed_2 6 rfl rfl)
theorem dX3_feed_55 : decode cX3_feed 55 = .ok (.iload 6, 2) := dk_21 6 (dk_at dksX3_feed_2 9 rfl rfl)
theorem dX3_feed_57 : decode cX3_feed 57 = .ok (.bipush 32, 2) := dk_16 32 (dk_at dksX3_feed_2 11 rfl rfl)
theorem dX3_feed_59 : decode cX3_feed 59 = .ok (.if_icmp .eq 15, 3) := dk_159 0 15 (dk_at dksX3_feed_2 13 rfl rfl)
theorem dX3_feed_62 : decode cX3_feed 62 = .ok (.iload 6, 2) := dk_21 6 (dk_at dksX3_feed_2 16 rfl rfl)
theorem dX3_feed_64 : decode cX3_feed 64 = .ok (.bipush 97, 2) := dk_16 97 (dk_at dksX3_feed_2 18 rfl rfl)
theorem dX3_feed_66 : decode cX3_feed 66 = .ok (.bipush 122, 2) := dk_16 122 (dk_at dksX3_feed_2 20 rfl rfl)
theorem dX3_feed_68 : decode cX3_feed 68 = .ok (.invokestatic 130, 3) := dk_184 0 130 (dk_at dksX3_feed_3 0 rfl rfl)
theorem dX3_feed_71 : decode cX3_feed 71 = .ok (.ifCond .eq 7, 3) := dk_153 0 7 (dk_at dksX3_feed_3 3 rfl rfl)
theorem dX3_feed_74 : decode cX3_feed 74 = .ok (.iconst 1, 1) := dk_4 (dk_at dksX3_feed_3 6 rfl rfl)
theorem dX3_feed_75 : decode cX3_feed 75 = .ok (.goto 4, 3) := dk_167 0 4 (dk_at dksX3_feed_3 7 rfl rfl)
theorem dX3_feed_78 : decode cX3_feed 78 = .ok (.iconst 0, 1) := dk_3 (dk_at dksX3_feed_3 10 rfl rfl)
theorem dX3_feed_79 : decode cX3_feed 79 = .ok (.iand, 1) := dk_126 (dk_at dksX3_feed_3 11 rfl rfl)
theorem dX3_feed_80 : decode cX3_feed 80 = .ok (.istore 4, 2) := dk_54 4 (dk_at dksX3_feed_3 12 rfl rfl)
theorem dX3_feed_82 : decode cX3_feed 82 = .ok (.iload_n 3, 1) := dk_29 (dk_at dksX3_feed_3 14 rfl rfl)
theorem dX3_feed_83 : decode cX3_feed 83 = .ok (.iload 6, 2) := dk_21 6 (dk_at dksX3_feed_3 15 rfl rfl)
theorem dX3_feed_85 : decode cX3_feed 85 = .ok (.ifCond .ne 7, 3) := dk_154 0 7 (dk_at dksX3_feed_3 17 rfl rfl)
theorem dX3_feed_88 : decode cX3_feed 88 = .ok (.iconst 0, 1) := dk_3 (dk_at dksX3_feed_3 20 rfl rfl)
theorem dX3_feed_89 : decode cX3_feed 89 = .ok (.goto 4, 3) := dk_167 0 4 (dk_at dksX3_feed_3 21 rfl rfl)
theorem dX3_feed_92 : decode cX3_feed 92 = .ok (.iconst 1, 1) := dk_4 (dk_at dksX3_feed_4 0 rfl rfl)
theorem dX3_feed_93 : decode cX3_feed 93 = .ok (.iadd, 1) := dk_96 (dk_at dksX3_feed_4 1 rfl rfl)
theorem dX3_feed_94 : decode cX3_feed 94 = .ok (.istore_n 3, 1) := dk_62 (dk_at dksX3_feed_4 2 rfl rfl)
theorem dX3_feed_95 : decode cX3_feed 95 = .ok (.iinc 5 1, 3) := dk_132 5 1 (dk_at dksX3_feed_4 3 rfl rfl)
theorem dX3_feed_98 : decode cX3_feed 98 = .ok (.goto (-85), 3) := dk_167 255 171 (dk_at dksX3_feed_4 6 rfl rfl)
theorem dX3_feed_101 : decode cX3_feed 101 = .ok (.aload_n 0, 1) := dk_42 (dk_at dksX3_feed_4 9 rfl rfl)
theorem dX3_feed_102 : decode cX3_feed 102 = .ok (.iload 4, 2) := dk_21 4 (dk_at dksX3_feed_4 10 rfl rfl)
theorem dX3_feed_104 : decode cX3_feed 104 = .ok (.iconst 1, 1) := dk_4 (dk_at dksX3_feed_4 12 rfl rfl)
theorem dX3_feed_105 : decode cX3_feed 105 = .ok (.invokevirtual 134, 3) := dk_182 0 134 (dk_at dksX3_feed_4 13 rfl rfl)
theorem dX3_feed_108 : decode cX3_feed 108 = .ok (.ifCond .ne 27, 3) := dk_154 0 27 (dk_at dksX3_feed_4 16 rfl rfl)
theorem dX3_feed_111 : decode cX3_feed 111 = .ok (.aload_n 0, 1) := dk_42 (dk_at dksX3_feed_4 19 rfl rfl)
theorem dX3_feed_112 : decode cX3_feed 112 = .ok (.aload_n 0, 1) := dk_42 (dk_at dksX3_feed_4 20 rfl rfl)
theorem dX3_feed_113 : decode cX3_feed 113 = .ok (.getfield 157, 3) := dk_180 0 157 (dk_at dksX3_feed_4 21 rfl rfl)
theorem dX3_feed_116 : decode cX3_feed 116 = .ok (.iload_n 3, 1) := dk_29 (dk_at dksX3_feed_5 0 rfl rfl)
theorem dX3_feed_117 : decode cX3_feed 117 = .ok (.iadd, 1) := dk_96 (dk_at dksX3_feed_5 1 rfl rfl)
theorem dX3_feed_118 : decode cX3_feed 118 = .ok (.bipush 48, 2) := dk_16 48 (dk_at dksX3_feed_5 2 rfl rfl)
theorem dX3_feed_120 : decode cX3_feed 120 = .ok (.if_icmp .gt 7, 3) := dk_163 0 7 (dk_at dksX3_feed_5 4 rfl rfl)
theorem dX3_feed_123 : decode cX3_feed 123 = .ok (.iconst 1, 1) := dk_4 (dk_at dksX3_feed_5 7 rfl rfl)
theorem dX3_feed_124 : decode cX3_feed 124 = .ok (.goto 4, 3) := dk_167 0 4 (dk_at dksX3_feed_5 8 rfl rfl)
theorem dX3_feed_127 : decode cX3_feed 127 = .ok (.iconst 0, 1) := dk_3 (dk_at dksX3_feed_5 11 rfl rfl)
theorem dX3_feed_128 : decode cX3_feed 128 = .ok (.iconst 2, 1) := dk_5 (dk_at dksX3_feed_5 12 rfl rfl)
theorem dX3_feed_129 : decode cX3_feed 129 = .ok (.invokevirtual 134, 3) := dk_182 0 134 (dk_at dksX3_feed_5 13 rfl rfl)
theorem dX3_feed_132 : decode cX3_feed 132 = .ok (.ifCond .eq 5, 3) := dk_153 0 5 (dk_at dksX3_feed_5 16 rfl rfl)
theorem dX3_feed_135 : decode cX3_feed 135 = .ok (.iconst 0, 1) := dk_3 (dk_at dksX3_feed_5 19 rfl rfl)
theorem dX3_feed_136 : decode cX3_feed 136 = .ok (.ireturn, 1) := dk_172 (dk_at dksX3_feed_5 20 rfl rfl)
theorem dX3_feed_137 : decode cX3_feed 137 = .ok (.iconst 0, 1) := dk_3 (dk_at dksX3_feed_5 21 rfl rfl)
theorem dX3_feed_138 : decode cX3_feed 138 = .ok (.istore 5, 2) := dk_54 5 (dk_at dksX3_feed_5 22 rfl rfl)
theorem dX3_feed_140 : decode cX3_feed 140 = .ok (.iload 5, 2) := dk_21 5 (dk_at dksX3_feed_6 0 rfl rfl)
theorem dX3_feed_142 : decode cX3_feed 142 = .ok (.bipush 8, 2) := dk_16 8 (dk_at dksX3_feed_6 2 rfl rfl)
theorem dX3_feed_144 : decode cX3_feed 144 = .ok (.if_icmp .ge 66, 3) := dk_162 0 66 (dk_at dksX3_feed_6 4 rfl rfl)
theorem dX3_feed_147 : decode cX3_feed 147 = .ok (.iload 5, 2) := dk_21 5 (dk_at dksX3_feed_6 7 rfl rfl)
theorem dX3_feed_149 : decode cX3_feed 149 = .ok (.iconst 4, 1) := dk_7 (dk_at dksX3_feed_6 9 rfl rfl)
theorem dX3_feed_150 : decode cX3_feed 150 = .ok (.if_icmp .ge 7, 3) := dk_162 0 7 (dk_at dksX3_feed_6 10 rfl rfl)
theorem dX3_feed_153 : decode cX3_feed 153 = .ok (.iload_n 1, 1) := dk_27 (dk_at dksX3_feed_6 13 rfl rfl)
theorem dX3_feed_154 : decode cX3_feed 154 = .ok (.goto 4, 3) := dk_167 0 4 (dk_at dksX3_feed_6 14 rfl rfl)
theorem dX3_feed_157 : decode cX3_feed 157 = .ok (.iload_n 2, 1) := dk_28 (dk_at dksX3_feed_6 17 rfl rfl)
theorem dX3_feed_158 : decode cX3_feed 158 = .ok (.bipush 24, 2) := dk_16 24 (dk_at dksX3_feed_6 18 rfl rfl)
theorem dX3_feed_160 : decode cX3_feed 160 = .ok (.bipush 8, 2) := dk_16 8 (dk_at dksX3_feed_6 20 rfl rfl)
theorem dX3_feed_162 : decode cX3_feed 162 = .ok (.iload 5, 2) := dk_21 5 (dk_at dksX3_feed_6 22 rfl rfl)
theorem dX3_feed_164 : decode cX3_feed 164 = .ok (.iconst 4, 1) := dk_7 (dk_at dksX3_feed_7 0 rfl rfl)
theorem dX3_feed_165 : decode cX3_feed 165 = .ok (.irem, 1) := dk_112 (dk_at dksX3_feed_7 1 rfl rfl)
theorem dX3_feed_166 : decode cX3_feed 166 = .ok (.imul, 1) := dk_104 (dk_at dksX3_feed_7 2 rfl rfl)
theorem dX3_feed_167 : decode cX3_feed 167 = .ok (.isub, 1) := dk_100 (dk_at dksX3_feed_7 3 rfl rfl)
theorem dX3_feed_168 : decode cX3_feed 168 = .ok (.ishr, 1) := dk_122 (dk_at dksX3_feed_7 4 rfl rfl)
theorem dX3_feed_169 : decode cX3_feed 169 = .ok (.sipush 255, 3) := dk_17 0 255 (dk_at dksX3_feed_7 5 rfl rfl)
theorem dX3_feed_172 : decode cX3_feed 172 = .ok (.iand, 1) := dk_126 (dk_at dksX3_feed_7 8 rfl rfl)
theorem dX3_feed_173 : decode cX3_feed 173 = .ok (.istore 6, 2) := dk_54 6 (dk_at dksX3_feed_7 9 rfl rfl)
theorem dX3_feed_175 : decode cX3_feed 175 = .ok (.iload 6, 2) := dk_21 6 (dk_at dksX3_feed_7 11 rfl rfl)
theorem dX3_feed_177 : decode cX3_feed 177 = .ok (.ifCond .ne 6, 3) := dk_154 0 6 (dk_at dksX3_feed_7 13 rfl rfl)
theorem dX3_feed_180 : decode cX3_feed 180 = .ok (.goto 24, 3) := dk_167 0 24 (dk_at dksX3_feed_7 16 rfl rfl)
theorem dX3_feed_183 : decode cX3_feed 183 = .ok (.aload_n 0, 1) := dk_42 (dk_at dksX3_feed_7 19 rfl rfl)
theorem dX3_feed_184 : decode cX3_feed 184 = .ok (.getfield 35, 3) := dk_180 0 35 (dk_at dksX3_feed_7 20 rfl rfl)
theorem dX3_feed_187 : decode cX3_feed 187 = .ok (.aload_n 0, 1) := dk_42 (dk_at dksX3_feed_7 23 rfl rfl)
theorem dX3_feed_188 : decode cX3_feed 188 = .ok (.getfield 157, 3) := dk_180 0 157 (dk_at dksX3_feed_8 0 rfl rfl)
theorem dX3_feed_191 : decode cX3_feed 191 = .ok (.iload 6, 2) := dk_21 6 (dk_at dksX3_feed_8 3 rfl rfl)
theorem dX3_feed_193 : decode cX3_feed 193 = .ok (.iastore, 1) := dk_79 (dk_at dksX3_feed_8 5 rfl rfl)
theorem dX3_feed_194 : decode cX3_feed 194 = .ok (.aload_n 0, 1) := dk_42 (dk_at dksX3_feed_8 6 rfl rfl)
theorem dX3_feed_195 : decode cX3_feed 195 = .ok (.dup, 1) := dk_89 (dk_at dksX3_feed_8 7 rfl rfl)
theorem dX3_feed_196 : decode cX3_feed 196 = .ok (.getfield 157, 3) := dk_180 0 157 (dk_at dksX3_feed_8 8 rfl rfl)
theorem dX3_feed_199 : decode cX3_feed 199 = .ok (.iconst 1, 1) := dk_4 (dk_at dksX3_feed_8 11 rfl rfl)
theorem dX3_feed_200 : decode cX3_feed 200 = .ok (.iadd, 1) := dk_96 (dk_at dksX3_feed_8 12 rfl rfl)
theorem dX3_feed_201 : decode cX3_feed 201 = .ok (.putfield 157, 3) := dk_181 0 157 (dk_at dksX3_feed_8 13 rfl rfl)
theorem dX3_feed_204 : decode cX3_feed 204 = .ok (.iinc 5 1, 3) := dk_132 5 1 (dk_at dksX3_feed_8 16 rfl rfl)
theorem dX3_feed_207 : decode cX3_feed 207 = .ok (.goto (-67), 3) := dk_167 255 189 (dk_at dksX3_feed_8 19 rfl rfl)
theorem dX3_feed_210 : decode cX3_feed 210 = .ok (.aload_n 0, 1) := dk_42 (dk_at dksX3_feed_8 22 rfl rfl)
theorem dX3_feed_211 : decode cX3_feed 211 = .ok (.getfield 157, 3) := dk_180 0 157 (dk_at dksX3_feed_9 0 rfl rfl)
theorem dX3_feed_214 : decode cX3_feed 214 = .ok (.ireturn, 1) := dk_172 (dk_at dksX3_feed_9 3 rfl rfl)
abbrev cX3_post : ByteArray := prog_23_method_35_code
def yX3_post : MethodName := ⟨RX3, "post", "(IIII)I"⟩
def dkwX3_post_8 : List UInt8 := [180, 0, 144, 4, 100, 172]
abbrev dktX3_post_8 : List UInt8 := dkwX3_post_8 ++ []
def dkwX3_post_7 : List UInt8 := [79, 42, 180, 0, 69, 42, 180, 0, 144, 21, 4, 79, 42, 89, 180, 0, 144, 4, 96, 181, 0, 144, 42]
abbrev dktX3_post_7 : List UInt8 := dkwX3_post_7 ++ dktX3_post_8
def dkwX3_post_6 : List UInt8 := [180, 0, 144, 27, 79, 42, 180, 0, 63, 42, 180, 0, 144, 28, 79, 42, 180, 0, 66, 42, 180, 0, 144, 29]
abbrev dktX3_post_6 : List UInt8 := dkwX3_post_6 ++ dktX3_post_7
def dkwX3_post_5 : List UInt8 := [180, 0, 212, 79, 42, 180, 0, 57, 42, 180, 0, 144, 42, 180, 0, 221, 79, 42, 180, 0, 60, 42]
abbrev dktX3_post_5 : List UInt8 := dkwX3_post_5 ++ dktX3_post_6
def dkwX3_post_4 : List UInt8 := [16, 246, 42, 180, 0, 201, 104, 42, 180, 0, 198, 100, 172, 42, 180, 0, 54, 42, 180, 0, 144, 42]
abbrev dktX3_post_4 : List UInt8 := dkwX3_post_4 ++ dktX3_post_5
def dkwX3_post_3 : List UInt8 := [182, 0, 134, 153, 0, 5, 3, 172, 42, 182, 0, 227, 54, 5, 42, 3, 181, 0, 157, 21, 5, 154, 0, 16]
abbrev dktX3_post_3 : List UInt8 := dkwX3_post_3 ++ dktX3_post_4
def dkwX3_post_2 : List UInt8 := [3, 5, 182, 0, 134, 154, 0, 25, 42, 42, 180, 0, 144, 16, 40, 162, 0, 7, 4, 167, 0, 4, 3, 6]
abbrev dktX3_post_2 : List UInt8 := dkwX3_post_2 ++ dktX3_post_3
def dkwX3_post_1 : List UInt8 := [16, 99, 184, 0, 130, 153, 0, 19, 21, 4, 3, 17, 3, 231, 184, 0, 130, 153, 0, 7, 4, 167, 0, 4]
abbrev dktX3_post_1 : List UInt8 := dkwX3_post_1 ++ dktX3_post_2
def dkwX3_post_0 : List UInt8 := [42, 3, 181, 0, 1, 42, 29, 182, 0, 174, 154, 0, 67, 42, 27, 184, 0, 177, 153, 0, 29, 28, 3]
abbrev dktX3_post_0 : List UInt8 := dkwX3_post_0 ++ dktX3_post_1
theorem dksX3_post_0 : cX3_post.data.toList.drop 0 = dktX3_post_0 := by decide +kernel
theorem dksX3_post_1 : cX3_post.data.toList.drop 23 = dktX3_post_1 := dk_seg dksX3_post_0 23 rfl rfl
theorem dksX3_post_2 : cX3_post.data.toList.drop 47 = dktX3_post_2 := dk_seg dksX3_post_1 24 rfl rfl
theorem dksX3_post_3 : cX3_post.data.toList.drop 71 = dktX3_post_3 := dk_seg dksX3_post_2 24 rfl rfl
theorem dksX3_post_4 : cX3_post.data.toList.drop 95 = dktX3_post_4 := dk_seg dksX3_post_3 24 rfl rfl
theorem dksX3_post_5 : cX3_post.data.toList.drop 117 = dktX3_post_5 := dk_seg dksX3_post_4 22 rfl rfl
theorem dksX3_post_6 : cX3_post.data.toList.drop 139 = dktX3_post_6 := dk_seg dksX3_post_5 22 rfl rfl
theorem dksX3_post_7 : cX3_post.data.toList.drop 163 = dktX3_post_7 := dk_seg dksX3_post_6 24 rfl rfl
theorem dksX3_post_8 : cX3_post.data.toList.drop 186 = dktX3_post_8 := dk_seg dksX3_post_7 23 rfl rfl
theorem dX3_post_0 : decode cX3_post 0 = .ok (.aload_n 0, 1) := dk_42 (dk_at dksX3_post_0 0 rfl rfl)
theorem dX3_post_1 : decode cX3_post 1 = .ok (.iconst 0, 1) := dk_3 (dk_at dksX3_post_0 1 rfl rfl)
theorem dX3_post_2 : decode cX3_post 2 = .ok (.putfield 1, 3) := dk_181 0 1 (dk_at dksX3_post_0 2 rfl rfl)
theorem dX3_post_5 : decode cX3_post 5 = .ok (.aload_n 0, 1) := dk_42 (dk_at dksX3_post_0 5 rfl rfl)
theorem dX3_post_6 : decode cX3_post 6 = .ok (.iload_n 3, 1) := dk_29 (dk_at dksX3_post_0 6 rfl rfl)
theorem dX3_post_7 : decode cX3_post 7 = .ok (.invokevirtual 174, 3) := dk_182 0 174 (dk_at dksX3_post_0 7 rfl rfl)
theorem dX3_post_10 : decode cX3_post 10 = .ok (.ifCond .ne 67, 3) := dk_154 0 67 (dk_at dksX3_post_0 10 rfl rfl)
theorem dX3_post_13 : decode cX3_post 13 = .ok (.aload_n 0, 1) := dk_42 (dk_at dksX3_post_0 13 rfl rfl)
theorem dX3_post_14 : decode cX3_post 14 = .ok (.iload_n 1, 1) := dk_27 (dk_at dksX3_post_0 14 rfl rfl)
theorem dX3_post_15 : decode cX3_post 15 = .ok (.invokestatic 177, 3) := dk_184 0 177 (dk_at dksX3_post_0 15 rfl rfl)
theorem dX3_post_18 : decode cX3_post 18 = .ok (.ifCond .eq 29, 3) := dk_153 0 29 (dk_at dksX3_post_0 18 rfl rfl)
theorem dX3_post_21 : decode cX3_post 21 = .ok (.iload_n 2, 1) := dk_28 (dk_at dksX3_post_0 21 rfl rfl)
theorem dX3_post_22 : decode cX3_post 22 = .ok (.iconst 0, 1) := dk_3 (dk_at dksX3_post_0 22 rfl rfl)
theorem dX3_post_23 : decode cX3_post 23 = .ok (.bipush 99, 2) := dk_16 99 (dk_at dksX3_post_1 0 rfl rfl)
theorem dX3_post_25 : decode cX3_post 25 = .ok (.invokestatic 130, 3) := dk_184 0 130 (dk_at dksX3_post_1 2 rfl rfl)
theorem dX3_post_28 : decode cX3_post 28 = .ok (.ifCond .eq 19, 3) := dk_153 0 19 (dk_at dksX3_post_1 5 rfl rfl)
theorem dX3_post_31 : decode cX3_post 31 = .ok (.iload 4, 2) := dk_21 4 (dk_at dksX3_post_1 8 rfl rfl)
theorem dX3_post_33 : decode cX3_post 33 = .ok (.iconst 0, 1) := dk_3 (dk_at dksX3_post_1 10 rfl rfl)
theorem dX3_post_34 : decode cX3_post 34 = .ok (.sipush 999, 3) := dk_17 3 231 (dk_at dksX3_post_1 11 rfl rfl)
theorem dX3_post_37 : decode cX3_post 37 = .ok (.invokestatic 130, 3) := dk_184 0 130 (dk_at dksX3_post_1 14 rfl rfl)
theorem dX3_post_40 : decode cX3_post 40 = .ok (.ifCond .eq 7, 3) := dk_153 0 7 (dk_at dksX3_post_1 17 rfl rfl)
theorem dX3_post_43 : decode cX3_post 43 = .ok (.iconst 1, 1) := dk_4 (dk_at dksX3_post_1 20 rfl rfl)
theorem dX3_post_44 : decode cX3_post 44 = .ok (.goto 4, 3) := dk_167 0 4 (dk_at dksX3_post_1 21 rfl rfl)
theorem dX3_post_47 : decode cX3_post 47 = .ok (.iconst 0, 1) := dk_3 (dk_at dksX3_post_2 0 rfl rfl)
theorem dX3_post_48 : decode cX3_post 48 = .ok (.iconst 2, 1) := dk_5 (dk_at dksX3_post_2 1 rfl rfl)
theorem dX3_post_49 : decode cX3_post 49 = .ok (.invokevirtual 134, 3) := dk_182 0 134 (dk_at dksX3_post_2 2 rfl rfl)
theorem dX3_post_52 : decode cX3_post 52 = .ok (.ifCond .ne 25, 3) := dk_154 0 25 (dk_at dksX3_post_2 5 rfl rfl)
theorem dX3_post_55 : decode cX3_post 55 = .ok (.aload_n 0, 1) := dk_42 (dk_at dksX3_post_2 8 rfl rfl)
theorem dX3_post_56 : decode cX3_post 56 = .ok (.aload_n 0, 1) := dk_42 (dk_at dksX3_post_2 9 rfl rfl)
theorem dX3_post_57 : decode cX3_post 57 = .ok (.getfield 144, 3) := dk_180 0 144 (dk_at dksX3_post_2 10 rfl rfl)
theorem dX3_post_60 : decode cX3_post 60 = .ok (.bipush 40, 2) := dk_16 40 (dk_at dksX3_post_2 13 rfl rfl)
theorem dX3_post_62 : decode cX3_post 62 = .ok (.if_icmp .ge 7, 3) := dk_162 0 7 (dk_at dksX3_post_2 15 rfl rfl)
theorem dX3_post_65 : decode cX3_post 65 = .ok (.iconst 1, 1) := dk_4 (dk_at dksX3_post_2 18 rfl rfl)
theorem dX3_post_66 : decode cX3_post 66 = .ok (.goto 4, 3) := dk_167 0 4 (dk_at dksX3_post_2 19 rfl rfl)
theorem dX3_post_69 : decode cX3_post 69 = .ok (.iconst 0, 1) := dk_3 (dk_at dksX3_post_2 22 rfl rfl)
theorem dX3_post_70 : decode cX3_post 70 = .ok (.iconst 3, 1) := dk_6 (dk_at dksX3_post_2 23 rfl rfl)
theorem dX3_post_71 : decode cX3_post 71 = .ok (.invokevirtual 134, 3) := dk_182 0 134 (dk_at dksX3_post_3 0 rfl rfl)
theorem dX3_post_74 : decode cX3_post 74 = .ok (.ifCond .eq 5, 3) := dk_153 0 5 (dk_at dksX3_post_3 3 rfl rfl)
theorem dX3_post_77 : decode cX3_post 77 = .ok (.iconst 0, 1) := dk_3 (dk_at dksX3_post_3 6 rfl rfl)
theorem dX3_post_78 : decode cX3_post 78 = .ok (.ireturn, 1) := dk_172 (dk_at dksX3_post_3 7 rfl rfl)
theorem dX3_post_79 : decode cX3_post 79 = .ok (.aload_n 0, 1) := dk_42 (dk_at dksX3_post_3 8 rfl rfl)
theorem dX3_post_80 : decode cX3_post 80 = .ok (.invokevirtual 227, 3) := dk_182 0 227 (dk_at dksX3_post_3 9 rfl rfl)
theorem dX3_post_83 : decode cX3_post 83 = .ok (.istore 5, 2) := dk_54 5 (dk_at dksX3_post_3 12 rfl rfl)
theorem dX3_post_85 : decode cX3_post 85 = .ok (.aload_n 0, 1) := dk_42 (dk_at dksX3_post_3 14 rfl rfl)
theorem dX3_post_86 : decode cX3_post 86 = .ok (.iconst 0, 1) := dk_3 (dk_at dksX3_post_3 15 rfl rfl)
theorem dX3_post_87 : decode cX3_post 87 = .ok (.putfield 157, 3) := dk_181 0 157 (dk_at dksX3_post_3 16 rfl rfl)
theorem dX3_post_90 : decode cX3_post 90 = .ok (.iload 5, 2) := dk_21 5 (dk_at dksX3_post_3 19 rfl rfl)
theorem dX3_post_92 : decode cX3_post 92 = .ok (.ifCond .ne 16, 3) := dk_154 0 16 (dk_at dksX3_post_3 21 rfl rfl)
theorem dX3_post_95 : decode cX3_post 95 = .ok (.bipush (-10), 2) := dk_16 246 (dk_at dksX3_post_4 0 rfl rfl)
theorem dX3_post_97 : decode cX3_post 97 = .ok (.aload_n 0, 1) := dk_42 (dk_at dksX3_post_4 2 rfl rfl)
theorem dX3_post_98 : decode cX3_post 98 = .ok (.getfield 201, 3) := dk_180 0 201 (dk_at dksX3_post_4 3 rfl rfl)
theorem dX3_post_101 : decode cX3_post 101 = .ok (.imul, 1) := dk_104 (dk_at dksX3_post_4 6 rfl rfl)
theorem dX3_post_102 : decode cX3_post 102 = .ok (.aload_n 0, 1) := dk_42 (dk_at dksX3_post_4 7 rfl rfl)
theorem dX3_post_103 : decode cX3_post 103 = .ok (.getfield 198, 3) := dk_180 0 198 (dk_at dksX3_post_4 8 rfl rfl)
theorem dX3_post_106 : decode cX3_post 106 = .ok (.isub, 1) := dk_100 (dk_at dksX3_post_4 11 rfl rfl)
theorem dX3_post_107 : decode cX3_post 107 = .ok (.ireturn, 1) := dk_172 (dk_at dksX3_post_4 12 rfl rfl)
theorem dX3_post_108 : decode cX3_post 108 = .ok (.aload_n 0, 1) := dk_42 (dk_at dksX3_post_4 13 rfl rfl)
theorem dX3_post_109 : decode cX3_post 109 = .ok (.getfield 54, 3) := dk_180 0 54 (dk_at dksX3_post_4 14 rfl rfl)
theorem dX3_post_112 : decode cX3_post 112 = .ok (.aload_n 0, 1) := dk_42 (dk_at dksX3_post_4 17 rfl rfl)
theorem dX3_post_113 : decode cX3_post 113 = .ok (.getfield 144, 3) := dk_180 0 144 (dk_at dksX3_post_4 18 rfl rfl)
theorem dX3_post_116 : decode cX3_post 116 = .ok (.aload_n 0, 1) := dk_42 (dk_at dksX3_post_4 21 rfl rfl)
theorem dX3_post_117 : decode cX3_post 117 = .ok (.getfield 212, 3) := dk_180 0 212 (dk_at dksX3_post_5 0 rfl rfl)
theorem dX3_post_120 : decode cX3_post 120 = .ok (.iastore, 1) := dk_79 (dk_at dksX3_post_5 3 rfl rfl)
theorem dX3_post_121 : decode cX3_post 121 = .ok (.aload_n 0, 1) := dk_42 (dk_at dksX3_post_5 4 rfl rfl)
theorem dX3_post_122 : decode cX3_post 122 = .ok (.getfield 57, 3) := dk_180 0 57 (dk_at dksX3_post_5 5 rfl rfl)
theorem dX3_post_125 : decode cX3_post 125 = .ok (.aload_n 0, 1) := dk_42 (dk_at dksX3_post_5 8 rfl rfl)
theorem dX3_post_126 : decode cX3_post 126 = .ok (.getfield 144, 3) := dk_180 0 144 (dk_at dksX3_post_5 9 rfl rfl)
theorem dX3_post_129 : decode cX3_post 129 = .ok (.aload_n 0, 1) := dk_42 (dk_at dksX3_post_5 12 rfl rfl)
theorem dX3_post_130 : decode cX3_post 130 = .ok (.getfield 221, 3) := dk_180 0 221 (dk_at dksX3_post_5 13 rfl rfl)
theorem dX3_post_133 : decode cX3_post 133 = .ok (.iastore, 1) := dk_79 (dk_at dksX3_post_5 16 rfl rfl)
theorem dX3_post_134 : decode cX3_post 134 = .ok (.aload_n 0, 1) := dk_42 (dk_at dksX3_post_5 17 rfl rfl)
theorem dX3_post_135 : decode cX3_post 135 = .ok (.getfield 60, 3) := dk_180 0 60 (dk_at dksX3_post_5 18 rfl rfl)
theorem dX3_post_138 : decode cX3_post 138 = .ok (.aload_n 0, 1) := dk_42 (dk_at dksX3_post_5 21 rfl rfl)
theorem dX3_post_139 : decode cX3_post 139 = .ok (.getfield 144, 3) := dk_180 0 144 (dk_at dksX3_post_6 0 rfl rfl)
theorem dX3_post_142 : decode cX3_post 142 = .ok (.iload_n 1, 1) := dk_27 (dk_at dksX3_post_6 3 rfl rfl)
theorem dX3_post_143 : decode cX3_post 143 = .ok (.iastore, 1) := dk_79 (dk_at dksX3_post_6 4 rfl rfl)
theorem dX3_post_144 : decode cX3_post 144 = .ok (.aload_n 0, 1) := dk_42 (dk_at dksX3_post_6 5 rfl rfl)
theorem dX3_post_145 : decode cX3_post 145 = .ok (.getfield 63, 3) := dk_180 0 63 (dk_at dksX3_post_6 6 rfl rfl)
theorem dX3_post_148 : decode cX3_post 148 = .ok (.aload_n 0, 1) := dk_42 (dk_at dksX3_post_6 9 rfl rfl)
theorem dX3_post_149 : decode cX3_post 149 = .ok (.getfield 144, 3) := dk_180 0 144 (dk_at dksX3_post_6 10 rfl rfl)
theorem dX3_post_152 : decode cX3_post 152 = .ok (.iload_n 2, 1) := dk_28 (dk_at dksX3_post_6 13 rfl rfl)
theorem dX3_post_153 : decode cX3_post 153 = .ok (.iastore, 1) := dk_79 (dk_at dksX3_post_6 14 rfl rfl)
theorem dX3_post_154 : decode cX3_post 154 = .ok (.aload_n 0, 1) := dk_42 (dk_at dksX3_post_6 15 rfl rfl)
theorem dX3_post_155 : decode cX3_post 155 = .ok (.getfield 66, 3) := dk_180 0 66 (dk_at dksX3_post_6 16 rfl rfl)
theorem dX3_post_158 : decode cX3_post 158 = .ok (.aload_n 0, 1) := dk_42 (dk_at dksX3_post_6 19 rfl rfl)
theorem dX3_post_159 : decode cX3_post 159 = .ok (.getfield 144, 3) := dk_180 0 144 (dk_at dksX3_post_6 20 rfl rfl)
theorem dX3_post_162 : decode cX3_post 162 = .ok (.iload_n 3, 1) := dk_29 (dk_at dksX3_post_6 23 rfl rfl)
theorem dX3_post_163 : decode cX3_post 163 = .ok (.iastore, 1) := dk_79 (dk_at dksX3_post_7 0 rfl rfl)
theorem dX3_post_164 : decode cX3_post 164 = .ok (.aload_n 0, 1) := dk_42 (dk_at dksX3_post_7 1 rfl rfl)
theorem dX3_post_165 : decode cX3_post 165 = .ok (.getfield 69, 3) := dk_180 0 69 (dk_at dksX3_post_7 2 rfl rfl)
theorem dX3_post_168 : decode cX3_post 168 = .ok (.aload_n 0, 1) := dk_42 (dk_at dksX3_post_7 5 rfl rfl)
theorem dX3_post_169 : decode cX3_post 169 = .ok (.getfield 144, 3) := dk_180 0 144 (dk_at dksX3_post_7 6 rfl rfl)
theorem dX3_post_172 : decode cX3_post 172 = .ok (.iload 4, 2) := dk_21 4 (dk_at dksX3_post_7 9 rfl rfl)
theorem dX3_post_174 : decode cX3_post 174 = .ok (.iastore, 1) := dk_79 (dk_at dksX3_post_7 11 rfl rfl)
theorem dX3_post_175 : decode cX3_post 175 = .ok (.aload_n 0, 1) := dk_42 (dk_at dksX3_post_7 12 rfl rfl)
theorem dX3_post_176 : decode cX3_post 176 = .ok (.dup, 1) := dk_89 (dk_at dksX3_post_7 13 rfl rfl)
theorem dX3_post_177 : decode cX3_post 177 = .ok (.getfield 144, 3) := dk_180 0 144 (dk_at dksX3_post_7 14 rfl rfl)
theorem dX3_post_180 : decode cX3_post 180 = .ok (.iconst 1, 1) := dk_4 (dk_at dksX3_post_7 17 rfl rfl)
theorem dX3_post_181 : decode cX3_post 181 = .ok (.iadd, 1) := dk_96 (dk_at dksX3_post_7 18 rfl rfl)
theorem dX3_post_182 : decode cX3_post 182 = .ok (.putfield 144, 3) := dk_181 0 144 (dk_at dksX3_post_7 19 rfl rfl)
theorem dX3_post_185 : decode cX3_post 185 = .ok (.aload_n 0, 1) := dk_42 (dk_at dksX3_post_7 22 rfl rfl)
theorem dX3_post_186 : decode cX3_post 186 = .ok (.getfield 144, 3) := dk_180 0 144 (dk_at dksX3_post_8 0 rfl rfl)
theorem dX3_post_189 : decode cX3_post 189 = .ok (.iconst 1, 1) := dk_4 (dk_at dksX3_post_8 3 rfl rfl)
theorem dX3_post_190 : decode cX3_post 190 = .ok (.isub, 1) := dk_100 (dk_at dksX3_post_8 4 rfl rfl)
theorem dX3_post_191 : decode cX3_post 191 = .ok (.ireturn, 1) := dk_172 (dk_at dksX3_post_8 5 rfl rfl)
abbrev cX3_reads : ByteArray := prog_23_method_34_code
def yX3_reads : MethodName := ⟨RX3, "reads", "()Z"⟩
def dkwX3_reads_5 : List UInt8 := [182, 0, 204, 153, 0, 15, 42, 4, 42, 180, 0, 150, 182, 0, 208, 153, 0, 7, 4, 167, 0, 4, 3, 172]
abbrev dktX3_reads_5 : List UInt8 := dkwX3_reads_5 ++ []
def dkwX3_reads_4 : List UInt8 := [182, 0, 208, 172, 42, 42, 182, 0, 218, 181, 0, 221, 42, 180, 0, 221, 2, 160, 0, 5, 3, 172, 42]
abbrev dktX3_reads_4 : List UInt8 := dkwX3_reads_4 ++ dktX3_reads_5
def dkwX3_reads_3 : List UInt8 := [154, 0, 5, 4, 172, 42, 42, 180, 0, 42, 182, 0, 160, 154, 0, 13, 42, 4, 42, 180, 0, 150]
abbrev dktX3_reads_3 : List UInt8 := dkwX3_reads_3 ++ dktX3_reads_4
def dkwX3_reads_2 : List UInt8 := [162, 0, 23, 132, 1, 1, 42, 182, 0, 224, 154, 0, 5, 3, 172, 42, 182, 0, 204, 61, 167, 255, 219, 28]
abbrev dktX3_reads_2 : List UInt8 := dkwX3_reads_2 ++ dktX3_reads_3
def dkwX3_reads_1 : List UInt8 := [3, 60, 42, 182, 0, 204, 61, 28, 153, 0, 39, 42, 42, 180, 0, 38, 182, 0, 160, 153, 0, 28, 27, 5]
abbrev dktX3_reads_1 : List UInt8 := dkwX3_reads_1 ++ dktX3_reads_2
def dkwX3_reads_0 : List UInt8 := [42, 3, 181, 0, 147, 42, 3, 181, 0, 212, 42, 2, 181, 0, 221, 42, 182, 0, 224, 154, 0, 5, 3, 172]
abbrev dktX3_reads_0 : List UInt8 := dkwX3_reads_0 ++ dktX3_reads_1
theorem dksX3_reads_0 : cX3_reads.data.toList.drop 0 = dktX3_reads_0 := by decide +kernel
theorem dksX3_reads_1 : cX3_reads.data.toList.drop 24 = dktX3_reads_1 := dk_seg dksX3_reads_0 24 rfl rfl
theorem dksX3_reads_2 : cX3_reads.data.toList.drop 48 = dktX3_reads_2 := dk_seg dksX3_reads_1 24 rfl rfl
theorem dksX3_reads_3 : cX3_reads.data.toList.drop 72 = dktX3_reads_3 := dk_seg dksX3_reads_2 24 rfl rfl
theorem dksX3_reads_4 : cX3_reads.data.toList.drop 94 = dktX3_reads_4 := dk_seg dksX3_reads_3 22 rfl rfl
theorem dksX3_reads_5 : cX3_reads.data.toList.drop 117 = dktX3_reads_5 := dk_seg dksX3_reads_4 23 rfl rfl
theorem dX3_reads_0 : decode cX3_reads 0 = .ok (.aload_n 0, 1) := dk_42 (dk_at dksX3_reads_0 0 rfl rfl)
theorem dX3_reads_1 : decode cX3_reads 1 = .ok (.iconst 0, 1) := dk_3 (dk_at dksX3_reads_0 1 rfl rfl)
theorem dX3_reads_2 : decode cX3_reads 2 = .ok (.putfield 147, 3) := dk_181 0 147 (dk_at dksX3_reads_0 2 rfl rfl)
theorem dX3_reads_5 : decode cX3_reads 5 = .ok (.aload_n 0, 1) := dk_42 (dk_at dksX3_reads_0 5 rfl rfl)
theorem dX3_reads_6 : decode cX3_reads 6 = .ok (.iconst 0, 1) := dk_3 (dk_at dksX3_reads_0 6 rfl rfl)
theorem dX3_reads_7 : decode cX3_reads 7 = .ok (.putfield 212, 3) := dk_181 0 212 (dk_at dksX3_reads_0 7 rfl rfl)
theorem dX3_reads_10 : decode cX3_reads 10 = .ok (.aload_n 0, 1) := dk_42 (dk_at dksX3_reads_0 10 rfl rfl)
theorem dX3_reads_11 : decode cX3_reads 11 = .ok (.iconst (-1), 1) := dk_2 (dk_at dksX3_reads_0 11 rfl rfl)
theorem dX3_reads_12 : decode cX3_reads 12 = .ok (.putfield 221, 3) := dk_181 0 221 (dk_at dksX3_reads_0 12 rfl rfl)
theorem dX3_reads_15 : decode cX3_reads 15 = .ok (.aload_n 0, 1) := dk_42 (dk_at dksX3_reads_0 15 rfl rfl)
theorem dX3_reads_16 : decode cX3_reads 16 = .ok (.invokevirtual 224, 3) := dk_182 0 224 (dk_at dksX3_reads_0 16 rfl rfl)
theorem dX3_reads_19 : decode cX3_reads 19 = .ok (.ifCond .ne 5, 3) := dk_154 0 5 (dk_at dksX3_reads_0 19 rfl rfl)
theorem dX3_reads_22 : decode cX3_reads 22 = .ok (.iconst 0, 1) := dk_3 (dk_at dksX3_reads_0 22 rfl rfl)
theorem dX3_reads_23 : decode cX3_reads 23 = .ok (.ireturn, 1) := dk_172 (dk_at dksX3_reads_0 23 rfl rfl)
theorem dX3_reads_24 : decode cX3_reads 24 = .ok (.iconst 0, 1) := dk_3 (dk_at dksX3_reads_1 0 rfl rfl)
theorem dX3_reads_25 : decode cX3_reads 25 = .ok (.istore_n 1, 1) := dk_60 (dk_at dksX3_reads_1 1 rfl rfl)
theorem dX3_reads_26 : decode cX3_reads 26 = .ok (.aload_n 0, 1) := dk_42 (dk_at dksX3_reads_1 2 rfl rfl)
theorem dX3_reads_27 : decode cX3_reads 27 = .ok (.invokevirtual 204, 3) := dk_182 0 204 (dk_at dksX3_reads_1 3 rfl rfl)
theorem dX3_reads_30 : decode cX3_reads 30 = .ok (.istore_n 2, 1) := dk_61 (dk_at dksX3_reads_1 6 rfl rfl)
theorem dX3_reads_31 : decode cX3_reads 31 = .ok (.iload_n 2, 1) := dk_28 (dk_at dksX3_reads_1 7 rfl rfl)
theorem dX3_reads_32 : decode cX3_reads 32 = .ok (.ifCond .eq 39, 3) := dk_153 0 39 (dk_at dksX3_reads_1 8 rfl rfl)
theorem dX3_reads_35 : decode cX3_reads 35 = .ok (.aload_n 0, 1) := dk_42 (dk_at dksX3_reads_1 11 rfl rfl)
theorem dX3_reads_36 : decode cX3_reads 36 = .ok (.aload_n 0, 1) := dk_42 (dk_at dksX3_reads_1 12 rfl rfl)
theorem dX3_reads_37 : decode cX3_reads 37 = .ok (.getfield 38, 3) := dk_180 0 38 (dk_at dksX3_reads_1 13 rfl rfl)
theorem dX3_reads_40 : decode cX3_reads 40 = .ok (.invokevirtual 160, 3) := dk_182 0 160 (dk_at dksX3_reads_1 16 rfl rfl)
theorem dX3_reads_43 : decode cX3_reads 43 = .ok (.ifCond .eq 28, 3) := dk_153 0 28 (dk_at dksX3_reads_1 19 rfl rfl)
theorem dX3_reads_46 : decode cX3_reads 46 = .ok (.iload_n 1, 1) := dk_27 (dk_at dksX3_reads_1 22 rfl rfl)
theorem dX3_reads_47 : decode cX3_reads 47 = .ok (.iconst 2, 1) := dk_5 (dk_at dksX3_reads_1 23 rfl rfl)
theorem dX3_reads_48 : decode cX3_reads 48 = .ok (.if_icmp .ge 23, 3) := dk_162 0 23 (dk_at dksX3_reads_2 0 rfl rfl)
theorem dX3_reads_51 : decode cX3_reads 51 = .ok (.iinc 1 1, 3) := dk_132 1 1 (dk_at dksX3_reads_2 3 rfl rfl)
theorem dX3_reads_54 : decode cX3_reads 54 = .ok (.aload_n 0, 1) := dk_42 (dk_at dksX3_reads_2 6 rfl rfl)
theorem dX3_reads_55 : decode cX3_reads 55 = .ok (.invokevirtual 224, 3) := dk_182 0 224 (dk_at dksX3_reads_2 7 rfl rfl)
theorem dX3_reads_58 : decode cX3_reads 58 = .ok (.ifCond .ne 5, 3) := dk_154 0 5 (dk_at dksX3_reads_2 10 rfl rfl)
theorem dX3_reads_61 : decode cX3_reads 61 = .ok (.iconst 0, 1) := dk_3 (dk_at dksX3_reads_2 13 rfl rfl)
theorem dX3_reads_62 : decode cX3_reads 62 = .ok (.ireturn, 1) := dk_172 (dk_at dksX3_reads_2 14 rfl rfl)
theorem dX3_reads_63 : decode cX3_reads 63 = .ok (.aload_n 0, 1) := dk_42 (dk_at dksX3_reads_2 15 rfl rfl)
theorem dX3_reads_64 : decode cX3_reads 64 = .ok (.invokevirtual 204, 3) := dk_182 0 204 (dk_at dksX3_reads_2 16 rfl rfl)
theorem dX3_reads_67 : decode cX3_reads 67 = .ok (.istore_n 2, 1) := dk_61 (dk_at dksX3_reads_2 19 rfl rfl)
theorem dX3_reads_68 : decode cX3_reads 68 = .ok (.goto (-37), 3) := dk_167 255 219 (dk_at dksX3_reads_2 20 rfl rfl)
theorem dX3_reads_71 : decode cX3_reads 71 = .ok (.iload_n 2, 1) := dk_28 (dk_at dksX3_reads_2 23 rfl rfl)
theorem dX3_reads_72 : decode cX3_reads 72 = .ok (.ifCond .ne 5, 3) := dk_154 0 5 (dk_at dksX3_reads_3 0 rfl rfl)
theorem dX3_reads_75 : decode cX3_reads 75 = .ok (.iconst 1, 1) := dk_4 (dk_at dksX3_reads_3 3 rfl rfl)
theorem dX3_reads_76 : decode cX3_reads 76 = .ok (.ireturn, 1) := dk_172 (dk_at dksX3_reads_3 4 rfl rfl)
theorem dX3_reads_77 : decode cX3_reads 77 = .ok (.aload_n 0, 1) := dk_42 (dk_at dksX3_reads_3 5 rfl rfl)
theorem dX3_reads_78 : decode cX3_reads 78 = .ok (.aload_n 0, 1) := dk_42 (dk_at dksX3_reads_3 6 rfl rfl)
theorem dX3_reads_79 : decode cX3_reads 79 = .ok (.getfield 42, 3) := dk_180 0 42 (dk_at dksX3_reads_3 7 rfl rfl)
theorem dX3_reads_82 : decode cX3_reads 82 = .ok (.invokevirtual 160, 3) := dk_182 0 160 (dk_at dksX3_reads_3 10 rfl rfl)
theorem dX3_reads_85 : decode cX3_reads 85 = .ok (.ifCond .ne 13, 3) := dk_154 0 13 (dk_at dksX3_reads_3 13 rfl rfl)
theorem dX3_reads_88 : decode cX3_reads 88 = .ok (.aload_n 0, 1) := dk_42 (dk_at dksX3_reads_3 16 rfl rfl)
theorem dX3_reads_89 : decode cX3_reads 89 = .ok (.iconst 1, 1) := dk_4 (dk_at dksX3_reads_3 17 rfl rfl)
theorem dX3_reads_90 : decode cX3_reads 90 = .ok (.aload_n 0, 1) := dk_42 (dk_at dksX3_reads_3 18 rfl rfl)
theorem dX3_reads_91 : decode cX3_reads 91 = .ok (.getfield 150, 3) := dk_180 0 150 (dk_at dksX3_reads_3 19 rfl rfl)
theorem dX3_reads_94 : decode cX3_reads 94 = .ok (.invokevirtual 208, 3) := dk_182 0 208 (dk_at dksX3_reads_4 0 rfl rfl)
theorem dX3_reads_97 : decode cX3_reads 97 = .ok (.ireturn, 1) := dk_172 (dk_at dksX3_reads_4 3 rfl rfl)
theorem dX3_reads_98 : decode cX3_reads 98 = .ok (.aload_n 0, 1) := dk_42 (dk_at dksX3_reads_4 4 rfl rfl)
theorem dX3_reads_99 : decode cX3_reads 99 = .ok (.aload_n 0, 1) := dk_42 (dk_at dksX3_reads_4 5 rfl rfl)
theorem dX3_reads_100 : decode cX3_reads 100 = .ok (.invokevirtual 218, 3) := dk_182 0 218 (dk_at dksX3_reads_4 6 rfl rfl)
theorem dX3_reads_103 : decode cX3_reads 103 = .ok (.putfield 221, 3) := dk_181 0 221 (dk_at dksX3_reads_4 9 rfl rfl)
theorem dX3_reads_106 : decode cX3_reads 106 = .ok (.aload_n 0, 1) := dk_42 (dk_at dksX3_reads_4 12 rfl rfl)
theorem dX3_reads_107 : decode cX3_reads 107 = .ok (.getfield 221, 3) := dk_180 0 221 (dk_at dksX3_reads_4 13 rfl rfl)
theorem dX3_reads_110 : decode cX3_reads 110 = .ok (.iconst (-1), 1) := dk_2 (dk_at dksX3_reads_4 16 rfl rfl)
theorem dX3_reads_111 : decode cX3_reads 111 = .ok (.if_icmp .ne 5, 3) := dk_160 0 5 (dk_at dksX3_reads_4 17 rfl rfl)
theorem dX3_reads_114 : decode cX3_reads 114 = .ok (.iconst 0, 1) := dk_3 (dk_at dksX3_reads_4 20 rfl rfl)
theorem dX3_reads_115 : decode cX3_reads 115 = .ok (.ireturn, 1) := dk_172 (dk_at dksX3_reads_4 21 rfl rfl)
theorem dX3_reads_116 : decode cX3_reads 116 = .ok (.aload_n 0, 1) := dk_42 (dk_at dksX3_reads_4 22 rfl rfl)
theorem dX3_reads_117 : decode cX3_reads 117 = .ok (.invokevirtual 204, 3) := dk_182 0 204 (dk_at dksX3_reads_5 0 rfl rfl)
theorem dX3_reads_120 : decode cX3_reads 120 = .ok (.ifCond .eq 15, 3) := dk_153 0 15 (dk_at dksX3_reads_5 3 rfl rfl)
theorem dX3_reads_123 : decode cX3_reads 123 = .ok (.aload_n 0, 1) := dk_42 (dk_at dksX3_reads_5 6 rfl rfl)
theorem dX3_reads_124 : decode cX3_reads 124 = .ok (.iconst 1, 1) := dk_4 (dk_at dksX3_reads_5 7 rfl rfl)
theorem dX3_reads_125 : decode cX3_reads 125 = .ok (.aload_n 0, 1) := dk_42 (dk_at dksX3_reads_5 8 rfl rfl)
theorem dX3_reads_126 : decode cX3_reads 126 = .ok (.getfield 150, 3) := dk_180 0 150 (dk_at dksX3_reads_5 9 rfl rfl)
theorem dX3_reads_129 : decode cX3_reads 129 = .ok (.invokevirtual 208, 3) := dk_182 0 208 (dk_at dksX3_reads_5 12 rfl rfl)
theorem dX3_reads_132 : decode cX3_reads 132 = .ok (.ifCond .eq 7, 3) := dk_153 0 7 (dk_at dksX3_reads_5 15 rfl rfl)
theorem dX3_reads_135 : decode cX3_reads 135 = .ok (.iconst 1, 1) := dk_4 (dk_at dksX3_reads_5 18 rfl rfl)
theorem dX3_reads_136 : decode cX3_reads 136 = .ok (.goto 4, 3) := dk_167 0 4 (dk_at dksX3_reads_5 19 rfl rfl)
theorem dX3_reads_139 : decode cX3_reads 139 = .ok (.iconst 0, 1) := dk_3 (dk_at dksX3_reads_5 22 rfl rfl)
theorem dX3_reads_140 : decode cX3_reads 140 = .ok (.ireturn, 1) := dk_172 (dk_at dksX3_reads_5 23 rfl rfl)
abbrev cX3_readsWanted : ByteArray := prog_23_method_33_code
def yX3_readsWanted : MethodName := ⟨RX3, "readsWanted", "()Z"⟩
def dkwX3_readsWanted_1 : List UInt8 := [4, 172]
abbrev dktX3_readsWanted_1 : List UInt8 := dkwX3_readsWanted_1 ++ []
def dkwX3_readsWanted_0 : List UInt8 := [42, 182, 0, 218, 60, 27, 2, 160, 0, 5, 3, 172, 42, 89, 180, 0, 212, 4, 27, 120, 128, 181, 0, 212]
abbrev dktX3_readsWanted_0 : List UInt8 := dkwX3_readsWanted_0 ++ dktX3_readsWanted_1
theorem dksX3_readsWanted_0 : cX3_readsWanted.data.toList.drop 0 = dktX3_readsWanted_0 := by decide +kernel
theorem dksX3_readsWanted_1 : cX3_readsWanted.data.toList.drop 24 = dktX3_readsWanted_1 := dk_seg dksX3_readsWanted_0 24 rfl rfl
theorem dX3_readsWanted_0 : decode cX3_readsWanted 0 = .ok (.aload_n 0, 1) := dk_42 (dk_at dksX3_readsWanted_0 0 rfl rfl)
theorem dX3_readsWanted_1 : decode cX3_readsWanted 1 = .ok (.invokevirtual 218, 3) := dk_182 0 218 (dk_at dksX3_readsWanted_0 1 rfl rfl)
theorem dX3_readsWanted_4 : decode cX3_readsWanted 4 = .ok (.istore_n 1, 1) := dk_60 (dk_at dksX3_readsWanted_0 4 rfl rfl)
theorem dX3_readsWanted_5 : decode cX3_readsWanted 5 = .ok (.iload_n 1, 1) := dk_27 (dk_at dksX3_readsWanted_0 5 rfl rfl)
theorem dX3_readsWanted_6 : decode cX3_readsWanted 6 = .ok (.iconst (-1), 1) := dk_2 (dk_at dksX3_readsWanted_0 6 rfl rfl)
theorem dX3_readsWanted_7 : decode cX3_readsWanted 7 = .ok (.if_icmp .ne 5, 3) := dk_160 0 5 (dk_at dksX3_readsWanted_0 7 rfl rfl)
theorem dX3_readsWanted_10 : decode cX3_readsWanted 10 = .ok (.iconst 0, 1) := dk_3 (dk_at dksX3_readsWanted_0 10 rfl rfl)
theorem dX3_readsWanted_11 : decode cX3_readsWanted 11 = .ok (.ireturn, 1) := dk_172 (dk_at dksX3_readsWanted_0 11 rfl rfl)
theorem dX3_readsWanted_12 : decode cX3_readsWanted 12 = .ok (.aload_n 0, 1) := dk_42 (dk_at dksX3_readsWanted_0 12 rfl rfl)
theorem dX3_readsWanted_13 : decode cX3_readsWanted 13 = .ok (.dup, 1) := dk_89 (dk_at dksX3_readsWanted_0 13 rfl rfl)
theorem dX3_readsWanted_14 : decode cX3_readsWanted 14 = .ok (.getfield 212, 3) := dk_180 0 212 (dk_at dksX3_readsWanted_0 14 rfl rfl)
theorem dX3_readsWanted_17 : decode cX3_readsWanted 17 = .ok (.iconst 1, 1) := dk_4 (dk_at dksX3_readsWanted_0 17 rfl rfl)
theorem dX3_readsWanted_18 : decode cX3_readsWanted 18 = .ok (.iload_n 1, 1) := dk_27 (dk_at dksX3_readsWanted_0 18 rfl rfl)
theorem dX3_readsWanted_19 : decode cX3_readsWanted 19 = .ok (.ishl, 1) := dk_120 (dk_at dksX3_readsWanted_0 19 rfl rfl)
theorem dX3_readsWanted_20 : decode cX3_readsWanted 20 = .ok (.ior, 1) := dk_128 (dk_at dksX3_readsWanted_0 20 rfl rfl)
theorem dX3_readsWanted_21 : decode cX3_readsWanted 21 = .ok (.putfield 212, 3) := dk_181 0 212 (dk_at dksX3_readsWanted_0 21 rfl rfl)
theorem dX3_readsWanted_24 : decode cX3_readsWanted 24 = .ok (.iconst 1, 1) := dk_4 (dk_at dksX3_readsWanted_1 0 rfl rfl)
theorem dX3_readsWanted_25 : decode cX3_readsWanted 25 = .ok (.ireturn, 1) := dk_172 (dk_at dksX3_readsWanted_1 1 rfl rfl)
abbrev cX3_readsName : ByteArray := prog_23_method_32_code
def yX3_readsName : MethodName := ⟨RX3, "readsName", "()I"⟩
def dkwX3_readsName_3 : List UInt8 := [180, 0, 212, 27, 184, 0, 215, 153, 0, 15, 42, 6, 42, 180, 0, 150, 182, 0, 208, 87, 2, 172, 27, 172]
abbrev dktX3_readsName_3 : List UInt8 := dkwX3_readsName_3 ++ []
def dkwX3_readsName_2 : List UInt8 := [182, 0, 164, 60, 27, 2, 160, 0, 15, 42, 5, 42, 180, 0, 150, 182, 0, 208, 87, 2, 172, 42]
abbrev dktX3_readsName_2 : List UInt8 := dkwX3_readsName_2 ++ dktX3_readsName_3
def dkwX3_readsName_1 : List UInt8 := [182, 0, 160, 154, 0, 14, 42, 42, 180, 0, 42, 182, 0, 160, 153, 0, 7, 2, 167, 0, 7, 42]
abbrev dktX3_readsName_1 : List UInt8 := dkwX3_readsName_1 ++ dktX3_readsName_2
def dkwX3_readsName_0 : List UInt8 := [42, 182, 0, 204, 154, 0, 15, 42, 4, 42, 180, 0, 157, 182, 0, 208, 87, 2, 172, 42, 42, 180, 0, 38]
abbrev dktX3_readsName_0 : List UInt8 := dkwX3_readsName_0 ++ dktX3_readsName_1
theorem dksX3_readsName_0 : cX3_readsName.data.toList.drop 0 = dktX3_readsName_0 := by decide +kernel
theorem dksX3_readsName_1 : cX3_readsName.data.toList.drop 24 = dktX3_readsName_1 := dk_seg dksX3_readsName_0 24 rfl rfl
theorem dksX3_readsName_2 : cX3_readsName.data.toList.drop 46 = dktX3_readsName_2 := dk_seg dksX3_readsName_1 22 rfl rfl
theorem dksX3_readsName_3 : cX3_readsName.data.toList.drop 68 = dktX3_readsName_3 := dk_seg dksX3_readsName_2 22 rfl rfl
theorem dX3_readsName_0 : decode cX3_readsName 0 = .ok (.aload_n 0, 1) := dk_42 (dk_at dksX3_readsName_0 0 rfl rfl)
theorem dX3_readsName_1 : decode cX3_readsName 1 = .ok (.invokevirtual 204, 3) := dk_182 0 204 (dk_at dksX3_readsName_0 1 rfl rfl)
theorem dX3_readsName_4 : decode cX3_readsName 4 = .ok (.ifCond .ne 15, 3) := dk_154 0 15 (dk_at dksX3_readsName_0 4 rfl rfl)
theorem dX3_readsName_7 : decode cX3_readsName 7 = .ok (.aload_n 0, 1) := dk_42 (dk_at dksX3_readsName_0 7 rfl rfl)
theorem dX3_readsName_8 : decode cX3_readsName 8 = .ok (.iconst 1, 1) := dk_4 (dk_at dksX3_readsName_0 8 rfl rfl)
theorem dX3_readsName_9 : decode cX3_readsName 9 = .ok (.aload_n 0, 1) := dk_42 (dk_at dksX3_readsName_0 9 rfl rfl)
theorem dX3_readsName_10 : decode cX3_readsName 10 = .ok (.getfield 157, 3) := dk_180 0 157 (dk_at dksX3_readsName_0 10 rfl rfl)
theorem dX3_readsName_13 : decode cX3_readsName 13 = .ok (.invokevirtual 208, 3) := dk_182 0 208 (dk_at dksX3_readsName_0 13 rfl rfl)
theorem dX3_readsName_16 : decode cX3_readsName 16 = .ok (.pop, 1) := dk_87 (dk_at dksX3_readsName_0 16 rfl rfl)
theorem dX3_readsName_17 : decode cX3_readsName 17 = .ok (.iconst (-1), 1) := dk_2 (dk_at dksX3_readsName_0 17 rfl rfl)
theorem dX3_readsName_18 : decode cX3_readsName 18 = .ok (.ireturn, 1) := dk_172 (dk_at dksX3_readsName_0 18 rfl rfl)
theorem dX3_readsName_19 : decode cX3_readsName 19 = .ok (.aload_n 0, 1) := dk_42 (dk_at dksX3_readsName_0 19 rfl rfl)
theorem dX3_readsName_20 : decode cX3_readsName 20 = .ok (.aload_n 0, 1) := dk_42 (dk_at dksX3_readsName_0 20 rfl rfl)
theorem dX3_readsName_21 : decode cX3_readsName 21 = .ok (.getfield 38, 3) := dk_180 0 38 (dk_at dksX3_readsName_0 21 rfl rfl)
theorem dX3_readsName_24 : decode cX3_readsName 24 = .ok (.invokevirtual 160, 3) := dk_182 0 160 (dk_at dksX3_readsName_1 0 rfl rfl)
theorem dX3_readsName_27 : decode cX3_readsName 27 = .ok (.ifCond .ne 14, 3) := dk_154 0 14 (dk_at dksX3_readsName_1 3 rfl rfl)
theorem dX3_readsName_30 : decode cX3_readsName 30 = .ok (.aload_n 0, 1) := dk_42 (dk_at dksX3_readsName_1 6 rfl rfl)
theorem dX3_readsName_31 : decode cX3_readsName 31 = .ok (.aload_n 0, 1) := dk_42 (dk_at dksX3_readsName_1 7 rfl rfl)
theorem dX3_readsName_32 : decode cX3_readsName 32 = .ok (.getfield 42, 3) := dk_180 0 42 (dk_at dksX3_readsName_1 8 rfl rfl)
theorem dX3_readsName_35 : decode cX3_readsName 35 = .ok (.invokevirtual 160, 3) := dk_182 0 160 (dk_at dksX3_readsName_1 11 rfl rfl)
theorem dX3_readsName_38 : decode cX3_readsName 38 = .ok (.ifCond .eq 7, 3) := dk_153 0 7 (dk_at dksX3_readsName_1 14 rfl rfl)
theorem dX3_readsName_41 : decode cX3_readsName 41 = .ok (.iconst (-1), 1) := dk_2 (dk_at dksX3_readsName_1 17 rfl rfl)
theorem dX3_readsName_42 : decode cX3_readsName 42 = .ok (.goto 7, 3) := dk_167 0 7 (dk_at dksX3_readsName_1 18 rfl rfl)
theorem dX3_readsName_45 : decode cX3_readsName 45 = .ok (.aload_n 0, 1) := dk_42 (dk_at dksX3_readsName_1 21 rfl rfl)
theorem dX3_readsName_46 : decode cX3_readsName 46 = .ok (.invokevirtual 164, 3) := dk_182 0 164 (dk_at dksX3_readsName_2 0 rfl rfl)
theorem dX3_readsName_49 : decode cX3_readsName 49 = .ok (.istore_n 1, 1) := dk_60 (dk_at dksX3_readsName_2 3 rfl rfl)
theorem dX3_readsName_50 : decode cX3_readsName 50 = .ok (.iload_n 1, 1) := dk_27 (dk_at dksX3_readsName_2 4 rfl rfl)
theorem dX3_readsName_51 : decode cX3_readsName 51 = .ok (.iconst (-1), 1) := dk_2 (dk_at dksX3_readsName_2 5 rfl rfl)
theorem dX3_readsName_52 : decode cX3_readsName 52 = .ok (.if_icmp .ne 15, 3) := dk_160 0 15 (dk_at dksX3_readsName_2 6 rfl rfl)
theorem dX3_readsName_55 : decode cX3_readsName 55 = .ok (.aload_n 0, 1) := dk_42 (dk_at dksX3_readsName_2 9 rfl rfl)
theorem dX3_readsName_56 : decode cX3_readsName 56 = .ok (.iconst 2, 1) := dk_5 (dk_at dksX3_readsName_2 10 rfl rfl)
theorem dX3_readsName_57 : decode cX3_readsName 57 = .ok (.aload_n 0, 1) := dk_42 (dk_at dksX3_readsName_2 11 rfl rfl)
theorem dX3_readsName_58 : decode cX3_readsName 58 = .ok (.getfield 150, 3) := dk_180 0 150 (dk_at dksX3_readsName_2 12 rfl rfl)
theorem dX3_readsName_61 : decode cX3_readsName 61 = .ok (.invokevirtual 208, 3) := dk_182 0 208 (dk_at dksX3_readsName_2 15 rfl rfl)
theorem dX3_readsName_64 : decode cX3_readsName 64 = .ok (.pop, 1) := dk_87 (dk_at dksX3_readsName_2 18 rfl rfl)
theorem dX3_readsName_65 : decode cX3_readsName 65 = .ok (.iconst (-1), 1) := dk_2 (dk_at dksX3_readsName_2 19 rfl rfl)
theorem dX3_readsName_66 : decode cX3_readsName 66 = .ok (.ireturn, 1) := dk_172 (dk_at dksX3_readsName_2 20 rfl rfl)
theorem dX3_readsName_67 : decode cX3_readsName 67 = .ok (.aload_n 0, 1) := dk_42 (dk_at dksX3_readsName_2 21 rfl rfl)
theorem dX3_readsName_68 : decode cX3_readsName 68 = .ok (.getfield 212, 3) := dk_180 0 212 (dk_at dksX3_readsName_3 0 rfl rfl)
theorem dX3_readsName_71 : decode cX3_readsName 71 = .ok (.iload_n 1, 1) := dk_27 (dk_at dksX3_readsName_3 3 rfl rfl)
theorem dX3_readsName_72 : decode cX3_readsName 72 = .ok (.invokestatic 215, 3) := dk_184 0 215 (dk_at dksX3_readsName_3 4 rfl rfl)
theorem dX3_readsName_75 : decode cX3_readsName 75 = .ok (.ifCond .eq 15, 3) := dk_153 0 15 (dk_at dksX3_readsName_3 7 rfl rfl)
theorem dX3_readsName_78 : decode cX3_readsName 78 = .ok (.aload_n 0, 1) := dk_42 (dk_at dksX3_readsName_3 10 rfl rfl)
theorem dX3_readsName_79 : decode cX3_readsName 79 = .ok (.iconst 3, 1) := dk_6 (dk_at dksX3_readsName_3 11 rfl rfl)
theorem dX3_readsName_80 : decode cX3_readsName 80 = .ok (.aload_n 0, 1) := dk_42 (dk_at dksX3_readsName_3 12 rfl rfl)
theorem dX3_readsName_81 : decode cX3_readsName 81 = .ok (.getfield 150, 3) := dk_180 0 150 (dk_at dksX3_readsName_3 13 rfl rfl)
theorem dX3_readsName_84 : decode cX3_readsName 84 = .ok (.invokevirtual 208, 3) := dk_182 0 208 (dk_at dksX3_readsName_3 16 rfl rfl)
theorem dX3_readsName_87 : decode cX3_readsName 87 = .ok (.pop, 1) := dk_87 (dk_at dksX3_readsName_3 19 rfl rfl)
theorem dX3_readsName_88 : decode cX3_readsName 88 = .ok (.iconst (-1), 1) := dk_2 (dk_at dksX3_readsName_3 20 rfl rfl)
theorem dX3_readsName_89 : decode cX3_readsName 89 = .ok (.ireturn, 1) := dk_172 (dk_at dksX3_readsName_3 21 rfl rfl)
theorem dX3_readsName_90 : decode cX3_readsName 90 = .ok (.iload_n 1, 1) := dk_27 (dk_at dksX3_readsName_3 22 rfl rfl)
theorem dX3_readsName_91 : decode cX3_readsName 91 = .ok (.ireturn, 1) := dk_172 (dk_at dksX3_readsName_3 23 rfl rfl)
abbrev cX3_word : ByteArray := prog_23_method_30_code
def yX3_word : MethodName := ⟨RX3, "word", "()Z"⟩
def dkwX3_word_4 : List UInt8 := [180, 0, 147, 42, 180, 0, 150, 164, 0, 7, 4, 167, 0, 4, 3, 172]
abbrev dktX3_word_4 : List UInt8 := dkwX3_word_4 ++ []
def dkwX3_word_3 : List UInt8 := [180, 0, 147, 46, 16, 32, 159, 0, 16, 42, 89, 180, 0, 147, 4, 96, 181, 0, 147, 167, 255, 221, 42]
abbrev dktX3_word_3 : List UInt8 := dkwX3_word_3 ++ dktX3_word_4
def dkwX3_word_2 : List UInt8 := [180, 0, 150, 181, 0, 147, 42, 180, 0, 147, 42, 180, 0, 157, 162, 0, 30, 42, 180, 0, 35, 42]
abbrev dktX3_word_2 : List UInt8 := dkwX3_word_2 ++ dktX3_word_3
def dkwX3_word_1 : List UInt8 := [180, 0, 150, 46, 16, 32, 160, 0, 16, 42, 89, 180, 0, 150, 4, 96, 181, 0, 150, 167, 255, 221, 42, 42]
abbrev dktX3_word_1 : List UInt8 := dkwX3_word_1 ++ dktX3_word_2
def dkwX3_word_0 : List UInt8 := [42, 42, 180, 0, 147, 181, 0, 150, 42, 180, 0, 150, 42, 180, 0, 157, 162, 0, 30, 42, 180, 0, 35, 42]
abbrev dktX3_word_0 : List UInt8 := dkwX3_word_0 ++ dktX3_word_1
theorem dksX3_word_0 : cX3_word.data.toList.drop 0 = dktX3_word_0 := by decide +kernel
theorem dksX3_word_1 : cX3_word.data.toList.drop 24 = dktX3_word_1 := dk_seg dksX3_word_0 24 rfl rfl
theorem dksX3_word_2 : cX3_word.data.toList.drop 48 = dktX3_word_2 := dk_seg dksX3_word_1 24 rfl rfl
theorem dksX3_word_3 : cX3_word.data.toList.drop 70 = dktX3_word_3 := dk_seg dksX3_word_2 22 rfl rfl
theorem dksX3_word_4 : cX3_word.data.toList.drop 93 = dktX3_word_4 := dk_seg dksX3_word_3 23 rfl rfl
theorem dX3_word_0 : decode cX3_word 0 = .ok (.aload_n 0, 1) := dk_42 (dk_at dksX3_word_0 0 rfl rfl)
theorem dX3_word_1 : decode cX3_word 1 = .ok (.aload_n 0, 1) := dk_42 (dk_at dksX3_word_0 1 rfl rfl)
theorem dX3_word_2 : decode cX3_word 2 = .ok (.getfield 147, 3) := dk_180 0 147 (dk_at dksX3_word_0 2 rfl rfl)
theorem dX3_word_5 : decode cX3_word 5 = .ok (.putfield 150, 3) := dk_181 0 150 (dk_at dksX3_word_0 5 rfl rfl)
theorem dX3_word_8 : decode cX3_word 8 = .ok (.aload_n 0, 1) := dk_42 (dk_at dksX3_word_0 8 rfl rfl)
theorem dX3_word_9 : decode cX3_word 9 = .ok (.getfield 150, 3) := dk_180 0 150 (dk_at dksX3_word_0 9 rfl rfl)
theorem dX3_word_12 : decode cX3_word 12 = .ok (.aload_n 0, 1) := dk_42 (dk_at dksX3_word_0 12 rfl rfl)
theorem dX3_word_13 : decode cX3_word 13 = .ok (.getfield 157, 3) := dk_180 0 157 (dk_at dksX3_word_0 13 rfl rfl)
theorem dX3_word_16 : decode cX3_word 16 = .ok (.if_icmp .ge 30, 3) := dk_162 0 30 (dk_at dksX3_word_0 16 rfl rfl)
theorem dX3_word_19 : decode cX3_word 19 = .ok (.aload_n 0, 1) := dk_42 (dk_at dksX3_word_0 19 rfl rfl)
theorem dX3_word_20 : decode cX3_word 20 = .ok (.getfield 35, 3) := dk_180 0 35 (dk_at dksX3_word_0 20 rfl rfl)
theorem dX3_word_23 : decode cX3_word 23 = .ok (.aload_n 0, 1) := dk_42 (dk_at dksX3_word_0 23 rfl rfl)
theorem dX3_word_24 : decode cX3_word 24 = .ok (.getfield 150, 3) := dk_180 0 150 (dk_at dksX3_word_1 0 rfl rfl)
theorem dX3_word_27 : decode cX3_word 27 = .ok (.iaload, 1) := dk_46 (dk_at dksX3_word_1 3 rfl rfl)
theorem dX3_word_28 : decode cX3_word 28 = .ok (.bipush 32, 2) := dk_16 32 (dk_at dksX3_word_1 4 rfl rfl)
theorem dX3_word_30 : decode cX3_word 30 = .ok (.if_icmp .ne 16, 3) := dk_160 0 16 (dk_at dksX3_word_1 6 rfl rfl)
theorem dX3_word_33 : decode cX3_word 33 = .ok (.aload_n 0, 1) := dk_42 (dk_at dksX3_word_1 9 rfl rfl)
theorem dX3_word_34 : decode cX3_word 34 = .ok (.dup, 1) := dk_89 (dk_at dksX3_word_1 10 rfl rfl)
theorem dX3_word_35 : decode cX3_word 35 = .ok (.getfield 150, 3) := dk_180 0 150 (dk_at dksX3_word_1 11 rfl rfl)
theorem dX3_word_38 : decode cX3_word 38 = .ok (.iconst 1, 1) := dk_4 (dk_at dksX3_word_1 14 rfl rfl)
theorem dX3_word_39 : decode cX3_word 39 = .ok (.iadd, 1) := dk_96 (dk_at dksX3_word_1 15 rfl rfl)
theorem dX3_word_40 : decode cX3_word 40 = .ok (.putfield 150, 3) := dk_181 0 150 (dk_at dksX3_word_1 16 rfl rfl)
theorem dX3_word_43 : decode cX3_word 43 = .ok (.goto (-35), 3) := dk_167 255 221 (dk_at dksX3_word_1 19 rfl rfl)
theorem dX3_word_46 : decode cX3_word 46 = .ok (.aload_n 0, 1) := dk_42 (dk_at dksX3_word_1 22 rfl rfl)
theorem dX3_word_47 : decode cX3_word 47 = .ok (.aload_n 0, 1) := dk_42 (dk_at dksX3_word_1 23 rfl rfl)
theorem dX3_word_48 : decode cX3_word 48 = .ok (.getfield 150, 3) := dk_180 0 150 (dk_at dksX3_word_2 0 rfl rfl)
theorem dX3_word_51 : decode cX3_word 51 = .ok (.putfield 147, 3) := dk_181 0 147 (dk_at dksX3_word_2 3 rfl rfl)
theorem dX3_word_54 : decode cX3_word 54 = .ok (.aload_n 0, 1) := dk_42 (dk_at dksX3_word_2 6 rfl rfl)
theorem dX3_word_55 : decode cX3_word 55 = .ok (.getfield 147, 3) := dk_180 0 147 (dk_at dksX3_word_2 7 rfl rfl)
theorem dX3_word_58 : decode cX3_word 58 = .ok (.aload_n 0, 1) := dk_42 (dk_at dksX3_word_2 10 rfl rfl)
theorem dX3_word_59 : decode cX3_word 59 = .ok (.getfield 157, 3) := dk_180 0 157 (dk_at dksX3_word_2 11 rfl rfl)
theorem dX3_word_62 : decode cX3_word 62 = .ok (.if_icmp .ge 30, 3) := dk_162 0 30 (dk_at dksX3_word_2 14 rfl rfl)
theorem dX3_word_65 : decode cX3_word 65 = .ok (.aload_n 0, 1) := dk_42 (dk_at dksX3_word_2 17 rfl rfl)
theorem dX3_word_66 : decode cX3_word 66 = .ok (.getfield 35, 3) := dk_180 0 35 (dk_at dksX3_word_2 18 rfl rfl)
theorem dX3_word_69 : decode cX3_word 69 = .ok (.aload_n 0, 1) := dk_42 (dk_at dksX3_word_2 21 rfl rfl)
theorem dX3_word_70 : decode cX3_word 70 = .ok (.getfield 147, 3) := dk_180 0 147 (dk_at dksX3_word_3 0 rfl rfl)
theorem dX3_word_73 : decode cX3_word 73 = .ok (.iaload, 1) := dk_46 (dk_at dksX3_word_3 3 rfl rfl)
theorem dX3_word_74 : decode cX3_word 74 = .ok (.bipush 32, 2) := dk_16 32 (dk_at dksX3_word_3 4 rfl rfl)
theorem dX3_word_76 : decode cX3_word 76 = .ok (.if_icmp .eq 16, 3) := dk_159 0 16 (dk_at dksX3_word_3 6 rfl rfl)
theorem dX3_word_79 : decode cX3_word 79 = .ok (.aload_n 0, 1) := dk_42 (dk_at dksX3_word_3 9 rfl rfl)
theorem dX3_word_80 : decode cX3_word 80 = .ok (.dup, 1) := dk_89 (dk_at dksX3_word_3 10 rfl rfl)
theorem dX3_word_81 : decode cX3_word 81 = .ok (.getfield 147, 3) := dk_180 0 147 (dk_at dksX3_word_3 11 rfl rfl)
theorem dX3_word_84 : decode cX3_word 84 = .ok (.iconst 1, 1) := dk_4 (dk_at dksX3_word_3 14 rfl rfl)
theorem dX3_word_85 : decode cX3_word 85 = .ok (.iadd, 1) := dk_96 (dk_at dksX3_word_3 15 rfl rfl)
theorem dX3_word_86 : decode cX3_word 86 = .ok (.putfield 147, 3) := dk_181 0 147 (dk_at dksX3_word_3 16 rfl rfl)
theorem dX3_word_89 : decode cX3_word 89 = .ok (.goto (-35), 3) := dk_167 255 221 (dk_at dksX3_word_3 19 rfl rfl)
theorem dX3_word_92 : decode cX3_word 92 = .ok (.aload_n 0, 1) := dk_42 (dk_at dksX3_word_3 22 rfl rfl)
theorem dX3_word_93 : decode cX3_word 93 = .ok (.getfield 147, 3) := dk_180 0 147 (dk_at dksX3_word_4 0 rfl rfl)
theorem dX3_word_96 : decode cX3_word 96 = .ok (.aload_n 0, 1) := dk_42 (dk_at dksX3_word_4 3 rfl rfl)
theorem dX3_word_97 : decode cX3_word 97 = .ok (.getfield 150, 3) := dk_180 0 150 (dk_at dksX3_word_4 4 rfl rfl)
theorem dX3_word_100 : decode cX3_word 100 = .ok (.if_icmp .le 7, 3) := dk_164 0 7 (dk_at dksX3_word_4 7 rfl rfl)
theorem dX3_word_103 : decode cX3_word 103 = .ok (.iconst 1, 1) := dk_4 (dk_at dksX3_word_4 10 rfl rfl)
theorem dX3_word_104 : decode cX3_word 104 = .ok (.goto 4, 3) := dk_167 0 4 (dk_at dksX3_word_4 11 rfl rfl)
theorem dX3_word_107 : decode cX3_word 107 = .ok (.iconst 0, 1) := dk_3 (dk_at dksX3_word_4 14 rfl rfl)
theorem dX3_word_108 : decode cX3_word 108 = .ok (.ireturn, 1) := dk_172 (dk_at dksX3_word_4 15 rfl rfl)
abbrev cX3_faulty : ByteArray := prog_23_method_31_code
def yX3_faulty : MethodName := ⟨RX3, "faulty", "(II)Z"⟩
def dkwX3_faulty_0 : List UInt8 := [42, 27, 181, 0, 198, 42, 28, 181, 0, 201, 3, 172]
abbrev dktX3_faulty_0 : List UInt8 := dkwX3_faulty_0 ++ []
theorem dksX3_faulty_0 : cX3_faulty.data.toList.drop 0 = dktX3_faulty_0 := by decide +kernel
theorem dX3_faulty_0 : decode cX3_faulty 0 = .ok (.aload_n 0, 1) := dk_42 (dk_at dksX3_faulty_0 0 rfl rfl)
theorem dX3_faulty_1 : decode cX3_faulty 1 = .ok (.iload_n 1, 1) := dk_27 (dk_at dksX3_faulty_0 1 rfl rfl)
theorem dX3_faulty_2 : decode cX3_faulty 2 = .ok (.putfield 198, 3) := dk_181 0 198 (dk_at dksX3_faulty_0 2 rfl rfl)
theorem dX3_faulty_5 : decode cX3_faulty 5 = .ok (.aload_n 0, 1) := dk_42 (dk_at dksX3_faulty_0 5 rfl rfl)
theorem dX3_faulty_6 : decode cX3_faulty 6 = .ok (.iload_n 2, 1) := dk_28 (dk_at dksX3_faulty_0 6 rfl rfl)
theorem dX3_faulty_7 : decode cX3_faulty 7 = .ok (.putfield 201, 3) := dk_181 0 201 (dk_at dksX3_faulty_0 7 rfl rfl)
theorem dX3_faulty_10 : decode cX3_faulty 10 = .ok (.iconst 0, 1) := dk_3 (dk_at dksX3_faulty_0 10 rfl rfl)
theorem dX3_faulty_11 : decode cX3_faulty 11 = .ok (.ireturn, 1) := dk_172 (dk_at dksX3_faulty_0 11 rfl rfl)
abbrev cX3_has : ByteArray := prog_23_method_3_code
def yX3_has : MethodName := ⟨RX3, "has", "(II)Z"⟩
def dkwX3_has_0 : List UInt8 := [26, 27, 122, 4, 126, 4, 160, 0, 7, 4, 167, 0, 4, 3, 172]
abbrev dktX3_has_0 : List UInt8 := dkwX3_has_0 ++ []
theorem dksX3_has_0 : cX3_has.data.toList.drop 0 = dktX3_has_0 := by decide +kernel
theorem dX3_has_0 : decode cX3_has 0 = .ok (.iload_n 0, 1) := dk_26 (dk_at dksX3_has_0 0 rfl rfl)
theorem dX3_has_1 : decode cX3_has 1 = .ok (.iload_n 1, 1) := dk_27 (dk_at dksX3_has_0 1 rfl rfl)
theorem dX3_has_2 : decode cX3_has 2 = .ok (.ishr, 1) := dk_122 (dk_at dksX3_has_0 2 rfl rfl)
theorem dX3_has_3 : decode cX3_has 3 = .ok (.iconst 1, 1) := dk_4 (dk_at dksX3_has_0 3 rfl rfl)
theorem dX3_has_4 : decode cX3_has 4 = .ok (.iand, 1) := dk_126 (dk_at dksX3_has_0 4 rfl rfl)
theorem dX3_has_5 : decode cX3_has 5 = .ok (.iconst 1, 1) := dk_4 (dk_at dksX3_has_0 5 rfl rfl)
theorem dX3_has_6 : decode cX3_has 6 = .ok (.if_icmp .ne 7, 3) := dk_160 0 7 (dk_at dksX3_has_0 6 rfl rfl)
theorem dX3_has_9 : decode cX3_has 9 = .ok (.iconst 1, 1) := dk_4 (dk_at dksX3_has_0 9 rfl rfl)
theorem dX3_has_10 : decode cX3_has 10 = .ok (.goto 4, 3) := dk_167 0 4 (dk_at dksX3_has_0 10 rfl rfl)
theorem dX3_has_13 : decode cX3_has 13 = .ok (.iconst 0, 1) := dk_3 (dk_at dksX3_has_0 13 rfl rfl)
theorem dX3_has_14 : decode cX3_has 14 = .ok (.ireturn, 1) := dk_172 (dk_at dksX3_has_0 14 rfl rfl)
abbrev cX3_parcels : ByteArray := prog_23_method_36_code
def yX3_parcels : MethodName := ⟨RX3, "parcels", "()I"⟩
def dkwX3_parcels_0 : List UInt8 := [42, 3, 181, 0, 1, 42, 180, 0, 144, 172]
abbrev dktX3_parcels_0 : List UInt8 := dkwX3_parcels_0 ++ []
theorem dksX3_parcels_0 : cX3_parcels.data.toList.drop 0 = dktX3_parcels_0 := by decide +kernel
theorem dX3_parcels_0 : decode cX3_parcels 0 = .ok (.aload_n 0, 1) := dk_42 (dk_at dksX3_parcels_0 0 rfl rfl)
theorem dX3_parcels_1 : decode cX3_parcels 1 = .ok (.iconst 0, 1) := dk_3 (dk_at dksX3_parcels_0 1 rfl rfl)
theorem dX3_parcels_2 : decode cX3_parcels 2 = .ok (.putfield 1, 3) := dk_181 0 1 (dk_at dksX3_parcels_0 2 rfl rfl)
theorem dX3_parcels_5 : decode cX3_parcels 5 = .ok (.aload_n 0, 1) := dk_42 (dk_at dksX3_parcels_0 5 rfl rfl)
theorem dX3_parcels_6 : decode cX3_parcels 6 = .ok (.getfield 144, 3) := dk_180 0 144 (dk_at dksX3_parcels_0 6 rfl rfl)
theorem dX3_parcels_9 : decode cX3_parcels 9 = .ok (.ireturn, 1) := dk_172 (dk_at dksX3_parcels_0 9 rfl rfl)
abbrev cX3_stateOf : ByteArray := prog_23_method_37_code
def yX3_stateOf : MethodName := ⟨RX3, "stateOf", "(I)I"⟩
def dkwX3_stateOf_0 : List UInt8 := [42, 3, 181, 0, 1, 42, 27, 182, 0, 230, 153, 0, 7, 3, 167, 0, 9, 42, 180, 0, 72, 27, 46, 172]
abbrev dktX3_stateOf_0 : List UInt8 := dkwX3_stateOf_0 ++ []
theorem dksX3_stateOf_0 : cX3_stateOf.data.toList.drop 0 = dktX3_stateOf_0 := by decide +kernel
theorem dX3_stateOf_0 : decode cX3_stateOf 0 = .ok (.aload_n 0, 1) := dk_42 (dk_at dksX3_stateOf_0 0 rfl rfl)
theorem dX3_stateOf_1 : decode cX3_stateOf 1 = .ok (.iconst 0, 1) := dk_3 (dk_at dksX3_stateOf_0 1 rfl rfl)
theorem dX3_stateOf_2 : decode cX3_stateOf 2 = .ok (.putfield 1, 3) := dk_181 0 1 (dk_at dksX3_stateOf_0 2 rfl rfl)
theorem dX3_stateOf_5 : decode cX3_stateOf 5 = .ok (.aload_n 0, 1) := dk_42 (dk_at dksX3_stateOf_0 5 rfl rfl)
theorem dX3_stateOf_6 : decode cX3_stateOf 6 = .ok (.iload_n 1, 1) := dk_27 (dk_at dksX3_stateOf_0 6 rfl rfl)
theorem dX3_stateOf_7 : decode cX3_stateOf 7 = .ok (.invokevirtual 230, 3) := dk_182 0 230 (dk_at dksX3_stateOf_0 7 rfl rfl)
theorem dX3_stateOf_10 : decode cX3_stateOf 10 = .ok (.ifCond .eq 7, 3) := dk_153 0 7 (dk_at dksX3_stateOf_0 10 rfl rfl)
theorem dX3_stateOf_13 : decode cX3_stateOf 13 = .ok (.iconst 0, 1) := dk_3 (dk_at dksX3_stateOf_0 13 rfl rfl)
theorem dX3_stateOf_14 : decode cX3_stateOf 14 = .ok (.goto 9, 3) := dk_167 0 9 (dk_at dksX3_stateOf_0 14 rfl rfl)
theorem dX3_stateOf_17 : decode cX3_stateOf 17 = .ok (.aload_n 0, 1) := dk_42 (dk_at dksX3_stateOf_0 17 rfl rfl)
theorem dX3_stateOf_18 : decode cX3_stateOf 18 = .ok (.getfield 72, 3) := dk_180 0 72 (dk_at dksX3_stateOf_0 18 rfl rfl)
theorem dX3_stateOf_21 : decode cX3_stateOf 21 = .ok (.iload_n 1, 1) := dk_27 (dk_at dksX3_stateOf_0 21 rfl rfl)
theorem dX3_stateOf_22 : decode cX3_stateOf 22 = .ok (.iaload, 1) := dk_46 (dk_at dksX3_stateOf_0 22 rfl rfl)
theorem dX3_stateOf_23 : decode cX3_stateOf 23 = .ok (.ireturn, 1) := dk_172 (dk_at dksX3_stateOf_0 23 rfl rfl)
abbrev cX3_noParcel : ByteArray := prog_23_method_9_code
def yX3_noParcel : MethodName := ⟨RX3, "noParcel", "(I)Z"⟩
def dkwX3_noParcel_0 : List UInt8 := [42, 27, 3, 42, 180, 0, 144, 4, 100, 184, 0, 130, 4, 182, 0, 134, 172]
abbrev dktX3_noParcel_0 : List UInt8 := dkwX3_noParcel_0 ++ []
theorem dksX3_noParcel_0 : cX3_noParcel.data.toList.drop 0 = dktX3_noParcel_0 := by decide +kernel
theorem dX3_noParcel_0 : decode cX3_noParcel 0 = .ok (.aload_n 0, 1) := dk_42 (dk_at dksX3_noParcel_0 0 rfl rfl)
theorem dX3_noParcel_1 : decode cX3_noParcel 1 = .ok (.iload_n 1, 1) := dk_27 (dk_at dksX3_noParcel_0 1 rfl rfl)
theorem dX3_noParcel_2 : decode cX3_noParcel 2 = .ok (.iconst 0, 1) := dk_3 (dk_at dksX3_noParcel_0 2 rfl rfl)
theorem dX3_noParcel_3 : decode cX3_noParcel 3 = .ok (.aload_n 0, 1) := dk_42 (dk_at dksX3_noParcel_0 3 rfl rfl)
theorem dX3_noParcel_4 : decode cX3_noParcel 4 = .ok (.getfield 144, 3) := dk_180 0 144 (dk_at dksX3_noParcel_0 4 rfl rfl)
theorem dX3_noParcel_7 : decode cX3_noParcel 7 = .ok (.iconst 1, 1) := dk_4 (dk_at dksX3_noParcel_0 7 rfl rfl)
theorem dX3_noParcel_8 : decode cX3_noParcel 8 = .ok (.isub, 1) := dk_100 (dk_at dksX3_noParcel_0 8 rfl rfl)
theorem dX3_noParcel_9 : decode cX3_noParcel 9 = .ok (.invokestatic 130, 3) := dk_184 0 130 (dk_at dksX3_noParcel_0 9 rfl rfl)
theorem dX3_noParcel_12 : decode cX3_noParcel 12 = .ok (.iconst 1, 1) := dk_4 (dk_at dksX3_noParcel_0 12 rfl rfl)
theorem dX3_noParcel_13 : decode cX3_noParcel 13 = .ok (.invokevirtual 134, 3) := dk_182 0 134 (dk_at dksX3_noParcel_0 13 rfl rfl)
theorem dX3_noParcel_16 : decode cX3_noParcel 16 = .ok (.ireturn, 1) := dk_172 (dk_at dksX3_noParcel_0 16 rfl rfl)
abbrev cX3_timesBack : ByteArray := prog_23_method_38_code
def yX3_timesBack : MethodName := ⟨RX3, "timesBack", "(I)I"⟩
def dkwX3_timesBack_0 : List UInt8 := [42, 3, 181, 0, 1, 42, 27, 182, 0, 230, 153, 0, 7, 3, 167, 0, 9, 42, 180, 0, 75, 27, 46, 172]
abbrev dktX3_timesBack_0 : List UInt8 := dkwX3_timesBack_0 ++ []
theorem dksX3_timesBack_0 : cX3_timesBack.data.toList.drop 0 = dktX3_timesBack_0 := by decide +kernel
theorem dX3_timesBack_0 : decode cX3_timesBack 0 = .ok (.aload_n 0, 1) := dk_42 (dk_at dksX3_timesBack_0 0 rfl rfl)
theorem dX3_timesBack_1 : decode cX3_timesBack 1 = .ok (.iconst 0, 1) := dk_3 (dk_at dksX3_timesBack_0 1 rfl rfl)
theorem dX3_timesBack_2 : decode cX3_timesBack 2 = .ok (.putfield 1, 3) := dk_181 0 1 (dk_at dksX3_timesBack_0 2 rfl rfl)
theorem dX3_timesBack_5 : decode cX3_timesBack 5 = .ok (.aload_n 0, 1) := dk_42 (dk_at dksX3_timesBack_0 5 rfl rfl)
theorem dX3_timesBack_6 : decode cX3_timesBack 6 = .ok (.iload_n 1, 1) := dk_27 (dk_at dksX3_timesBack_0 6 rfl rfl)
theorem dX3_timesBack_7 : decode cX3_timesBack 7 = .ok (.invokevirtual 230, 3) := dk_182 0 230 (dk_at dksX3_timesBack_0 7 rfl rfl)
theorem dX3_timesBack_10 : decode cX3_timesBack 10 = .ok (.ifCond .eq 7, 3) := dk_153 0 7 (dk_at dksX3_timesBack_0 10 rfl rfl)
theorem dX3_timesBack_13 : decode cX3_timesBack 13 = .ok (.iconst 0, 1) := dk_3 (dk_at dksX3_timesBack_0 13 rfl rfl)
theorem dX3_timesBack_14 : decode cX3_timesBack 14 = .ok (.goto 9, 3) := dk_167 0 9 (dk_at dksX3_timesBack_0 14 rfl rfl)
theorem dX3_timesBack_17 : decode cX3_timesBack 17 = .ok (.aload_n 0, 1) := dk_42 (dk_at dksX3_timesBack_0 17 rfl rfl)
theorem dX3_timesBack_18 : decode cX3_timesBack 18 = .ok (.getfield 75, 3) := dk_180 0 75 (dk_at dksX3_timesBack_0 18 rfl rfl)
theorem dX3_timesBack_21 : decode cX3_timesBack 21 = .ok (.iload_n 1, 1) := dk_27 (dk_at dksX3_timesBack_0 21 rfl rfl)
theorem dX3_timesBack_22 : decode cX3_timesBack 22 = .ok (.iaload, 1) := dk_46 (dk_at dksX3_timesBack_0 22 rfl rfl)
theorem dX3_timesBack_23 : decode cX3_timesBack 23 = .ok (.ireturn, 1) := dk_172 (dk_at dksX3_timesBack_0 23 rfl rfl)
abbrev cX3_whyBack : ByteArray := prog_23_method_39_code
def yX3_whyBack : MethodName := ⟨RX3, "whyBack", "(I)I"⟩
def dkwX3_whyBack_0 : List UInt8 := [42, 3, 181, 0, 1, 42, 27, 182, 0, 230, 153, 0, 7, 3, 167, 0, 9, 42, 180, 0, 78, 27, 46, 172]
abbrev dktX3_whyBack_0 : List UInt8 := dkwX3_whyBack_0 ++ []
theorem dksX3_whyBack_0 : cX3_whyBack.data.toList.drop 0 = dktX3_whyBack_0 := by decide +kernel
theorem dX3_whyBack_0 : decode cX3_whyBack 0 = .ok (.aload_n 0, 1) := dk_42 (dk_at dksX3_whyBack_0 0 rfl rfl)
theorem dX3_whyBack_1 : decode cX3_whyBack 1 = .ok (.iconst 0, 1) := dk_3 (dk_at dksX3_whyBack_0 1 rfl rfl)
theorem dX3_whyBack_2 : decode cX3_whyBack 2 = .ok (.putfield 1, 3) := dk_181 0 1 (dk_at dksX3_whyBack_0 2 rfl rfl)
theorem dX3_whyBack_5 : decode cX3_whyBack 5 = .ok (.aload_n 0, 1) := dk_42 (dk_at dksX3_whyBack_0 5 rfl rfl)
theorem dX3_whyBack_6 : decode cX3_whyBack 6 = .ok (.iload_n 1, 1) := dk_27 (dk_at dksX3_whyBack_0 6 rfl rfl)
theorem dX3_whyBack_7 : decode cX3_whyBack 7 = .ok (.invokevirtual 230, 3) := dk_182 0 230 (dk_at dksX3_whyBack_0 7 rfl rfl)
theorem dX3_whyBack_10 : decode cX3_whyBack 10 = .ok (.ifCond .eq 7, 3) := dk_153 0 7 (dk_at dksX3_whyBack_0 10 rfl rfl)
theorem dX3_whyBack_13 : decode cX3_whyBack 13 = .ok (.iconst 0, 1) := dk_3 (dk_at dksX3_whyBack_0 13 rfl rfl)
theorem dX3_whyBack_14 : decode cX3_whyBack 14 = .ok (.goto 9, 3) := dk_167 0 9 (dk_at dksX3_whyBack_0 14 rfl rfl)
theorem dX3_whyBack_17 : decode cX3_whyBack 17 = .ok (.aload_n 0, 1) := dk_42 (dk_at dksX3_whyBack_0 17 rfl rfl)
theorem dX3_whyBack_18 : decode cX3_whyBack 18 = .ok (.getfield 78, 3) := dk_180 0 78 (dk_at dksX3_whyBack_0 18 rfl rfl)
theorem dX3_whyBack_21 : decode cX3_whyBack 21 = .ok (.iload_n 1, 1) := dk_27 (dk_at dksX3_whyBack_0 21 rfl rfl)
theorem dX3_whyBack_22 : decode cX3_whyBack 22 = .ok (.iaload, 1) := dk_46 (dk_at dksX3_whyBack_0 22 rfl rfl)
theorem dX3_whyBack_23 : decode cX3_whyBack 23 = .ok (.ireturn, 1) := dk_172 (dk_at dksX3_whyBack_0 23 rfl rfl)
abbrev cX3_daysWaited : ByteArray := prog_23_method_40_code
def yX3_daysWaited : MethodName := ⟨RX3, "daysWaited", "(I)I"⟩
def dkwX3_daysWaited_0 : List UInt8 := [42, 3, 181, 0, 1, 42, 27, 182, 0, 230, 153, 0, 7, 3, 167, 0, 9, 42, 180, 0, 81, 27, 46, 172]
abbrev dktX3_daysWaited_0 : List UInt8 := dkwX3_daysWaited_0 ++ []
theorem dksX3_daysWaited_0 : cX3_daysWaited.data.toList.drop 0 = dktX3_daysWaited_0 := by decide +kernel
theorem dX3_daysWaited_0 : decode cX3_daysWaited 0 = .ok (.aload_n 0, 1) := dk_42 (dk_at dksX3_daysWaited_0 0 rfl rfl)
theorem dX3_daysWaited_1 : decode cX3_daysWaited 1 = .ok (.iconst 0, 1) := dk_3 (dk_at dksX3_daysWaited_0 1 rfl rfl)
theorem dX3_daysWaited_2 : decode cX3_daysWaited 2 = .ok (.putfield 1, 3) := dk_181 0 1 (dk_at dksX3_daysWaited_0 2 rfl rfl)
theorem dX3_daysWaited_5 : decode cX3_daysWaited 5 = .ok (.aload_n 0, 1) := dk_42 (dk_at dksX3_daysWaited_0 5 rfl rfl)
theorem dX3_daysWaited_6 : decode cX3_daysWaited 6 = .ok (.iload_n 1, 1) := dk_27 (dk_at dksX3_daysWaited_0 6 rfl rfl)
theorem dX3_daysWaited_7 : decode cX3_daysWaited 7 = .ok (.invokevirtual 230, 3) := dk_182 0 230 (dk_at dksX3_daysWaited_0 7 rfl rfl)
theorem dX3_daysWaited_10 : decode cX3_daysWaited 10 = .ok (.ifCond .eq 7, 3) := dk_153 0 7 (dk_at dksX3_daysWaited_0 10 rfl rfl)
theorem dX3_daysWaited_13 : decode cX3_daysWaited 13 = .ok (.iconst 0, 1) := dk_3 (dk_at dksX3_daysWaited_0 13 rfl rfl)
theorem dX3_daysWaited_14 : decode cX3_daysWaited 14 = .ok (.goto 9, 3) := dk_167 0 9 (dk_at dksX3_daysWaited_0 14 rfl rfl)
theorem dX3_daysWaited_17 : decode cX3_daysWaited 17 = .ok (.aload_n 0, 1) := dk_42 (dk_at dksX3_daysWaited_0 17 rfl rfl)
theorem dX3_daysWaited_18 : decode cX3_daysWaited 18 = .ok (.getfield 81, 3) := dk_180 0 81 (dk_at dksX3_daysWaited_0 18 rfl rfl)
theorem dX3_daysWaited_21 : decode cX3_daysWaited 21 = .ok (.iload_n 1, 1) := dk_27 (dk_at dksX3_daysWaited_0 21 rfl rfl)
theorem dX3_daysWaited_22 : decode cX3_daysWaited 22 = .ok (.iaload, 1) := dk_46 (dk_at dksX3_daysWaited_0 22 rfl rfl)
theorem dX3_daysWaited_23 : decode cX3_daysWaited 23 = .ok (.ireturn, 1) := dk_172 (dk_at dksX3_daysWaited_0 23 rfl rfl)
abbrev cX3_isWanted : ByteArray := prog_23_method_41_code
def yX3_isWanted : MethodName := ⟨RX3, "isWanted", "(II)Z"⟩
def dkwX3_isWanted_1 : List UInt8 := [180, 0, 54, 27, 46, 28, 184, 0, 215, 153, 0, 7, 4, 167, 0, 4, 3, 172]
abbrev dktX3_isWanted_1 : List UInt8 := dkwX3_isWanted_1 ++ []
def dkwX3_isWanted_0 : List UInt8 := [42, 3, 181, 0, 1, 42, 27, 182, 0, 230, 154, 0, 28, 42, 28, 182, 0, 171, 154, 0, 20, 42]
abbrev dktX3_isWanted_0 : List UInt8 := dkwX3_isWanted_0 ++ dktX3_isWanted_1
theorem dksX3_isWanted_0 : cX3_isWanted.data.toList.drop 0 = dktX3_isWanted_0 := by decide +kernel
theorem dksX3_isWanted_1 : cX3_isWanted.data.toList.drop 22 = dktX3_isWanted_1 := dk_seg dksX3_isWanted_0 22 rfl rfl
theorem dX3_isWanted_0 : decode cX3_isWanted 0 = .ok (.aload_n 0, 1) := dk_42 (dk_at dksX3_isWanted_0 0 rfl rfl)
theorem dX3_isWanted_1 : decode cX3_isWanted 1 = .ok (.iconst 0, 1) := dk_3 (dk_at dksX3_isWanted_0 1 rfl rfl)
theorem dX3_isWanted_2 : decode cX3_isWanted 2 = .ok (.putfield 1, 3) := dk_181 0 1 (dk_at dksX3_isWanted_0 2 rfl rfl)
theorem dX3_isWanted_5 : decode cX3_isWanted 5 = .ok (.aload_n 0, 1) := dk_42 (dk_at dksX3_isWanted_0 5 rfl rfl)
theorem dX3_isWanted_6 : decode cX3_isWanted 6 = .ok (.iload_n 1, 1) := dk_27 (dk_at dksX3_isWanted_0 6 rfl rfl)
theorem dX3_isWanted_7 : decode cX3_isWanted 7 = .ok (.invokevirtual 230, 3) := dk_182 0 230 (dk_at dksX3_isWanted_0 7 rfl rfl)
theorem dX3_isWanted_10 : decode cX3_isWanted 10 = .ok (.ifCond .ne 28, 3) := dk_154 0 28 (dk_at dksX3_isWanted_0 10 rfl rfl)
theorem dX3_isWanted_13 : decode cX3_isWanted 13 = .ok (.aload_n 0, 1) := dk_42 (dk_at dksX3_isWanted_0 13 rfl rfl)
theorem dX3_isWanted_14 : decode cX3_isWanted 14 = .ok (.iload_n 2, 1) := dk_28 (dk_at dksX3_isWanted_0 14 rfl rfl)
theorem dX3_isWanted_15 : decode cX3_isWanted 15 = .ok (.invokevirtual 171, 3) := dk_182 0 171 (dk_at dksX3_isWanted_0 15 rfl rfl)
theorem dX3_isWanted_18 : decode cX3_isWanted 18 = .ok (.ifCond .ne 20, 3) := dk_154 0 20 (dk_at dksX3_isWanted_0 18 rfl rfl)
theorem dX3_isWanted_21 : decode cX3_isWanted 21 = .ok (.aload_n 0, 1) := dk_42 (dk_at dksX3_isWanted_0 21 rfl rfl)
theorem dX3_isWanted_22 : decode cX3_isWanted 22 = .ok (.getfield 54, 3) := dk_180 0 54 (dk_at dksX3_isWanted_1 0 rfl rfl)
theorem dX3_isWanted_25 : decode cX3_isWanted 25 = .ok (.iload_n 1, 1) := dk_27 (dk_at dksX3_isWanted_1 3 rfl rfl)
theorem dX3_isWanted_26 : decode cX3_isWanted 26 = .ok (.iaload, 1) := dk_46 (dk_at dksX3_isWanted_1 4 rfl rfl)
theorem dX3_isWanted_27 : decode cX3_isWanted 27 = .ok (.iload_n 2, 1) := dk_28 (dk_at dksX3_isWanted_1 5 rfl rfl)
theorem dX3_isWanted_28 : decode cX3_isWanted 28 = .ok (.invokestatic 215, 3) := dk_184 0 215 (dk_at dksX3_isWanted_1 6 rfl rfl)
theorem dX3_isWanted_31 : decode cX3_isWanted 31 = .ok (.ifCond .eq 7, 3) := dk_153 0 7 (dk_at dksX3_isWanted_1 9 rfl rfl)
theorem dX3_isWanted_34 : decode cX3_isWanted 34 = .ok (.iconst 1, 1) := dk_4 (dk_at dksX3_isWanted_1 12 rfl rfl)
theorem dX3_isWanted_35 : decode cX3_isWanted 35 = .ok (.goto 4, 3) := dk_167 0 4 (dk_at dksX3_isWanted_1 13 rfl rfl)
theorem dX3_isWanted_38 : decode cX3_isWanted 38 = .ok (.iconst 0, 1) := dk_3 (dk_at dksX3_isWanted_1 16 rfl rfl)
theorem dX3_isWanted_39 : decode cX3_isWanted 39 = .ok (.ireturn, 1) := dk_172 (dk_at dksX3_isWanted_1 17 rfl rfl)
abbrev cX3_unwantedName : ByteArray := prog_23_method_42_code
def yX3_unwantedName : MethodName := ⟨RX3, "unwantedName", "(I)I"⟩
def dkwX3_unwantedName_0 : List UInt8 := [42, 3, 181, 0, 1, 42, 27, 182, 0, 230, 153, 0, 7, 3, 167, 0, 9, 42, 180, 0, 57, 27, 46, 172]
abbrev dktX3_unwantedName_0 : List UInt8 := dkwX3_unwantedName_0 ++ []
theorem dksX3_unwantedName_0 : cX3_unwantedName.data.toList.drop 0 = dktX3_unwantedName_0 := by decide +kernel
theorem dX3_unwantedName_0 : decode cX3_unwantedName 0 = .ok (.aload_n 0, 1) := dk_42 (dk_at dksX3_unwantedName_0 0 rfl rfl)
theorem dX3_unwantedName_1 : decode cX3_unwantedName 1 = .ok (.iconst 0, 1) := dk_3 (dk_at dksX3_unwantedName_0 1 rfl rfl)
theorem dX3_unwantedName_2 : decode cX3_unwantedName 2 = .ok (.putfield 1, 3) := dk_181 0 1 (dk_at dksX3_unwantedName_0 2 rfl rfl)
theorem dX3_unwantedName_5 : decode cX3_unwantedName 5 = .ok (.aload_n 0, 1) := dk_42 (dk_at dksX3_unwantedName_0 5 rfl rfl)
theorem dX3_unwantedName_6 : decode cX3_unwantedName 6 = .ok (.iload_n 1, 1) := dk_27 (dk_at dksX3_unwantedName_0 6 rfl rfl)
theorem dX3_unwantedName_7 : decode cX3_unwantedName 7 = .ok (.invokevirtual 230, 3) := dk_182 0 230 (dk_at dksX3_unwantedName_0 7 rfl rfl)
theorem dX3_unwantedName_10 : decode cX3_unwantedName 10 = .ok (.ifCond .eq 7, 3) := dk_153 0 7 (dk_at dksX3_unwantedName_0 10 rfl rfl)
theorem dX3_unwantedName_13 : decode cX3_unwantedName 13 = .ok (.iconst 0, 1) := dk_3 (dk_at dksX3_unwantedName_0 13 rfl rfl)
theorem dX3_unwantedName_14 : decode cX3_unwantedName 14 = .ok (.goto 9, 3) := dk_167 0 9 (dk_at dksX3_unwantedName_0 14 rfl rfl)
theorem dX3_unwantedName_17 : decode cX3_unwantedName 17 = .ok (.aload_n 0, 1) := dk_42 (dk_at dksX3_unwantedName_0 17 rfl rfl)
theorem dX3_unwantedName_18 : decode cX3_unwantedName 18 = .ok (.getfield 57, 3) := dk_180 0 57 (dk_at dksX3_unwantedName_0 18 rfl rfl)
theorem dX3_unwantedName_21 : decode cX3_unwantedName 21 = .ok (.iload_n 1, 1) := dk_27 (dk_at dksX3_unwantedName_0 21 rfl rfl)
theorem dX3_unwantedName_22 : decode cX3_unwantedName 22 = .ok (.iaload, 1) := dk_46 (dk_at dksX3_unwantedName_0 22 rfl rfl)
theorem dX3_unwantedName_23 : decode cX3_unwantedName 23 = .ok (.ireturn, 1) := dk_172 (dk_at dksX3_unwantedName_0 23 rfl rfl)
abbrev cX3_isHeld : ByteArray := prog_23_method_44_code
def yX3_isHeld : MethodName := ⟨RX3, "isHeld", "(I)Z"⟩
def dkwX3_isHeld_1 : List UInt8 := [167, 0, 4, 3, 172]
abbrev dktX3_isHeld_1 : List UInt8 := dkwX3_isHeld_1 ++ []
def dkwX3_isHeld_0 : List UInt8 := [42, 3, 181, 0, 1, 42, 27, 182, 0, 230, 154, 0, 15, 42, 27, 182, 0, 233, 153, 0, 7, 4]
abbrev dktX3_isHeld_0 : List UInt8 := dkwX3_isHeld_0 ++ dktX3_isHeld_1
theorem dksX3_isHeld_0 : cX3_isHeld.data.toList.drop 0 = dktX3_isHeld_0 := by decide +kernel
theorem dksX3_isHeld_1 : cX3_isHeld.data.toList.drop 22 = dktX3_isHeld_1 := dk_seg dksX3_isHeld_0 22 rfl rfl
theorem dX3_isHeld_0 : decode cX3_isHeld 0 = .ok (.aload_n 0, 1) := dk_42 (dk_at dksX3_isHeld_0 0 rfl rfl)
theorem dX3_isHeld_1 : decode cX3_isHeld 1 = .ok (.iconst 0, 1) := dk_3 (dk_at dksX3_isHeld_0 1 rfl rfl)
theorem dX3_isHeld_2 : decode cX3_isHeld 2 = .ok (.putfield 1, 3) := dk_181 0 1 (dk_at dksX3_isHeld_0 2 rfl rfl)
theorem dX3_isHeld_5 : decode cX3_isHeld 5 = .ok (.aload_n 0, 1) := dk_42 (dk_at dksX3_isHeld_0 5 rfl rfl)
theorem dX3_isHeld_6 : decode cX3_isHeld 6 = .ok (.iload_n 1, 1) := dk_27 (dk_at dksX3_isHeld_0 6 rfl rfl)
theorem dX3_isHeld_7 : decode cX3_isHeld 7 = .ok (.invokevirtual 230, 3) := dk_182 0 230 (dk_at dksX3_isHeld_0 7 rfl rfl)
theorem dX3_isHeld_10 : decode cX3_isHeld 10 = .ok (.ifCond .ne 15, 3) := dk_154 0 15 (dk_at dksX3_isHeld_0 10 rfl rfl)
theorem dX3_isHeld_13 : decode cX3_isHeld 13 = .ok (.aload_n 0, 1) := dk_42 (dk_at dksX3_isHeld_0 13 rfl rfl)
theorem dX3_isHeld_14 : decode cX3_isHeld 14 = .ok (.iload_n 1, 1) := dk_27 (dk_at dksX3_isHeld_0 14 rfl rfl)
theorem dX3_isHeld_15 : decode cX3_isHeld 15 = .ok (.invokevirtual 233, 3) := dk_182 0 233 (dk_at dksX3_isHeld_0 15 rfl rfl)
theorem dX3_isHeld_18 : decode cX3_isHeld 18 = .ok (.ifCond .eq 7, 3) := dk_153 0 7 (dk_at dksX3_isHeld_0 18 rfl rfl)
theorem dX3_isHeld_21 : decode cX3_isHeld 21 = .ok (.iconst 1, 1) := dk_4 (dk_at dksX3_isHeld_0 21 rfl rfl)
theorem dX3_isHeld_22 : decode cX3_isHeld 22 = .ok (.goto 4, 3) := dk_167 0 4 (dk_at dksX3_isHeld_1 0 rfl rfl)
theorem dX3_isHeld_25 : decode cX3_isHeld 25 = .ok (.iconst 0, 1) := dk_3 (dk_at dksX3_isHeld_1 3 rfl rfl)
theorem dX3_isHeld_26 : decode cX3_isHeld 26 = .ok (.ireturn, 1) := dk_172 (dk_at dksX3_isHeld_1 4 rfl rfl)
abbrev cX3_held : ByteArray := prog_23_method_43_code
def yX3_held : MethodName := ⟨RX3, "held", "(I)Z"⟩
def dkwX3_held_2 : List UInt8 := [132, 2, 1, 167, 255, 220, 3, 172]
abbrev dktX3_held_2 : List UInt8 := dkwX3_held_2 ++ []
def dkwX3_held_1 : List UInt8 := [180, 0, 54, 27, 46, 28, 184, 0, 215, 153, 0, 15, 42, 180, 0, 121, 28, 46, 2, 159, 0, 5, 4, 172]
abbrev dktX3_held_1 : List UInt8 := dkwX3_held_1 ++ dktX3_held_2
def dkwX3_held_0 : List UInt8 := [42, 180, 0, 72, 27, 46, 153, 0, 5, 3, 172, 3, 61, 28, 42, 180, 0, 138, 162, 0, 34, 42]
abbrev dktX3_held_0 : List UInt8 := dkwX3_held_0 ++ dktX3_held_1
theorem dksX3_held_0 : cX3_held.data.toList.drop 0 = dktX3_held_0 := by decide +kernel
theorem dksX3_held_1 : cX3_held.data.toList.drop 22 = dktX3_held_1 := dk_seg dksX3_held_0 22 rfl rfl
theorem dksX3_held_2 : cX3_held.data.toList.drop 46 = dktX3_held_2 := dk_seg dksX3_held_1 24 rfl rfl
theorem dX3_held_0 : decode cX3_held 0 = .ok (.aload_n 0, 1) := dk_42 (dk_at dksX3_held_0 0 rfl rfl)
theorem dX3_held_1 : decode cX3_held 1 = .ok (.getfield 72, 3) := dk_180 0 72 (dk_at dksX3_held_0 1 rfl rfl)
theorem dX3_held_4 : decode cX3_held 4 = .ok (.iload_n 1, 1) := dk_27 (dk_at dksX3_held_0 4 rfl rfl)
theorem dX3_held_5 : decode cX3_held 5 = .ok (.iaload, 1) := dk_46 (dk_at dksX3_held_0 5 rfl rfl)
theorem dX3_held_6 : decode cX3_held 6 = .ok (.ifCond .eq 5, 3) := dk_153 0 5 (dk_at dksX3_held_0 6 rfl rfl)
theorem dX3_held_9 : decode cX3_held 9 = .ok (.iconst 0, 1) := dk_3 (dk_at dksX3_held_0 9 rfl rfl)
theorem dX3_held_10 : decode cX3_held 10 = .ok (.ireturn, 1) := dk_172 (dk_at dksX3_held_0 10 rfl rfl)
theorem dX3_held_11 : decode cX3_held 11 = .ok (.iconst 0, 1) := dk_3 (dk_at dksX3_held_0 11 rfl rfl)
theorem dX3_held_12 : decode cX3_held 12 = .ok (.istore_n 2, 1) := dk_61 (dk_at dksX3_held_0 12 rfl rfl)
theorem dX3_held_13 : decode cX3_held 13 = .ok (.iload_n 2, 1) := dk_28 (dk_at dksX3_held_0 13 rfl rfl)
theorem dX3_held_14 : decode cX3_held 14 = .ok (.aload_n 0, 1) := dk_42 (dk_at dksX3_held_0 14 rfl rfl)
theorem dX3_held_15 : decode cX3_held 15 = .ok (.getfield 138, 3) := dk_180 0 138 (dk_at dksX3_held_0 15 rfl rfl)
theorem dX3_held_18 : decode cX3_held 18 = .ok (.if_icmp .ge 34, 3) := dk_162 0 34 (dk_at dksX3_held_0 18 rfl rfl)
theorem dX3_held_21 : decode cX3_held 21 = .ok (.aload_n 0, 1) := dk_42 (dk_at dksX3_held_0 21 rfl rfl)
theorem dX3_held_22 : decode cX3_held 22 = .ok (.getfield 54, 3) := dk_180 0 54 (dk_at dksX3_held_1 0 rfl rfl)
theorem dX3_held_25 : decode cX3_held 25 = .ok (.iload_n 1, 1) := dk_27 (dk_at dksX3_held_1 3 rfl rfl)
theorem dX3_held_26 : decode cX3_held 26 = .ok (.iaload, 1) := dk_46 (dk_at dksX3_held_1 4 rfl rfl)
theorem dX3_held_27 : decode cX3_held 27 = .ok (.iload_n 2, 1) := dk_28 (dk_at dksX3_held_1 5 rfl rfl)
theorem dX3_held_28 : decode cX3_held 28 = .ok (.invokestatic 215, 3) := dk_184 0 215 (dk_at dksX3_held_1 6 rfl rfl)
theorem dX3_held_31 : decode cX3_held 31 = .ok (.ifCond .eq 15, 3) := dk_153 0 15 (dk_at dksX3_held_1 9 rfl rfl)
theorem dX3_held_34 : decode cX3_held 34 = .ok (.aload_n 0, 1) := dk_42 (dk_at dksX3_held_1 12 rfl rfl)
theorem dX3_held_35 : decode cX3_held 35 = .ok (.getfield 121, 3) := dk_180 0 121 (dk_at dksX3_held_1 13 rfl rfl)
theorem dX3_held_38 : decode cX3_held 38 = .ok (.iload_n 2, 1) := dk_28 (dk_at dksX3_held_1 16 rfl rfl)
theorem dX3_held_39 : decode cX3_held 39 = .ok (.iaload, 1) := dk_46 (dk_at dksX3_held_1 17 rfl rfl)
theorem dX3_held_40 : decode cX3_held 40 = .ok (.iconst (-1), 1) := dk_2 (dk_at dksX3_held_1 18 rfl rfl)
theorem dX3_held_41 : decode cX3_held 41 = .ok (.if_icmp .eq 5, 3) := dk_159 0 5 (dk_at dksX3_held_1 19 rfl rfl)
theorem dX3_held_44 : decode cX3_held 44 = .ok (.iconst 1, 1) := dk_4 (dk_at dksX3_held_1 22 rfl rfl)
theorem dX3_held_45 : decode cX3_held 45 = .ok (.ireturn, 1) := dk_172 (dk_at dksX3_held_1 23 rfl rfl)
theorem dX3_held_46 : decode cX3_held 46 = .ok (.iinc 2 1, 3) := dk_132 2 1 (dk_at dksX3_held_2 0 rfl rfl)
theorem dX3_held_49 : decode cX3_held 49 = .ok (.goto (-36), 3) := dk_167 255 220 (dk_at dksX3_held_2 3 rfl rfl)
theorem dX3_held_52 : decode cX3_held 52 = .ok (.iconst 0, 1) := dk_3 (dk_at dksX3_held_2 6 rfl rfl)
theorem dX3_held_53 : decode cX3_held 53 = .ok (.ireturn, 1) := dk_172 (dk_at dksX3_held_2 7 rfl rfl)
abbrev cX3_score : ByteArray := prog_23_method_48_code
def yX3_score : MethodName := ⟨RX3, "score", "(III)I"⟩
def dkwX3_score_1 : List UInt8 := [182, 0, 174, 153, 0, 7, 3, 167, 0, 10, 42, 27, 28, 29, 182, 0, 249, 172]
abbrev dktX3_score_1 : List UInt8 := dkwX3_score_1 ++ []
def dkwX3_score_0 : List UInt8 := [42, 3, 181, 0, 1, 42, 27, 182, 0, 230, 154, 0, 19, 42, 28, 182, 0, 191, 154, 0, 11, 42, 29]
abbrev dktX3_score_0 : List UInt8 := dkwX3_score_0 ++ dktX3_score_1
theorem dksX3_score_0 : cX3_score.data.toList.drop 0 = dktX3_score_0 := by decide +kernel
theorem dksX3_score_1 : cX3_score.data.toList.drop 23 = dktX3_score_1 := dk_seg dksX3_score_0 23 rfl rfl
theorem dX3_score_0 : decode cX3_score 0 = .ok (.aload_n 0, 1) := dk_42 (dk_at dksX3_score_0 0 rfl rfl)
theorem dX3_score_1 : decode cX3_score 1 = .ok (.iconst 0, 1) := dk_3 (dk_at dksX3_score_0 1 rfl rfl)
theorem dX3_score_2 : decode cX3_score 2 = .ok (.putfield 1, 3) := dk_181 0 1 (dk_at dksX3_score_0 2 rfl rfl)
theorem dX3_score_5 : decode cX3_score 5 = .ok (.aload_n 0, 1) := dk_42 (dk_at dksX3_score_0 5 rfl rfl)
theorem dX3_score_6 : decode cX3_score 6 = .ok (.iload_n 1, 1) := dk_27 (dk_at dksX3_score_0 6 rfl rfl)
theorem dX3_score_7 : decode cX3_score 7 = .ok (.invokevirtual 230, 3) := dk_182 0 230 (dk_at dksX3_score_0 7 rfl rfl)
theorem dX3_score_10 : decode cX3_score 10 = .ok (.ifCond .ne 19, 3) := dk_154 0 19 (dk_at dksX3_score_0 10 rfl rfl)
theorem dX3_score_13 : decode cX3_score 13 = .ok (.aload_n 0, 1) := dk_42 (dk_at dksX3_score_0 13 rfl rfl)
theorem dX3_score_14 : decode cX3_score 14 = .ok (.iload_n 2, 1) := dk_28 (dk_at dksX3_score_0 14 rfl rfl)
theorem dX3_score_15 : decode cX3_score 15 = .ok (.invokevirtual 191, 3) := dk_182 0 191 (dk_at dksX3_score_0 15 rfl rfl)
theorem dX3_score_18 : decode cX3_score 18 = .ok (.ifCond .ne 11, 3) := dk_154 0 11 (dk_at dksX3_score_0 18 rfl rfl)
theorem dX3_score_21 : decode cX3_score 21 = .ok (.aload_n 0, 1) := dk_42 (dk_at dksX3_score_0 21 rfl rfl)
theorem dX3_score_22 : decode cX3_score 22 = .ok (.iload_n 3, 1) := dk_29 (dk_at dksX3_score_0 22 rfl rfl)
theorem dX3_score_23 : decode cX3_score 23 = .ok (.invokevirtual 174, 3) := dk_182 0 174 (dk_at dksX3_score_1 0 rfl rfl)
theorem dX3_score_26 : decode cX3_score 26 = .ok (.ifCond .eq 7, 3) := dk_153 0 7 (dk_at dksX3_score_1 3 rfl rfl)
theorem dX3_score_29 : decode cX3_score 29 = .ok (.iconst 0, 1) := dk_3 (dk_at dksX3_score_1 6 rfl rfl)
theorem dX3_score_30 : decode cX3_score 30 = .ok (.goto 10, 3) := dk_167 0 10 (dk_at dksX3_score_1 7 rfl rfl)
theorem dX3_score_33 : decode cX3_score 33 = .ok (.aload_n 0, 1) := dk_42 (dk_at dksX3_score_1 10 rfl rfl)
theorem dX3_score_34 : decode cX3_score 34 = .ok (.iload_n 1, 1) := dk_27 (dk_at dksX3_score_1 11 rfl rfl)
theorem dX3_score_35 : decode cX3_score 35 = .ok (.iload_n 2, 1) := dk_28 (dk_at dksX3_score_1 12 rfl rfl)
theorem dX3_score_36 : decode cX3_score 36 = .ok (.iload_n 3, 1) := dk_29 (dk_at dksX3_score_1 13 rfl rfl)
theorem dX3_score_37 : decode cX3_score 37 = .ok (.invokevirtual 249, 3) := dk_182 0 249 (dk_at dksX3_score_1 14 rfl rfl)
theorem dX3_score_40 : decode cX3_score 40 = .ok (.ireturn, 1) := dk_172 (dk_at dksX3_score_1 17 rfl rfl)
abbrev cX3_scoreOf : ByteArray := prog_23_method_47_code
def yX3_scoreOf : MethodName := ⟨RX3, "scoreOf", "(III)I"⟩
def dkwX3_scoreOf_4 : List UInt8 := [29, 96, 46, 104, 100, 172]
abbrev dktX3_scoreOf_4 : List UInt8 := dkwX3_scoreOf_4 ++ []
def dkwX3_scoreOf_3 : List UInt8 := [46, 104, 96, 96, 54, 4, 132, 5, 1, 167, 255, 196, 21, 4, 16, 8, 42, 180, 0, 84, 16, 8, 27, 104]
abbrev dktX3_scoreOf_3 : List UInt8 := dkwX3_scoreOf_3 ++ dktX3_scoreOf_4
def dkwX3_scoreOf_2 : List UInt8 := [21, 5, 29, 182, 0, 245, 5, 42, 180, 0, 51, 28, 21, 5, 42, 180, 0, 60, 27, 46, 29, 184, 0, 184]
abbrev dktX3_scoreOf_2 : List UInt8 := dkwX3_scoreOf_2 ++ dktX3_scoreOf_3
def dkwX3_scoreOf_1 : List UInt8 := [180, 0, 138, 162, 0, 57, 42, 180, 0, 54, 27, 46, 21, 5, 184, 0, 215, 153, 0, 37, 21, 4, 42, 27]
abbrev dktX3_scoreOf_1 : List UInt8 := dkwX3_scoreOf_1 ++ dktX3_scoreOf_2
def dkwX3_scoreOf_0 : List UInt8 := [42, 27, 29, 182, 0, 242, 153, 0, 8, 16, 236, 167, 0, 4, 3, 54, 4, 3, 54, 5, 21, 5, 42]
abbrev dktX3_scoreOf_0 : List UInt8 := dkwX3_scoreOf_0 ++ dktX3_scoreOf_1
theorem dksX3_scoreOf_0 : cX3_scoreOf.data.toList.drop 0 = dktX3_scoreOf_0 := by decide +kernel
theorem dksX3_scoreOf_1 : cX3_scoreOf.data.toList.drop 23 = dktX3_scoreOf_1 := dk_seg dksX3_scoreOf_0 23 rfl rfl
theorem dksX3_scoreOf_2 : cX3_scoreOf.data.toList.drop 47 = dktX3_scoreOf_2 := dk_seg dksX3_scoreOf_1 24 rfl rfl
theorem dksX3_scoreOf_3 : cX3_scoreOf.data.toList.drop 71 = dktX3_scoreOf_3 := dk_seg dksX3_scoreOf_2 24 rfl rfl
theorem dksX3_scoreOf_4 : cX3_scoreOf.data.toList.drop 95 = dktX3_scoreOf_4 := dk_seg dksX3_scoreOf_3 24 rfl rfl
theorem dX3_scoreOf_0 : decode cX3_scoreOf 0 = .ok (.aload_n 0, 1) := dk_42 (dk_at dksX3_scoreOf_0 0 rfl rfl)
theorem dX3_scoreOf_1 : decode cX3_scoreOf 1 = .ok (.iload_n 1, 1) := dk_27 (dk_at dksX3_scoreOf_0 1 rfl rfl)
theorem dX3_scoreOf_2 : decode cX3_scoreOf 2 = .ok (.iload_n 3, 1) := dk_29 (dk_at dksX3_scoreOf_0 2 rfl rfl)
theorem dX3_scoreOf_3 : decode cX3_scoreOf 3 = .ok (.invokevirtual 242, 3) := dk_182 0 242 (dk_at dksX3_scoreOf_0 3 rfl rfl)
theorem dX3_scoreOf_6 : decode cX3_scoreOf 6 = .ok (.ifCond .eq 8, 3) := dk_153 0 8 (dk_at dksX3_scoreOf_0 6 rfl rfl)
theorem dX3_scoreOf_9 : decode cX3_scoreOf 9 = .ok (.bipush (-20), 2) := dk_16 236 (dk_at dksX3_scoreOf_0 9 rfl rfl)
theorem dX3_scoreOf_11 : decode cX3_scoreOf 11 = .ok (.goto 4, 3) := dk_167 0 4 (dk_at dksX3_scoreOf_0 11 rfl rfl)
theorem dX3_scoreOf_14 : decode cX3_scoreOf 14 = .ok (.iconst 0, 1) := dk_3 (dk_at dksX3_scoreOf_0 14 rfl rfl)
theorem dX3_scoreOf_15 : decode cX3_scoreOf 15 = .ok (.istore 4, 2) := dk_54 4 (dk_at dksX3_scoreOf_0 15 rfl rfl)
theorem dX3_scoreOf_17 : decode cX3_scoreOf 17 = .ok (.iconst 0, 1) := dk_3 (dk_at dksX3_scoreOf_0 17 rfl rfl)
theorem dX3_scoreOf_18 : decode cX3_scoreOf 18 = .ok (.istore 5, 2) := dk_54 5 (dk_at dksX3_scoreOf_0 18 rfl rfl)
theorem dX3_scoreOf_20 : decode cX3_scoreOf 20 = .ok (.iload 5, 2) := dk_21 5 (dk_at dksX3_scoreOf_0 20 rfl rfl)
theorem dX3_scoreOf_22 : decode cX3_scoreOf 22 = .ok (.aload_n 0, 1) := dk_42 (dk_at dksX3_scoreOf_0 22 rfl rfl)
theorem dX3_scoreOf_23 : decode cX3_scoreOf 23 = .ok (.getfield 138, 3) := dk_180 0 138 (dk_at dksX3_scoreOf_1 0 rfl rfl)
theorem dX3_scoreOf_26 : decode cX3_scoreOf 26 = .ok (.if_icmp .ge 57, 3) := dk_162 0 57 (dk_at dksX3_scoreOf_1 3 rfl rfl)
theorem dX3_scoreOf_29 : decode cX3_scoreOf 29 = .ok (.aload_n 0, 1) := dk_42 (dk_at dksX3_scoreOf_1 6 rfl rfl)
theorem dX3_scoreOf_30 : decode cX3_scoreOf 30 = .ok (.getfield 54, 3) := dk_180 0 54 (dk_at dksX3_scoreOf_1 7 rfl rfl)
theorem dX3_scoreOf_33 : decode cX3_scoreOf 33 = .ok (.iload_n 1, 1) := dk_27 (dk_at dksX3_scoreOf_1 10 rfl rfl)
theorem dX3_scoreOf_34 : decode cX3_scoreOf 34 = .ok (.iaload, 1) := dk_46 (dk_at dksX3_scoreOf_1 11 rfl rfl)
theorem dX3_scoreOf_35 : decode cX3_scoreOf 35 = .ok (.iload 5, 2) := dk_21 5 (dk_at dksX3_scoreOf_1 12 rfl rfl)
theorem dX3_scoreOf_37 : decode cX3_scoreOf 37 = .ok (.invokestatic 215, 3) := dk_184 0 215 (dk_at dksX3_scoreOf_1 14 rfl rfl)
theorem dX3_scoreOf_40 : decode cX3_scoreOf 40 = .ok (.ifCond .eq 37, 3) := dk_153 0 37 (dk_at dksX3_scoreOf_1 17 rfl rfl)
theorem dX3_scoreOf_43 : decode cX3_scoreOf 43 = .ok (.iload 4, 2) := dk_21 4 (dk_at dksX3_scoreOf_1 20 rfl rfl)
theorem dX3_scoreOf_45 : decode cX3_scoreOf 45 = .ok (.aload_n 0, 1) := dk_42 (dk_at dksX3_scoreOf_1 22 rfl rfl)
theorem dX3_scoreOf_46 : decode cX3_scoreOf 46 = .ok (.iload_n 1, 1) := dk_27 (dk_at dksX3_scoreOf_1 23 rfl rfl)
theorem dX3_scoreOf_47 : decode cX3_scoreOf 47 = .ok (.iload 5, 2) := dk_21 5 (dk_at dksX3_scoreOf_2 0 rfl rfl)
theorem dX3_scoreOf_49 : decode cX3_scoreOf 49 = .ok (.iload_n 3, 1) := dk_29 (dk_at dksX3_scoreOf_2 2 rfl rfl)
theorem dX3_scoreOf_50 : decode cX3_scoreOf 50 = .ok (.invokevirtual 245, 3) := dk_182 0 245 (dk_at dksX3_scoreOf_2 3 rfl rfl)
theorem dX3_scoreOf_53 : decode cX3_scoreOf 53 = .ok (.iconst 2, 1) := dk_5 (dk_at dksX3_scoreOf_2 6 rfl rfl)
theorem dX3_scoreOf_54 : decode cX3_scoreOf 54 = .ok (.aload_n 0, 1) := dk_42 (dk_at dksX3_scoreOf_2 7 rfl rfl)
theorem dX3_scoreOf_55 : decode cX3_scoreOf 55 = .ok (.getfield 51, 3) := dk_180 0 51 (dk_at dksX3_scoreOf_2 8 rfl rfl)
theorem dX3_scoreOf_58 : decode cX3_scoreOf 58 = .ok (.iload_n 2, 1) := dk_28 (dk_at dksX3_scoreOf_2 11 rfl rfl)
theorem dX3_scoreOf_59 : decode cX3_scoreOf 59 = .ok (.iload 5, 2) := dk_21 5 (dk_at dksX3_scoreOf_2 12 rfl rfl)
theorem dX3_scoreOf_61 : decode cX3_scoreOf 61 = .ok (.aload_n 0, 1) := dk_42 (dk_at dksX3_scoreOf_2 14 rfl rfl)
theorem dX3_scoreOf_62 : decode cX3_scoreOf 62 = .ok (.getfield 60, 3) := dk_180 0 60 (dk_at dksX3_scoreOf_2 15 rfl rfl)
theorem dX3_scoreOf_65 : decode cX3_scoreOf 65 = .ok (.iload_n 1, 1) := dk_27 (dk_at dksX3_scoreOf_2 18 rfl rfl)
theorem dX3_scoreOf_66 : decode cX3_scoreOf 66 = .ok (.iaload, 1) := dk_46 (dk_at dksX3_scoreOf_2 19 rfl rfl)
theorem dX3_scoreOf_67 : decode cX3_scoreOf 67 = .ok (.iload_n 3, 1) := dk_29 (dk_at dksX3_scoreOf_2 20 rfl rfl)
theorem dX3_scoreOf_68 : decode cX3_scoreOf 68 = .ok (.invokestatic 184, 3) := dk_184 0 184 (dk_at dksX3_scoreOf_2 21 rfl rfl)
theorem dX3_scoreOf_71 : decode cX3_scoreOf 71 = .ok (.iaload, 1) := dk_46 (dk_at dksX3_scoreOf_3 0 rfl rfl)
theorem dX3_scoreOf_72 : decode cX3_scoreOf 72 = .ok (.imul, 1) := dk_104 (dk_at dksX3_scoreOf_3 1 rfl rfl)
theorem dX3_scoreOf_73 : decode cX3_scoreOf 73 = .ok (.iadd, 1) := dk_96 (dk_at dksX3_scoreOf_3 2 rfl rfl)
theorem dX3_scoreOf_74 : decode cX3_scoreOf 74 = .ok (.iadd, 1) := dk_96 (dk_at dksX3_scoreOf_3 3 rfl rfl)
theorem dX3_scoreOf_75 : decode cX3_scoreOf 75 = .ok (.istore 4, 2) := dk_54 4 (dk_at dksX3_scoreOf_3 4 rfl rfl)
theorem dX3_scoreOf_77 : decode cX3_scoreOf 77 = .ok (.iinc 5 1, 3) := dk_132 5 1 (dk_at dksX3_scoreOf_3 6 rfl rfl)
theorem dX3_scoreOf_80 : decode cX3_scoreOf 80 = .ok (.goto (-60), 3) := dk_167 255 196 (dk_at dksX3_scoreOf_3 9 rfl rfl)
theorem dX3_scoreOf_83 : decode cX3_scoreOf 83 = .ok (.iload 4, 2) := dk_21 4 (dk_at dksX3_scoreOf_3 12 rfl rfl)
theorem dX3_scoreOf_85 : decode cX3_scoreOf 85 = .ok (.bipush 8, 2) := dk_16 8 (dk_at dksX3_scoreOf_3 14 rfl rfl)
theorem dX3_scoreOf_87 : decode cX3_scoreOf 87 = .ok (.aload_n 0, 1) := dk_42 (dk_at dksX3_scoreOf_3 16 rfl rfl)
theorem dX3_scoreOf_88 : decode cX3_scoreOf 88 = .ok (.getfield 84, 3) := dk_180 0 84 (dk_at dksX3_scoreOf_3 17 rfl rfl)
theorem dX3_scoreOf_91 : decode cX3_scoreOf 91 = .ok (.bipush 8, 2) := dk_16 8 (dk_at dksX3_scoreOf_3 20 rfl rfl)
theorem dX3_scoreOf_93 : decode cX3_scoreOf 93 = .ok (.iload_n 1, 1) := dk_27 (dk_at dksX3_scoreOf_3 22 rfl rfl)
theorem dX3_scoreOf_94 : decode cX3_scoreOf 94 = .ok (.imul, 1) := dk_104 (dk_at dksX3_scoreOf_3 23 rfl rfl)
theorem dX3_scoreOf_95 : decode cX3_scoreOf 95 = .ok (.iload_n 3, 1) := dk_29 (dk_at dksX3_scoreOf_4 0 rfl rfl)
theorem dX3_scoreOf_96 : decode cX3_scoreOf 96 = .ok (.iadd, 1) := dk_96 (dk_at dksX3_scoreOf_4 1 rfl rfl)
theorem dX3_scoreOf_97 : decode cX3_scoreOf 97 = .ok (.iaload, 1) := dk_46 (dk_at dksX3_scoreOf_4 2 rfl rfl)
theorem dX3_scoreOf_98 : decode cX3_scoreOf 98 = .ok (.imul, 1) := dk_104 (dk_at dksX3_scoreOf_4 3 rfl rfl)
theorem dX3_scoreOf_99 : decode cX3_scoreOf 99 = .ok (.isub, 1) := dk_100 (dk_at dksX3_scoreOf_4 4 rfl rfl)
theorem dX3_scoreOf_100 : decode cX3_scoreOf 100 = .ok (.ireturn, 1) := dk_172 (dk_at dksX3_scoreOf_4 5 rfl rfl)
abbrev cX3_isAgainst : ByteArray := prog_23_method_46_code
def yX3_isAgainst : MethodName := ⟨RX3, "isAgainst", "(II)Z"⟩
def dkwX3_isAgainst_2 : List UInt8 := [46, 29, 28, 42, 180, 0, 63, 27, 46, 182, 0, 236, 172]
abbrev dktX3_isAgainst_2 : List UInt8 := dkwX3_isAgainst_2 ++ []
def dkwX3_isAgainst_1 : List UInt8 := [42, 180, 0, 115, 29, 46, 28, 160, 0, 7, 4, 167, 0, 25, 3, 167, 0, 21, 42, 42, 180, 0, 60, 27]
abbrev dktX3_isAgainst_1 : List UInt8 := dkwX3_isAgainst_1 ++ dktX3_isAgainst_2
def dkwX3_isAgainst_0 : List UInt8 := [42, 180, 0, 57, 27, 46, 62, 29, 2, 160, 0, 5, 3, 172, 42, 180, 0, 115, 29, 46, 2, 159, 0, 21]
abbrev dktX3_isAgainst_0 : List UInt8 := dkwX3_isAgainst_0 ++ dktX3_isAgainst_1
theorem dksX3_isAgainst_0 : cX3_isAgainst.data.toList.drop 0 = dktX3_isAgainst_0 := by decide +kernel
theorem dksX3_isAgainst_1 : cX3_isAgainst.data.toList.drop 24 = dktX3_isAgainst_1 := dk_seg dksX3_isAgainst_0 24 rfl rfl
theorem dksX3_isAgainst_2 : cX3_isAgainst.data.toList.drop 48 = dktX3_isAgainst_2 := dk_seg dksX3_isAgainst_1 24 rfl rfl
theorem dX3_isAgainst_0 : decode cX3_isAgainst 0 = .ok (.aload_n 0, 1) := dk_42 (dk_at dksX3_isAgainst_0 0 rfl rfl)
theorem dX3_isAgainst_1 : decode cX3_isAgainst 1 = .ok (.getfield 57, 3) := dk_180 0 57 (dk_at dksX3_isAgainst_0 1 rfl rfl)
theorem dX3_isAgainst_4 : decode cX3_isAgainst 4 = .ok (.iload_n 1, 1) := dk_27 (dk_at dksX3_isAgainst_0 4 rfl rfl)
theorem dX3_isAgainst_5 : decode cX3_isAgainst 5 = .ok (.iaload, 1) := dk_46 (dk_at dksX3_isAgainst_0 5 rfl rfl)
theorem dX3_isAgainst_6 : decode cX3_isAgainst 6 = .ok (.istore_n 3, 1) := dk_62 (dk_at dksX3_isAgainst_0 6 rfl rfl)
theorem dX3_isAgainst_7 : decode cX3_isAgainst 7 = .ok (.iload_n 3, 1) := dk_29 (dk_at dksX3_isAgainst_0 7 rfl rfl)
theorem dX3_isAgainst_8 : decode cX3_isAgainst 8 = .ok (.iconst (-1), 1) := dk_2 (dk_at dksX3_isAgainst_0 8 rfl rfl)
theorem dX3_isAgainst_9 : decode cX3_isAgainst 9 = .ok (.if_icmp .ne 5, 3) := dk_160 0 5 (dk_at dksX3_isAgainst_0 9 rfl rfl)
theorem dX3_isAgainst_12 : decode cX3_isAgainst 12 = .ok (.iconst 0, 1) := dk_3 (dk_at dksX3_isAgainst_0 12 rfl rfl)
theorem dX3_isAgainst_13 : decode cX3_isAgainst 13 = .ok (.ireturn, 1) := dk_172 (dk_at dksX3_isAgainst_0 13 rfl rfl)
theorem dX3_isAgainst_14 : decode cX3_isAgainst 14 = .ok (.aload_n 0, 1) := dk_42 (dk_at dksX3_isAgainst_0 14 rfl rfl)
theorem dX3_isAgainst_15 : decode cX3_isAgainst 15 = .ok (.getfield 115, 3) := dk_180 0 115 (dk_at dksX3_isAgainst_0 15 rfl rfl)
theorem dX3_isAgainst_18 : decode cX3_isAgainst 18 = .ok (.iload_n 3, 1) := dk_29 (dk_at dksX3_isAgainst_0 18 rfl rfl)
theorem dX3_isAgainst_19 : decode cX3_isAgainst 19 = .ok (.iaload, 1) := dk_46 (dk_at dksX3_isAgainst_0 19 rfl rfl)
theorem dX3_isAgainst_20 : decode cX3_isAgainst 20 = .ok (.iconst (-1), 1) := dk_2 (dk_at dksX3_isAgainst_0 20 rfl rfl)
theorem dX3_isAgainst_21 : decode cX3_isAgainst 21 = .ok (.if_icmp .eq 21, 3) := dk_159 0 21 (dk_at dksX3_isAgainst_0 21 rfl rfl)
theorem dX3_isAgainst_24 : decode cX3_isAgainst 24 = .ok (.aload_n 0, 1) := dk_42 (dk_at dksX3_isAgainst_1 0 rfl rfl)
theorem dX3_isAgainst_25 : decode cX3_isAgainst 25 = .ok (.getfield 115, 3) := dk_180 0 115 (dk_at dksX3_isAgainst_1 1 rfl rfl)
theorem dX3_isAgainst_28 : decode cX3_isAgainst 28 = .ok (.iload_n 3, 1) := dk_29 (dk_at dksX3_isAgainst_1 4 rfl rfl)
theorem dX3_isAgainst_29 : decode cX3_isAgainst 29 = .ok (.iaload, 1) := dk_46 (dk_at dksX3_isAgainst_1 5 rfl rfl)
theorem dX3_isAgainst_30 : decode cX3_isAgainst 30 = .ok (.iload_n 2, 1) := dk_28 (dk_at dksX3_isAgainst_1 6 rfl rfl)
theorem dX3_isAgainst_31 : decode cX3_isAgainst 31 = .ok (.if_icmp .ne 7, 3) := dk_160 0 7 (dk_at dksX3_isAgainst_1 7 rfl rfl)
theorem dX3_isAgainst_34 : decode cX3_isAgainst 34 = .ok (.iconst 1, 1) := dk_4 (dk_at dksX3_isAgainst_1 10 rfl rfl)
theorem dX3_isAgainst_35 : decode cX3_isAgainst 35 = .ok (.goto 25, 3) := dk_167 0 25 (dk_at dksX3_isAgainst_1 11 rfl rfl)
theorem dX3_isAgainst_38 : decode cX3_isAgainst 38 = .ok (.iconst 0, 1) := dk_3 (dk_at dksX3_isAgainst_1 14 rfl rfl)
theorem dX3_isAgainst_39 : decode cX3_isAgainst 39 = .ok (.goto 21, 3) := dk_167 0 21 (dk_at dksX3_isAgainst_1 15 rfl rfl)
theorem dX3_isAgainst_42 : decode cX3_isAgainst 42 = .ok (.aload_n 0, 1) := dk_42 (dk_at dksX3_isAgainst_1 18 rfl rfl)
theorem dX3_isAgainst_43 : decode cX3_isAgainst 43 = .ok (.aload_n 0, 1) := dk_42 (dk_at dksX3_isAgainst_1 19 rfl rfl)
theorem dX3_isAgainst_44 : decode cX3_isAgainst 44 = .ok (.getfield 60, 3) := dk_180 0 60 (dk_at dksX3_isAgainst_1 20 rfl rfl)
theorem dX3_isAgainst_47 : decode cX3_isAgainst 47 = .ok (.iload_n 1, 1) := dk_27 (dk_at dksX3_isAgainst_1 23 rfl rfl)
theorem dX3_isAgainst_48 : decode cX3_isAgainst 48 = .ok (.iaload, 1) := dk_46 (dk_at dksX3_isAgainst_2 0 rfl rfl)
theorem dX3_isAgainst_49 : decode cX3_isAgainst 49 = .ok (.iload_n 3, 1) := dk_29 (dk_at dksX3_isAgainst_2 1 rfl rfl)
theorem dX3_isAgainst_50 : decode cX3_isAgainst 50 = .ok (.iload_n 2, 1) := dk_28 (dk_at dksX3_isAgainst_2 2 rfl rfl)
theorem dX3_isAgainst_51 : decode cX3_isAgainst 51 = .ok (.aload_n 0, 1) := dk_42 (dk_at dksX3_isAgainst_2 3 rfl rfl)
theorem dX3_isAgainst_52 : decode cX3_isAgainst 52 = .ok (.getfield 63, 3) := dk_180 0 63 (dk_at dksX3_isAgainst_2 4 rfl rfl)
theorem dX3_isAgainst_55 : decode cX3_isAgainst 55 = .ok (.iload_n 1, 1) := dk_27 (dk_at dksX3_isAgainst_2 7 rfl rfl)
theorem dX3_isAgainst_56 : decode cX3_isAgainst 56 = .ok (.iaload, 1) := dk_46 (dk_at dksX3_isAgainst_2 8 rfl rfl)
theorem dX3_isAgainst_57 : decode cX3_isAgainst 57 = .ok (.invokevirtual 236, 3) := dk_182 0 236 (dk_at dksX3_isAgainst_2 9 rfl rfl)
theorem dX3_isAgainst_60 : decode cX3_isAgainst 60 = .ok (.ireturn, 1) := dk_172 (dk_at dksX3_isAgainst_2 12 rfl rfl)
abbrev cX3_hasUsageAt : ByteArray := prog_23_method_20_code
def yX3_hasUsageAt : MethodName := ⟨RX3, "hasUsageAt", "(IIII)Z"⟩
def dkwX3_hasUsageAt_3 : List UInt8 := [167, 255, 187, 3, 172]
abbrev dktX3_hasUsageAt_3 : List UInt8 := dkwX3_hasUsageAt_3 ++ []
def dkwX3_hasUsageAt_2 : List UInt8 := [180, 0, 29, 21, 5, 46, 42, 180, 0, 32, 21, 5, 46, 184, 0, 130, 153, 0, 5, 4, 172, 132, 5, 1]
abbrev dktX3_hasUsageAt_2 : List UInt8 := dkwX3_hasUsageAt_2 ++ dktX3_hasUsageAt_3
def dkwX3_hasUsageAt_1 : List UInt8 := [180, 0, 23, 21, 5, 46, 28, 160, 0, 38, 42, 180, 0, 26, 21, 5, 46, 29, 160, 0, 27, 21, 4, 42]
abbrev dktX3_hasUsageAt_1 : List UInt8 := dkwX3_hasUsageAt_1 ++ dktX3_hasUsageAt_2
def dkwX3_hasUsageAt_0 : List UInt8 := [3, 54, 5, 21, 5, 42, 180, 0, 168, 162, 0, 66, 42, 180, 0, 20, 21, 5, 46, 27, 160, 0, 49, 42]
abbrev dktX3_hasUsageAt_0 : List UInt8 := dkwX3_hasUsageAt_0 ++ dktX3_hasUsageAt_1
theorem dksX3_hasUsageAt_0 : cX3_hasUsageAt.data.toList.drop 0 = dktX3_hasUsageAt_0 := by decide +kernel
theorem dksX3_hasUsageAt_1 : cX3_hasUsageAt.data.toList.drop 24 = dktX3_hasUsageAt_1 := dk_seg dksX3_hasUsageAt_0 24 rfl rfl
theorem dksX3_hasUsageAt_2 : cX3_hasUsageAt.data.toList.drop 48 = dktX3_hasUsageAt_2 := dk_seg dksX3_hasUsageAt_1 24 rfl rfl
theorem dksX3_hasUsageAt_3 : cX3_hasUsageAt.data.toList.drop 72 = dktX3_hasUsageAt_3 := dk_seg dksX3_hasUsageAt_2 24 rfl rfl
theorem dX3_hasUsageAt_0 : decode cX3_hasUsageAt 0 = .ok (.iconst 0, 1) := dk_3 (dk_at dksX3_hasUsageAt_0 0 rfl rfl)
theorem dX3_hasUsageAt_1 : decode cX3_hasUsageAt 1 = .ok (.istore 5, 2) := dk_54 5 (dk_at dksX3_hasUsageAt_0 1 rfl rfl)
theorem dX3_hasUsageAt_3 : decode cX3_hasUsageAt 3 = .ok (.iload 5, 2) := dk_21 5 (dk_at dksX3_hasUsageAt_0 3 rfl rfl)
theorem dX3_hasUsageAt_5 : decode cX3_hasUsageAt 5 = .ok (.aload_n 0, 1) := dk_42 (dk_at dksX3_hasUsageAt_0 5 rfl rfl)
theorem dX3_hasUsageAt_6 : decode cX3_hasUsageAt 6 = .ok (.getfield 168, 3) := dk_180 0 168 (dk_at dksX3_hasUsageAt_0 6 rfl rfl)
theorem dX3_hasUsageAt_9 : decode cX3_hasUsageAt 9 = .ok (.if_icmp .ge 66, 3) := dk_162 0 66 (dk_at dksX3_hasUsageAt_0 9 rfl rfl)
theorem dX3_hasUsageAt_12 : decode cX3_hasUsageAt 12 = .ok (.aload_n 0, 1) := dk_42 (dk_at dksX3_hasUsageAt_0 12 rfl rfl)
theorem dX3_hasUsageAt_13 : decode cX3_hasUsageAt 13 = .ok (.getfield 20, 3) := dk_180 0 20 (dk_at dksX3_hasUsageAt_0 13 rfl rfl)
theorem dX3_hasUsageAt_16 : decode cX3_hasUsageAt 16 = .ok (.iload 5, 2) := dk_21 5 (dk_at dksX3_hasUsageAt_0 16 rfl rfl)
theorem dX3_hasUsageAt_18 : decode cX3_hasUsageAt 18 = .ok (.iaload, 1) := dk_46 (dk_at dksX3_hasUsageAt_0 18 rfl rfl)
theorem dX3_hasUsageAt_19 : decode cX3_hasUsageAt 19 = .ok (.iload_n 1, 1) := dk_27 (dk_at dksX3_hasUsageAt_0 19 rfl rfl)
theorem dX3_hasUsageAt_20 : decode cX3_hasUsageAt 20 = .ok (.if_icmp .ne 49, 3) := dk_160 0 49 (dk_at dksX3_hasUsageAt_0 20 rfl rfl)
theorem dX3_hasUsageAt_23 : decode cX3_hasUsageAt 23 = .ok (.aload_n 0, 1) := dk_42 (dk_at dksX3_hasUsageAt_0 23 rfl rfl)
theorem dX3_hasUsageAt_24 : decode cX3_hasUsageAt 24 = .ok (.getfield 23, 3) := dk_180 0 23 (dk_at dksX3_hasUsageAt_1 0 rfl rfl)
theorem dX3_hasUsageAt_27 : decode cX3_hasUsageAt 27 = .ok (.iload 5, 2) := dk_21 5 (dk_at dksX3_hasUsageAt_1 3 rfl rfl)
theorem dX3_hasUsageAt_29 : decode cX3_hasUsageAt 29 = .ok (.iaload, 1) := dk_46 (dk_at dksX3_hasUsageAt_1 5 rfl rfl)
theorem dX3_hasUsageAt_30 : decode cX3_hasUsageAt 30 = .ok (.iload_n 2, 1) := dk_28 (dk_at dksX3_hasUsageAt_1 6 rfl rfl)
theorem dX3_hasUsageAt_31 : decode cX3_hasUsageAt 31 = .ok (.if_icmp .ne 38, 3) := dk_160 0 38 (dk_at dksX3_hasUsageAt_1 7 rfl rfl)
theorem dX3_hasUsageAt_34 : decode cX3_hasUsageAt 34 = .ok (.aload_n 0, 1) := dk_42 (dk_at dksX3_hasUsageAt_1 10 rfl rfl)
theorem dX3_hasUsageAt_35 : decode cX3_hasUsageAt 35 = .ok (.getfield 26, 3) := dk_180 0 26 (dk_at dksX3_hasUsageAt_1 11 rfl rfl)
theorem dX3_hasUsageAt_38 : decode cX3_hasUsageAt 38 = .ok (.iload 5, 2) := dk_21 5 (dk_at dksX3_hasUsageAt_1 14 rfl rfl)
theorem dX3_hasUsageAt_40 : decode cX3_hasUsageAt 40 = .ok (.iaload, 1) := dk_46 (dk_at dksX3_hasUsageAt_1 16 rfl rfl)
theorem dX3_hasUsageAt_41 : decode cX3_hasUsageAt 41 = .ok (.iload_n 3, 1) := dk_29 (dk_at dksX3_hasUsageAt_1 17 rfl rfl)
theorem dX3_hasUsageAt_42 : decode cX3_hasUsageAt 42 = .ok (.if_icmp .ne 27, 3) := dk_160 0 27 (dk_at dksX3_hasUsageAt_1 18 rfl rfl)
theorem dX3_hasUsageAt_45 : decode cX3_hasUsageAt 45 = .ok (.iload 4, 2) := dk_21 4 (dk_at dksX3_hasUsageAt_1 21 rfl rfl)
theorem dX3_hasUsageAt_47 : decode cX3_hasUsageAt 47 = .ok (.aload_n 0, 1) := dk_42 (dk_at dksX3_hasUsageAt_1 23 rfl rfl)
theorem dX3_hasUsageAt_48 : decode cX3_hasUsageAt 48 = .ok (.getfield 29, 3) := dk_180 0 29 (dk_at dksX3_hasUsageAt_2 0 rfl rfl)
theorem dX3_hasUsageAt_51 : decode cX3_hasUsageAt 51 = .ok (.iload 5, 2) := dk_21 5 (dk_at dksX3_hasUsageAt_2 3 rfl rfl)
theorem dX3_hasUsageAt_53 : decode cX3_hasUsageAt 53 = .ok (.iaload, 1) := dk_46 (dk_at dksX3_hasUsageAt_2 5 rfl rfl)
theorem dX3_hasUsageAt_54 : decode cX3_hasUsageAt 54 = .ok (.aload_n 0, 1) := dk_42 (dk_at dksX3_hasUsageAt_2 6 rfl rfl)
theorem dX3_hasUsageAt_55 : decode cX3_hasUsageAt 55 = .ok (.getfield 32, 3) := dk_180 0 32 (dk_at dksX3_hasUsageAt_2 7 rfl rfl)
theorem dX3_hasUsageAt_58 : decode cX3_hasUsageAt 58 = .ok (.iload 5, 2) := dk_21 5 (dk_at dksX3_hasUsageAt_2 10 rfl rfl)
theorem dX3_hasUsageAt_60 : decode cX3_hasUsageAt 60 = .ok (.iaload, 1) := dk_46 (dk_at dksX3_hasUsageAt_2 12 rfl rfl)
theorem dX3_hasUsageAt_61 : decode cX3_hasUsageAt 61 = .ok (.invokestatic 130, 3) := dk_184 0 130 (dk_at dksX3_hasUsageAt_2 13 rfl rfl)
theorem dX3_hasUsageAt_64 : decode cX3_hasUsageAt 64 = .ok (.ifCond .eq 5, 3) := dk_153 0 5 (dk_at dksX3_hasUsageAt_2 16 rfl rfl)
theorem dX3_hasUsageAt_67 : decode cX3_hasUsageAt 67 = .ok (.iconst 1, 1) := dk_4 (dk_at dksX3_hasUsageAt_2 19 rfl rfl)
theorem dX3_hasUsageAt_68 : decode cX3_hasUsageAt 68 = .ok (.ireturn, 1) := dk_172 (dk_at dksX3_hasUsageAt_2 20 rfl rfl)
theorem dX3_hasUsageAt_69 : decode cX3_hasUsageAt 69 = .ok (.iinc 5 1, 3) := dk_132 5 1 (dk_at dksX3_hasUsageAt_2 21 rfl rfl)
theorem dX3_hasUsageAt_72 : decode cX3_hasUsageAt 72 = .ok (.goto (-69), 3) := dk_167 255 187 (dk_at dksX3_hasUsageAt_3 0 rfl rfl)
theorem dX3_hasUsageAt_75 : decode cX3_hasUsageAt 75 = .ok (.iconst 0, 1) := dk_3 (dk_at dksX3_hasUsageAt_3 3 rfl rfl)
theorem dX3_hasUsageAt_76 : decode cX3_hasUsageAt 76 = .ok (.ireturn, 1) := dk_172 (dk_at dksX3_hasUsageAt_3 4 rfl rfl)
abbrev cX3_byName : ByteArray := prog_23_method_45_code
def yX3_byName : MethodName := ⟨RX3, "byName", "(III)I"⟩
def dkwX3_byName_5 : List UInt8 := [167, 255, 219, 21, 5, 172]
abbrev dktX3_byName_5 : List UInt8 := dkwX3_byName_5 ++ []
def dkwX3_byName_4 : List UInt8 := [42, 21, 6, 28, 29, 182, 0, 239, 153, 0, 7, 4, 167, 0, 4, 3, 96, 54, 5, 132, 6, 1]
abbrev dktX3_byName_4 : List UInt8 := dkwX3_byName_4 ++ dktX3_byName_5
def dkwX3_byName_3 : List UInt8 := [167, 0, 4, 3, 54, 5, 3, 54, 6, 21, 6, 7, 162, 0, 37, 21, 5, 21, 6, 21, 4, 159, 0, 18]
abbrev dktX3_byName_3 : List UInt8 := dkwX3_byName_3 ++ dktX3_byName_4
def dkwX3_byName_2 : List UInt8 := [182, 0, 236, 153, 0, 8, 16, 6, 167, 0, 19, 42, 21, 4, 28, 29, 182, 0, 239, 153, 0, 7, 6]
abbrev dktX3_byName_2 : List UInt8 := dkwX3_byName_2 ++ dktX3_byName_3
def dkwX3_byName_1 : List UInt8 := [29, 160, 0, 8, 16, 12, 167, 0, 4, 3, 172, 42, 21, 4, 28, 29, 42, 180, 0, 63, 27, 46]
abbrev dktX3_byName_1 : List UInt8 := dkwX3_byName_1 ++ dktX3_byName_2
def dkwX3_byName_0 : List UInt8 := [42, 180, 0, 60, 27, 46, 54, 4, 42, 180, 0, 115, 28, 46, 2, 159, 0, 20, 42, 180, 0, 115, 28, 46]
abbrev dktX3_byName_0 : List UInt8 := dkwX3_byName_0 ++ dktX3_byName_1
theorem dksX3_byName_0 : cX3_byName.data.toList.drop 0 = dktX3_byName_0 := by decide +kernel
theorem dksX3_byName_1 : cX3_byName.data.toList.drop 24 = dktX3_byName_1 := dk_seg dksX3_byName_0 24 rfl rfl
theorem dksX3_byName_2 : cX3_byName.data.toList.drop 46 = dktX3_byName_2 := dk_seg dksX3_byName_1 22 rfl rfl
theorem dksX3_byName_3 : cX3_byName.data.toList.drop 69 = dktX3_byName_3 := dk_seg dksX3_byName_2 23 rfl rfl
theorem dksX3_byName_4 : cX3_byName.data.toList.drop 93 = dktX3_byName_4 := dk_seg dksX3_byName_3 24 rfl rfl
theorem dksX3_byName_5 : cX3_byName.data.toList.drop 115 = dktX3_byName_5 := dk_seg dksX3_byName_4 22 rfl rfl
theorem dX3_byName_0 : decode cX3_byName 0 = .ok (.aload_n 0, 1) := dk_42 (dk_at dksX3_byName_0 0 rfl rfl)
theorem dX3_byName_1 : decode cX3_byName 1 = .ok (.getfield 60, 3) := dk_180 0 60 (dk_at dksX3_byName_0 1 rfl rfl)
theorem dX3_byName_4 : decode cX3_byName 4 = .ok (.iload_n 1, 1) := dk_27 (dk_at dksX3_byName_0 4 rfl rfl)
theorem dX3_byName_5 : decode cX3_byName 5 = .ok (.iaload, 1) := dk_46 (dk_at dksX3_byName_0 5 rfl rfl)
theorem dX3_byName_6 : decode cX3_byName 6 = .ok (.istore 4, 2) := dk_54 4 (dk_at dksX3_byName_0 6 rfl rfl)
theorem dX3_byName_8 : decode cX3_byName 8 = .ok (.aload_n 0, 1) := dk_42 (dk_at dksX3_byName_0 8 rfl rfl)
theorem dX3_byName_9 : decode cX3_byName 9 = .ok (.getfield 115, 3) := dk_180 0 115 (dk_at dksX3_byName_0 9 rfl rfl)
theorem dX3_byName_12 : decode cX3_byName 12 = .ok (.iload_n 2, 1) := dk_28 (dk_at dksX3_byName_0 12 rfl rfl)
theorem dX3_byName_13 : decode cX3_byName 13 = .ok (.iaload, 1) := dk_46 (dk_at dksX3_byName_0 13 rfl rfl)
theorem dX3_byName_14 : decode cX3_byName 14 = .ok (.iconst (-1), 1) := dk_2 (dk_at dksX3_byName_0 14 rfl rfl)
theorem dX3_byName_15 : decode cX3_byName 15 = .ok (.if_icmp .eq 20, 3) := dk_159 0 20 (dk_at dksX3_byName_0 15 rfl rfl)
theorem dX3_byName_18 : decode cX3_byName 18 = .ok (.aload_n 0, 1) := dk_42 (dk_at dksX3_byName_0 18 rfl rfl)
theorem dX3_byName_19 : decode cX3_byName 19 = .ok (.getfield 115, 3) := dk_180 0 115 (dk_at dksX3_byName_0 19 rfl rfl)
theorem dX3_byName_22 : decode cX3_byName 22 = .ok (.iload_n 2, 1) := dk_28 (dk_at dksX3_byName_0 22 rfl rfl)
theorem dX3_byName_23 : decode cX3_byName 23 = .ok (.iaload, 1) := dk_46 (dk_at dksX3_byName_0 23 rfl rfl)
theorem dX3_byName_24 : decode cX3_byName 24 = .ok (.iload_n 3, 1) := dk_29 (dk_at dksX3_byName_1 0 rfl rfl)
theorem dX3_byName_25 : decode cX3_byName 25 = .ok (.if_icmp .ne 8, 3) := dk_160 0 8 (dk_at dksX3_byName_1 1 rfl rfl)
theorem dX3_byName_28 : decode cX3_byName 28 = .ok (.bipush 12, 2) := dk_16 12 (dk_at dksX3_byName_1 4 rfl rfl)
theorem dX3_byName_30 : decode cX3_byName 30 = .ok (.goto 4, 3) := dk_167 0 4 (dk_at dksX3_byName_1 6 rfl rfl)
theorem dX3_byName_33 : decode cX3_byName 33 = .ok (.iconst 0, 1) := dk_3 (dk_at dksX3_byName_1 9 rfl rfl)
theorem dX3_byName_34 : decode cX3_byName 34 = .ok (.ireturn, 1) := dk_172 (dk_at dksX3_byName_1 10 rfl rfl)
theorem dX3_byName_35 : decode cX3_byName 35 = .ok (.aload_n 0, 1) := dk_42 (dk_at dksX3_byName_1 11 rfl rfl)
theorem dX3_byName_36 : decode cX3_byName 36 = .ok (.iload 4, 2) := dk_21 4 (dk_at dksX3_byName_1 12 rfl rfl)
theorem dX3_byName_38 : decode cX3_byName 38 = .ok (.iload_n 2, 1) := dk_28 (dk_at dksX3_byName_1 14 rfl rfl)
theorem dX3_byName_39 : decode cX3_byName 39 = .ok (.iload_n 3, 1) := dk_29 (dk_at dksX3_byName_1 15 rfl rfl)
theorem dX3_byName_40 : decode cX3_byName 40 = .ok (.aload_n 0, 1) := dk_42 (dk_at dksX3_byName_1 16 rfl rfl)
theorem dX3_byName_41 : decode cX3_byName 41 = .ok (.getfield 63, 3) := dk_180 0 63 (dk_at dksX3_byName_1 17 rfl rfl)
theorem dX3_byName_44 : decode cX3_byName 44 = .ok (.iload_n 1, 1) := dk_27 (dk_at dksX3_byName_1 20 rfl rfl)
theorem dX3_byName_45 : decode cX3_byName 45 = .ok (.iaload, 1) := dk_46 (dk_at dksX3_byName_1 21 rfl rfl)
theorem dX3_byName_46 : decode cX3_byName 46 = .ok (.invokevirtual 236, 3) := dk_182 0 236 (dk_at dksX3_byName_2 0 rfl rfl)
theorem dX3_byName_49 : decode cX3_byName 49 = .ok (.ifCond .eq 8, 3) := dk_153 0 8 (dk_at dksX3_byName_2 3 rfl rfl)
theorem dX3_byName_52 : decode cX3_byName 52 = .ok (.bipush 6, 2) := dk_16 6 (dk_at dksX3_byName_2 6 rfl rfl)
theorem dX3_byName_54 : decode cX3_byName 54 = .ok (.goto 19, 3) := dk_167 0 19 (dk_at dksX3_byName_2 8 rfl rfl)
theorem dX3_byName_57 : decode cX3_byName 57 = .ok (.aload_n 0, 1) := dk_42 (dk_at dksX3_byName_2 11 rfl rfl)
theorem dX3_byName_58 : decode cX3_byName 58 = .ok (.iload 4, 2) := dk_21 4 (dk_at dksX3_byName_2 12 rfl rfl)
theorem dX3_byName_60 : decode cX3_byName 60 = .ok (.iload_n 2, 1) := dk_28 (dk_at dksX3_byName_2 14 rfl rfl)
theorem dX3_byName_61 : decode cX3_byName 61 = .ok (.iload_n 3, 1) := dk_29 (dk_at dksX3_byName_2 15 rfl rfl)
theorem dX3_byName_62 : decode cX3_byName 62 = .ok (.invokevirtual 239, 3) := dk_182 0 239 (dk_at dksX3_byName_2 16 rfl rfl)
theorem dX3_byName_65 : decode cX3_byName 65 = .ok (.ifCond .eq 7, 3) := dk_153 0 7 (dk_at dksX3_byName_2 19 rfl rfl)
theorem dX3_byName_68 : decode cX3_byName 68 = .ok (.iconst 3, 1) := dk_6 (dk_at dksX3_byName_2 22 rfl rfl)
theorem dX3_byName_69 : decode cX3_byName 69 = .ok (.goto 4, 3) := dk_167 0 4 (dk_at dksX3_byName_3 0 rfl rfl)
theorem dX3_byName_72 : decode cX3_byName 72 = .ok (.iconst 0, 1) := dk_3 (dk_at dksX3_byName_3 3 rfl rfl)
theorem dX3_byName_73 : decode cX3_byName 73 = .ok (.istore 5, 2) := dk_54 5 (dk_at dksX3_byName_3 4 rfl rfl)
theorem dX3_byName_75 : decode cX3_byName 75 = .ok (.iconst 0, 1) := dk_3 (dk_at dksX3_byName_3 6 rfl rfl)
theorem dX3_byName_76 : decode cX3_byName 76 = .ok (.istore 6, 2) := dk_54 6 (dk_at dksX3_byName_3 7 rfl rfl)
theorem dX3_byName_78 : decode cX3_byName 78 = .ok (.iload 6, 2) := dk_21 6 (dk_at dksX3_byName_3 9 rfl rfl)
theorem dX3_byName_80 : decode cX3_byName 80 = .ok (.iconst 4, 1) := dk_7 (dk_at dksX3_byName_3 11 rfl rfl)
theorem dX3_byName_81 : decode cX3_byName 81 = .ok (.if_icmp .ge 37, 3) := dk_162 0 37 (dk_at dksX3_byName_3 12 rfl rfl)
theorem dX3_byName_84 : decode cX3_byName 84 = .ok (.iload 5, 2) := dk_21 5 (dk_at dksX3_byName_3 15 rfl rfl)
theorem dX3_byName_86 : decode cX3_byName 86 = .ok (.iload 6, 2) := dk_21 6 (dk_at dksX3_byName_3 17 rfl rfl)
theorem dX3_byName_88 : decode cX3_byName 88 = .ok (.iload 4, 2) := dk_21 4 (dk_at dksX3_byName_3 19 rfl rfl)
theorem dX3_byName_90 : decode cX3_byName 90 = .ok (.if_icmp .eq 18, 3) := dk_159 0 18 (dk_at dksX3_byName_3 21 rfl rfl)
theorem dX3_byName_93 : decode cX3_byName 93 = .ok (.aload_n 0, 1) := dk_42 (dk_at dksX3_byName_4 0 rfl rfl)
theorem dX3_byName_94 : decode cX3_byName 94 = .ok (.iload 6, 2) := dk_21 6 (dk_at dksX3_byName_4 1 rfl rfl)
theorem dX3_byName_96 : decode cX3_byName 96 = .ok (.iload_n 2, 1) := dk_28 (dk_at dksX3_byName_4 3 rfl rfl)
theorem dX3_byName_97 : decode cX3_byName 97 = .ok (.iload_n 3, 1) := dk_29 (dk_at dksX3_byName_4 4 rfl rfl)
theorem dX3_byName_98 : decode cX3_byName 98 = .ok (.invokevirtual 239, 3) := dk_182 0 239 (dk_at dksX3_byName_4 5 rfl rfl)
theorem dX3_byName_101 : decode cX3_byName 101 = .ok (.ifCond .eq 7, 3) := dk_153 0 7 (dk_at dksX3_byName_4 8 rfl rfl)
theorem dX3_byName_104 : decode cX3_byName 104 = .ok (.iconst 1, 1) := dk_4 (dk_at dksX3_byName_4 11 rfl rfl)
theorem dX3_byName_105 : decode cX3_byName 105 = .ok (.goto 4, 3) := dk_167 0 4 (dk_at dksX3_byName_4 12 rfl rfl)
theorem dX3_byName_108 : decode cX3_byName 108 = .ok (.iconst 0, 1) := dk_3 (dk_at dksX3_byName_4 15 rfl rfl)
theorem dX3_byName_109 : decode cX3_byName 109 = .ok (.iadd, 1) := dk_96 (dk_at dksX3_byName_4 16 rfl rfl)
theorem dX3_byName_110 : decode cX3_byName 110 = .ok (.istore 5, 2) := dk_54 5 (dk_at dksX3_byName_4 17 rfl rfl)
theorem dX3_byName_112 : decode cX3_byName 112 = .ok (.iinc 6 1, 3) := dk_132 6 1 (dk_at dksX3_byName_4 19 rfl rfl)
theorem dX3_byName_115 : decode cX3_byName 115 = .ok (.goto (-37), 3) := dk_167 255 219 (dk_at dksX3_byName_5 0 rfl rfl)
theorem dX3_byName_118 : decode cX3_byName 118 = .ok (.iload 5, 2) := dk_21 5 (dk_at dksX3_byName_5 3 rfl rfl)
theorem dX3_byName_120 : decode cX3_byName 120 = .ok (.ireturn, 1) := dk_172 (dk_at dksX3_byName_5 5 rfl rfl)
abbrev cX3_hasUsage : ByteArray := prog_23_method_19_code
def yX3_hasUsage : MethodName := ⟨RX3, "hasUsage", "(III)Z"⟩
def dkwX3_hasUsage_2 : List UInt8 := [132, 4, 1, 167, 255, 209, 3, 172]
abbrev dktX3_hasUsage_2 : List UInt8 := dkwX3_hasUsage_2 ++ []
def dkwX3_hasUsage_1 : List UInt8 := [180, 0, 23, 21, 4, 46, 28, 160, 0, 16, 42, 180, 0, 26, 21, 4, 46, 29, 160, 0, 5, 4, 172]
abbrev dktX3_hasUsage_1 : List UInt8 := dkwX3_hasUsage_1 ++ dktX3_hasUsage_2
def dkwX3_hasUsage_0 : List UInt8 := [3, 54, 4, 21, 4, 42, 180, 0, 168, 162, 0, 44, 42, 180, 0, 20, 21, 4, 46, 27, 160, 0, 27, 42]
abbrev dktX3_hasUsage_0 : List UInt8 := dkwX3_hasUsage_0 ++ dktX3_hasUsage_1
theorem dksX3_hasUsage_0 : cX3_hasUsage.data.toList.drop 0 = dktX3_hasUsage_0 := by decide +kernel
theorem dksX3_hasUsage_1 : cX3_hasUsage.data.toList.drop 24 = dktX3_hasUsage_1 := dk_seg dksX3_hasUsage_0 24 rfl rfl
theorem dksX3_hasUsage_2 : cX3_hasUsage.data.toList.drop 47 = dktX3_hasUsage_2 := dk_seg dksX3_hasUsage_1 23 rfl rfl
theorem dX3_hasUsage_0 : decode cX3_hasUsage 0 = .ok (.iconst 0, 1) := dk_3 (dk_at dksX3_hasUsage_0 0 rfl rfl)
theorem dX3_hasUsage_1 : decode cX3_hasUsage 1 = .ok (.istore 4, 2) := dk_54 4 (dk_at dksX3_hasUsage_0 1 rfl rfl)
theorem dX3_hasUsage_3 : decode cX3_hasUsage 3 = .ok (.iload 4, 2) := dk_21 4 (dk_at dksX3_hasUsage_0 3 rfl rfl)
theorem dX3_hasUsage_5 : decode cX3_hasUsage 5 = .ok (.aload_n 0, 1) := dk_42 (dk_at dksX3_hasUsage_0 5 rfl rfl)
theorem dX3_hasUsage_6 : decode cX3_hasUsage 6 = .ok (.getfield 168, 3) := dk_180 0 168 (dk_at dksX3_hasUsage_0 6 rfl rfl)
theorem dX3_hasUsage_9 : decode cX3_hasUsage 9 = .ok (.if_icmp .ge 44, 3) := dk_162 0 44 (dk_at dksX3_hasUsage_0 9 rfl rfl)
theorem dX3_hasUsage_12 : decode cX3_hasUsage 12 = .ok (.aload_n 0, 1) := dk_42 (dk_at dksX3_hasUsage_0 12 rfl rfl)
theorem dX3_hasUsage_13 : decode cX3_hasUsage 13 = .ok (.getfield 20, 3) := dk_180 0 20 (dk_at dksX3_hasUsage_0 13 rfl rfl)
theorem dX3_hasUsage_16 : decode cX3_hasUsage 16 = .ok (.iload 4, 2) := dk_21 4 (dk_at dksX3_hasUsage_0 16 rfl rfl)
theorem dX3_hasUsage_18 : decode cX3_hasUsage 18 = .ok (.iaload, 1) := dk_46 (dk_at dksX3_hasUsage_0 18 rfl rfl)
theorem dX3_hasUsage_19 : decode cX3_hasUsage 19 = .ok (.iload_n 1, 1) := dk_27 (dk_at dksX3_hasUsage_0 19 rfl rfl)
theorem dX3_hasUsage_20 : decode cX3_hasUsage 20 = .ok (.if_icmp .ne 27, 3) := dk_160 0 27 (dk_at dksX3_hasUsage_0 20 rfl rfl)
theorem dX3_hasUsage_23 : decode cX3_hasUsage 23 = .ok (.aload_n 0, 1) := dk_42 (dk_at dksX3_hasUsage_0 23 rfl rfl)
theorem dX3_hasUsage_24 : decode cX3_hasUsage 24 = .ok (.getfield 23, 3) := dk_180 0 23 (dk_at dksX3_hasUsage_1 0 rfl rfl)
theorem dX3_hasUsage_27 : decode cX3_hasUsage 27 = .ok (.iload 4, 2) := dk_21 4 (dk_at dksX3_hasUsage_1 3 rfl rfl)
theorem dX3_hasUsage_29 : decode cX3_hasUsage 29 = .ok (.iaload, 1) := dk_46 (dk_at dksX3_hasUsage_1 5 rfl rfl)
theorem dX3_hasUsage_30 : decode cX3_hasUsage 30 = .ok (.iload_n 2, 1) := dk_28 (dk_at dksX3_hasUsage_1 6 rfl rfl)
theorem dX3_hasUsage_31 : decode cX3_hasUsage 31 = .ok (.if_icmp .ne 16, 3) := dk_160 0 16 (dk_at dksX3_hasUsage_1 7 rfl rfl)
theorem dX3_hasUsage_34 : decode cX3_hasUsage 34 = .ok (.aload_n 0, 1) := dk_42 (dk_at dksX3_hasUsage_1 10 rfl rfl)
theorem dX3_hasUsage_35 : decode cX3_hasUsage 35 = .ok (.getfield 26, 3) := dk_180 0 26 (dk_at dksX3_hasUsage_1 11 rfl rfl)
theorem dX3_hasUsage_38 : decode cX3_hasUsage 38 = .ok (.iload 4, 2) := dk_21 4 (dk_at dksX3_hasUsage_1 14 rfl rfl)
theorem dX3_hasUsage_40 : decode cX3_hasUsage 40 = .ok (.iaload, 1) := dk_46 (dk_at dksX3_hasUsage_1 16 rfl rfl)
theorem dX3_hasUsage_41 : decode cX3_hasUsage 41 = .ok (.iload_n 3, 1) := dk_29 (dk_at dksX3_hasUsage_1 17 rfl rfl)
theorem dX3_hasUsage_42 : decode cX3_hasUsage 42 = .ok (.if_icmp .ne 5, 3) := dk_160 0 5 (dk_at dksX3_hasUsage_1 18 rfl rfl)
theorem dX3_hasUsage_45 : decode cX3_hasUsage 45 = .ok (.iconst 1, 1) := dk_4 (dk_at dksX3_hasUsage_1 21 rfl rfl)
theorem dX3_hasUsage_46 : decode cX3_hasUsage 46 = .ok (.ireturn, 1) := dk_172 (dk_at dksX3_hasUsage_1 22 rfl rfl)
theorem dX3_hasUsage_47 : decode cX3_hasUsage 47 = .ok (.iinc 4 1, 3) := dk_132 4 1 (dk_at dksX3_hasUsage_2 0 rfl rfl)
theorem dX3_hasUsage_50 : decode cX3_hasUsage 50 = .ok (.goto (-47), 3) := dk_167 255 209 (dk_at dksX3_hasUsage_2 3 rfl rfl)
theorem dX3_hasUsage_53 : decode cX3_hasUsage 53 = .ok (.iconst 0, 1) := dk_3 (dk_at dksX3_hasUsage_2 6 rfl rfl)
theorem dX3_hasUsage_54 : decode cX3_hasUsage 54 = .ok (.ireturn, 1) := dk_172 (dk_at dksX3_hasUsage_2 7 rfl rfl)
abbrev cX3_choiceFor : ByteArray := prog_23_method_50_code
def yX3_choiceFor : MethodName := ⟨RX3, "choiceFor", "(I)I"⟩
def dkwX3_choiceFor_1 : List UInt8 := [180, 0, 87, 28, 3, 79, 132, 2, 1, 167, 255, 241, 42, 27, 182, 0, 252, 172]
abbrev dktX3_choiceFor_1 : List UInt8 := dkwX3_choiceFor_1 ++ []
def dkwX3_choiceFor_0 : List UInt8 := [42, 3, 181, 0, 1, 42, 27, 182, 0, 230, 153, 0, 5, 3, 172, 3, 61, 28, 8, 162, 0, 16, 42]
abbrev dktX3_choiceFor_0 : List UInt8 := dkwX3_choiceFor_0 ++ dktX3_choiceFor_1
theorem dksX3_choiceFor_0 : cX3_choiceFor.data.toList.drop 0 = dktX3_choiceFor_0 := by decide +kernel
theorem dksX3_choiceFor_1 : cX3_choiceFor.data.toList.drop 23 = dktX3_choiceFor_1 := dk_seg dksX3_choiceFor_0 23 rfl rfl
theorem dX3_choiceFor_0 : decode cX3_choiceFor 0 = .ok (.aload_n 0, 1) := dk_42 (dk_at dksX3_choiceFor_0 0 rfl rfl)
theorem dX3_choiceFor_1 : decode cX3_choiceFor 1 = .ok (.iconst 0, 1) := dk_3 (dk_at dksX3_choiceFor_0 1 rfl rfl)
theorem dX3_choiceFor_2 : decode cX3_choiceFor 2 = .ok (.putfield 1, 3) := dk_181 0 1 (dk_at dksX3_choiceFor_0 2 rfl rfl)
theorem dX3_choiceFor_5 : decode cX3_choiceFor 5 = .ok (.aload_n 0, 1) := dk_42 (dk_at dksX3_choiceFor_0 5 rfl rfl)
theorem dX3_choiceFor_6 : decode cX3_choiceFor 6 = .ok (.iload_n 1, 1) := dk_27 (dk_at dksX3_choiceFor_0 6 rfl rfl)
theorem dX3_choiceFor_7 : decode cX3_choiceFor 7 = .ok (.invokevirtual 230, 3) := dk_182 0 230 (dk_at dksX3_choiceFor_0 7 rfl rfl)
theorem dX3_choiceFor_10 : decode cX3_choiceFor 10 = .ok (.ifCond .eq 5, 3) := dk_153 0 5 (dk_at dksX3_choiceFor_0 10 rfl rfl)
theorem dX3_choiceFor_13 : decode cX3_choiceFor 13 = .ok (.iconst 0, 1) := dk_3 (dk_at dksX3_choiceFor_0 13 rfl rfl)
theorem dX3_choiceFor_14 : decode cX3_choiceFor 14 = .ok (.ireturn, 1) := dk_172 (dk_at dksX3_choiceFor_0 14 rfl rfl)
theorem dX3_choiceFor_15 : decode cX3_choiceFor 15 = .ok (.iconst 0, 1) := dk_3 (dk_at dksX3_choiceFor_0 15 rfl rfl)
theorem dX3_choiceFor_16 : decode cX3_choiceFor 16 = .ok (.istore_n 2, 1) := dk_61 (dk_at dksX3_choiceFor_0 16 rfl rfl)
theorem dX3_choiceFor_17 : decode cX3_choiceFor 17 = .ok (.iload_n 2, 1) := dk_28 (dk_at dksX3_choiceFor_0 17 rfl rfl)
theorem dX3_choiceFor_18 : decode cX3_choiceFor 18 = .ok (.iconst 5, 1) := dk_8 (dk_at dksX3_choiceFor_0 18 rfl rfl)
theorem dX3_choiceFor_19 : decode cX3_choiceFor 19 = .ok (.if_icmp .ge 16, 3) := dk_162 0 16 (dk_at dksX3_choiceFor_0 19 rfl rfl)
theorem dX3_choiceFor_22 : decode cX3_choiceFor 22 = .ok (.aload_n 0, 1) := dk_42 (dk_at dksX3_choiceFor_0 22 rfl rfl)
theorem dX3_choiceFor_23 : decode cX3_choiceFor 23 = .ok (.getfield 87, 3) := dk_180 0 87 (dk_at dksX3_choiceFor_1 0 rfl rfl)
theorem dX3_choiceFor_26 : decode cX3_choiceFor 26 = .ok (.iload_n 2, 1) := dk_28 (dk_at dksX3_choiceFor_1 3 rfl rfl)
theorem dX3_choiceFor_27 : decode cX3_choiceFor 27 = .ok (.iconst 0, 1) := dk_3 (dk_at dksX3_choiceFor_1 4 rfl rfl)
theorem dX3_choiceFor_28 : decode cX3_choiceFor 28 = .ok (.iastore, 1) := dk_79 (dk_at dksX3_choiceFor_1 5 rfl rfl)
theorem dX3_choiceFor_29 : decode cX3_choiceFor 29 = .ok (.iinc 2 1, 3) := dk_132 2 1 (dk_at dksX3_choiceFor_1 6 rfl rfl)
theorem dX3_choiceFor_32 : decode cX3_choiceFor 32 = .ok (.goto (-15), 3) := dk_167 255 241 (dk_at dksX3_choiceFor_1 9 rfl rfl)
theorem dX3_choiceFor_35 : decode cX3_choiceFor 35 = .ok (.aload_n 0, 1) := dk_42 (dk_at dksX3_choiceFor_1 12 rfl rfl)
theorem dX3_choiceFor_36 : decode cX3_choiceFor 36 = .ok (.iload_n 1, 1) := dk_27 (dk_at dksX3_choiceFor_1 13 rfl rfl)
theorem dX3_choiceFor_37 : decode cX3_choiceFor 37 = .ok (.invokevirtual 252, 3) := dk_182 0 252 (dk_at dksX3_choiceFor_1 14 rfl rfl)
theorem dX3_choiceFor_40 : decode cX3_choiceFor 40 = .ok (.ireturn, 1) := dk_172 (dk_at dksX3_choiceFor_1 17 rfl rfl)
abbrev cX3_choice : ByteArray := prog_23_method_49_code
def yX3_choice : MethodName := ⟨RX3, "choice", "(I)I"⟩
def dkwX3_choice_4 : List UInt8 := [96, 61, 132, 5, 1, 167, 255, 194, 132, 4, 1, 167, 255, 156, 28, 172]
abbrev dktX3_choice_4 : List UInt8 := dkwX3_choice_4 ++ []
def dkwX3_choice_3 : List UInt8 := [182, 0, 249, 54, 6, 21, 6, 29, 163, 0, 6, 167, 0, 15, 21, 6, 62, 16, 10, 21, 4, 104, 21, 5]
abbrev dktX3_choice_3 : List UInt8 := dkwX3_choice_3 ++ dktX3_choice_4
def dkwX3_choice_2 : List UInt8 := [42, 180, 0, 45, 21, 4, 46, 21, 5, 184, 0, 215, 154, 0, 6, 167, 0, 35, 42, 27, 21, 4, 21, 5]
abbrev dktX3_choice_2 : List UInt8 := dkwX3_choice_2 ++ dktX3_choice_3
def dkwX3_choice_1 : List UInt8 := [180, 0, 48, 21, 4, 46, 161, 0, 6, 167, 0, 71, 3, 54, 5, 21, 5, 42, 180, 0, 127, 162, 0, 59]
abbrev dktX3_choice_1 : List UInt8 := dkwX3_choice_1 ++ dktX3_choice_2
def dkwX3_choice_0 : List UInt8 := [2, 61, 3, 62, 3, 54, 4, 21, 4, 42, 180, 0, 141, 162, 0, 97, 42, 180, 0, 87, 21, 4, 46, 42]
abbrev dktX3_choice_0 : List UInt8 := dkwX3_choice_0 ++ dktX3_choice_1
theorem dksX3_choice_0 : cX3_choice.data.toList.drop 0 = dktX3_choice_0 := by decide +kernel
theorem dksX3_choice_1 : cX3_choice.data.toList.drop 24 = dktX3_choice_1 := dk_seg dksX3_choice_0 24 rfl rfl
theorem dksX3_choice_2 : cX3_choice.data.toList.drop 48 = dktX3_choice_2 := dk_seg dksX3_choice_1 24 rfl rfl
theorem dksX3_choice_3 : cX3_choice.data.toList.drop 72 = dktX3_choice_3 := dk_seg dksX3_choice_2 24 rfl rfl
theorem dksX3_choice_4 : cX3_choice.data.toList.drop 96 = dktX3_choice_4 := dk_seg dksX3_choice_3 24 rfl rfl
theorem dX3_choice_0 : decode cX3_choice 0 = .ok (.iconst (-1), 1) := dk_2 (dk_at dksX3_choice_0 0 rfl rfl)
theorem dX3_choice_1 : decode cX3_choice 1 = .ok (.istore_n 2, 1) := dk_61 (dk_at dksX3_choice_0 1 rfl rfl)
theorem dX3_choice_2 : decode cX3_choice 2 = .ok (.iconst 0, 1) := dk_3 (dk_at dksX3_choice_0 2 rfl rfl)
theorem dX3_choice_3 : decode cX3_choice 3 = .ok (.istore_n 3, 1) := dk_62 (dk_at dksX3_choice_0 3 rfl rfl)
theorem dX3_choice_4 : decode cX3_choice 4 = .ok (.iconst 0, 1) := dk_3 (dk_at dksX3_choice_0 4 rfl rfl)
theorem dX3_choice_5 : decode cX3_choice 5 = .ok (.istore 4, 2) := dk_54 4 (dk_at dksX3_choice_0 5 rfl rfl)
theorem dX3_choice_7 : decode cX3_choice 7 = .ok (.iload 4, 2) := dk_21 4 (dk_at dksX3_choice_0 7 rfl rfl)
theorem dX3_choice_9 : decode cX3_choice 9 = .ok (.aload_n 0, 1) := dk_42 (dk_at dksX3_choice_0 9 rfl rfl)
theorem dX3_choice_10 : decode cX3_choice 10 = .ok (.getfield 141, 3) := dk_180 0 141 (dk_at dksX3_choice_0 10 rfl rfl)
theorem dX3_choice_13 : decode cX3_choice 13 = .ok (.if_icmp .ge 97, 3) := dk_162 0 97 (dk_at dksX3_choice_0 13 rfl rfl)
theorem dX3_choice_16 : decode cX3_choice 16 = .ok (.aload_n 0, 1) := dk_42 (dk_at dksX3_choice_0 16 rfl rfl)
theorem dX3_choice_17 : decode cX3_choice 17 = .ok (.getfield 87, 3) := dk_180 0 87 (dk_at dksX3_choice_0 17 rfl rfl)
theorem dX3_choice_20 : decode cX3_choice 20 = .ok (.iload 4, 2) := dk_21 4 (dk_at dksX3_choice_0 20 rfl rfl)
theorem dX3_choice_22 : decode cX3_choice 22 = .ok (.iaload, 1) := dk_46 (dk_at dksX3_choice_0 22 rfl rfl)
theorem dX3_choice_23 : decode cX3_choice 23 = .ok (.aload_n 0, 1) := dk_42 (dk_at dksX3_choice_0 23 rfl rfl)
theorem dX3_choice_24 : decode cX3_choice 24 = .ok (.getfield 48, 3) := dk_180 0 48 (dk_at dksX3_choice_1 0 rfl rfl)
theorem dX3_choice_27 : decode cX3_choice 27 = .ok (.iload 4, 2) := dk_21 4 (dk_at dksX3_choice_1 3 rfl rfl)
theorem dX3_choice_29 : decode cX3_choice 29 = .ok (.iaload, 1) := dk_46 (dk_at dksX3_choice_1 5 rfl rfl)
theorem dX3_choice_30 : decode cX3_choice 30 = .ok (.if_icmp .lt 6, 3) := dk_161 0 6 (dk_at dksX3_choice_1 6 rfl rfl)
theorem dX3_choice_33 : decode cX3_choice 33 = .ok (.goto 71, 3) := dk_167 0 71 (dk_at dksX3_choice_1 9 rfl rfl)
theorem dX3_choice_36 : decode cX3_choice 36 = .ok (.iconst 0, 1) := dk_3 (dk_at dksX3_choice_1 12 rfl rfl)
theorem dX3_choice_37 : decode cX3_choice 37 = .ok (.istore 5, 2) := dk_54 5 (dk_at dksX3_choice_1 13 rfl rfl)
theorem dX3_choice_39 : decode cX3_choice 39 = .ok (.iload 5, 2) := dk_21 5 (dk_at dksX3_choice_1 15 rfl rfl)
theorem dX3_choice_41 : decode cX3_choice 41 = .ok (.aload_n 0, 1) := dk_42 (dk_at dksX3_choice_1 17 rfl rfl)
theorem dX3_choice_42 : decode cX3_choice 42 = .ok (.getfield 127, 3) := dk_180 0 127 (dk_at dksX3_choice_1 18 rfl rfl)
theorem dX3_choice_45 : decode cX3_choice 45 = .ok (.if_icmp .ge 59, 3) := dk_162 0 59 (dk_at dksX3_choice_1 21 rfl rfl)
theorem dX3_choice_48 : decode cX3_choice 48 = .ok (.aload_n 0, 1) := dk_42 (dk_at dksX3_choice_2 0 rfl rfl)
theorem dX3_choice_49 : decode cX3_choice 49 = .ok (.getfield 45, 3) := dk_180 0 45 (dk_at dksX3_choice_2 1 rfl rfl)
theorem dX3_choice_52 : decode cX3_choice 52 = .ok (.iload 4, 2) := dk_21 4 (dk_at dksX3_choice_2 4 rfl rfl)
theorem dX3_choice_54 : decode cX3_choice 54 = .ok (.iaload, 1) := dk_46 (dk_at dksX3_choice_2 6 rfl rfl)
theorem dX3_choice_55 : decode cX3_choice 55 = .ok (.iload 5, 2) := dk_21 5 (dk_at dksX3_choice_2 7 rfl rfl)
theorem dX3_choice_57 : decode cX3_choice 57 = .ok (.invokestatic 215, 3) := dk_184 0 215 (dk_at dksX3_choice_2 9 rfl rfl)
theorem dX3_choice_60 : decode cX3_choice 60 = .ok (.ifCond .ne 6, 3) := dk_154 0 6 (dk_at dksX3_choice_2 12 rfl rfl)
theorem dX3_choice_63 : decode cX3_choice 63 = .ok (.goto 35, 3) := dk_167 0 35 (dk_at dksX3_choice_2 15 rfl rfl)
theorem dX3_choice_66 : decode cX3_choice 66 = .ok (.aload_n 0, 1) := dk_42 (dk_at dksX3_choice_2 18 rfl rfl)
theorem dX3_choice_67 : decode cX3_choice 67 = .ok (.iload_n 1, 1) := dk_27 (dk_at dksX3_choice_2 19 rfl rfl)
theorem dX3_choice_68 : decode cX3_choice 68 = .ok (.iload 4, 2) := dk_21 4 (dk_at dksX3_choice_2 20 rfl rfl)
theorem dX3_choice_70 : decode cX3_choice 70 = .ok (.iload 5, 2) := dk_21 5 (dk_at dksX3_choice_2 22 rfl rfl)
theorem dX3_choice_72 : decode cX3_choice 72 = .ok (.invokevirtual 249, 3) := dk_182 0 249 (dk_at dksX3_choice_3 0 rfl rfl)
theorem dX3_choice_75 : decode cX3_choice 75 = .ok (.istore 6, 2) := dk_54 6 (dk_at dksX3_choice_3 3 rfl rfl)
theorem dX3_choice_77 : decode cX3_choice 77 = .ok (.iload 6, 2) := dk_21 6 (dk_at dksX3_choice_3 5 rfl rfl)
theorem dX3_choice_79 : decode cX3_choice 79 = .ok (.iload_n 3, 1) := dk_29 (dk_at dksX3_choice_3 7 rfl rfl)
theorem dX3_choice_80 : decode cX3_choice 80 = .ok (.if_icmp .gt 6, 3) := dk_163 0 6 (dk_at dksX3_choice_3 8 rfl rfl)
theorem dX3_choice_83 : decode cX3_choice 83 = .ok (.goto 15, 3) := dk_167 0 15 (dk_at dksX3_choice_3 11 rfl rfl)
theorem dX3_choice_86 : decode cX3_choice 86 = .ok (.iload 6, 2) := dk_21 6 (dk_at dksX3_choice_3 14 rfl rfl)
theorem dX3_choice_88 : decode cX3_choice 88 = .ok (.istore_n 3, 1) := dk_62 (dk_at dksX3_choice_3 16 rfl rfl)
theorem dX3_choice_89 : decode cX3_choice 89 = .ok (.bipush 10, 2) := dk_16 10 (dk_at dksX3_choice_3 17 rfl rfl)
theorem dX3_choice_91 : decode cX3_choice 91 = .ok (.iload 4, 2) := dk_21 4 (dk_at dksX3_choice_3 19 rfl rfl)
theorem dX3_choice_93 : decode cX3_choice 93 = .ok (.imul, 1) := dk_104 (dk_at dksX3_choice_3 21 rfl rfl)
theorem dX3_choice_94 : decode cX3_choice 94 = .ok (.iload 5, 2) := dk_21 5 (dk_at dksX3_choice_3 22 rfl rfl)
theorem dX3_choice_96 : decode cX3_choice 96 = .ok (.iadd, 1) := dk_96 (dk_at dksX3_choice_4 0 rfl rfl)
theorem dX3_choice_97 : decode cX3_choice 97 = .ok (.istore_n 2, 1) := dk_61 (dk_at dksX3_choice_4 1 rfl rfl)
theorem dX3_choice_98 : decode cX3_choice 98 = .ok (.iinc 5 1, 3) := dk_132 5 1 (dk_at dksX3_choice_4 2 rfl rfl)
theorem dX3_choice_101 : decode cX3_choice 101 = .ok (.goto (-62), 3) := dk_167 255 194 (dk_at dksX3_choice_4 5 rfl rfl)
theorem dX3_choice_104 : decode cX3_choice 104 = .ok (.iinc 4 1, 3) := dk_132 4 1 (dk_at dksX3_choice_4 8 rfl rfl)
theorem dX3_choice_107 : decode cX3_choice 107 = .ok (.goto (-100), 3) := dk_167 255 156 (dk_at dksX3_choice_4 11 rfl rfl)
theorem dX3_choice_110 : decode cX3_choice 110 = .ok (.iload_n 2, 1) := dk_28 (dk_at dksX3_choice_4 14 rfl rfl)
theorem dX3_choice_111 : decode cX3_choice 111 = .ok (.ireturn, 1) := dk_172 (dk_at dksX3_choice_4 15 rfl rfl)
abbrev cX3_nextDay : ByteArray := prog_23_method_56_code
def yX3_nextDay : MethodName := ⟨RX3, "nextDay", "()I"⟩
def dkwX3_nextDay_15 : List UInt8 := [172]
abbrev dktX3_nextDay_15 : List UInt8 := dkwX3_nextDay_15 ++ []
def dkwX3_nextDay_14 : List UInt8 := [89, 180, 1, 16, 4, 96, 181, 1, 16, 42, 180, 1, 16, 16, 30, 112, 154, 0, 7, 42, 182, 1, 35, 27]
abbrev dktX3_nextDay_14 : List UInt8 := dkwX3_nextDay_14 ++ dktX3_nextDay_15
def dkwX3_nextDay_13 : List UInt8 := [42, 180, 0, 121, 28, 46, 100, 16, 6, 161, 0, 8, 42, 28, 182, 1, 32, 132, 2, 1, 167, 255, 214, 42]
abbrev dktX3_nextDay_13 : List UInt8 := dkwX3_nextDay_13 ++ dktX3_nextDay_14
def dkwX3_nextDay_12 : List UInt8 := [3, 61, 28, 42, 180, 0, 138, 162, 0, 40, 42, 180, 0, 121, 28, 46, 2, 159, 0, 24, 42, 180, 1, 16]
abbrev dktX3_nextDay_12 : List UInt8 := dkwX3_nextDay_12 ++ dktX3_nextDay_13
def dkwX3_nextDay_11 : List UInt8 := [96, 79, 42, 180, 0, 81, 28, 46, 16, 10, 160, 0, 8, 42, 28, 182, 1, 12, 132, 2, 1, 167, 255, 189]
abbrev dktX3_nextDay_11 : List UInt8 := dkwX3_nextDay_11 ++ dktX3_nextDay_12
def dkwX3_nextDay_10 : List UInt8 := [154, 0, 42, 42, 180, 0, 106, 28, 46, 2, 159, 0, 6, 167, 0, 29, 42, 180, 0, 81, 28, 92, 46, 4]
abbrev dktX3_nextDay_10 : List UInt8 := dkwX3_nextDay_10 ++ dktX3_nextDay_11
def dkwX3_nextDay_9 : List UInt8 := [28, 42, 180, 0, 144, 162, 0, 65, 42, 180, 0, 72, 28, 46, 154, 0, 50, 42, 28, 182, 0, 233]
abbrev dktX3_nextDay_9 : List UInt8 := dkwX3_nextDay_9 ++ dktX3_nextDay_10
def dkwX3_nextDay_8 : List UInt8 := [29, 46, 16, 10, 112, 182, 1, 29, 96, 60, 132, 3, 1, 167, 255, 204, 132, 2, 1, 167, 255, 188, 3, 61]
abbrev dktX3_nextDay_8 : List UInt8 := dkwX3_nextDay_8 ++ dktX3_nextDay_9
def dkwX3_nextDay_7 : List UInt8 := [159, 0, 34, 42, 180, 0, 106, 29, 46, 16, 10, 108, 28, 160, 0, 21, 27, 42, 29, 28, 42, 180, 0, 106]
abbrev dktX3_nextDay_7 : List UInt8 := dkwX3_nextDay_7 ++ dktX3_nextDay_8
def dkwX3_nextDay_6 : List UInt8 := [180, 0, 141, 162, 0, 66, 3, 62, 29, 42, 180, 0, 144, 162, 0, 50, 42, 180, 0, 106, 29, 46, 2]
abbrev dktX3_nextDay_6 : List UInt8 := dkwX3_nextDay_6 ++ dktX3_nextDay_7
def dkwX3_nextDay_5 : List UInt8 := [27, 46, 16, 10, 108, 92, 46, 4, 96, 79, 132, 1, 1, 167, 255, 179, 3, 60, 3, 61, 28, 42]
abbrev dktX3_nextDay_5 : List UInt8 := dkwX3_nextDay_5 ++ dktX3_nextDay_6
def dkwX3_nextDay_4 : List UInt8 := [42, 27, 182, 0, 252, 79, 42, 180, 0, 106, 27, 46, 2, 159, 0, 21, 42, 180, 0, 87, 42, 180, 0, 106]
abbrev dktX3_nextDay_4 : List UInt8 := dkwX3_nextDay_4 ++ dktX3_nextDay_5
def dkwX3_nextDay_3 : List UInt8 := [180, 0, 72, 27, 46, 154, 0, 53, 42, 27, 182, 0, 233, 153, 0, 6, 167, 0, 42, 42, 180, 0, 106, 27]
abbrev dktX3_nextDay_3 : List UInt8 := dkwX3_nextDay_3 ++ dktX3_nextDay_4
def dkwX3_nextDay_2 : List UInt8 := [132, 1, 1, 167, 255, 241, 3, 60, 27, 42, 180, 0, 144, 162, 0, 75, 42, 180, 0, 106, 27, 2, 79, 42]
abbrev dktX3_nextDay_2 : List UInt8 := dkwX3_nextDay_2 ++ dktX3_nextDay_3
def dkwX3_nextDay_1 : List UInt8 := [182, 0, 134, 153, 0, 5, 3, 172, 3, 60, 27, 8, 162, 0, 16, 42, 180, 0, 87, 27, 3, 79]
abbrev dktX3_nextDay_1 : List UInt8 := dkwX3_nextDay_1 ++ dktX3_nextDay_2
def dkwX3_nextDay_0 : List UInt8 := [42, 3, 181, 0, 1, 42, 42, 180, 1, 16, 17, 3, 231, 162, 0, 7, 4, 167, 0, 4, 3, 4]
abbrev dktX3_nextDay_0 : List UInt8 := dkwX3_nextDay_0 ++ dktX3_nextDay_1
theorem dksX3_nextDay_0 : cX3_nextDay.data.toList.drop 0 = dktX3_nextDay_0 := by decide +kernel
theorem dksX3_nextDay_1 : cX3_nextDay.data.toList.drop 22 = dktX3_nextDay_1 := dk_seg dksX3_nextDay_0 22 rfl rfl
theorem dksX3_nextDay_2 : cX3_nextDay.data.toList.drop 44 = dktX3_nextDay_2 := dk_seg dksX3_nextDay_1 22 rfl rfl
theorem dksX3_nextDay_3 : cX3_nextDay.data.toList.drop 68 = dktX3_nextDay_3 := dk_seg dksX3_nextDay_2 24 rfl rfl
theorem dksX3_nextDay_4 : cX3_nextDay.data.toList.drop 92 = dktX3_nextDay_4 := dk_seg dksX3_nextDay_3 24 rfl rfl
theorem dksX3_nextDay_5 : cX3_nextDay.data.toList.drop 116 = dktX3_nextDay_5 := dk_seg dksX3_nextDay_4 24 rfl rfl
theorem dksX3_nextDay_6 : cX3_nextDay.data.toList.drop 138 = dktX3_nextDay_6 := dk_seg dksX3_nextDay_5 22 rfl rfl
theorem dksX3_nextDay_7 : cX3_nextDay.data.toList.drop 161 = dktX3_nextDay_7 := dk_seg dksX3_nextDay_6 23 rfl rfl
theorem dksX3_nextDay_8 : cX3_nextDay.data.toList.drop 185 = dktX3_nextDay_8 := dk_seg dksX3_nextDay_7 24 rfl rfl
theorem dksX3_nextDay_9 : cX3_nextDay.data.toList.drop 209 = dktX3_nextDay_9 := dk_seg dksX3_nextDay_8 24 rfl rfl
theorem dksX3_nextDay_10 : cX3_nextDay.data.toList.drop 231 = dktX3_nextDay_10 := dk_seg dksX3_nextDay_9 22 rfl rfl
theorem dksX3_nextDay_11 : cX3_nextDay.data.toList.drop 255 = dktX3_nextDay_11 := dk_seg dksX3_nextDay_10 24 rfl rfl
theorem dksX3_nextDay_12 : cX3_nextDay.data.toList.drop 279 = dktX3_nextDay_12 := dk_seg dksX3_nextDay_11 24 rfl rfl
theorem dksX3_nextDay_13 : cX3_nextDay.data.toList.drop 303 = dktX3_nextDay_13 := dk_seg dksX3_nextDay_12 24 rfl rfl
theorem dksX3_nextDay_14 : cX3_nextDay.data.toList.drop 327 = dktX3_nextDay_14 := dk_seg dksX3_nextDay_13 24 rfl rfl
theorem dksX3_nextDay_15 : cX3_nextDay.data.toList.drop 351 = dktX3_nextDay_15 := dk_seg dksX3_nextDay_14 24 rfl rfl
theorem dX3_nextDay_0 : decode cX3_nextDay 0 = .ok (.aload_n 0, 1) := dk_42 (dk_at dksX3_nextDay_0 0 rfl rfl)
theorem dX3_nextDay_1 : decode cX3_nextDay 1 = .ok (.iconst 0, 1) := dk_3 (dk_at dksX3_nextDay_0 1 rfl rfl)
theorem dX3_nextDay_2 : decode cX3_nextDay 2 = .ok (.putfield 1, 3) := dk_181 0 1 (dk_at dksX3_nextDay_0 2 rfl rfl)
theorem dX3_nextDay_5 : decode cX3_nextDay 5 = .ok (.aload_n 0, 1) := dk_42 (dk_at dksX3_nextDay_0 5 rfl rfl)
theorem dX3_nextDay_6 : decode cX3_nextDay 6 = .ok (.aload_n 0, 1) := dk_42 (dk_at dksX3_nextDay_0 6 rfl rfl)
theorem dX3_nextDay_7 : decode cX3_nextDay 7 = .ok (.getfield 272, 3) := dk_180 1 16 (dk_at dksX3_nextDay_0 7 rfl rfl)
theorem dX3_nextDay_10 : decode cX3_nextDay 10 = .ok (.sipush 999, 3) := dk_17 3 231 (dk_at dksX3_nextDay_0 10 rfl rfl)
theorem dX3_nextDay_13 : decode cX3_nextDay 13 = .ok (.if_icmp .ge 7, 3) := dk_162 0 7 (dk_at dksX3_nextDay_0 13 rfl rfl)
theorem dX3_nextDay_16 : decode cX3_nextDay 16 = .ok (.iconst 1, 1) := dk_4 (dk_at dksX3_nextDay_0 16 rfl rfl)
theorem dX3_nextDay_17 : decode cX3_nextDay 17 = .ok (.goto 4, 3) := dk_167 0 4 (dk_at dksX3_nextDay_0 17 rfl rfl)
theorem dX3_nextDay_20 : decode cX3_nextDay 20 = .ok (.iconst 0, 1) := dk_3 (dk_at dksX3_nextDay_0 20 rfl rfl)
theorem dX3_nextDay_21 : decode cX3_nextDay 21 = .ok (.iconst 1, 1) := dk_4 (dk_at dksX3_nextDay_0 21 rfl rfl)
theorem dX3_nextDay_22 : decode cX3_nextDay 22 = .ok (.invokevirtual 134, 3) := dk_182 0 134 (dk_at dksX3_nextDay_1 0 rfl rfl)
theorem dX3_nextDay_25 : decode cX3_nextDay 25 = .ok (.ifCond .eq 5, 3) := dk_153 0 5 (dk_at dksX3_nextDay_1 3 rfl rfl)
theorem dX3_nextDay_28 : decode cX3_nextDay 28 = .ok (.iconst 0, 1) := dk_3 (dk_at dksX3_nextDay_1 6 rfl rfl)
theorem dX3_nextDay_29 : decode cX3_nextDay 29 = .ok (.ireturn, 1) := dk_172 (dk_at dksX3_nextDay_1 7 rfl rfl)
theorem dX3_nextDay_30 : decode cX3_nextDay 30 = .ok (.iconst 0, 1) := dk_3 (dk_at dksX3_nextDay_1 8 rfl rfl)
theorem dX3_nextDay_31 : decode cX3_nextDay 31 = .ok (.istore_n 1, 1) := dk_60 (dk_at dksX3_nextDay_1 9 rfl rfl)
theorem dX3_nextDay_32 : decode cX3_nextDay 32 = .ok (.iload_n 1, 1) := dk_27 (dk_at dksX3_nextDay_1 10 rfl rfl)
theorem dX3_nextDay_33 : decode cX3_nextDay 33 = .ok (.iconst 5, 1) := dk_8 (dk_at dksX3_nextDay_1 11 rfl rfl)
theorem dX3_nextDay_34 : decode cX3_nextDay 34 = .ok (.if_icmp .ge 16, 3) := dk_162 0 16 (dk_at dksX3_nextDay_1 12 rfl rfl)
theorem dX3_nextDay_37 : decode cX3_nextDay 37 = .ok (.aload_n 0, 1) := dk_42 (dk_at dksX3_nextDay_1 15 rfl rfl)
theorem dX3_nextDay_38 : decode cX3_nextDay 38 = .ok (.getfield 87, 3) := dk_180 0 87 (dk_at dksX3_nextDay_1 16 rfl rfl)
theorem dX3_nextDay_41 : decode cX3_nextDay 41 = .ok (.iload_n 1, 1) := dk_27 (dk_at dksX3_nextDay_1 19 rfl rfl)
theorem dX3_nextDay_42 : decode cX3_nextDay 42 = .ok (.iconst 0, 1) := dk_3 (dk_at dksX3_nextDay_1 20 rfl rfl)
theorem dX3_nextDay_43 : decode cX3_nextDay 43 = .ok (.iastore, 1) := dk_79 (dk_at dksX3_nextDay_1 21 rfl rfl)
theorem dX3_nextDay_44 : decode cX3_nextDay 44 = .ok (.iinc 1 1, 3) := dk_132 1 1 (dk_at dksX3_nextDay_2 0 rfl rfl)
theorem dX3_nextDay_47 : decode cX3_nextDay 47 = .ok (.goto (-15), 3) := dk_167 255 241 (dk_at dksX3_nextDay_2 3 rfl rfl)
theorem dX3_nextDay_50 : decode cX3_nextDay 50 = .ok (.iconst 0, 1) := dk_3 (dk_at dksX3_nextDay_2 6 rfl rfl)
theorem dX3_nextDay_51 : decode cX3_nextDay 51 = .ok (.istore_n 1, 1) := dk_60 (dk_at dksX3_nextDay_2 7 rfl rfl)
theorem dX3_nextDay_52 : decode cX3_nextDay 52 = .ok (.iload_n 1, 1) := dk_27 (dk_at dksX3_nextDay_2 8 rfl rfl)
theorem dX3_nextDay_53 : decode cX3_nextDay 53 = .ok (.aload_n 0, 1) := dk_42 (dk_at dksX3_nextDay_2 9 rfl rfl)
theorem dX3_nextDay_54 : decode cX3_nextDay 54 = .ok (.getfield 144, 3) := dk_180 0 144 (dk_at dksX3_nextDay_2 10 rfl rfl)
theorem dX3_nextDay_57 : decode cX3_nextDay 57 = .ok (.if_icmp .ge 75, 3) := dk_162 0 75 (dk_at dksX3_nextDay_2 13 rfl rfl)
theorem dX3_nextDay_60 : decode cX3_nextDay 60 = .ok (.aload_n 0, 1) := dk_42 (dk_at dksX3_nextDay_2 16 rfl rfl)
theorem dX3_nextDay_61 : decode cX3_nextDay 61 = .ok (.getfield 106, 3) := dk_180 0 106 (dk_at dksX3_nextDay_2 17 rfl rfl)
theorem dX3_nextDay_64 : decode cX3_nextDay 64 = .ok (.iload_n 1, 1) := dk_27 (dk_at dksX3_nextDay_2 20 rfl rfl)
theorem dX3_nextDay_65 : decode cX3_nextDay 65 = .ok (.iconst (-1), 1) := dk_2 (dk_at dksX3_nextDay_2 21 rfl rfl)
theorem dX3_nextDay_66 : decode cX3_nextDay 66 = .ok (.iastore, 1) := dk_79 (dk_at dksX3_nextDay_2 22 rfl rfl)
theorem dX3_nextDay_67 : decode cX3_nextDay 67 = .ok (.aload_n 0, 1) := dk_42 (dk_at dksX3_nextDay_2 23 rfl rfl)
theorem dX3_nextDay_68 : decode cX3_nextDay 68 = .ok (.getfield 72, 3) := dk_180 0 72 (dk_at dksX3_nextDay_3 0 rfl rfl)
theorem dX3_nextDay_71 : decode cX3_nextDay 71 = .ok (.iload_n 1, 1) := dk_27 (dk_at dksX3_nextDay_3 3 rfl rfl)
theorem dX3_nextDay_72 : decode cX3_nextDay 72 = .ok (.iaload, 1) := dk_46 (dk_at dksX3_nextDay_3 4 rfl rfl)
theorem dX3_nextDay_73 : decode cX3_nextDay 73 = .ok (.ifCond .ne 53, 3) := dk_154 0 53 (dk_at dksX3_nextDay_3 5 rfl rfl)
theorem dX3_nextDay_76 : decode cX3_nextDay 76 = .ok (.aload_n 0, 1) := dk_42 (dk_at dksX3_nextDay_3 8 rfl rfl)
theorem dX3_nextDay_77 : decode cX3_nextDay 77 = .ok (.iload_n 1, 1) := dk_27 (dk_at dksX3_nextDay_3 9 rfl rfl)
theorem dX3_nextDay_78 : decode cX3_nextDay 78 = .ok (.invokevirtual 233, 3) := dk_182 0 233 (dk_at dksX3_nextDay_3 10 rfl rfl)
theorem dX3_nextDay_81 : decode cX3_nextDay 81 = .ok (.ifCond .eq 6, 3) := dk_153 0 6 (dk_at dksX3_nextDay_3 13 rfl rfl)
theorem dX3_nextDay_84 : decode cX3_nextDay 84 = .ok (.goto 42, 3) := dk_167 0 42 (dk_at dksX3_nextDay_3 16 rfl rfl)
theorem dX3_nextDay_87 : decode cX3_nextDay 87 = .ok (.aload_n 0, 1) := dk_42 (dk_at dksX3_nextDay_3 19 rfl rfl)
theorem dX3_nextDay_88 : decode cX3_nextDay 88 = .ok (.getfield 106, 3) := dk_180 0 106 (dk_at dksX3_nextDay_3 20 rfl rfl)
theorem dX3_nextDay_91 : decode cX3_nextDay 91 = .ok (.iload_n 1, 1) := dk_27 (dk_at dksX3_nextDay_3 23 rfl rfl)
theorem dX3_nextDay_92 : decode cX3_nextDay 92 = .ok (.aload_n 0, 1) := dk_42 (dk_at dksX3_nextDay_4 0 rfl rfl)
theorem dX3_nextDay_93 : decode cX3_nextDay 93 = .ok (.iload_n 1, 1) := dk_27 (dk_at dksX3_nextDay_4 1 rfl rfl)
theorem dX3_nextDay_94 : decode cX3_nextDay 94 = .ok (.invokevirtual 252, 3) := dk_182 0 252 (dk_at dksX3_nextDay_4 2 rfl rfl)
theorem dX3_nextDay_97 : decode cX3_nextDay 97 = .ok (.iastore, 1) := dk_79 (dk_at dksX3_nextDay_4 5 rfl rfl)
theorem dX3_nextDay_98 : decode cX3_nextDay 98 = .ok (.aload_n 0, 1) := dk_42 (dk_at dksX3_nextDay_4 6 rfl rfl)
theorem dX3_nextDay_99 : decode cX3_nextDay 99 = .ok (.getfield 106, 3) := dk_180 0 106 (dk_at dksX3_nextDay_4 7 rfl rfl)
theorem dX3_nextDay_102 : decode cX3_nextDay 102 = .ok (.iload_n 1, 1) := dk_27 (dk_at dksX3_nextDay_4 10 rfl rfl)
theorem dX3_nextDay_103 : decode cX3_nextDay 103 = .ok (.iaload, 1) := dk_46 (dk_at dksX3_nextDay_4 11 rfl rfl)
theorem dX3_nextDay_104 : decode cX3_nextDay 104 = .ok (.iconst (-1), 1) := dk_2 (dk_at dksX3_nextDay_4 12 rfl rfl)
theorem dX3_nextDay_105 : decode cX3_nextDay 105 = .ok (.if_icmp .eq 21, 3) := dk_159 0 21 (dk_at dksX3_nextDay_4 13 rfl rfl)
theorem dX3_nextDay_108 : decode cX3_nextDay 108 = .ok (.aload_n 0, 1) := dk_42 (dk_at dksX3_nextDay_4 16 rfl rfl)
theorem dX3_nextDay_109 : decode cX3_nextDay 109 = .ok (.getfield 87, 3) := dk_180 0 87 (dk_at dksX3_nextDay_4 17 rfl rfl)
theorem dX3_nextDay_112 : decode cX3_nextDay 112 = .ok (.aload_n 0, 1) := dk_42 (dk_at dksX3_nextDay_4 20 rfl rfl)
theorem dX3_nextDay_113 : decode cX3_nextDay 113 = .ok (.getfield 106, 3) := dk_180 0 106 (dk_at dksX3_nextDay_4 21 rfl rfl)
theorem dX3_nextDay_116 : decode cX3_nextDay 116 = .ok (.iload_n 1, 1) := dk_27 (dk_at dksX3_nextDay_5 0 rfl rfl)
theorem dX3_nextDay_117 : decode cX3_nextDay 117 = .ok (.iaload, 1) := dk_46 (dk_at dksX3_nextDay_5 1 rfl rfl)
theorem dX3_nextDay_118 : decode cX3_nextDay 118 = .ok (.bipush 10, 2) := dk_16 10 (dk_at dksX3_nextDay_5 2 rfl rfl)
theorem dX3_nextDay_120 : decode cX3_nextDay 120 = .ok (.idiv, 1) := dk_108 (dk_at dksX3_nextDay_5 4 rfl rfl)
theorem dX3_nextDay_121 : decode cX3_nextDay 121 = .ok (.dup2, 1) := dk_92 (dk_at dksX3_nextDay_5 5 rfl rfl)
theorem dX3_nextDay_122 : decode cX3_nextDay 122 = .ok (.iaload, 1) := dk_46 (dk_at dksX3_nextDay_5 6 rfl rfl)
theorem dX3_nextDay_123 : decode cX3_nextDay 123 = .ok (.iconst 1, 1) := dk_4 (dk_at dksX3_nextDay_5 7 rfl rfl)
theorem dX3_nextDay_124 : decode cX3_nextDay 124 = .ok (.iadd, 1) := dk_96 (dk_at dksX3_nextDay_5 8 rfl rfl)
theorem dX3_nextDay_125 : decode cX3_nextDay 125 = .ok (.iastore, 1) := dk_79 (dk_at dksX3_nextDay_5 9 rfl rfl)
theorem dX3_nextDay_126 : decode cX3_nextDay 126 = .ok (.iinc 1 1, 3) := dk_132 1 1 (dk_at dksX3_nextDay_5 10 rfl rfl)
theorem dX3_nextDay_129 : decode cX3_nextDay 129 = .ok (.goto (-77), 3) := dk_167 255 179 (dk_at dksX3_nextDay_5 13 rfl rfl)
theorem dX3_nextDay_132 : decode cX3_nextDay 132 = .ok (.iconst 0, 1) := dk_3 (dk_at dksX3_nextDay_5 16 rfl rfl)
theorem dX3_nextDay_133 : decode cX3_nextDay 133 = .ok (.istore_n 1, 1) := dk_60 (dk_at dksX3_nextDay_5 17 rfl rfl)
theorem dX3_nextDay_134 : decode cX3_nextDay 134 = .ok (.iconst 0, 1) := dk_3 (dk_at dksX3_nextDay_5 18 rfl rfl)
theorem dX3_nextDay_135 : decode cX3_nextDay 135 = .ok (.istore_n 2, 1) := dk_61 (dk_at dksX3_nextDay_5 19 rfl rfl)
theorem dX3_nextDay_136 : decode cX3_nextDay 136 = .ok (.iload_n 2, 1) := dk_28 (dk_at dksX3_nextDay_5 20 rfl rfl)
theorem dX3_nextDay_137 : decode cX3_nextDay 137 = .ok (.aload_n 0, 1) := dk_42 (dk_at dksX3_nextDay_5 21 rfl rfl)
theorem dX3_nextDay_138 : decode cX3_nextDay 138 = .ok (.getfield 141, 3) := dk_180 0 141 (dk_at dksX3_nextDay_6 0 rfl rfl)
theorem dX3_nextDay_141 : decode cX3_nextDay 141 = .ok (.if_icmp .ge 66, 3) := dk_162 0 66 (dk_at dksX3_nextDay_6 3 rfl rfl)
theorem dX3_nextDay_144 : decode cX3_nextDay 144 = .ok (.iconst 0, 1) := dk_3 (dk_at dksX3_nextDay_6 6 rfl rfl)
theorem dX3_nextDay_145 : decode cX3_nextDay 145 = .ok (.istore_n 3, 1) := dk_62 (dk_at dksX3_nextDay_6 7 rfl rfl)
theorem dX3_nextDay_146 : decode cX3_nextDay 146 = .ok (.iload_n 3, 1) := dk_29 (dk_at dksX3_nextDay_6 8 rfl rfl)
theorem dX3_nextDay_147 : decode cX3_nextDay 147 = .ok (.aload_n 0, 1) := dk_42 (dk_at dksX3_nextDay_6 9 rfl rfl)
theorem dX3_nextDay_148 : decode cX3_nextDay 148 = .ok (.getfield 144, 3) := dk_180 0 144 (dk_at dksX3_nextDay_6 10 rfl rfl)
theorem dX3_nextDay_151 : decode cX3_nextDay 151 = .ok (.if_icmp .ge 50, 3) := dk_162 0 50 (dk_at dksX3_nextDay_6 13 rfl rfl)
theorem dX3_nextDay_154 : decode cX3_nextDay 154 = .ok (.aload_n 0, 1) := dk_42 (dk_at dksX3_nextDay_6 16 rfl rfl)
theorem dX3_nextDay_155 : decode cX3_nextDay 155 = .ok (.getfield 106, 3) := dk_180 0 106 (dk_at dksX3_nextDay_6 17 rfl rfl)
theorem dX3_nextDay_158 : decode cX3_nextDay 158 = .ok (.iload_n 3, 1) := dk_29 (dk_at dksX3_nextDay_6 20 rfl rfl)
theorem dX3_nextDay_159 : decode cX3_nextDay 159 = .ok (.iaload, 1) := dk_46 (dk_at dksX3_nextDay_6 21 rfl rfl)
theorem dX3_nextDay_160 : decode cX3_nextDay 160 = .ok (.iconst (-1), 1) := dk_2 (dk_at dksX3_nextDay_6 22 rfl rfl)
theorem dX3_nextDay_161 : decode cX3_nextDay 161 = .ok (.if_icmp .eq 34, 3) := dk_159 0 34 (dk_at dksX3_nextDay_7 0 rfl rfl)
theorem dX3_nextDay_164 : decode cX3_nextDay 164 = .ok (.aload_n 0, 1) := dk_42 (dk_at dksX3_nextDay_7 3 rfl rfl)
theorem dX3_nextDay_165 : decode cX3_nextDay 165 = .ok (.getfield 106, 3) := dk_180 0 106 (dk_at dksX3_nextDay_7 4 rfl rfl)
theorem dX3_nextDay_168 : decode cX3_nextDay 168 = .ok (.iload_n 3, 1) := dk_29 (dk_at dksX3_nextDay_7 7 rfl rfl)
theorem dX3_nextDay_169 : decode cX3_nextDay 169 = .ok (.iaload, 1) := dk_46 (dk_at dksX3_nextDay_7 8 rfl rfl)
theorem dX3_nextDay_170 : decode cX3_nextDay 170 = .ok (.bipush 10, 2) := dk_16 10 (dk_at dksX3_nextDay_7 9 rfl rfl)
theorem dX3_nextDay_172 : decode cX3_nextDay 172 = .ok (.idiv, 1) := dk_108 (dk_at dksX3_nextDay_7 11 rfl rfl)
theorem dX3_nextDay_173 : decode cX3_nextDay 173 = .ok (.iload_n 2, 1) := dk_28 (dk_at dksX3_nextDay_7 12 rfl rfl)
theorem dX3_nextDay_174 : decode cX3_nextDay 174 = .ok (.if_icmp .ne 21, 3) := dk_160 0 21 (dk_at dksX3_nextDay_7 13 rfl rfl)
theorem dX3_nextDay_177 : decode cX3_nextDay 177 = .ok (.iload_n 1, 1) := dk_27 (dk_at dksX3_nextDay_7 16 rfl rfl)
theorem dX3_nextDay_178 : decode cX3_nextDay 178 = .ok (.aload_n 0, 1) := dk_42 (dk_at dksX3_nextDay_7 17 rfl rfl)
theorem dX3_nextDay_179 : decode cX3_nextDay 179 = .ok (.iload_n 3, 1) := dk_29 (dk_at dksX3_nextDay_7 18 rfl rfl)
theorem dX3_nextDay_180 : decode cX3_nextDay 180 = .ok (.iload_n 2, 1) := dk_28 (dk_at dksX3_nextDay_7 19 rfl rfl)
theorem dX3_nextDay_181 : decode cX3_nextDay 181 = .ok (.aload_n 0, 1) := dk_42 (dk_at dksX3_nextDay_7 20 rfl rfl)
theorem dX3_nextDay_182 : decode cX3_nextDay 182 = .ok (.getfield 106, 3) := dk_180 0 106 (dk_at dksX3_nextDay_7 21 rfl rfl)
theorem dX3_nextDay_185 : decode cX3_nextDay 185 = .ok (.iload_n 3, 1) := dk_29 (dk_at dksX3_nextDay_8 0 rfl rfl)
theorem dX3_nextDay_186 : decode cX3_nextDay 186 = .ok (.iaload, 1) := dk_46 (dk_at dksX3_nextDay_8 1 rfl rfl)
theorem dX3_nextDay_187 : decode cX3_nextDay 187 = .ok (.bipush 10, 2) := dk_16 10 (dk_at dksX3_nextDay_8 2 rfl rfl)
theorem dX3_nextDay_189 : decode cX3_nextDay 189 = .ok (.irem, 1) := dk_112 (dk_at dksX3_nextDay_8 4 rfl rfl)
theorem dX3_nextDay_190 : decode cX3_nextDay 190 = .ok (.invokevirtual 285, 3) := dk_182 1 29 (dk_at dksX3_nextDay_8 5 rfl rfl)
theorem dX3_nextDay_193 : decode cX3_nextDay 193 = .ok (.iadd, 1) := dk_96 (dk_at dksX3_nextDay_8 8 rfl rfl)
theorem dX3_nextDay_194 : decode cX3_nextDay 194 = .ok (.istore_n 1, 1) := dk_60 (dk_at dksX3_nextDay_8 9 rfl rfl)
theorem dX3_nextDay_195 : decode cX3_nextDay 195 = .ok (.iinc 3 1, 3) := dk_132 3 1 (dk_at dksX3_nextDay_8 10 rfl rfl)
theorem dX3_nextDay_198 : decode cX3_nextDay 198 = .ok (.goto (-52), 3) := dk_167 255 204 (dk_at dksX3_nextDay_8 13 rfl rfl)
theorem dX3_nextDay_201 : decode cX3_nextDay 201 = .ok (.iinc 2 1, 3) := dk_132 2 1 (dk_at dksX3_nextDay_8 16 rfl rfl)
theorem dX3_nextDay_204 : decode cX3_nextDay 204 = .ok (.goto (-68), 3) := dk_167 255 188 (dk_at dksX3_nextDay_8 19 rfl rfl)
theorem dX3_nextDay_207 : decode cX3_nextDay 207 = .ok (.iconst 0, 1) := dk_3 (dk_at dksX3_nextDay_8 22 rfl rfl)
theorem dX3_nextDay_208 : decode cX3_nextDay 208 = .ok (.istore_n 2, 1) := dk_61 (dk_at dksX3_nextDay_8 23 rfl rfl)
theorem dX3_nextDay_209 : decode cX3_nextDay 209 = .ok (.iload_n 2, 1) := dk_28 (dk_at dksX3_nextDay_9 0 rfl rfl)
theorem dX3_nextDay_210 : decode cX3_nextDay 210 = .ok (.aload_n 0, 1) := dk_42 (dk_at dksX3_nextDay_9 1 rfl rfl)
theorem dX3_nextDay_211 : decode cX3_nextDay 211 = .ok (.getfield 144, 3) := dk_180 0 144 (dk_at dksX3_nextDay_9 2 rfl rfl)
theorem dX3_nextDay_214 : decode cX3_nextDay 214 = .ok (.if_icmp .ge 65, 3) := dk_162 0 65 (dk_at dksX3_nextDay_9 5 rfl rfl)
theorem dX3_nextDay_217 : decode cX3_nextDay 217 = .ok (.aload_n 0, 1) := dk_42 (dk_at dksX3_nextDay_9 8 rfl rfl)
theorem dX3_nextDay_218 : decode cX3_nextDay 218 = .ok (.getfield 72, 3) := dk_180 0 72 (dk_at dksX3_nextDay_9 9 rfl rfl)
theorem dX3_nextDay_221 : decode cX3_nextDay 221 = .ok (.iload_n 2, 1) := dk_28 (dk_at dksX3_nextDay_9 12 rfl rfl)
theorem dX3_nextDay_222 : decode cX3_nextDay 222 = .ok (.iaload, 1) := dk_46 (dk_at dksX3_nextDay_9 13 rfl rfl)
theorem dX3_nextDay_223 : decode cX3_nextDay 223 = .ok (.ifCond .ne 50, 3) := dk_154 0 50 (dk_at dksX3_nextDay_9 14 rfl rfl)
theorem dX3_nextDay_226 : decode cX3_nextDay 226 = .ok (.aload_n 0, 1) := dk_42 (dk_at dksX3_nextDay_9 17 rfl rfl)
theorem dX3_nextDay_227 : decode cX3_nextDay 227 = .ok (.iload_n 2, 1) := dk_28 (dk_at dksX3_nextDay_9 18 rfl rfl)
theorem dX3_nextDay_228 : decode cX3_nextDay 228 = .ok (.invokevirtual 233, 3) := dk_182 0 233 (dk_at dksX3_nextDay_9 19 rfl rfl)
theorem dX3_nextDay_231 : decode cX3_nextDay 231 = .ok (.ifCond .ne 42, 3) := dk_154 0 42 (dk_at dksX3_nextDay_10 0 rfl rfl)
theorem dX3_nextDay_234 : decode cX3_nextDay 234 = .ok (.aload_n 0, 1) := dk_42 (dk_at dksX3_nextDay_10 3 rfl rfl)
theorem dX3_nextDay_235 : decode cX3_nextDay 235 = .ok (.getfield 106, 3) := dk_180 0 106 (dk_at dksX3_nextDay_10 4 rfl rfl)
theorem dX3_nextDay_238 : decode cX3_nextDay 238 = .ok (.iload_n 2, 1) := dk_28 (dk_at dksX3_nextDay_10 7 rfl rfl)
theorem dX3_nextDay_239 : decode cX3_nextDay 239 = .ok (.iaload, 1) := dk_46 (dk_at dksX3_nextDay_10 8 rfl rfl)
theorem dX3_nextDay_240 : decode cX3_nextDay 240 = .ok (.iconst (-1), 1) := dk_2 (dk_at dksX3_nextDay_10 9 rfl rfl)
theorem dX3_nextDay_241 : decode cX3_nextDay 241 = .ok (.if_icmp .eq 6, 3) := dk_159 0 6 (dk_at dksX3_nextDay_10 10 rfl rfl)
theorem dX3_nextDay_244 : decode cX3_nextDay 244 = .ok (.goto 29, 3) := dk_167 0 29 (dk_at dksX3_nextDay_10 13 rfl rfl)
theorem dX3_nextDay_247 : decode cX3_nextDay 247 = .ok (.aload_n 0, 1) := dk_42 (dk_at dksX3_nextDay_10 16 rfl rfl)
theorem dX3_nextDay_248 : decode cX3_nextDay 248 = .ok (.getfield 81, 3) := dk_180 0 81 (dk_at dksX3_nextDay_10 17 rfl rfl)
theorem dX3_nextDay_251 : decode cX3_nextDay 251 = .ok (.iload_n 2, 1) := dk_28 (dk_at dksX3_nextDay_10 20 rfl rfl)
theorem dX3_nextDay_252 : decode cX3_nextDay 252 = .ok (.dup2, 1) := dk_92 (dk_at dksX3_nextDay_10 21 rfl rfl)
theorem dX3_nextDay_253 : decode cX3_nextDay 253 = .ok (.iaload, 1) := dk_46 (dk_at dksX3_nextDay_10 22 rfl rfl)
theorem dX3_nextDay_254 : decode cX3_nextDay 254 = .ok (.iconst 1, 1) := dk_4 (dk_at dksX3_nextDay_10 23 rfl rfl)
theorem dX3_nextDay_255 : decode cX3_nextDay 255 = .ok (.iadd, 1) := dk_96 (dk_at dksX3_nextDay_11 0 rfl rfl)
theorem dX3_nextDay_256 : decode cX3_nextDay 256 = .ok (.iastore, 1) := dk_79 (dk_at dksX3_nextDay_11 1 rfl rfl)
theorem dX3_nextDay_257 : decode cX3_nextDay 257 = .ok (.aload_n 0, 1) := dk_42 (dk_at dksX3_nextDay_11 2 rfl rfl)
theorem dX3_nextDay_258 : decode cX3_nextDay 258 = .ok (.getfield 81, 3) := dk_180 0 81 (dk_at dksX3_nextDay_11 3 rfl rfl)
theorem dX3_nextDay_261 : decode cX3_nextDay 261 = .ok (.iload_n 2, 1) := dk_28 (dk_at dksX3_nextDay_11 6 rfl rfl)
theorem dX3_nextDay_262 : decode cX3_nextDay 262 = .ok (.iaload, 1) := dk_46 (dk_at dksX3_nextDay_11 7 rfl rfl)
theorem dX3_nextDay_263 : decode cX3_nextDay 263 = .ok (.bipush 10, 2) := dk_16 10 (dk_at dksX3_nextDay_11 8 rfl rfl)
theorem dX3_nextDay_265 : decode cX3_nextDay 265 = .ok (.if_icmp .ne 8, 3) := dk_160 0 8 (dk_at dksX3_nextDay_11 10 rfl rfl)
theorem dX3_nextDay_268 : decode cX3_nextDay 268 = .ok (.aload_n 0, 1) := dk_42 (dk_at dksX3_nextDay_11 13 rfl rfl)
theorem dX3_nextDay_269 : decode cX3_nextDay 269 = .ok (.iload_n 2, 1) := dk_28 (dk_at dksX3_nextDay_11 14 rfl rfl)
theorem dX3_nextDay_270 : decode cX3_nextDay 270 = .ok (.invokevirtual 268, 3) := dk_182 1 12 (dk_at dksX3_nextDay_11 15 rfl rfl)
theorem dX3_nextDay_273 : decode cX3_nextDay 273 = .ok (.iinc 2 1, 3) := dk_132 2 1 (dk_at dksX3_nextDay_11 18 rfl rfl)
theorem dX3_nextDay_276 : decode cX3_nextDay 276 = .ok (.goto (-67), 3) := dk_167 255 189 (dk_at dksX3_nextDay_11 21 rfl rfl)
theorem dX3_nextDay_279 : decode cX3_nextDay 279 = .ok (.iconst 0, 1) := dk_3 (dk_at dksX3_nextDay_12 0 rfl rfl)
theorem dX3_nextDay_280 : decode cX3_nextDay 280 = .ok (.istore_n 2, 1) := dk_61 (dk_at dksX3_nextDay_12 1 rfl rfl)
theorem dX3_nextDay_281 : decode cX3_nextDay 281 = .ok (.iload_n 2, 1) := dk_28 (dk_at dksX3_nextDay_12 2 rfl rfl)
theorem dX3_nextDay_282 : decode cX3_nextDay 282 = .ok (.aload_n 0, 1) := dk_42 (dk_at dksX3_nextDay_12 3 rfl rfl)
theorem dX3_nextDay_283 : decode cX3_nextDay 283 = .ok (.getfield 138, 3) := dk_180 0 138 (dk_at dksX3_nextDay_12 4 rfl rfl)
theorem dX3_nextDay_286 : decode cX3_nextDay 286 = .ok (.if_icmp .ge 40, 3) := dk_162 0 40 (dk_at dksX3_nextDay_12 7 rfl rfl)
theorem dX3_nextDay_289 : decode cX3_nextDay 289 = .ok (.aload_n 0, 1) := dk_42 (dk_at dksX3_nextDay_12 10 rfl rfl)
theorem dX3_nextDay_290 : decode cX3_nextDay 290 = .ok (.getfield 121, 3) := dk_180 0 121 (dk_at dksX3_nextDay_12 11 rfl rfl)
theorem dX3_nextDay_293 : decode cX3_nextDay 293 = .ok (.iload_n 2, 1) := dk_28 (dk_at dksX3_nextDay_12 14 rfl rfl)
theorem dX3_nextDay_294 : decode cX3_nextDay 294 = .ok (.iaload, 1) := dk_46 (dk_at dksX3_nextDay_12 15 rfl rfl)
theorem dX3_nextDay_295 : decode cX3_nextDay 295 = .ok (.iconst (-1), 1) := dk_2 (dk_at dksX3_nextDay_12 16 rfl rfl)
theorem dX3_nextDay_296 : decode cX3_nextDay 296 = .ok (.if_icmp .eq 24, 3) := dk_159 0 24 (dk_at dksX3_nextDay_12 17 rfl rfl)
theorem dX3_nextDay_299 : decode cX3_nextDay 299 = .ok (.aload_n 0, 1) := dk_42 (dk_at dksX3_nextDay_12 20 rfl rfl)
theorem dX3_nextDay_300 : decode cX3_nextDay 300 = .ok (.getfield 272, 3) := dk_180 1 16 (dk_at dksX3_nextDay_12 21 rfl rfl)
theorem dX3_nextDay_303 : decode cX3_nextDay 303 = .ok (.aload_n 0, 1) := dk_42 (dk_at dksX3_nextDay_13 0 rfl rfl)
theorem dX3_nextDay_304 : decode cX3_nextDay 304 = .ok (.getfield 121, 3) := dk_180 0 121 (dk_at dksX3_nextDay_13 1 rfl rfl)
theorem dX3_nextDay_307 : decode cX3_nextDay 307 = .ok (.iload_n 2, 1) := dk_28 (dk_at dksX3_nextDay_13 4 rfl rfl)
theorem dX3_nextDay_308 : decode cX3_nextDay 308 = .ok (.iaload, 1) := dk_46 (dk_at dksX3_nextDay_13 5 rfl rfl)
theorem dX3_nextDay_309 : decode cX3_nextDay 309 = .ok (.isub, 1) := dk_100 (dk_at dksX3_nextDay_13 6 rfl rfl)
theorem dX3_nextDay_310 : decode cX3_nextDay 310 = .ok (.bipush 6, 2) := dk_16 6 (dk_at dksX3_nextDay_13 7 rfl rfl)
theorem dX3_nextDay_312 : decode cX3_nextDay 312 = .ok (.if_icmp .lt 8, 3) := dk_161 0 8 (dk_at dksX3_nextDay_13 9 rfl rfl)
theorem dX3_nextDay_315 : decode cX3_nextDay 315 = .ok (.aload_n 0, 1) := dk_42 (dk_at dksX3_nextDay_13 12 rfl rfl)
theorem dX3_nextDay_316 : decode cX3_nextDay 316 = .ok (.iload_n 2, 1) := dk_28 (dk_at dksX3_nextDay_13 13 rfl rfl)
theorem dX3_nextDay_317 : decode cX3_nextDay 317 = .ok (.invokevirtual 288, 3) := dk_182 1 32 (dk_at dksX3_nextDay_13 14 rfl rfl)
theorem dX3_nextDay_320 : decode cX3_nextDay 320 = .ok (.iinc 2 1, 3) := dk_132 2 1 (dk_at dksX3_nextDay_13 17 rfl rfl)
theorem dX3_nextDay_323 : decode cX3_nextDay 323 = .ok (.goto (-42), 3) := dk_167 255 214 (dk_at dksX3_nextDay_13 20 rfl rfl)
theorem dX3_nextDay_326 : decode cX3_nextDay 326 = .ok (.aload_n 0, 1) := dk_42 (dk_at dksX3_nextDay_13 23 rfl rfl)
theorem dX3_nextDay_327 : decode cX3_nextDay 327 = .ok (.dup, 1) := dk_89 (dk_at dksX3_nextDay_14 0 rfl rfl)
theorem dX3_nextDay_328 : decode cX3_nextDay 328 = .ok (.getfield 272, 3) := dk_180 1 16 (dk_at dksX3_nextDay_14 1 rfl rfl)
theorem dX3_nextDay_331 : decode cX3_nextDay 331 = .ok (.iconst 1, 1) := dk_4 (dk_at dksX3_nextDay_14 4 rfl rfl)
theorem dX3_nextDay_332 : decode cX3_nextDay 332 = .ok (.iadd, 1) := dk_96 (dk_at dksX3_nextDay_14 5 rfl rfl)
theorem dX3_nextDay_333 : decode cX3_nextDay 333 = .ok (.putfield 272, 3) := dk_181 1 16 (dk_at dksX3_nextDay_14 6 rfl rfl)
theorem dX3_nextDay_336 : decode cX3_nextDay 336 = .ok (.aload_n 0, 1) := dk_42 (dk_at dksX3_nextDay_14 9 rfl rfl)
theorem dX3_nextDay_337 : decode cX3_nextDay 337 = .ok (.getfield 272, 3) := dk_180 1 16 (dk_at dksX3_nextDay_14 10 rfl rfl)
theorem dX3_nextDay_340 : decode cX3_nextDay 340 = .ok (.bipush 30, 2) := dk_16 30 (dk_at dksX3_nextDay_14 13 rfl rfl)
theorem dX3_nextDay_342 : decode cX3_nextDay 342 = .ok (.irem, 1) := dk_112 (dk_at dksX3_nextDay_14 15 rfl rfl)
theorem dX3_nextDay_343 : decode cX3_nextDay 343 = .ok (.ifCond .ne 7, 3) := dk_154 0 7 (dk_at dksX3_nextDay_14 16 rfl rfl)
theorem dX3_nextDay_346 : decode cX3_nextDay 346 = .ok (.aload_n 0, 1) := dk_42 (dk_at dksX3_nextDay_14 19 rfl rfl)
theorem dX3_nextDay_347 : decode cX3_nextDay 347 = .ok (.invokevirtual 291, 3) := dk_182 1 35 (dk_at dksX3_nextDay_14 20 rfl rfl)
theorem dX3_nextDay_350 : decode cX3_nextDay 350 = .ok (.iload_n 1, 1) := dk_27 (dk_at dksX3_nextDay_14 23 rfl rfl)
theorem dX3_nextDay_351 : decode cX3_nextDay 351 = .ok (.ireturn, 1) := dk_172 (dk_at dksX3_nextDay_15 0 rfl rfl)
abbrev cX3_tries : ByteArray := prog_23_method_54_code
def yX3_tries : MethodName := ⟨RX3, "tries", "(III)I"⟩
def dkwX3_tries_5 : List UInt8 := [153, 0, 7, 4, 167, 0, 4, 3, 172]
abbrev dktX3_tries_5 : List UInt8 := dkwX3_tries_5 ++ []
def dkwX3_tries_4 : List UInt8 := [153, 0, 13, 42, 27, 28, 29, 182, 1, 22, 167, 0, 10, 42, 27, 28, 29, 182, 1, 26, 21, 4]
abbrev dktX3_tries_4 : List UInt8 := dkwX3_tries_4 ++ dktX3_tries_5
def dkwX3_tries_3 : List UInt8 := [79, 42, 180, 0, 102, 42, 180, 1, 19, 21, 4, 84, 42, 89, 180, 1, 19, 4, 96, 181, 1, 19, 21, 4]
abbrev dktX3_tries_3 : List UInt8 := dkwX3_tries_3 ++ dktX3_tries_4
def dkwX3_tries_2 : List UInt8 := [28, 79, 42, 180, 0, 96, 42, 180, 1, 19, 29, 79, 42, 180, 0, 99, 42, 180, 1, 19, 42, 180, 1, 16]
abbrev dktX3_tries_2 : List UInt8 := dkwX3_tries_2 ++ dktX3_tries_3
def dkwX3_tries_1 : List UInt8 := [167, 0, 4, 3, 54, 4, 42, 180, 0, 90, 42, 180, 1, 19, 27, 79, 42, 180, 0, 93, 42, 180, 1, 19]
abbrev dktX3_tries_1 : List UInt8 := dkwX3_tries_1 ++ dktX3_tries_2
def dkwX3_tries_0 : List UInt8 := [29, 42, 180, 0, 66, 27, 46, 160, 0, 20, 42, 180, 1, 16, 42, 180, 0, 69, 27, 46, 161, 0, 7, 4]
abbrev dktX3_tries_0 : List UInt8 := dkwX3_tries_0 ++ dktX3_tries_1
theorem dksX3_tries_0 : cX3_tries.data.toList.drop 0 = dktX3_tries_0 := by decide +kernel
theorem dksX3_tries_1 : cX3_tries.data.toList.drop 24 = dktX3_tries_1 := dk_seg dksX3_tries_0 24 rfl rfl
theorem dksX3_tries_2 : cX3_tries.data.toList.drop 48 = dktX3_tries_2 := dk_seg dksX3_tries_1 24 rfl rfl
theorem dksX3_tries_3 : cX3_tries.data.toList.drop 72 = dktX3_tries_3 := dk_seg dksX3_tries_2 24 rfl rfl
theorem dksX3_tries_4 : cX3_tries.data.toList.drop 96 = dktX3_tries_4 := dk_seg dksX3_tries_3 24 rfl rfl
theorem dksX3_tries_5 : cX3_tries.data.toList.drop 118 = dktX3_tries_5 := dk_seg dksX3_tries_4 22 rfl rfl
theorem dX3_tries_0 : decode cX3_tries 0 = .ok (.iload_n 3, 1) := dk_29 (dk_at dksX3_tries_0 0 rfl rfl)
theorem dX3_tries_1 : decode cX3_tries 1 = .ok (.aload_n 0, 1) := dk_42 (dk_at dksX3_tries_0 1 rfl rfl)
theorem dX3_tries_2 : decode cX3_tries 2 = .ok (.getfield 66, 3) := dk_180 0 66 (dk_at dksX3_tries_0 2 rfl rfl)
theorem dX3_tries_5 : decode cX3_tries 5 = .ok (.iload_n 1, 1) := dk_27 (dk_at dksX3_tries_0 5 rfl rfl)
theorem dX3_tries_6 : decode cX3_tries 6 = .ok (.iaload, 1) := dk_46 (dk_at dksX3_tries_0 6 rfl rfl)
theorem dX3_tries_7 : decode cX3_tries 7 = .ok (.if_icmp .ne 20, 3) := dk_160 0 20 (dk_at dksX3_tries_0 7 rfl rfl)
theorem dX3_tries_10 : decode cX3_tries 10 = .ok (.aload_n 0, 1) := dk_42 (dk_at dksX3_tries_0 10 rfl rfl)
theorem dX3_tries_11 : decode cX3_tries 11 = .ok (.getfield 272, 3) := dk_180 1 16 (dk_at dksX3_tries_0 11 rfl rfl)
theorem dX3_tries_14 : decode cX3_tries 14 = .ok (.aload_n 0, 1) := dk_42 (dk_at dksX3_tries_0 14 rfl rfl)
theorem dX3_tries_15 : decode cX3_tries 15 = .ok (.getfield 69, 3) := dk_180 0 69 (dk_at dksX3_tries_0 15 rfl rfl)
theorem dX3_tries_18 : decode cX3_tries 18 = .ok (.iload_n 1, 1) := dk_27 (dk_at dksX3_tries_0 18 rfl rfl)
theorem dX3_tries_19 : decode cX3_tries 19 = .ok (.iaload, 1) := dk_46 (dk_at dksX3_tries_0 19 rfl rfl)
theorem dX3_tries_20 : decode cX3_tries 20 = .ok (.if_icmp .lt 7, 3) := dk_161 0 7 (dk_at dksX3_tries_0 20 rfl rfl)
theorem dX3_tries_23 : decode cX3_tries 23 = .ok (.iconst 1, 1) := dk_4 (dk_at dksX3_tries_0 23 rfl rfl)
theorem dX3_tries_24 : decode cX3_tries 24 = .ok (.goto 4, 3) := dk_167 0 4 (dk_at dksX3_tries_1 0 rfl rfl)
theorem dX3_tries_27 : decode cX3_tries 27 = .ok (.iconst 0, 1) := dk_3 (dk_at dksX3_tries_1 3 rfl rfl)
theorem dX3_tries_28 : decode cX3_tries 28 = .ok (.istore 4, 2) := dk_54 4 (dk_at dksX3_tries_1 4 rfl rfl)
theorem dX3_tries_30 : decode cX3_tries 30 = .ok (.aload_n 0, 1) := dk_42 (dk_at dksX3_tries_1 6 rfl rfl)
theorem dX3_tries_31 : decode cX3_tries 31 = .ok (.getfield 90, 3) := dk_180 0 90 (dk_at dksX3_tries_1 7 rfl rfl)
theorem dX3_tries_34 : decode cX3_tries 34 = .ok (.aload_n 0, 1) := dk_42 (dk_at dksX3_tries_1 10 rfl rfl)
theorem dX3_tries_35 : decode cX3_tries 35 = .ok (.getfield 275, 3) := dk_180 1 19 (dk_at dksX3_tries_1 11 rfl rfl)
theorem dX3_tries_38 : decode cX3_tries 38 = .ok (.iload_n 1, 1) := dk_27 (dk_at dksX3_tries_1 14 rfl rfl)
theorem dX3_tries_39 : decode cX3_tries 39 = .ok (.iastore, 1) := dk_79 (dk_at dksX3_tries_1 15 rfl rfl)
theorem dX3_tries_40 : decode cX3_tries 40 = .ok (.aload_n 0, 1) := dk_42 (dk_at dksX3_tries_1 16 rfl rfl)
theorem dX3_tries_41 : decode cX3_tries 41 = .ok (.getfield 93, 3) := dk_180 0 93 (dk_at dksX3_tries_1 17 rfl rfl)
theorem dX3_tries_44 : decode cX3_tries 44 = .ok (.aload_n 0, 1) := dk_42 (dk_at dksX3_tries_1 20 rfl rfl)
theorem dX3_tries_45 : decode cX3_tries 45 = .ok (.getfield 275, 3) := dk_180 1 19 (dk_at dksX3_tries_1 21 rfl rfl)
theorem dX3_tries_48 : decode cX3_tries 48 = .ok (.iload_n 2, 1) := dk_28 (dk_at dksX3_tries_2 0 rfl rfl)
theorem dX3_tries_49 : decode cX3_tries 49 = .ok (.iastore, 1) := dk_79 (dk_at dksX3_tries_2 1 rfl rfl)
theorem dX3_tries_50 : decode cX3_tries 50 = .ok (.aload_n 0, 1) := dk_42 (dk_at dksX3_tries_2 2 rfl rfl)
theorem dX3_tries_51 : decode cX3_tries 51 = .ok (.getfield 96, 3) := dk_180 0 96 (dk_at dksX3_tries_2 3 rfl rfl)
theorem dX3_tries_54 : decode cX3_tries 54 = .ok (.aload_n 0, 1) := dk_42 (dk_at dksX3_tries_2 6 rfl rfl)
theorem dX3_tries_55 : decode cX3_tries 55 = .ok (.getfield 275, 3) := dk_180 1 19 (dk_at dksX3_tries_2 7 rfl rfl)
theorem dX3_tries_58 : decode cX3_tries 58 = .ok (.iload_n 3, 1) := dk_29 (dk_at dksX3_tries_2 10 rfl rfl)
theorem dX3_tries_59 : decode cX3_tries 59 = .ok (.iastore, 1) := dk_79 (dk_at dksX3_tries_2 11 rfl rfl)
theorem dX3_tries_60 : decode cX3_tries 60 = .ok (.aload_n 0, 1) := dk_42 (dk_at dksX3_tries_2 12 rfl rfl)
theorem dX3_tries_61 : decode cX3_tries 61 = .ok (.getfield 99, 3) := dk_180 0 99 (dk_at dksX3_tries_2 13 rfl rfl)
theorem dX3_tries_64 : decode cX3_tries 64 = .ok (.aload_n 0, 1) := dk_42 (dk_at dksX3_tries_2 16 rfl rfl)
theorem dX3_tries_65 : decode cX3_tries 65 = .ok (.getfield 275, 3) := dk_180 1 19 (dk_at dksX3_tries_2 17 rfl rfl)
theorem dX3_tries_68 : decode cX3_tries 68 = .ok (.aload_n 0, 1) := dk_42 (dk_at dksX3_tries_2 20 rfl rfl)
theorem dX3_tries_69 : decode cX3_tries 69 = .ok (.getfield 272, 3) := dk_180 1 16 (dk_at dksX3_tries_2 21 rfl rfl)
theorem dX3_tries_72 : decode cX3_tries 72 = .ok (.iastore, 1) := dk_79 (dk_at dksX3_tries_3 0 rfl rfl)
theorem dX3_tries_73 : decode cX3_tries 73 = .ok (.aload_n 0, 1) := dk_42 (dk_at dksX3_tries_3 1 rfl rfl)
theorem dX3_tries_74 : decode cX3_tries 74 = .ok (.getfield 102, 3) := dk_180 0 102 (dk_at dksX3_tries_3 2 rfl rfl)
theorem dX3_tries_77 : decode cX3_tries 77 = .ok (.aload_n 0, 1) := dk_42 (dk_at dksX3_tries_3 5 rfl rfl)
theorem dX3_tries_78 : decode cX3_tries 78 = .ok (.getfield 275, 3) := dk_180 1 19 (dk_at dksX3_tries_3 6 rfl rfl)
theorem dX3_tries_81 : decode cX3_tries 81 = .ok (.iload 4, 2) := dk_21 4 (dk_at dksX3_tries_3 9 rfl rfl)
theorem dX3_tries_83 : decode cX3_tries 83 = .ok (.bastore, 1) := dk_84 (dk_at dksX3_tries_3 11 rfl rfl)
theorem dX3_tries_84 : decode cX3_tries 84 = .ok (.aload_n 0, 1) := dk_42 (dk_at dksX3_tries_3 12 rfl rfl)
theorem dX3_tries_85 : decode cX3_tries 85 = .ok (.dup, 1) := dk_89 (dk_at dksX3_tries_3 13 rfl rfl)
theorem dX3_tries_86 : decode cX3_tries 86 = .ok (.getfield 275, 3) := dk_180 1 19 (dk_at dksX3_tries_3 14 rfl rfl)
theorem dX3_tries_89 : decode cX3_tries 89 = .ok (.iconst 1, 1) := dk_4 (dk_at dksX3_tries_3 17 rfl rfl)
theorem dX3_tries_90 : decode cX3_tries 90 = .ok (.iadd, 1) := dk_96 (dk_at dksX3_tries_3 18 rfl rfl)
theorem dX3_tries_91 : decode cX3_tries 91 = .ok (.putfield 275, 3) := dk_181 1 19 (dk_at dksX3_tries_3 19 rfl rfl)
theorem dX3_tries_94 : decode cX3_tries 94 = .ok (.iload 4, 2) := dk_21 4 (dk_at dksX3_tries_3 22 rfl rfl)
theorem dX3_tries_96 : decode cX3_tries 96 = .ok (.ifCond .eq 13, 3) := dk_153 0 13 (dk_at dksX3_tries_4 0 rfl rfl)
theorem dX3_tries_99 : decode cX3_tries 99 = .ok (.aload_n 0, 1) := dk_42 (dk_at dksX3_tries_4 3 rfl rfl)
theorem dX3_tries_100 : decode cX3_tries 100 = .ok (.iload_n 1, 1) := dk_27 (dk_at dksX3_tries_4 4 rfl rfl)
theorem dX3_tries_101 : decode cX3_tries 101 = .ok (.iload_n 2, 1) := dk_28 (dk_at dksX3_tries_4 5 rfl rfl)
theorem dX3_tries_102 : decode cX3_tries 102 = .ok (.iload_n 3, 1) := dk_29 (dk_at dksX3_tries_4 6 rfl rfl)
theorem dX3_tries_103 : decode cX3_tries 103 = .ok (.invokevirtual 278, 3) := dk_182 1 22 (dk_at dksX3_tries_4 7 rfl rfl)
theorem dX3_tries_106 : decode cX3_tries 106 = .ok (.goto 10, 3) := dk_167 0 10 (dk_at dksX3_tries_4 10 rfl rfl)
theorem dX3_tries_109 : decode cX3_tries 109 = .ok (.aload_n 0, 1) := dk_42 (dk_at dksX3_tries_4 13 rfl rfl)
theorem dX3_tries_110 : decode cX3_tries 110 = .ok (.iload_n 1, 1) := dk_27 (dk_at dksX3_tries_4 14 rfl rfl)
theorem dX3_tries_111 : decode cX3_tries 111 = .ok (.iload_n 2, 1) := dk_28 (dk_at dksX3_tries_4 15 rfl rfl)
theorem dX3_tries_112 : decode cX3_tries 112 = .ok (.iload_n 3, 1) := dk_29 (dk_at dksX3_tries_4 16 rfl rfl)
theorem dX3_tries_113 : decode cX3_tries 113 = .ok (.invokevirtual 282, 3) := dk_182 1 26 (dk_at dksX3_tries_4 17 rfl rfl)
theorem dX3_tries_116 : decode cX3_tries 116 = .ok (.iload 4, 2) := dk_21 4 (dk_at dksX3_tries_4 20 rfl rfl)
theorem dX3_tries_118 : decode cX3_tries 118 = .ok (.ifCond .eq 7, 3) := dk_153 0 7 (dk_at dksX3_tries_5 0 rfl rfl)
theorem dX3_tries_121 : decode cX3_tries 121 = .ok (.iconst 1, 1) := dk_4 (dk_at dksX3_tries_5 3 rfl rfl)
theorem dX3_tries_122 : decode cX3_tries 122 = .ok (.goto 4, 3) := dk_167 0 4 (dk_at dksX3_tries_5 4 rfl rfl)
theorem dX3_tries_125 : decode cX3_tries 125 = .ok (.iconst 0, 1) := dk_3 (dk_at dksX3_tries_5 7 rfl rfl)
theorem dX3_tries_126 : decode cX3_tries 126 = .ok (.ireturn, 1) := dk_172 (dk_at dksX3_tries_5 8 rfl rfl)
abbrev cX3_arrives : ByteArray := prog_23_method_52_code
def yX3_arrives : MethodName := ⟨RX3, "arrives", "(III)V"⟩
def dkwX3_arrives_6 : List UInt8 := [180, 0, 60, 27, 46, 29, 4, 182, 0, 194, 132, 5, 1, 167, 255, 185, 132, 4, 1, 167, 255, 135, 177]
abbrev dktX3_arrives_6 : List UInt8 := dkwX3_arrives_6 ++ []
def dkwX3_arrives_5 : List UInt8 := [21, 4, 42, 180, 0, 60, 27, 46, 29, 184, 0, 184, 46, 6, 162, 0, 19, 42, 21, 5, 21, 4, 42]
abbrev dktX3_arrives_5 : List UInt8 := dkwX3_arrives_5 ++ dktX3_arrives_6
def dkwX3_arrives_4 : List UInt8 := [159, 0, 56, 42, 180, 0, 45, 21, 5, 46, 29, 184, 0, 215, 153, 0, 42, 42, 180, 0, 51, 21, 5]
abbrev dktX3_arrives_4 : List UInt8 := dkwX3_arrives_4 ++ dktX3_arrives_5
def dkwX3_arrives_3 : List UInt8 := [27, 46, 29, 4, 182, 0, 194, 3, 54, 5, 21, 5, 42, 180, 0, 141, 162, 0, 68, 21, 5, 28]
abbrev dktX3_arrives_3 : List UInt8 := dkwX3_arrives_3 ++ dktX3_arrives_4
def dkwX3_arrives_2 : List UInt8 := [180, 0, 54, 27, 46, 21, 4, 184, 0, 215, 154, 0, 6, 167, 0, 95, 42, 28, 21, 4, 42, 180, 0, 60]
abbrev dktX3_arrives_2 : List UInt8 := dkwX3_arrives_2 ++ dktX3_arrives_3
def dkwX3_arrives_1 : List UInt8 := [180, 0, 75, 27, 46, 4, 96, 96, 181, 1, 9, 3, 54, 4, 21, 4, 42, 180, 0, 138, 162, 0, 118, 42]
abbrev dktX3_arrives_1 : List UInt8 := dkwX3_arrives_1 ++ dktX3_arrives_2
def dkwX3_arrives_0 : List UInt8 := [42, 180, 0, 72, 27, 4, 79, 42, 89, 180, 1, 6, 4, 96, 181, 1, 6, 42, 89, 180, 1, 9, 42]
abbrev dktX3_arrives_0 : List UInt8 := dkwX3_arrives_0 ++ dktX3_arrives_1
theorem dksX3_arrives_0 : cX3_arrives.data.toList.drop 0 = dktX3_arrives_0 := by decide +kernel
theorem dksX3_arrives_1 : cX3_arrives.data.toList.drop 23 = dktX3_arrives_1 := dk_seg dksX3_arrives_0 23 rfl rfl
theorem dksX3_arrives_2 : cX3_arrives.data.toList.drop 47 = dktX3_arrives_2 := dk_seg dksX3_arrives_1 24 rfl rfl
theorem dksX3_arrives_3 : cX3_arrives.data.toList.drop 71 = dktX3_arrives_3 := dk_seg dksX3_arrives_2 24 rfl rfl
theorem dksX3_arrives_4 : cX3_arrives.data.toList.drop 93 = dktX3_arrives_4 := dk_seg dksX3_arrives_3 22 rfl rfl
theorem dksX3_arrives_5 : cX3_arrives.data.toList.drop 116 = dktX3_arrives_5 := dk_seg dksX3_arrives_4 23 rfl rfl
theorem dksX3_arrives_6 : cX3_arrives.data.toList.drop 139 = dktX3_arrives_6 := dk_seg dksX3_arrives_5 23 rfl rfl
theorem dX3_arrives_0 : decode cX3_arrives 0 = .ok (.aload_n 0, 1) := dk_42 (dk_at dksX3_arrives_0 0 rfl rfl)
theorem dX3_arrives_1 : decode cX3_arrives 1 = .ok (.getfield 72, 3) := dk_180 0 72 (dk_at dksX3_arrives_0 1 rfl rfl)
theorem dX3_arrives_4 : decode cX3_arrives 4 = .ok (.iload_n 1, 1) := dk_27 (dk_at dksX3_arrives_0 4 rfl rfl)
theorem dX3_arrives_5 : decode cX3_arrives 5 = .ok (.iconst 1, 1) := dk_4 (dk_at dksX3_arrives_0 5 rfl rfl)
theorem dX3_arrives_6 : decode cX3_arrives 6 = .ok (.iastore, 1) := dk_79 (dk_at dksX3_arrives_0 6 rfl rfl)
theorem dX3_arrives_7 : decode cX3_arrives 7 = .ok (.aload_n 0, 1) := dk_42 (dk_at dksX3_arrives_0 7 rfl rfl)
theorem dX3_arrives_8 : decode cX3_arrives 8 = .ok (.dup, 1) := dk_89 (dk_at dksX3_arrives_0 8 rfl rfl)
theorem dX3_arrives_9 : decode cX3_arrives 9 = .ok (.getfield 262, 3) := dk_180 1 6 (dk_at dksX3_arrives_0 9 rfl rfl)
theorem dX3_arrives_12 : decode cX3_arrives 12 = .ok (.iconst 1, 1) := dk_4 (dk_at dksX3_arrives_0 12 rfl rfl)
theorem dX3_arrives_13 : decode cX3_arrives 13 = .ok (.iadd, 1) := dk_96 (dk_at dksX3_arrives_0 13 rfl rfl)
theorem dX3_arrives_14 : decode cX3_arrives 14 = .ok (.putfield 262, 3) := dk_181 1 6 (dk_at dksX3_arrives_0 14 rfl rfl)
theorem dX3_arrives_17 : decode cX3_arrives 17 = .ok (.aload_n 0, 1) := dk_42 (dk_at dksX3_arrives_0 17 rfl rfl)
theorem dX3_arrives_18 : decode cX3_arrives 18 = .ok (.dup, 1) := dk_89 (dk_at dksX3_arrives_0 18 rfl rfl)
theorem dX3_arrives_19 : decode cX3_arrives 19 = .ok (.getfield 265, 3) := dk_180 1 9 (dk_at dksX3_arrives_0 19 rfl rfl)
theorem dX3_arrives_22 : decode cX3_arrives 22 = .ok (.aload_n 0, 1) := dk_42 (dk_at dksX3_arrives_0 22 rfl rfl)
theorem dX3_arrives_23 : decode cX3_arrives 23 = .ok (.getfield 75, 3) := dk_180 0 75 (dk_at dksX3_arrives_1 0 rfl rfl)
theorem dX3_arrives_26 : decode cX3_arrives 26 = .ok (.iload_n 1, 1) := dk_27 (dk_at dksX3_arrives_1 3 rfl rfl)
theorem dX3_arrives_27 : decode cX3_arrives 27 = .ok (.iaload, 1) := dk_46 (dk_at dksX3_arrives_1 4 rfl rfl)
theorem dX3_arrives_28 : decode cX3_arrives 28 = .ok (.iconst 1, 1) := dk_4 (dk_at dksX3_arrives_1 5 rfl rfl)
theorem dX3_arrives_29 : decode cX3_arrives 29 = .ok (.iadd, 1) := dk_96 (dk_at dksX3_arrives_1 6 rfl rfl)
theorem dX3_arrives_30 : decode cX3_arrives 30 = .ok (.iadd, 1) := dk_96 (dk_at dksX3_arrives_1 7 rfl rfl)
theorem dX3_arrives_31 : decode cX3_arrives 31 = .ok (.putfield 265, 3) := dk_181 1 9 (dk_at dksX3_arrives_1 8 rfl rfl)
theorem dX3_arrives_34 : decode cX3_arrives 34 = .ok (.iconst 0, 1) := dk_3 (dk_at dksX3_arrives_1 11 rfl rfl)
theorem dX3_arrives_35 : decode cX3_arrives 35 = .ok (.istore 4, 2) := dk_54 4 (dk_at dksX3_arrives_1 12 rfl rfl)
theorem dX3_arrives_37 : decode cX3_arrives 37 = .ok (.iload 4, 2) := dk_21 4 (dk_at dksX3_arrives_1 14 rfl rfl)
theorem dX3_arrives_39 : decode cX3_arrives 39 = .ok (.aload_n 0, 1) := dk_42 (dk_at dksX3_arrives_1 16 rfl rfl)
theorem dX3_arrives_40 : decode cX3_arrives 40 = .ok (.getfield 138, 3) := dk_180 0 138 (dk_at dksX3_arrives_1 17 rfl rfl)
theorem dX3_arrives_43 : decode cX3_arrives 43 = .ok (.if_icmp .ge 118, 3) := dk_162 0 118 (dk_at dksX3_arrives_1 20 rfl rfl)
theorem dX3_arrives_46 : decode cX3_arrives 46 = .ok (.aload_n 0, 1) := dk_42 (dk_at dksX3_arrives_1 23 rfl rfl)
theorem dX3_arrives_47 : decode cX3_arrives 47 = .ok (.getfield 54, 3) := dk_180 0 54 (dk_at dksX3_arrives_2 0 rfl rfl)
theorem dX3_arrives_50 : decode cX3_arrives 50 = .ok (.iload_n 1, 1) := dk_27 (dk_at dksX3_arrives_2 3 rfl rfl)
theorem dX3_arrives_51 : decode cX3_arrives 51 = .ok (.iaload, 1) := dk_46 (dk_at dksX3_arrives_2 4 rfl rfl)
theorem dX3_arrives_52 : decode cX3_arrives 52 = .ok (.iload 4, 2) := dk_21 4 (dk_at dksX3_arrives_2 5 rfl rfl)
theorem dX3_arrives_54 : decode cX3_arrives 54 = .ok (.invokestatic 215, 3) := dk_184 0 215 (dk_at dksX3_arrives_2 7 rfl rfl)
theorem dX3_arrives_57 : decode cX3_arrives 57 = .ok (.ifCond .ne 6, 3) := dk_154 0 6 (dk_at dksX3_arrives_2 10 rfl rfl)
theorem dX3_arrives_60 : decode cX3_arrives 60 = .ok (.goto 95, 3) := dk_167 0 95 (dk_at dksX3_arrives_2 13 rfl rfl)
theorem dX3_arrives_63 : decode cX3_arrives 63 = .ok (.aload_n 0, 1) := dk_42 (dk_at dksX3_arrives_2 16 rfl rfl)
theorem dX3_arrives_64 : decode cX3_arrives 64 = .ok (.iload_n 2, 1) := dk_28 (dk_at dksX3_arrives_2 17 rfl rfl)
theorem dX3_arrives_65 : decode cX3_arrives 65 = .ok (.iload 4, 2) := dk_21 4 (dk_at dksX3_arrives_2 18 rfl rfl)
theorem dX3_arrives_67 : decode cX3_arrives 67 = .ok (.aload_n 0, 1) := dk_42 (dk_at dksX3_arrives_2 20 rfl rfl)
theorem dX3_arrives_68 : decode cX3_arrives 68 = .ok (.getfield 60, 3) := dk_180 0 60 (dk_at dksX3_arrives_2 21 rfl rfl)
theorem dX3_arrives_71 : decode cX3_arrives 71 = .ok (.iload_n 1, 1) := dk_27 (dk_at dksX3_arrives_3 0 rfl rfl)
theorem dX3_arrives_72 : decode cX3_arrives 72 = .ok (.iaload, 1) := dk_46 (dk_at dksX3_arrives_3 1 rfl rfl)
theorem dX3_arrives_73 : decode cX3_arrives 73 = .ok (.iload_n 3, 1) := dk_29 (dk_at dksX3_arrives_3 2 rfl rfl)
theorem dX3_arrives_74 : decode cX3_arrives 74 = .ok (.iconst 1, 1) := dk_4 (dk_at dksX3_arrives_3 3 rfl rfl)
theorem dX3_arrives_75 : decode cX3_arrives 75 = .ok (.invokevirtual 194, 3) := dk_182 0 194 (dk_at dksX3_arrives_3 4 rfl rfl)
theorem dX3_arrives_78 : decode cX3_arrives 78 = .ok (.iconst 0, 1) := dk_3 (dk_at dksX3_arrives_3 7 rfl rfl)
theorem dX3_arrives_79 : decode cX3_arrives 79 = .ok (.istore 5, 2) := dk_54 5 (dk_at dksX3_arrives_3 8 rfl rfl)
theorem dX3_arrives_81 : decode cX3_arrives 81 = .ok (.iload 5, 2) := dk_21 5 (dk_at dksX3_arrives_3 10 rfl rfl)
theorem dX3_arrives_83 : decode cX3_arrives 83 = .ok (.aload_n 0, 1) := dk_42 (dk_at dksX3_arrives_3 12 rfl rfl)
theorem dX3_arrives_84 : decode cX3_arrives 84 = .ok (.getfield 141, 3) := dk_180 0 141 (dk_at dksX3_arrives_3 13 rfl rfl)
theorem dX3_arrives_87 : decode cX3_arrives 87 = .ok (.if_icmp .ge 68, 3) := dk_162 0 68 (dk_at dksX3_arrives_3 16 rfl rfl)
theorem dX3_arrives_90 : decode cX3_arrives 90 = .ok (.iload 5, 2) := dk_21 5 (dk_at dksX3_arrives_3 19 rfl rfl)
theorem dX3_arrives_92 : decode cX3_arrives 92 = .ok (.iload_n 2, 1) := dk_28 (dk_at dksX3_arrives_3 21 rfl rfl)
theorem dX3_arrives_93 : decode cX3_arrives 93 = .ok (.if_icmp .eq 56, 3) := dk_159 0 56 (dk_at dksX3_arrives_4 0 rfl rfl)
theorem dX3_arrives_96 : decode cX3_arrives 96 = .ok (.aload_n 0, 1) := dk_42 (dk_at dksX3_arrives_4 3 rfl rfl)
theorem dX3_arrives_97 : decode cX3_arrives 97 = .ok (.getfield 45, 3) := dk_180 0 45 (dk_at dksX3_arrives_4 4 rfl rfl)
theorem dX3_arrives_100 : decode cX3_arrives 100 = .ok (.iload 5, 2) := dk_21 5 (dk_at dksX3_arrives_4 7 rfl rfl)
theorem dX3_arrives_102 : decode cX3_arrives 102 = .ok (.iaload, 1) := dk_46 (dk_at dksX3_arrives_4 9 rfl rfl)
theorem dX3_arrives_103 : decode cX3_arrives 103 = .ok (.iload_n 3, 1) := dk_29 (dk_at dksX3_arrives_4 10 rfl rfl)
theorem dX3_arrives_104 : decode cX3_arrives 104 = .ok (.invokestatic 215, 3) := dk_184 0 215 (dk_at dksX3_arrives_4 11 rfl rfl)
theorem dX3_arrives_107 : decode cX3_arrives 107 = .ok (.ifCond .eq 42, 3) := dk_153 0 42 (dk_at dksX3_arrives_4 14 rfl rfl)
theorem dX3_arrives_110 : decode cX3_arrives 110 = .ok (.aload_n 0, 1) := dk_42 (dk_at dksX3_arrives_4 17 rfl rfl)
theorem dX3_arrives_111 : decode cX3_arrives 111 = .ok (.getfield 51, 3) := dk_180 0 51 (dk_at dksX3_arrives_4 18 rfl rfl)
theorem dX3_arrives_114 : decode cX3_arrives 114 = .ok (.iload 5, 2) := dk_21 5 (dk_at dksX3_arrives_4 21 rfl rfl)
theorem dX3_arrives_116 : decode cX3_arrives 116 = .ok (.iload 4, 2) := dk_21 4 (dk_at dksX3_arrives_5 0 rfl rfl)
theorem dX3_arrives_118 : decode cX3_arrives 118 = .ok (.aload_n 0, 1) := dk_42 (dk_at dksX3_arrives_5 2 rfl rfl)
theorem dX3_arrives_119 : decode cX3_arrives 119 = .ok (.getfield 60, 3) := dk_180 0 60 (dk_at dksX3_arrives_5 3 rfl rfl)
theorem dX3_arrives_122 : decode cX3_arrives 122 = .ok (.iload_n 1, 1) := dk_27 (dk_at dksX3_arrives_5 6 rfl rfl)
theorem dX3_arrives_123 : decode cX3_arrives 123 = .ok (.iaload, 1) := dk_46 (dk_at dksX3_arrives_5 7 rfl rfl)
theorem dX3_arrives_124 : decode cX3_arrives 124 = .ok (.iload_n 3, 1) := dk_29 (dk_at dksX3_arrives_5 8 rfl rfl)
theorem dX3_arrives_125 : decode cX3_arrives 125 = .ok (.invokestatic 184, 3) := dk_184 0 184 (dk_at dksX3_arrives_5 9 rfl rfl)
theorem dX3_arrives_128 : decode cX3_arrives 128 = .ok (.iaload, 1) := dk_46 (dk_at dksX3_arrives_5 12 rfl rfl)
theorem dX3_arrives_129 : decode cX3_arrives 129 = .ok (.iconst 3, 1) := dk_6 (dk_at dksX3_arrives_5 13 rfl rfl)
theorem dX3_arrives_130 : decode cX3_arrives 130 = .ok (.if_icmp .ge 19, 3) := dk_162 0 19 (dk_at dksX3_arrives_5 14 rfl rfl)
theorem dX3_arrives_133 : decode cX3_arrives 133 = .ok (.aload_n 0, 1) := dk_42 (dk_at dksX3_arrives_5 17 rfl rfl)
theorem dX3_arrives_134 : decode cX3_arrives 134 = .ok (.iload 5, 2) := dk_21 5 (dk_at dksX3_arrives_5 18 rfl rfl)
theorem dX3_arrives_136 : decode cX3_arrives 136 = .ok (.iload 4, 2) := dk_21 4 (dk_at dksX3_arrives_5 20 rfl rfl)
theorem dX3_arrives_138 : decode cX3_arrives 138 = .ok (.aload_n 0, 1) := dk_42 (dk_at dksX3_arrives_5 22 rfl rfl)
theorem dX3_arrives_139 : decode cX3_arrives 139 = .ok (.getfield 60, 3) := dk_180 0 60 (dk_at dksX3_arrives_6 0 rfl rfl)
theorem dX3_arrives_142 : decode cX3_arrives 142 = .ok (.iload_n 1, 1) := dk_27 (dk_at dksX3_arrives_6 3 rfl rfl)
theorem dX3_arrives_143 : decode cX3_arrives 143 = .ok (.iaload, 1) := dk_46 (dk_at dksX3_arrives_6 4 rfl rfl)
theorem dX3_arrives_144 : decode cX3_arrives 144 = .ok (.iload_n 3, 1) := dk_29 (dk_at dksX3_arrives_6 5 rfl rfl)
theorem dX3_arrives_145 : decode cX3_arrives 145 = .ok (.iconst 1, 1) := dk_4 (dk_at dksX3_arrives_6 6 rfl rfl)
theorem dX3_arrives_146 : decode cX3_arrives 146 = .ok (.invokevirtual 194, 3) := dk_182 0 194 (dk_at dksX3_arrives_6 7 rfl rfl)
theorem dX3_arrives_149 : decode cX3_arrives 149 = .ok (.iinc 5 1, 3) := dk_132 5 1 (dk_at dksX3_arrives_6 10 rfl rfl)
theorem dX3_arrives_152 : decode cX3_arrives 152 = .ok (.goto (-71), 3) := dk_167 255 185 (dk_at dksX3_arrives_6 13 rfl rfl)
theorem dX3_arrives_155 : decode cX3_arrives 155 = .ok (.iinc 4 1, 3) := dk_132 4 1 (dk_at dksX3_arrives_6 16 rfl rfl)
theorem dX3_arrives_158 : decode cX3_arrives 158 = .ok (.goto (-121), 3) := dk_167 255 135 (dk_at dksX3_arrives_6 19 rfl rfl)
theorem dX3_arrives_161 : decode cX3_arrives 161 = .ok (.return_, 1) := dk_177 (dk_at dksX3_arrives_6 22 rfl rfl)
abbrev cX3_comesBack : ByteArray := prog_23_method_53_code
def yX3_comesBack : MethodName := ⟨RX3, "comesBack", "(III)V"⟩
def dkwX3_comesBack_4 : List UInt8 := [167, 255, 214, 42, 180, 0, 75, 27, 46, 7, 160, 0, 8, 42, 27, 182, 1, 12, 177]
abbrev dktX3_comesBack_4 : List UInt8 := dkwX3_comesBack_4 ++ []
def dkwX3_comesBack_3 : List UInt8 := [153, 0, 19, 42, 28, 21, 4, 42, 180, 0, 60, 27, 46, 29, 16, 254, 182, 0, 194, 132, 4, 1]
abbrev dktX3_comesBack_3 : List UInt8 := dkwX3_comesBack_3 ++ dktX3_comesBack_4
def dkwX3_comesBack_2 : List UInt8 := [3, 54, 4, 21, 4, 42, 180, 0, 138, 162, 0, 39, 42, 180, 0, 54, 27, 46, 21, 4, 184, 0, 215]
abbrev dktX3_comesBack_2 : List UInt8 := dkwX3_comesBack_2 ++ dktX3_comesBack_3
def dkwX3_comesBack_1 : List UInt8 := [180, 0, 75, 27, 92, 46, 4, 96, 79, 42, 180, 0, 84, 16, 8, 27, 104, 29, 96, 92, 46, 4, 96, 79]
abbrev dktX3_comesBack_1 : List UInt8 := dkwX3_comesBack_1 ++ dktX3_comesBack_2
def dkwX3_comesBack_0 : List UInt8 := [42, 180, 0, 78, 27, 29, 42, 180, 0, 66, 27, 46, 160, 0, 7, 5, 167, 0, 4, 4, 79, 42]
abbrev dktX3_comesBack_0 : List UInt8 := dkwX3_comesBack_0 ++ dktX3_comesBack_1
theorem dksX3_comesBack_0 : cX3_comesBack.data.toList.drop 0 = dktX3_comesBack_0 := by decide +kernel
theorem dksX3_comesBack_1 : cX3_comesBack.data.toList.drop 22 = dktX3_comesBack_1 := dk_seg dksX3_comesBack_0 22 rfl rfl
theorem dksX3_comesBack_2 : cX3_comesBack.data.toList.drop 46 = dktX3_comesBack_2 := dk_seg dksX3_comesBack_1 24 rfl rfl
theorem dksX3_comesBack_3 : cX3_comesBack.data.toList.drop 69 = dktX3_comesBack_3 := dk_seg dksX3_comesBack_2 23 rfl rfl
theorem dksX3_comesBack_4 : cX3_comesBack.data.toList.drop 91 = dktX3_comesBack_4 := dk_seg dksX3_comesBack_3 22 rfl rfl
theorem dX3_comesBack_0 : decode cX3_comesBack 0 = .ok (.aload_n 0, 1) := dk_42 (dk_at dksX3_comesBack_0 0 rfl rfl)
theorem dX3_comesBack_1 : decode cX3_comesBack 1 = .ok (.getfield 78, 3) := dk_180 0 78 (dk_at dksX3_comesBack_0 1 rfl rfl)
theorem dX3_comesBack_4 : decode cX3_comesBack 4 = .ok (.iload_n 1, 1) := dk_27 (dk_at dksX3_comesBack_0 4 rfl rfl)
theorem dX3_comesBack_5 : decode cX3_comesBack 5 = .ok (.iload_n 3, 1) := dk_29 (dk_at dksX3_comesBack_0 5 rfl rfl)
theorem dX3_comesBack_6 : decode cX3_comesBack 6 = .ok (.aload_n 0, 1) := dk_42 (dk_at dksX3_comesBack_0 6 rfl rfl)
theorem dX3_comesBack_7 : decode cX3_comesBack 7 = .ok (.getfield 66, 3) := dk_180 0 66 (dk_at dksX3_comesBack_0 7 rfl rfl)
theorem dX3_comesBack_10 : decode cX3_comesBack 10 = .ok (.iload_n 1, 1) := dk_27 (dk_at dksX3_comesBack_0 10 rfl rfl)
theorem dX3_comesBack_11 : decode cX3_comesBack 11 = .ok (.iaload, 1) := dk_46 (dk_at dksX3_comesBack_0 11 rfl rfl)
theorem dX3_comesBack_12 : decode cX3_comesBack 12 = .ok (.if_icmp .ne 7, 3) := dk_160 0 7 (dk_at dksX3_comesBack_0 12 rfl rfl)
theorem dX3_comesBack_15 : decode cX3_comesBack 15 = .ok (.iconst 2, 1) := dk_5 (dk_at dksX3_comesBack_0 15 rfl rfl)
theorem dX3_comesBack_16 : decode cX3_comesBack 16 = .ok (.goto 4, 3) := dk_167 0 4 (dk_at dksX3_comesBack_0 16 rfl rfl)
theorem dX3_comesBack_19 : decode cX3_comesBack 19 = .ok (.iconst 1, 1) := dk_4 (dk_at dksX3_comesBack_0 19 rfl rfl)
theorem dX3_comesBack_20 : decode cX3_comesBack 20 = .ok (.iastore, 1) := dk_79 (dk_at dksX3_comesBack_0 20 rfl rfl)
theorem dX3_comesBack_21 : decode cX3_comesBack 21 = .ok (.aload_n 0, 1) := dk_42 (dk_at dksX3_comesBack_0 21 rfl rfl)
theorem dX3_comesBack_22 : decode cX3_comesBack 22 = .ok (.getfield 75, 3) := dk_180 0 75 (dk_at dksX3_comesBack_1 0 rfl rfl)
theorem dX3_comesBack_25 : decode cX3_comesBack 25 = .ok (.iload_n 1, 1) := dk_27 (dk_at dksX3_comesBack_1 3 rfl rfl)
theorem dX3_comesBack_26 : decode cX3_comesBack 26 = .ok (.dup2, 1) := dk_92 (dk_at dksX3_comesBack_1 4 rfl rfl)
theorem dX3_comesBack_27 : decode cX3_comesBack 27 = .ok (.iaload, 1) := dk_46 (dk_at dksX3_comesBack_1 5 rfl rfl)
theorem dX3_comesBack_28 : decode cX3_comesBack 28 = .ok (.iconst 1, 1) := dk_4 (dk_at dksX3_comesBack_1 6 rfl rfl)
theorem dX3_comesBack_29 : decode cX3_comesBack 29 = .ok (.iadd, 1) := dk_96 (dk_at dksX3_comesBack_1 7 rfl rfl)
theorem dX3_comesBack_30 : decode cX3_comesBack 30 = .ok (.iastore, 1) := dk_79 (dk_at dksX3_comesBack_1 8 rfl rfl)
theorem dX3_comesBack_31 : decode cX3_comesBack 31 = .ok (.aload_n 0, 1) := dk_42 (dk_at dksX3_comesBack_1 9 rfl rfl)
theorem dX3_comesBack_32 : decode cX3_comesBack 32 = .ok (.getfield 84, 3) := dk_180 0 84 (dk_at dksX3_comesBack_1 10 rfl rfl)
theorem dX3_comesBack_35 : decode cX3_comesBack 35 = .ok (.bipush 8, 2) := dk_16 8 (dk_at dksX3_comesBack_1 13 rfl rfl)
theorem dX3_comesBack_37 : decode cX3_comesBack 37 = .ok (.iload_n 1, 1) := dk_27 (dk_at dksX3_comesBack_1 15 rfl rfl)
theorem dX3_comesBack_38 : decode cX3_comesBack 38 = .ok (.imul, 1) := dk_104 (dk_at dksX3_comesBack_1 16 rfl rfl)
theorem dX3_comesBack_39 : decode cX3_comesBack 39 = .ok (.iload_n 3, 1) := dk_29 (dk_at dksX3_comesBack_1 17 rfl rfl)
theorem dX3_comesBack_40 : decode cX3_comesBack 40 = .ok (.iadd, 1) := dk_96 (dk_at dksX3_comesBack_1 18 rfl rfl)
theorem dX3_comesBack_41 : decode cX3_comesBack 41 = .ok (.dup2, 1) := dk_92 (dk_at dksX3_comesBack_1 19 rfl rfl)
theorem dX3_comesBack_42 : decode cX3_comesBack 42 = .ok (.iaload, 1) := dk_46 (dk_at dksX3_comesBack_1 20 rfl rfl)
theorem dX3_comesBack_43 : decode cX3_comesBack 43 = .ok (.iconst 1, 1) := dk_4 (dk_at dksX3_comesBack_1 21 rfl rfl)
theorem dX3_comesBack_44 : decode cX3_comesBack 44 = .ok (.iadd, 1) := dk_96 (dk_at dksX3_comesBack_1 22 rfl rfl)
theorem dX3_comesBack_45 : decode cX3_comesBack 45 = .ok (.iastore, 1) := dk_79 (dk_at dksX3_comesBack_1 23 rfl rfl)
theorem dX3_comesBack_46 : decode cX3_comesBack 46 = .ok (.iconst 0, 1) := dk_3 (dk_at dksX3_comesBack_2 0 rfl rfl)
theorem dX3_comesBack_47 : decode cX3_comesBack 47 = .ok (.istore 4, 2) := dk_54 4 (dk_at dksX3_comesBack_2 1 rfl rfl)
theorem dX3_comesBack_49 : decode cX3_comesBack 49 = .ok (.iload 4, 2) := dk_21 4 (dk_at dksX3_comesBack_2 3 rfl rfl)
theorem dX3_comesBack_51 : decode cX3_comesBack 51 = .ok (.aload_n 0, 1) := dk_42 (dk_at dksX3_comesBack_2 5 rfl rfl)
theorem dX3_comesBack_52 : decode cX3_comesBack 52 = .ok (.getfield 138, 3) := dk_180 0 138 (dk_at dksX3_comesBack_2 6 rfl rfl)
theorem dX3_comesBack_55 : decode cX3_comesBack 55 = .ok (.if_icmp .ge 39, 3) := dk_162 0 39 (dk_at dksX3_comesBack_2 9 rfl rfl)
theorem dX3_comesBack_58 : decode cX3_comesBack 58 = .ok (.aload_n 0, 1) := dk_42 (dk_at dksX3_comesBack_2 12 rfl rfl)
theorem dX3_comesBack_59 : decode cX3_comesBack 59 = .ok (.getfield 54, 3) := dk_180 0 54 (dk_at dksX3_comesBack_2 13 rfl rfl)
theorem dX3_comesBack_62 : decode cX3_comesBack 62 = .ok (.iload_n 1, 1) := dk_27 (dk_at dksX3_comesBack_2 16 rfl rfl)
theorem dX3_comesBack_63 : decode cX3_comesBack 63 = .ok (.iaload, 1) := dk_46 (dk_at dksX3_comesBack_2 17 rfl rfl)
theorem dX3_comesBack_64 : decode cX3_comesBack 64 = .ok (.iload 4, 2) := dk_21 4 (dk_at dksX3_comesBack_2 18 rfl rfl)
theorem dX3_comesBack_66 : decode cX3_comesBack 66 = .ok (.invokestatic 215, 3) := dk_184 0 215 (dk_at dksX3_comesBack_2 20 rfl rfl)
theorem dX3_comesBack_69 : decode cX3_comesBack 69 = .ok (.ifCond .eq 19, 3) := dk_153 0 19 (dk_at dksX3_comesBack_3 0 rfl rfl)
theorem dX3_comesBack_72 : decode cX3_comesBack 72 = .ok (.aload_n 0, 1) := dk_42 (dk_at dksX3_comesBack_3 3 rfl rfl)
theorem dX3_comesBack_73 : decode cX3_comesBack 73 = .ok (.iload_n 2, 1) := dk_28 (dk_at dksX3_comesBack_3 4 rfl rfl)
theorem dX3_comesBack_74 : decode cX3_comesBack 74 = .ok (.iload 4, 2) := dk_21 4 (dk_at dksX3_comesBack_3 5 rfl rfl)
theorem dX3_comesBack_76 : decode cX3_comesBack 76 = .ok (.aload_n 0, 1) := dk_42 (dk_at dksX3_comesBack_3 7 rfl rfl)
theorem dX3_comesBack_77 : decode cX3_comesBack 77 = .ok (.getfield 60, 3) := dk_180 0 60 (dk_at dksX3_comesBack_3 8 rfl rfl)
theorem dX3_comesBack_80 : decode cX3_comesBack 80 = .ok (.iload_n 1, 1) := dk_27 (dk_at dksX3_comesBack_3 11 rfl rfl)
theorem dX3_comesBack_81 : decode cX3_comesBack 81 = .ok (.iaload, 1) := dk_46 (dk_at dksX3_comesBack_3 12 rfl rfl)
theorem dX3_comesBack_82 : decode cX3_comesBack 82 = .ok (.iload_n 3, 1) := dk_29 (dk_at dksX3_comesBack_3 13 rfl rfl)
theorem dX3_comesBack_83 : decode cX3_comesBack 83 = .ok (.bipush (-2), 2) := dk_16 254 (dk_at dksX3_comesBack_3 14 rfl rfl)
theorem dX3_comesBack_85 : decode cX3_comesBack 85 = .ok (.invokevirtual 194, 3) := dk_182 0 194 (dk_at dksX3_comesBack_3 16 rfl rfl)
theorem dX3_comesBack_88 : decode cX3_comesBack 88 = .ok (.iinc 4 1, 3) := dk_132 4 1 (dk_at dksX3_comesBack_3 19 rfl rfl)
theorem dX3_comesBack_91 : decode cX3_comesBack 91 = .ok (.goto (-42), 3) := dk_167 255 214 (dk_at dksX3_comesBack_4 0 rfl rfl)
theorem dX3_comesBack_94 : decode cX3_comesBack 94 = .ok (.aload_n 0, 1) := dk_42 (dk_at dksX3_comesBack_4 3 rfl rfl)
theorem dX3_comesBack_95 : decode cX3_comesBack 95 = .ok (.getfield 75, 3) := dk_180 0 75 (dk_at dksX3_comesBack_4 4 rfl rfl)
theorem dX3_comesBack_98 : decode cX3_comesBack 98 = .ok (.iload_n 1, 1) := dk_27 (dk_at dksX3_comesBack_4 7 rfl rfl)
theorem dX3_comesBack_99 : decode cX3_comesBack 99 = .ok (.iaload, 1) := dk_46 (dk_at dksX3_comesBack_4 8 rfl rfl)
theorem dX3_comesBack_100 : decode cX3_comesBack 100 = .ok (.iconst 4, 1) := dk_7 (dk_at dksX3_comesBack_4 9 rfl rfl)
theorem dX3_comesBack_101 : decode cX3_comesBack 101 = .ok (.if_icmp .ne 8, 3) := dk_160 0 8 (dk_at dksX3_comesBack_4 10 rfl rfl)
theorem dX3_comesBack_104 : decode cX3_comesBack 104 = .ok (.aload_n 0, 1) := dk_42 (dk_at dksX3_comesBack_4 13 rfl rfl)
theorem dX3_comesBack_105 : decode cX3_comesBack 105 = .ok (.iload_n 1, 1) := dk_27 (dk_at dksX3_comesBack_4 14 rfl rfl)
theorem dX3_comesBack_106 : decode cX3_comesBack 106 = .ok (.invokevirtual 268, 3) := dk_182 1 12 (dk_at dksX3_comesBack_4 15 rfl rfl)
theorem dX3_comesBack_109 : decode cX3_comesBack 109 = .ok (.return_, 1) := dk_177 (dk_at dksX3_comesBack_4 18 rfl rfl)
abbrev cX3_givesUp : ByteArray := prog_23_method_51_code
def yX3_givesUp : MethodName := ⟨RX3, "givesUp", "(I)V"⟩
def dkwX3_givesUp_4 : List UInt8 := [167, 255, 196, 132, 3, 1, 167, 255, 179, 28, 153, 0, 13, 42, 89, 180, 1, 3, 4, 96, 181, 1, 3, 177]
abbrev dktX3_givesUp_4 : List UInt8 := dkwX3_givesUp_4 ++ []
def dkwX3_givesUp_3 : List UInt8 := [180, 0, 66, 27, 46, 184, 0, 184, 46, 158, 0, 7, 4, 167, 0, 4, 3, 128, 61, 132, 4, 1]
abbrev dktX3_givesUp_3 : List UInt8 := dkwX3_givesUp_3 ++ dktX3_givesUp_4
def dkwX3_givesUp_2 : List UInt8 := [46, 21, 4, 184, 0, 215, 153, 0, 33, 42, 180, 0, 51, 29, 21, 4, 42, 180, 0, 60, 27, 46, 42]
abbrev dktX3_givesUp_2 : List UInt8 := dkwX3_givesUp_2 ++ dktX3_givesUp_3
def dkwX3_givesUp_1 : List UInt8 := [180, 0, 141, 162, 0, 75, 3, 54, 4, 21, 4, 42, 180, 0, 138, 162, 0, 57, 28, 42, 180, 0, 54, 27]
abbrev dktX3_givesUp_1 : List UInt8 := dkwX3_givesUp_1 ++ dktX3_givesUp_2
def dkwX3_givesUp_0 : List UInt8 := [42, 180, 0, 72, 27, 5, 79, 42, 89, 180, 1, 0, 4, 96, 181, 1, 0, 3, 61, 3, 62, 29, 42]
abbrev dktX3_givesUp_0 : List UInt8 := dkwX3_givesUp_0 ++ dktX3_givesUp_1
theorem dksX3_givesUp_0 : cX3_givesUp.data.toList.drop 0 = dktX3_givesUp_0 := by decide +kernel
theorem dksX3_givesUp_1 : cX3_givesUp.data.toList.drop 23 = dktX3_givesUp_1 := dk_seg dksX3_givesUp_0 23 rfl rfl
theorem dksX3_givesUp_2 : cX3_givesUp.data.toList.drop 47 = dktX3_givesUp_2 := dk_seg dksX3_givesUp_1 24 rfl rfl
theorem dksX3_givesUp_3 : cX3_givesUp.data.toList.drop 70 = dktX3_givesUp_3 := dk_seg dksX3_givesUp_2 23 rfl rfl
theorem dksX3_givesUp_4 : cX3_givesUp.data.toList.drop 92 = dktX3_givesUp_4 := dk_seg dksX3_givesUp_3 22 rfl rfl
theorem dX3_givesUp_0 : decode cX3_givesUp 0 = .ok (.aload_n 0, 1) := dk_42 (dk_at dksX3_givesUp_0 0 rfl rfl)
theorem dX3_givesUp_1 : decode cX3_givesUp 1 = .ok (.getfield 72, 3) := dk_180 0 72 (dk_at dksX3_givesUp_0 1 rfl rfl)
theorem dX3_givesUp_4 : decode cX3_givesUp 4 = .ok (.iload_n 1, 1) := dk_27 (dk_at dksX3_givesUp_0 4 rfl rfl)
theorem dX3_givesUp_5 : decode cX3_givesUp 5 = .ok (.iconst 2, 1) := dk_5 (dk_at dksX3_givesUp_0 5 rfl rfl)
theorem dX3_givesUp_6 : decode cX3_givesUp 6 = .ok (.iastore, 1) := dk_79 (dk_at dksX3_givesUp_0 6 rfl rfl)
theorem dX3_givesUp_7 : decode cX3_givesUp 7 = .ok (.aload_n 0, 1) := dk_42 (dk_at dksX3_givesUp_0 7 rfl rfl)
theorem dX3_givesUp_8 : decode cX3_givesUp 8 = .ok (.dup, 1) := dk_89 (dk_at dksX3_givesUp_0 8 rfl rfl)
theorem dX3_givesUp_9 : decode cX3_givesUp 9 = .ok (.getfield 256, 3) := dk_180 1 0 (dk_at dksX3_givesUp_0 9 rfl rfl)
theorem dX3_givesUp_12 : decode cX3_givesUp 12 = .ok (.iconst 1, 1) := dk_4 (dk_at dksX3_givesUp_0 12 rfl rfl)
theorem dX3_givesUp_13 : decode cX3_givesUp 13 = .ok (.iadd, 1) := dk_96 (dk_at dksX3_givesUp_0 13 rfl rfl)
theorem dX3_givesUp_14 : decode cX3_givesUp 14 = .ok (.putfield 256, 3) := dk_181 1 0 (dk_at dksX3_givesUp_0 14 rfl rfl)
theorem dX3_givesUp_17 : decode cX3_givesUp 17 = .ok (.iconst 0, 1) := dk_3 (dk_at dksX3_givesUp_0 17 rfl rfl)
theorem dX3_givesUp_18 : decode cX3_givesUp 18 = .ok (.istore_n 2, 1) := dk_61 (dk_at dksX3_givesUp_0 18 rfl rfl)
theorem dX3_givesUp_19 : decode cX3_givesUp 19 = .ok (.iconst 0, 1) := dk_3 (dk_at dksX3_givesUp_0 19 rfl rfl)
theorem dX3_givesUp_20 : decode cX3_givesUp 20 = .ok (.istore_n 3, 1) := dk_62 (dk_at dksX3_givesUp_0 20 rfl rfl)
theorem dX3_givesUp_21 : decode cX3_givesUp 21 = .ok (.iload_n 3, 1) := dk_29 (dk_at dksX3_givesUp_0 21 rfl rfl)
theorem dX3_givesUp_22 : decode cX3_givesUp 22 = .ok (.aload_n 0, 1) := dk_42 (dk_at dksX3_givesUp_0 22 rfl rfl)
theorem dX3_givesUp_23 : decode cX3_givesUp 23 = .ok (.getfield 141, 3) := dk_180 0 141 (dk_at dksX3_givesUp_1 0 rfl rfl)
theorem dX3_givesUp_26 : decode cX3_givesUp 26 = .ok (.if_icmp .ge 75, 3) := dk_162 0 75 (dk_at dksX3_givesUp_1 3 rfl rfl)
theorem dX3_givesUp_29 : decode cX3_givesUp 29 = .ok (.iconst 0, 1) := dk_3 (dk_at dksX3_givesUp_1 6 rfl rfl)
theorem dX3_givesUp_30 : decode cX3_givesUp 30 = .ok (.istore 4, 2) := dk_54 4 (dk_at dksX3_givesUp_1 7 rfl rfl)
theorem dX3_givesUp_32 : decode cX3_givesUp 32 = .ok (.iload 4, 2) := dk_21 4 (dk_at dksX3_givesUp_1 9 rfl rfl)
theorem dX3_givesUp_34 : decode cX3_givesUp 34 = .ok (.aload_n 0, 1) := dk_42 (dk_at dksX3_givesUp_1 11 rfl rfl)
theorem dX3_givesUp_35 : decode cX3_givesUp 35 = .ok (.getfield 138, 3) := dk_180 0 138 (dk_at dksX3_givesUp_1 12 rfl rfl)
theorem dX3_givesUp_38 : decode cX3_givesUp 38 = .ok (.if_icmp .ge 57, 3) := dk_162 0 57 (dk_at dksX3_givesUp_1 15 rfl rfl)
theorem dX3_givesUp_41 : decode cX3_givesUp 41 = .ok (.iload_n 2, 1) := dk_28 (dk_at dksX3_givesUp_1 18 rfl rfl)
theorem dX3_givesUp_42 : decode cX3_givesUp 42 = .ok (.aload_n 0, 1) := dk_42 (dk_at dksX3_givesUp_1 19 rfl rfl)
theorem dX3_givesUp_43 : decode cX3_givesUp 43 = .ok (.getfield 54, 3) := dk_180 0 54 (dk_at dksX3_givesUp_1 20 rfl rfl)
theorem dX3_givesUp_46 : decode cX3_givesUp 46 = .ok (.iload_n 1, 1) := dk_27 (dk_at dksX3_givesUp_1 23 rfl rfl)
theorem dX3_givesUp_47 : decode cX3_givesUp 47 = .ok (.iaload, 1) := dk_46 (dk_at dksX3_givesUp_2 0 rfl rfl)
theorem dX3_givesUp_48 : decode cX3_givesUp 48 = .ok (.iload 4, 2) := dk_21 4 (dk_at dksX3_givesUp_2 1 rfl rfl)
theorem dX3_givesUp_50 : decode cX3_givesUp 50 = .ok (.invokestatic 215, 3) := dk_184 0 215 (dk_at dksX3_givesUp_2 3 rfl rfl)
theorem dX3_givesUp_53 : decode cX3_givesUp 53 = .ok (.ifCond .eq 33, 3) := dk_153 0 33 (dk_at dksX3_givesUp_2 6 rfl rfl)
theorem dX3_givesUp_56 : decode cX3_givesUp 56 = .ok (.aload_n 0, 1) := dk_42 (dk_at dksX3_givesUp_2 9 rfl rfl)
theorem dX3_givesUp_57 : decode cX3_givesUp 57 = .ok (.getfield 51, 3) := dk_180 0 51 (dk_at dksX3_givesUp_2 10 rfl rfl)
theorem dX3_givesUp_60 : decode cX3_givesUp 60 = .ok (.iload_n 3, 1) := dk_29 (dk_at dksX3_givesUp_2 13 rfl rfl)
theorem dX3_givesUp_61 : decode cX3_givesUp 61 = .ok (.iload 4, 2) := dk_21 4 (dk_at dksX3_givesUp_2 14 rfl rfl)
theorem dX3_givesUp_63 : decode cX3_givesUp 63 = .ok (.aload_n 0, 1) := dk_42 (dk_at dksX3_givesUp_2 16 rfl rfl)
theorem dX3_givesUp_64 : decode cX3_givesUp 64 = .ok (.getfield 60, 3) := dk_180 0 60 (dk_at dksX3_givesUp_2 17 rfl rfl)
theorem dX3_givesUp_67 : decode cX3_givesUp 67 = .ok (.iload_n 1, 1) := dk_27 (dk_at dksX3_givesUp_2 20 rfl rfl)
theorem dX3_givesUp_68 : decode cX3_givesUp 68 = .ok (.iaload, 1) := dk_46 (dk_at dksX3_givesUp_2 21 rfl rfl)
theorem dX3_givesUp_69 : decode cX3_givesUp 69 = .ok (.aload_n 0, 1) := dk_42 (dk_at dksX3_givesUp_2 22 rfl rfl)
theorem dX3_givesUp_70 : decode cX3_givesUp 70 = .ok (.getfield 66, 3) := dk_180 0 66 (dk_at dksX3_givesUp_3 0 rfl rfl)
theorem dX3_givesUp_73 : decode cX3_givesUp 73 = .ok (.iload_n 1, 1) := dk_27 (dk_at dksX3_givesUp_3 3 rfl rfl)
theorem dX3_givesUp_74 : decode cX3_givesUp 74 = .ok (.iaload, 1) := dk_46 (dk_at dksX3_givesUp_3 4 rfl rfl)
theorem dX3_givesUp_75 : decode cX3_givesUp 75 = .ok (.invokestatic 184, 3) := dk_184 0 184 (dk_at dksX3_givesUp_3 5 rfl rfl)
theorem dX3_givesUp_78 : decode cX3_givesUp 78 = .ok (.iaload, 1) := dk_46 (dk_at dksX3_givesUp_3 8 rfl rfl)
theorem dX3_givesUp_79 : decode cX3_givesUp 79 = .ok (.ifCond .le 7, 3) := dk_158 0 7 (dk_at dksX3_givesUp_3 9 rfl rfl)
theorem dX3_givesUp_82 : decode cX3_givesUp 82 = .ok (.iconst 1, 1) := dk_4 (dk_at dksX3_givesUp_3 12 rfl rfl)
theorem dX3_givesUp_83 : decode cX3_givesUp 83 = .ok (.goto 4, 3) := dk_167 0 4 (dk_at dksX3_givesUp_3 13 rfl rfl)
theorem dX3_givesUp_86 : decode cX3_givesUp 86 = .ok (.iconst 0, 1) := dk_3 (dk_at dksX3_givesUp_3 16 rfl rfl)
theorem dX3_givesUp_87 : decode cX3_givesUp 87 = .ok (.ior, 1) := dk_128 (dk_at dksX3_givesUp_3 17 rfl rfl)
theorem dX3_givesUp_88 : decode cX3_givesUp 88 = .ok (.istore_n 2, 1) := dk_61 (dk_at dksX3_givesUp_3 18 rfl rfl)
theorem dX3_givesUp_89 : decode cX3_givesUp 89 = .ok (.iinc 4 1, 3) := dk_132 4 1 (dk_at dksX3_givesUp_3 19 rfl rfl)
theorem dX3_givesUp_92 : decode cX3_givesUp 92 = .ok (.goto (-60), 3) := dk_167 255 196 (dk_at dksX3_givesUp_4 0 rfl rfl)
theorem dX3_givesUp_95 : decode cX3_givesUp 95 = .ok (.iinc 3 1, 3) := dk_132 3 1 (dk_at dksX3_givesUp_4 3 rfl rfl)
theorem dX3_givesUp_98 : decode cX3_givesUp 98 = .ok (.goto (-77), 3) := dk_167 255 179 (dk_at dksX3_givesUp_4 6 rfl rfl)
theorem dX3_givesUp_101 : decode cX3_givesUp 101 = .ok (.iload_n 2, 1) := dk_28 (dk_at dksX3_givesUp_4 9 rfl rfl)
theorem dX3_givesUp_102 : decode cX3_givesUp 102 = .ok (.ifCond .eq 13, 3) := dk_153 0 13 (dk_at dksX3_givesUp_4 10 rfl rfl)
theorem dX3_givesUp_105 : decode cX3_givesUp 105 = .ok (.aload_n 0, 1) := dk_42 (dk_at dksX3_givesUp_4 13 rfl rfl)
theorem dX3_givesUp_106 : decode cX3_givesUp 106 = .ok (.dup, 1) := dk_89 (dk_at dksX3_givesUp_4 14 rfl rfl)
theorem dX3_givesUp_107 : decode cX3_givesUp 107 = .ok (.getfield 259, 3) := dk_180 1 3 (dk_at dksX3_givesUp_4 15 rfl rfl)
theorem dX3_givesUp_110 : decode cX3_givesUp 110 = .ok (.iconst 1, 1) := dk_4 (dk_at dksX3_givesUp_4 18 rfl rfl)
theorem dX3_givesUp_111 : decode cX3_givesUp 111 = .ok (.iadd, 1) := dk_96 (dk_at dksX3_givesUp_4 19 rfl rfl)
theorem dX3_givesUp_112 : decode cX3_givesUp 112 = .ok (.putfield 259, 3) := dk_181 1 3 (dk_at dksX3_givesUp_4 20 rfl rfl)
theorem dX3_givesUp_115 : decode cX3_givesUp 115 = .ok (.return_, 1) := dk_177 (dk_at dksX3_givesUp_4 23 rfl rfl)
abbrev cX3_rules : ByteArray := prog_23_method_73_code
def yX3_rules : MethodName := ⟨RX3, "rules", "(I)V"⟩
def dkwX3_rules_6 : List UInt8 := [162, 0, 20, 42, 180, 0, 109, 7, 27, 104, 29, 96, 2, 79, 132, 3, 1, 167, 255, 237, 177]
abbrev dktX3_rules_6 : List UInt8 := dkwX3_rules_6 ++ []
def dkwX3_rules_5 : List UInt8 := [79, 42, 180, 0, 118, 27, 42, 180, 1, 16, 79, 42, 180, 0, 121, 27, 2, 79, 3, 62, 29, 7]
abbrev dktX3_rules_5 : List UInt8 := dkwX3_rules_5 ++ dktX3_rules_6
def dkwX3_rules_4 : List UInt8 := [46, 162, 0, 6, 21, 4, 61, 132, 3, 1, 167, 255, 156, 42, 180, 0, 115, 27, 42, 180, 0, 109, 28, 46]
abbrev dktX3_rules_4 : List UInt8 := dkwX3_rules_4 ++ dktX3_rules_5
def dkwX3_rules_3 : List UInt8 := [21, 6, 163, 0, 26, 21, 5, 21, 6, 160, 0, 22, 42, 180, 0, 112, 21, 4, 46, 42, 180, 0, 112, 28]
abbrev dktX3_rules_3 : List UInt8 := dkwX3_rules_3 ++ dktX3_rules_4
def dkwX3_rules_2 : List UInt8 := [21, 4, 46, 182, 1, 47, 54, 5, 42, 27, 42, 180, 0, 109, 28, 46, 182, 1, 47, 54, 6, 21, 5]
abbrev dktX3_rules_2 : List UInt8 := dkwX3_rules_2 ++ dktX3_rules_3
def dkwX3_rules_1 : List UInt8 := [160, 0, 6, 167, 0, 74, 28, 2, 160, 0, 9, 21, 4, 61, 167, 0, 63, 42, 27, 42, 180, 0, 109]
abbrev dktX3_rules_1 : List UInt8 := dkwX3_rules_1 ++ dktX3_rules_2
def dkwX3_rules_0 : List UInt8 := [2, 61, 3, 62, 29, 7, 162, 0, 101, 7, 27, 104, 29, 96, 54, 4, 42, 180, 0, 109, 21, 4, 46, 2]
abbrev dktX3_rules_0 : List UInt8 := dkwX3_rules_0 ++ dktX3_rules_1
theorem dksX3_rules_0 : cX3_rules.data.toList.drop 0 = dktX3_rules_0 := by decide +kernel
theorem dksX3_rules_1 : cX3_rules.data.toList.drop 24 = dktX3_rules_1 := dk_seg dksX3_rules_0 24 rfl rfl
theorem dksX3_rules_2 : cX3_rules.data.toList.drop 47 = dktX3_rules_2 := dk_seg dksX3_rules_1 23 rfl rfl
theorem dksX3_rules_3 : cX3_rules.data.toList.drop 70 = dktX3_rules_3 := dk_seg dksX3_rules_2 23 rfl rfl
theorem dksX3_rules_4 : cX3_rules.data.toList.drop 94 = dktX3_rules_4 := dk_seg dksX3_rules_3 24 rfl rfl
theorem dksX3_rules_5 : cX3_rules.data.toList.drop 118 = dktX3_rules_5 := dk_seg dksX3_rules_4 24 rfl rfl
theorem dksX3_rules_6 : cX3_rules.data.toList.drop 140 = dktX3_rules_6 := dk_seg dksX3_rules_5 22 rfl rfl
theorem dX3_rules_0 : decode cX3_rules 0 = .ok (.iconst (-1), 1) := dk_2 (dk_at dksX3_rules_0 0 rfl rfl)
theorem dX3_rules_1 : decode cX3_rules 1 = .ok (.istore_n 2, 1) := dk_61 (dk_at dksX3_rules_0 1 rfl rfl)
theorem dX3_rules_2 : decode cX3_rules 2 = .ok (.iconst 0, 1) := dk_3 (dk_at dksX3_rules_0 2 rfl rfl)
theorem dX3_rules_3 : decode cX3_rules 3 = .ok (.istore_n 3, 1) := dk_62 (dk_at dksX3_rules_0 3 rfl rfl)
theorem dX3_rules_4 : decode cX3_rules 4 = .ok (.iload_n 3, 1) := dk_29 (dk_at dksX3_rules_0 4 rfl rfl)
theorem dX3_rules_5 : decode cX3_rules 5 = .ok (.iconst 4, 1) := dk_7 (dk_at dksX3_rules_0 5 rfl rfl)
theorem dX3_rules_6 : decode cX3_rules 6 = .ok (.if_icmp .ge 101, 3) := dk_162 0 101 (dk_at dksX3_rules_0 6 rfl rfl)
theorem dX3_rules_9 : decode cX3_rules 9 = .ok (.iconst 4, 1) := dk_7 (dk_at dksX3_rules_0 9 rfl rfl)
theorem dX3_rules_10 : decode cX3_rules 10 = .ok (.iload_n 1, 1) := dk_27 (dk_at dksX3_rules_0 10 rfl rfl)
theorem dX3_rules_11 : decode cX3_rules 11 = .ok (.imul, 1) := dk_104 (dk_at dksX3_rules_0 11 rfl rfl)
theorem dX3_rules_12 : decode cX3_rules 12 = .ok (.iload_n 3, 1) := dk_29 (dk_at dksX3_rules_0 12 rfl rfl)
theorem dX3_rules_13 : decode cX3_rules 13 = .ok (.iadd, 1) := dk_96 (dk_at dksX3_rules_0 13 rfl rfl)
theorem dX3_rules_14 : decode cX3_rules 14 = .ok (.istore 4, 2) := dk_54 4 (dk_at dksX3_rules_0 14 rfl rfl)
theorem dX3_rules_16 : decode cX3_rules 16 = .ok (.aload_n 0, 1) := dk_42 (dk_at dksX3_rules_0 16 rfl rfl)
theorem dX3_rules_17 : decode cX3_rules 17 = .ok (.getfield 109, 3) := dk_180 0 109 (dk_at dksX3_rules_0 17 rfl rfl)
theorem dX3_rules_20 : decode cX3_rules 20 = .ok (.iload 4, 2) := dk_21 4 (dk_at dksX3_rules_0 20 rfl rfl)
theorem dX3_rules_22 : decode cX3_rules 22 = .ok (.iaload, 1) := dk_46 (dk_at dksX3_rules_0 22 rfl rfl)
theorem dX3_rules_23 : decode cX3_rules 23 = .ok (.iconst (-1), 1) := dk_2 (dk_at dksX3_rules_0 23 rfl rfl)
theorem dX3_rules_24 : decode cX3_rules 24 = .ok (.if_icmp .ne 6, 3) := dk_160 0 6 (dk_at dksX3_rules_1 0 rfl rfl)
theorem dX3_rules_27 : decode cX3_rules 27 = .ok (.goto 74, 3) := dk_167 0 74 (dk_at dksX3_rules_1 3 rfl rfl)
theorem dX3_rules_30 : decode cX3_rules 30 = .ok (.iload_n 2, 1) := dk_28 (dk_at dksX3_rules_1 6 rfl rfl)
theorem dX3_rules_31 : decode cX3_rules 31 = .ok (.iconst (-1), 1) := dk_2 (dk_at dksX3_rules_1 7 rfl rfl)
theorem dX3_rules_32 : decode cX3_rules 32 = .ok (.if_icmp .ne 9, 3) := dk_160 0 9 (dk_at dksX3_rules_1 8 rfl rfl)
theorem dX3_rules_35 : decode cX3_rules 35 = .ok (.iload 4, 2) := dk_21 4 (dk_at dksX3_rules_1 11 rfl rfl)
theorem dX3_rules_37 : decode cX3_rules 37 = .ok (.istore_n 2, 1) := dk_61 (dk_at dksX3_rules_1 13 rfl rfl)
theorem dX3_rules_38 : decode cX3_rules 38 = .ok (.goto 63, 3) := dk_167 0 63 (dk_at dksX3_rules_1 14 rfl rfl)
theorem dX3_rules_41 : decode cX3_rules 41 = .ok (.aload_n 0, 1) := dk_42 (dk_at dksX3_rules_1 17 rfl rfl)
theorem dX3_rules_42 : decode cX3_rules 42 = .ok (.iload_n 1, 1) := dk_27 (dk_at dksX3_rules_1 18 rfl rfl)
theorem dX3_rules_43 : decode cX3_rules 43 = .ok (.aload_n 0, 1) := dk_42 (dk_at dksX3_rules_1 19 rfl rfl)
theorem dX3_rules_44 : decode cX3_rules 44 = .ok (.getfield 109, 3) := dk_180 0 109 (dk_at dksX3_rules_1 20 rfl rfl)
theorem dX3_rules_47 : decode cX3_rules 47 = .ok (.iload 4, 2) := dk_21 4 (dk_at dksX3_rules_2 0 rfl rfl)
theorem dX3_rules_49 : decode cX3_rules 49 = .ok (.iaload, 1) := dk_46 (dk_at dksX3_rules_2 2 rfl rfl)
theorem dX3_rules_50 : decode cX3_rules 50 = .ok (.invokevirtual 303, 3) := dk_182 1 47 (dk_at dksX3_rules_2 3 rfl rfl)
theorem dX3_rules_53 : decode cX3_rules 53 = .ok (.istore 5, 2) := dk_54 5 (dk_at dksX3_rules_2 6 rfl rfl)
theorem dX3_rules_55 : decode cX3_rules 55 = .ok (.aload_n 0, 1) := dk_42 (dk_at dksX3_rules_2 8 rfl rfl)
theorem dX3_rules_56 : decode cX3_rules 56 = .ok (.iload_n 1, 1) := dk_27 (dk_at dksX3_rules_2 9 rfl rfl)
theorem dX3_rules_57 : decode cX3_rules 57 = .ok (.aload_n 0, 1) := dk_42 (dk_at dksX3_rules_2 10 rfl rfl)
theorem dX3_rules_58 : decode cX3_rules 58 = .ok (.getfield 109, 3) := dk_180 0 109 (dk_at dksX3_rules_2 11 rfl rfl)
theorem dX3_rules_61 : decode cX3_rules 61 = .ok (.iload_n 2, 1) := dk_28 (dk_at dksX3_rules_2 14 rfl rfl)
theorem dX3_rules_62 : decode cX3_rules 62 = .ok (.iaload, 1) := dk_46 (dk_at dksX3_rules_2 15 rfl rfl)
theorem dX3_rules_63 : decode cX3_rules 63 = .ok (.invokevirtual 303, 3) := dk_182 1 47 (dk_at dksX3_rules_2 16 rfl rfl)
theorem dX3_rules_66 : decode cX3_rules 66 = .ok (.istore 6, 2) := dk_54 6 (dk_at dksX3_rules_2 19 rfl rfl)
theorem dX3_rules_68 : decode cX3_rules 68 = .ok (.iload 5, 2) := dk_21 5 (dk_at dksX3_rules_2 21 rfl rfl)
theorem dX3_rules_70 : decode cX3_rules 70 = .ok (.iload 6, 2) := dk_21 6 (dk_at dksX3_rules_3 0 rfl rfl)
theorem dX3_rules_72 : decode cX3_rules 72 = .ok (.if_icmp .gt 26, 3) := dk_163 0 26 (dk_at dksX3_rules_3 2 rfl rfl)
theorem dX3_rules_75 : decode cX3_rules 75 = .ok (.iload 5, 2) := dk_21 5 (dk_at dksX3_rules_3 5 rfl rfl)
theorem dX3_rules_77 : decode cX3_rules 77 = .ok (.iload 6, 2) := dk_21 6 (dk_at dksX3_rules_3 7 rfl rfl)
theorem dX3_rules_79 : decode cX3_rules 79 = .ok (.if_icmp .ne 22, 3) := dk_160 0 22 (dk_at dksX3_rules_3 9 rfl rfl)
theorem dX3_rules_82 : decode cX3_rules 82 = .ok (.aload_n 0, 1) := dk_42 (dk_at dksX3_rules_3 12 rfl rfl)
theorem dX3_rules_83 : decode cX3_rules 83 = .ok (.getfield 112, 3) := dk_180 0 112 (dk_at dksX3_rules_3 13 rfl rfl)
theorem dX3_rules_86 : decode cX3_rules 86 = .ok (.iload 4, 2) := dk_21 4 (dk_at dksX3_rules_3 16 rfl rfl)
theorem dX3_rules_88 : decode cX3_rules 88 = .ok (.iaload, 1) := dk_46 (dk_at dksX3_rules_3 18 rfl rfl)
theorem dX3_rules_89 : decode cX3_rules 89 = .ok (.aload_n 0, 1) := dk_42 (dk_at dksX3_rules_3 19 rfl rfl)
theorem dX3_rules_90 : decode cX3_rules 90 = .ok (.getfield 112, 3) := dk_180 0 112 (dk_at dksX3_rules_3 20 rfl rfl)
theorem dX3_rules_93 : decode cX3_rules 93 = .ok (.iload_n 2, 1) := dk_28 (dk_at dksX3_rules_3 23 rfl rfl)
theorem dX3_rules_94 : decode cX3_rules 94 = .ok (.iaload, 1) := dk_46 (dk_at dksX3_rules_4 0 rfl rfl)
theorem dX3_rules_95 : decode cX3_rules 95 = .ok (.if_icmp .ge 6, 3) := dk_162 0 6 (dk_at dksX3_rules_4 1 rfl rfl)
theorem dX3_rules_98 : decode cX3_rules 98 = .ok (.iload 4, 2) := dk_21 4 (dk_at dksX3_rules_4 4 rfl rfl)
theorem dX3_rules_100 : decode cX3_rules 100 = .ok (.istore_n 2, 1) := dk_61 (dk_at dksX3_rules_4 6 rfl rfl)
theorem dX3_rules_101 : decode cX3_rules 101 = .ok (.iinc 3 1, 3) := dk_132 3 1 (dk_at dksX3_rules_4 7 rfl rfl)
theorem dX3_rules_104 : decode cX3_rules 104 = .ok (.goto (-100), 3) := dk_167 255 156 (dk_at dksX3_rules_4 10 rfl rfl)
theorem dX3_rules_107 : decode cX3_rules 107 = .ok (.aload_n 0, 1) := dk_42 (dk_at dksX3_rules_4 13 rfl rfl)
theorem dX3_rules_108 : decode cX3_rules 108 = .ok (.getfield 115, 3) := dk_180 0 115 (dk_at dksX3_rules_4 14 rfl rfl)
theorem dX3_rules_111 : decode cX3_rules 111 = .ok (.iload_n 1, 1) := dk_27 (dk_at dksX3_rules_4 17 rfl rfl)
theorem dX3_rules_112 : decode cX3_rules 112 = .ok (.aload_n 0, 1) := dk_42 (dk_at dksX3_rules_4 18 rfl rfl)
theorem dX3_rules_113 : decode cX3_rules 113 = .ok (.getfield 109, 3) := dk_180 0 109 (dk_at dksX3_rules_4 19 rfl rfl)
theorem dX3_rules_116 : decode cX3_rules 116 = .ok (.iload_n 2, 1) := dk_28 (dk_at dksX3_rules_4 22 rfl rfl)
theorem dX3_rules_117 : decode cX3_rules 117 = .ok (.iaload, 1) := dk_46 (dk_at dksX3_rules_4 23 rfl rfl)
theorem dX3_rules_118 : decode cX3_rules 118 = .ok (.iastore, 1) := dk_79 (dk_at dksX3_rules_5 0 rfl rfl)
theorem dX3_rules_119 : decode cX3_rules 119 = .ok (.aload_n 0, 1) := dk_42 (dk_at dksX3_rules_5 1 rfl rfl)
theorem dX3_rules_120 : decode cX3_rules 120 = .ok (.getfield 118, 3) := dk_180 0 118 (dk_at dksX3_rules_5 2 rfl rfl)
theorem dX3_rules_123 : decode cX3_rules 123 = .ok (.iload_n 1, 1) := dk_27 (dk_at dksX3_rules_5 5 rfl rfl)
theorem dX3_rules_124 : decode cX3_rules 124 = .ok (.aload_n 0, 1) := dk_42 (dk_at dksX3_rules_5 6 rfl rfl)
theorem dX3_rules_125 : decode cX3_rules 125 = .ok (.getfield 272, 3) := dk_180 1 16 (dk_at dksX3_rules_5 7 rfl rfl)
theorem dX3_rules_128 : decode cX3_rules 128 = .ok (.iastore, 1) := dk_79 (dk_at dksX3_rules_5 10 rfl rfl)
theorem dX3_rules_129 : decode cX3_rules 129 = .ok (.aload_n 0, 1) := dk_42 (dk_at dksX3_rules_5 11 rfl rfl)
theorem dX3_rules_130 : decode cX3_rules 130 = .ok (.getfield 121, 3) := dk_180 0 121 (dk_at dksX3_rules_5 12 rfl rfl)
theorem dX3_rules_133 : decode cX3_rules 133 = .ok (.iload_n 1, 1) := dk_27 (dk_at dksX3_rules_5 15 rfl rfl)
theorem dX3_rules_134 : decode cX3_rules 134 = .ok (.iconst (-1), 1) := dk_2 (dk_at dksX3_rules_5 16 rfl rfl)
theorem dX3_rules_135 : decode cX3_rules 135 = .ok (.iastore, 1) := dk_79 (dk_at dksX3_rules_5 17 rfl rfl)
theorem dX3_rules_136 : decode cX3_rules 136 = .ok (.iconst 0, 1) := dk_3 (dk_at dksX3_rules_5 18 rfl rfl)
theorem dX3_rules_137 : decode cX3_rules 137 = .ok (.istore_n 3, 1) := dk_62 (dk_at dksX3_rules_5 19 rfl rfl)
theorem dX3_rules_138 : decode cX3_rules 138 = .ok (.iload_n 3, 1) := dk_29 (dk_at dksX3_rules_5 20 rfl rfl)
theorem dX3_rules_139 : decode cX3_rules 139 = .ok (.iconst 4, 1) := dk_7 (dk_at dksX3_rules_5 21 rfl rfl)
theorem dX3_rules_140 : decode cX3_rules 140 = .ok (.if_icmp .ge 20, 3) := dk_162 0 20 (dk_at dksX3_rules_6 0 rfl rfl)
theorem dX3_rules_143 : decode cX3_rules 143 = .ok (.aload_n 0, 1) := dk_42 (dk_at dksX3_rules_6 3 rfl rfl)
theorem dX3_rules_144 : decode cX3_rules 144 = .ok (.getfield 109, 3) := dk_180 0 109 (dk_at dksX3_rules_6 4 rfl rfl)
theorem dX3_rules_147 : decode cX3_rules 147 = .ok (.iconst 4, 1) := dk_7 (dk_at dksX3_rules_6 7 rfl rfl)
theorem dX3_rules_148 : decode cX3_rules 148 = .ok (.iload_n 1, 1) := dk_27 (dk_at dksX3_rules_6 8 rfl rfl)
theorem dX3_rules_149 : decode cX3_rules 149 = .ok (.imul, 1) := dk_104 (dk_at dksX3_rules_6 9 rfl rfl)
theorem dX3_rules_150 : decode cX3_rules 150 = .ok (.iload_n 3, 1) := dk_29 (dk_at dksX3_rules_6 10 rfl rfl)
theorem dX3_rules_151 : decode cX3_rules 151 = .ok (.iadd, 1) := dk_96 (dk_at dksX3_rules_6 11 rfl rfl)
theorem dX3_rules_152 : decode cX3_rules 152 = .ok (.iconst (-1), 1) := dk_2 (dk_at dksX3_rules_6 12 rfl rfl)
theorem dX3_rules_153 : decode cX3_rules 153 = .ok (.iastore, 1) := dk_79 (dk_at dksX3_rules_6 13 rfl rfl)
theorem dX3_rules_154 : decode cX3_rules 154 = .ok (.iinc 3 1, 3) := dk_132 3 1 (dk_at dksX3_rules_6 14 rfl rfl)
theorem dX3_rules_157 : decode cX3_rules 157 = .ok (.goto (-19), 3) := dk_167 255 237 (dk_at dksX3_rules_6 17 rfl rfl)
theorem dX3_rules_160 : decode cX3_rules 160 = .ok (.return_, 1) := dk_177 (dk_at dksX3_rules_6 20 rfl rfl)
abbrev cX3_evidenceOf : ByteArray := prog_23_method_71_code
def yX3_evidenceOf : MethodName := ⟨RX3, "evidenceOf", "(II)I"⟩
def dkwX3_evidenceOf_2 : List UInt8 := [28, 160, 0, 7, 4, 167, 0, 4, 3, 96, 62, 132, 4, 1, 167, 255, 200, 29, 172]
abbrev dktX3_evidenceOf_2 : List UInt8 := dkwX3_evidenceOf_2 ++ []
def dkwX3_evidenceOf_1 : List UInt8 := [160, 0, 32, 42, 180, 0, 54, 21, 4, 46, 27, 184, 0, 215, 153, 0, 18, 42, 180, 0, 66, 21, 4, 46]
abbrev dktX3_evidenceOf_1 : List UInt8 := dkwX3_evidenceOf_1 ++ dktX3_evidenceOf_2
def dkwX3_evidenceOf_0 : List UInt8 := [3, 62, 3, 54, 4, 21, 4, 42, 180, 0, 144, 162, 0, 53, 29, 42, 180, 0, 72, 21, 4, 46, 4]
abbrev dktX3_evidenceOf_0 : List UInt8 := dkwX3_evidenceOf_0 ++ dktX3_evidenceOf_1
theorem dksX3_evidenceOf_0 : cX3_evidenceOf.data.toList.drop 0 = dktX3_evidenceOf_0 := by decide +kernel
theorem dksX3_evidenceOf_1 : cX3_evidenceOf.data.toList.drop 23 = dktX3_evidenceOf_1 := dk_seg dksX3_evidenceOf_0 23 rfl rfl
theorem dksX3_evidenceOf_2 : cX3_evidenceOf.data.toList.drop 47 = dktX3_evidenceOf_2 := dk_seg dksX3_evidenceOf_1 24 rfl rfl
theorem dX3_evidenceOf_0 : decode cX3_evidenceOf 0 = .ok (.iconst 0, 1) := dk_3 (dk_at dksX3_evidenceOf_0 0 rfl rfl)
theorem dX3_evidenceOf_1 : decode cX3_evidenceOf 1 = .ok (.istore_n 3, 1) := dk_62 (dk_at dksX3_evidenceOf_0 1 rfl rfl)
theorem dX3_evidenceOf_2 : decode cX3_evidenceOf 2 = .ok (.iconst 0, 1) := dk_3 (dk_at dksX3_evidenceOf_0 2 rfl rfl)
theorem dX3_evidenceOf_3 : decode cX3_evidenceOf 3 = .ok (.istore 4, 2) := dk_54 4 (dk_at dksX3_evidenceOf_0 3 rfl rfl)
theorem dX3_evidenceOf_5 : decode cX3_evidenceOf 5 = .ok (.iload 4, 2) := dk_21 4 (dk_at dksX3_evidenceOf_0 5 rfl rfl)
theorem dX3_evidenceOf_7 : decode cX3_evidenceOf 7 = .ok (.aload_n 0, 1) := dk_42 (dk_at dksX3_evidenceOf_0 7 rfl rfl)
theorem dX3_evidenceOf_8 : decode cX3_evidenceOf 8 = .ok (.getfield 144, 3) := dk_180 0 144 (dk_at dksX3_evidenceOf_0 8 rfl rfl)
theorem dX3_evidenceOf_11 : decode cX3_evidenceOf 11 = .ok (.if_icmp .ge 53, 3) := dk_162 0 53 (dk_at dksX3_evidenceOf_0 11 rfl rfl)
theorem dX3_evidenceOf_14 : decode cX3_evidenceOf 14 = .ok (.iload_n 3, 1) := dk_29 (dk_at dksX3_evidenceOf_0 14 rfl rfl)
theorem dX3_evidenceOf_15 : decode cX3_evidenceOf 15 = .ok (.aload_n 0, 1) := dk_42 (dk_at dksX3_evidenceOf_0 15 rfl rfl)
theorem dX3_evidenceOf_16 : decode cX3_evidenceOf 16 = .ok (.getfield 72, 3) := dk_180 0 72 (dk_at dksX3_evidenceOf_0 16 rfl rfl)
theorem dX3_evidenceOf_19 : decode cX3_evidenceOf 19 = .ok (.iload 4, 2) := dk_21 4 (dk_at dksX3_evidenceOf_0 19 rfl rfl)
theorem dX3_evidenceOf_21 : decode cX3_evidenceOf 21 = .ok (.iaload, 1) := dk_46 (dk_at dksX3_evidenceOf_0 21 rfl rfl)
theorem dX3_evidenceOf_22 : decode cX3_evidenceOf 22 = .ok (.iconst 1, 1) := dk_4 (dk_at dksX3_evidenceOf_0 22 rfl rfl)
theorem dX3_evidenceOf_23 : decode cX3_evidenceOf 23 = .ok (.if_icmp .ne 32, 3) := dk_160 0 32 (dk_at dksX3_evidenceOf_1 0 rfl rfl)
theorem dX3_evidenceOf_26 : decode cX3_evidenceOf 26 = .ok (.aload_n 0, 1) := dk_42 (dk_at dksX3_evidenceOf_1 3 rfl rfl)
theorem dX3_evidenceOf_27 : decode cX3_evidenceOf 27 = .ok (.getfield 54, 3) := dk_180 0 54 (dk_at dksX3_evidenceOf_1 4 rfl rfl)
theorem dX3_evidenceOf_30 : decode cX3_evidenceOf 30 = .ok (.iload 4, 2) := dk_21 4 (dk_at dksX3_evidenceOf_1 7 rfl rfl)
theorem dX3_evidenceOf_32 : decode cX3_evidenceOf 32 = .ok (.iaload, 1) := dk_46 (dk_at dksX3_evidenceOf_1 9 rfl rfl)
theorem dX3_evidenceOf_33 : decode cX3_evidenceOf 33 = .ok (.iload_n 1, 1) := dk_27 (dk_at dksX3_evidenceOf_1 10 rfl rfl)
theorem dX3_evidenceOf_34 : decode cX3_evidenceOf 34 = .ok (.invokestatic 215, 3) := dk_184 0 215 (dk_at dksX3_evidenceOf_1 11 rfl rfl)
theorem dX3_evidenceOf_37 : decode cX3_evidenceOf 37 = .ok (.ifCond .eq 18, 3) := dk_153 0 18 (dk_at dksX3_evidenceOf_1 14 rfl rfl)
theorem dX3_evidenceOf_40 : decode cX3_evidenceOf 40 = .ok (.aload_n 0, 1) := dk_42 (dk_at dksX3_evidenceOf_1 17 rfl rfl)
theorem dX3_evidenceOf_41 : decode cX3_evidenceOf 41 = .ok (.getfield 66, 3) := dk_180 0 66 (dk_at dksX3_evidenceOf_1 18 rfl rfl)
theorem dX3_evidenceOf_44 : decode cX3_evidenceOf 44 = .ok (.iload 4, 2) := dk_21 4 (dk_at dksX3_evidenceOf_1 21 rfl rfl)
theorem dX3_evidenceOf_46 : decode cX3_evidenceOf 46 = .ok (.iaload, 1) := dk_46 (dk_at dksX3_evidenceOf_1 23 rfl rfl)
theorem dX3_evidenceOf_47 : decode cX3_evidenceOf 47 = .ok (.iload_n 2, 1) := dk_28 (dk_at dksX3_evidenceOf_2 0 rfl rfl)
theorem dX3_evidenceOf_48 : decode cX3_evidenceOf 48 = .ok (.if_icmp .ne 7, 3) := dk_160 0 7 (dk_at dksX3_evidenceOf_2 1 rfl rfl)
theorem dX3_evidenceOf_51 : decode cX3_evidenceOf 51 = .ok (.iconst 1, 1) := dk_4 (dk_at dksX3_evidenceOf_2 4 rfl rfl)
theorem dX3_evidenceOf_52 : decode cX3_evidenceOf 52 = .ok (.goto 4, 3) := dk_167 0 4 (dk_at dksX3_evidenceOf_2 5 rfl rfl)
theorem dX3_evidenceOf_55 : decode cX3_evidenceOf 55 = .ok (.iconst 0, 1) := dk_3 (dk_at dksX3_evidenceOf_2 8 rfl rfl)
theorem dX3_evidenceOf_56 : decode cX3_evidenceOf 56 = .ok (.iadd, 1) := dk_96 (dk_at dksX3_evidenceOf_2 9 rfl rfl)
theorem dX3_evidenceOf_57 : decode cX3_evidenceOf 57 = .ok (.istore_n 3, 1) := dk_62 (dk_at dksX3_evidenceOf_2 10 rfl rfl)
theorem dX3_evidenceOf_58 : decode cX3_evidenceOf 58 = .ok (.iinc 4 1, 3) := dk_132 4 1 (dk_at dksX3_evidenceOf_2 11 rfl rfl)
theorem dX3_evidenceOf_61 : decode cX3_evidenceOf 61 = .ok (.goto (-56), 3) := dk_167 255 200 (dk_at dksX3_evidenceOf_2 14 rfl rfl)
theorem dX3_evidenceOf_64 : decode cX3_evidenceOf 64 = .ok (.iload_n 3, 1) := dk_29 (dk_at dksX3_evidenceOf_2 17 rfl rfl)
theorem dX3_evidenceOf_65 : decode cX3_evidenceOf 65 = .ok (.ireturn, 1) := dk_172 (dk_at dksX3_evidenceOf_2 18 rfl rfl)
abbrev cX3_fades : ByteArray := prog_23_method_55_code
def yX3_fades : MethodName := ⟨RX3, "fades", "()V"⟩
def dkwX3_fades_2 : List UInt8 := [132, 1, 1, 167, 255, 210, 177]
abbrev dktX3_fades_2 : List UInt8 := dkwX3_fades_2 ++ []
def dkwX3_fades_1 : List UInt8 := [158, 0, 7, 2, 167, 0, 17, 42, 180, 0, 51, 27, 46, 156, 0, 7, 4, 167, 0, 4, 3, 96, 79]
abbrev dktX3_fades_1 : List UInt8 := dkwX3_fades_1 ++ dktX3_fades_2
def dkwX3_fades_0 : List UInt8 := [3, 60, 27, 17, 7, 128, 162, 0, 45, 42, 180, 0, 51, 27, 92, 46, 42, 180, 0, 51, 27, 46]
abbrev dktX3_fades_0 : List UInt8 := dkwX3_fades_0 ++ dktX3_fades_1
theorem dksX3_fades_0 : cX3_fades.data.toList.drop 0 = dktX3_fades_0 := by decide +kernel
theorem dksX3_fades_1 : cX3_fades.data.toList.drop 22 = dktX3_fades_1 := dk_seg dksX3_fades_0 22 rfl rfl
theorem dksX3_fades_2 : cX3_fades.data.toList.drop 45 = dktX3_fades_2 := dk_seg dksX3_fades_1 23 rfl rfl
theorem dX3_fades_0 : decode cX3_fades 0 = .ok (.iconst 0, 1) := dk_3 (dk_at dksX3_fades_0 0 rfl rfl)
theorem dX3_fades_1 : decode cX3_fades 1 = .ok (.istore_n 1, 1) := dk_60 (dk_at dksX3_fades_0 1 rfl rfl)
theorem dX3_fades_2 : decode cX3_fades 2 = .ok (.iload_n 1, 1) := dk_27 (dk_at dksX3_fades_0 2 rfl rfl)
theorem dX3_fades_3 : decode cX3_fades 3 = .ok (.sipush 1920, 3) := dk_17 7 128 (dk_at dksX3_fades_0 3 rfl rfl)
theorem dX3_fades_6 : decode cX3_fades 6 = .ok (.if_icmp .ge 45, 3) := dk_162 0 45 (dk_at dksX3_fades_0 6 rfl rfl)
theorem dX3_fades_9 : decode cX3_fades 9 = .ok (.aload_n 0, 1) := dk_42 (dk_at dksX3_fades_0 9 rfl rfl)
theorem dX3_fades_10 : decode cX3_fades 10 = .ok (.getfield 51, 3) := dk_180 0 51 (dk_at dksX3_fades_0 10 rfl rfl)
theorem dX3_fades_13 : decode cX3_fades 13 = .ok (.iload_n 1, 1) := dk_27 (dk_at dksX3_fades_0 13 rfl rfl)
theorem dX3_fades_14 : decode cX3_fades 14 = .ok (.dup2, 1) := dk_92 (dk_at dksX3_fades_0 14 rfl rfl)
theorem dX3_fades_15 : decode cX3_fades 15 = .ok (.iaload, 1) := dk_46 (dk_at dksX3_fades_0 15 rfl rfl)
theorem dX3_fades_16 : decode cX3_fades 16 = .ok (.aload_n 0, 1) := dk_42 (dk_at dksX3_fades_0 16 rfl rfl)
theorem dX3_fades_17 : decode cX3_fades 17 = .ok (.getfield 51, 3) := dk_180 0 51 (dk_at dksX3_fades_0 17 rfl rfl)
theorem dX3_fades_20 : decode cX3_fades 20 = .ok (.iload_n 1, 1) := dk_27 (dk_at dksX3_fades_0 20 rfl rfl)
theorem dX3_fades_21 : decode cX3_fades 21 = .ok (.iaload, 1) := dk_46 (dk_at dksX3_fades_0 21 rfl rfl)
theorem dX3_fades_22 : decode cX3_fades 22 = .ok (.ifCond .le 7, 3) := dk_158 0 7 (dk_at dksX3_fades_1 0 rfl rfl)
theorem dX3_fades_25 : decode cX3_fades 25 = .ok (.iconst (-1), 1) := dk_2 (dk_at dksX3_fades_1 3 rfl rfl)
theorem dX3_fades_26 : decode cX3_fades 26 = .ok (.goto 17, 3) := dk_167 0 17 (dk_at dksX3_fades_1 4 rfl rfl)
theorem dX3_fades_29 : decode cX3_fades 29 = .ok (.aload_n 0, 1) := dk_42 (dk_at dksX3_fades_1 7 rfl rfl)
theorem dX3_fades_30 : decode cX3_fades 30 = .ok (.getfield 51, 3) := dk_180 0 51 (dk_at dksX3_fades_1 8 rfl rfl)
theorem dX3_fades_33 : decode cX3_fades 33 = .ok (.iload_n 1, 1) := dk_27 (dk_at dksX3_fades_1 11 rfl rfl)
theorem dX3_fades_34 : decode cX3_fades 34 = .ok (.iaload, 1) := dk_46 (dk_at dksX3_fades_1 12 rfl rfl)
theorem dX3_fades_35 : decode cX3_fades 35 = .ok (.ifCond .ge 7, 3) := dk_156 0 7 (dk_at dksX3_fades_1 13 rfl rfl)
theorem dX3_fades_38 : decode cX3_fades 38 = .ok (.iconst 1, 1) := dk_4 (dk_at dksX3_fades_1 16 rfl rfl)
theorem dX3_fades_39 : decode cX3_fades 39 = .ok (.goto 4, 3) := dk_167 0 4 (dk_at dksX3_fades_1 17 rfl rfl)
theorem dX3_fades_42 : decode cX3_fades 42 = .ok (.iconst 0, 1) := dk_3 (dk_at dksX3_fades_1 20 rfl rfl)
theorem dX3_fades_43 : decode cX3_fades 43 = .ok (.iadd, 1) := dk_96 (dk_at dksX3_fades_1 21 rfl rfl)
theorem dX3_fades_44 : decode cX3_fades 44 = .ok (.iastore, 1) := dk_79 (dk_at dksX3_fades_1 22 rfl rfl)
theorem dX3_fades_45 : decode cX3_fades 45 = .ok (.iinc 1 1, 3) := dk_132 1 1 (dk_at dksX3_fades_2 0 rfl rfl)
theorem dX3_fades_48 : decode cX3_fades 48 = .ok (.goto (-46), 3) := dk_167 255 210 (dk_at dksX3_fades_2 3 rfl rfl)
theorem dX3_fades_51 : decode cX3_fades 51 = .ok (.return_, 1) := dk_177 (dk_at dksX3_fades_2 6 rfl rfl)
abbrev cX3_day : ByteArray := prog_23_method_57_code
def yX3_day : MethodName := ⟨RX3, "day", "()I"⟩
def dkwX3_day_0 : List UInt8 := [42, 3, 181, 0, 1, 42, 180, 1, 16, 172]
abbrev dktX3_day_0 : List UInt8 := dkwX3_day_0 ++ []
theorem dksX3_day_0 : cX3_day.data.toList.drop 0 = dktX3_day_0 := by decide +kernel
theorem dX3_day_0 : decode cX3_day 0 = .ok (.aload_n 0, 1) := dk_42 (dk_at dksX3_day_0 0 rfl rfl)
theorem dX3_day_1 : decode cX3_day 1 = .ok (.iconst 0, 1) := dk_3 (dk_at dksX3_day_0 1 rfl rfl)
theorem dX3_day_2 : decode cX3_day 2 = .ok (.putfield 1, 3) := dk_181 0 1 (dk_at dksX3_day_0 2 rfl rfl)
theorem dX3_day_5 : decode cX3_day 5 = .ok (.aload_n 0, 1) := dk_42 (dk_at dksX3_day_0 5 rfl rfl)
theorem dX3_day_6 : decode cX3_day 6 = .ok (.getfield 272, 3) := dk_180 1 16 (dk_at dksX3_day_0 6 rfl rfl)
theorem dX3_day_9 : decode cX3_day 9 = .ok (.ireturn, 1) := dk_172 (dk_at dksX3_day_0 9 rfl rfl)
abbrev cX3_attempts : ByteArray := prog_23_method_59_code
def yX3_attempts : MethodName := ⟨RX3, "attempts", "()I"⟩
def dkwX3_attempts_0 : List UInt8 := [42, 3, 181, 0, 1, 42, 180, 1, 19, 172]
abbrev dktX3_attempts_0 : List UInt8 := dkwX3_attempts_0 ++ []
theorem dksX3_attempts_0 : cX3_attempts.data.toList.drop 0 = dktX3_attempts_0 := by decide +kernel
theorem dX3_attempts_0 : decode cX3_attempts 0 = .ok (.aload_n 0, 1) := dk_42 (dk_at dksX3_attempts_0 0 rfl rfl)
theorem dX3_attempts_1 : decode cX3_attempts 1 = .ok (.iconst 0, 1) := dk_3 (dk_at dksX3_attempts_0 1 rfl rfl)
theorem dX3_attempts_2 : decode cX3_attempts 2 = .ok (.putfield 1, 3) := dk_181 0 1 (dk_at dksX3_attempts_0 2 rfl rfl)
theorem dX3_attempts_5 : decode cX3_attempts 5 = .ok (.aload_n 0, 1) := dk_42 (dk_at dksX3_attempts_0 5 rfl rfl)
theorem dX3_attempts_6 : decode cX3_attempts 6 = .ok (.getfield 275, 3) := dk_180 1 19 (dk_at dksX3_attempts_0 6 rfl rfl)
theorem dX3_attempts_9 : decode cX3_attempts 9 = .ok (.ireturn, 1) := dk_172 (dk_at dksX3_attempts_0 9 rfl rfl)
abbrev cX3_attemptParcel : ByteArray := prog_23_method_60_code
def yX3_attemptParcel : MethodName := ⟨RX3, "attemptParcel", "(I)I"⟩
def dkwX3_attemptParcel_0 : List UInt8 := [42, 3, 181, 0, 1, 42, 27, 182, 1, 38, 153, 0, 7, 3, 167, 0, 9, 42, 180, 0, 90, 27, 46, 172]
abbrev dktX3_attemptParcel_0 : List UInt8 := dkwX3_attemptParcel_0 ++ []
theorem dksX3_attemptParcel_0 : cX3_attemptParcel.data.toList.drop 0 = dktX3_attemptParcel_0 := by decide +kernel
theorem dX3_attemptParcel_0 : decode cX3_attemptParcel 0 = .ok (.aload_n 0, 1) := dk_42 (dk_at dksX3_attemptParcel_0 0 rfl rfl)
theorem dX3_attemptParcel_1 : decode cX3_attemptParcel 1 = .ok (.iconst 0, 1) := dk_3 (dk_at dksX3_attemptParcel_0 1 rfl rfl)
theorem dX3_attemptParcel_2 : decode cX3_attemptParcel 2 = .ok (.putfield 1, 3) := dk_181 0 1 (dk_at dksX3_attemptParcel_0 2 rfl rfl)
theorem dX3_attemptParcel_5 : decode cX3_attemptParcel 5 = .ok (.aload_n 0, 1) := dk_42 (dk_at dksX3_attemptParcel_0 5 rfl rfl)
theorem dX3_attemptParcel_6 : decode cX3_attemptParcel 6 = .ok (.iload_n 1, 1) := dk_27 (dk_at dksX3_attemptParcel_0 6 rfl rfl)
theorem dX3_attemptParcel_7 : decode cX3_attemptParcel 7 = .ok (.invokevirtual 294, 3) := dk_182 1 38 (dk_at dksX3_attemptParcel_0 7 rfl rfl)
theorem dX3_attemptParcel_10 : decode cX3_attemptParcel 10 = .ok (.ifCond .eq 7, 3) := dk_153 0 7 (dk_at dksX3_attemptParcel_0 10 rfl rfl)
theorem dX3_attemptParcel_13 : decode cX3_attemptParcel 13 = .ok (.iconst 0, 1) := dk_3 (dk_at dksX3_attemptParcel_0 13 rfl rfl)
theorem dX3_attemptParcel_14 : decode cX3_attemptParcel 14 = .ok (.goto 9, 3) := dk_167 0 9 (dk_at dksX3_attemptParcel_0 14 rfl rfl)
theorem dX3_attemptParcel_17 : decode cX3_attemptParcel 17 = .ok (.aload_n 0, 1) := dk_42 (dk_at dksX3_attemptParcel_0 17 rfl rfl)
theorem dX3_attemptParcel_18 : decode cX3_attemptParcel 18 = .ok (.getfield 90, 3) := dk_180 0 90 (dk_at dksX3_attemptParcel_0 18 rfl rfl)
theorem dX3_attemptParcel_21 : decode cX3_attemptParcel 21 = .ok (.iload_n 1, 1) := dk_27 (dk_at dksX3_attemptParcel_0 21 rfl rfl)
theorem dX3_attemptParcel_22 : decode cX3_attemptParcel 22 = .ok (.iaload, 1) := dk_46 (dk_at dksX3_attemptParcel_0 22 rfl rfl)
theorem dX3_attemptParcel_23 : decode cX3_attemptParcel 23 = .ok (.ireturn, 1) := dk_172 (dk_at dksX3_attemptParcel_0 23 rfl rfl)
abbrev cX3_noAttempt : ByteArray := prog_23_method_58_code
def yX3_noAttempt : MethodName := ⟨RX3, "noAttempt", "(I)Z"⟩
def dkwX3_noAttempt_0 : List UInt8 := [42, 27, 3, 42, 180, 1, 19, 4, 100, 184, 0, 130, 4, 182, 0, 134, 172]
abbrev dktX3_noAttempt_0 : List UInt8 := dkwX3_noAttempt_0 ++ []
theorem dksX3_noAttempt_0 : cX3_noAttempt.data.toList.drop 0 = dktX3_noAttempt_0 := by decide +kernel
theorem dX3_noAttempt_0 : decode cX3_noAttempt 0 = .ok (.aload_n 0, 1) := dk_42 (dk_at dksX3_noAttempt_0 0 rfl rfl)
theorem dX3_noAttempt_1 : decode cX3_noAttempt 1 = .ok (.iload_n 1, 1) := dk_27 (dk_at dksX3_noAttempt_0 1 rfl rfl)
theorem dX3_noAttempt_2 : decode cX3_noAttempt 2 = .ok (.iconst 0, 1) := dk_3 (dk_at dksX3_noAttempt_0 2 rfl rfl)
theorem dX3_noAttempt_3 : decode cX3_noAttempt 3 = .ok (.aload_n 0, 1) := dk_42 (dk_at dksX3_noAttempt_0 3 rfl rfl)
theorem dX3_noAttempt_4 : decode cX3_noAttempt 4 = .ok (.getfield 275, 3) := dk_180 1 19 (dk_at dksX3_noAttempt_0 4 rfl rfl)
theorem dX3_noAttempt_7 : decode cX3_noAttempt 7 = .ok (.iconst 1, 1) := dk_4 (dk_at dksX3_noAttempt_0 7 rfl rfl)
theorem dX3_noAttempt_8 : decode cX3_noAttempt 8 = .ok (.isub, 1) := dk_100 (dk_at dksX3_noAttempt_0 8 rfl rfl)
theorem dX3_noAttempt_9 : decode cX3_noAttempt 9 = .ok (.invokestatic 130, 3) := dk_184 0 130 (dk_at dksX3_noAttempt_0 9 rfl rfl)
theorem dX3_noAttempt_12 : decode cX3_noAttempt 12 = .ok (.iconst 1, 1) := dk_4 (dk_at dksX3_noAttempt_0 12 rfl rfl)
theorem dX3_noAttempt_13 : decode cX3_noAttempt 13 = .ok (.invokevirtual 134, 3) := dk_182 0 134 (dk_at dksX3_noAttempt_0 13 rfl rfl)
theorem dX3_noAttempt_16 : decode cX3_noAttempt 16 = .ok (.ireturn, 1) := dk_172 (dk_at dksX3_noAttempt_0 16 rfl rfl)
abbrev cX3_attemptCarrier : ByteArray := prog_23_method_61_code
def yX3_attemptCarrier : MethodName := ⟨RX3, "attemptCarrier", "(I)I"⟩
def dkwX3_attemptCarrier_0 : List UInt8 := [42, 3, 181, 0, 1, 42, 27, 182, 1, 38, 153, 0, 7, 3, 167, 0, 9, 42, 180, 0, 93, 27, 46, 172]
abbrev dktX3_attemptCarrier_0 : List UInt8 := dkwX3_attemptCarrier_0 ++ []
theorem dksX3_attemptCarrier_0 : cX3_attemptCarrier.data.toList.drop 0 = dktX3_attemptCarrier_0 := by decide +kernel
theorem dX3_attemptCarrier_0 : decode cX3_attemptCarrier 0 = .ok (.aload_n 0, 1) := dk_42 (dk_at dksX3_attemptCarrier_0 0 rfl rfl)
theorem dX3_attemptCarrier_1 : decode cX3_attemptCarrier 1 = .ok (.iconst 0, 1) := dk_3 (dk_at dksX3_attemptCarrier_0 1 rfl rfl)
theorem dX3_attemptCarrier_2 : decode cX3_attemptCarrier 2 = .ok (.putfield 1, 3) := dk_181 0 1 (dk_at dksX3_attemptCarrier_0 2 rfl rfl)
theorem dX3_attemptCarrier_5 : decode cX3_attemptCarrier 5 = .ok (.aload_n 0, 1) := dk_42 (dk_at dksX3_attemptCarrier_0 5 rfl rfl)
theorem dX3_attemptCarrier_6 : decode cX3_attemptCarrier 6 = .ok (.iload_n 1, 1) := dk_27 (dk_at dksX3_attemptCarrier_0 6 rfl rfl)
theorem dX3_attemptCarrier_7 : decode cX3_attemptCarrier 7 = .ok (.invokevirtual 294, 3) := dk_182 1 38 (dk_at dksX3_attemptCarrier_0 7 rfl rfl)
theorem dX3_attemptCarrier_10 : decode cX3_attemptCarrier 10 = .ok (.ifCond .eq 7, 3) := dk_153 0 7 (dk_at dksX3_attemptCarrier_0 10 rfl rfl)
theorem dX3_attemptCarrier_13 : decode cX3_attemptCarrier 13 = .ok (.iconst 0, 1) := dk_3 (dk_at dksX3_attemptCarrier_0 13 rfl rfl)
theorem dX3_attemptCarrier_14 : decode cX3_attemptCarrier 14 = .ok (.goto 9, 3) := dk_167 0 9 (dk_at dksX3_attemptCarrier_0 14 rfl rfl)
theorem dX3_attemptCarrier_17 : decode cX3_attemptCarrier 17 = .ok (.aload_n 0, 1) := dk_42 (dk_at dksX3_attemptCarrier_0 17 rfl rfl)
theorem dX3_attemptCarrier_18 : decode cX3_attemptCarrier 18 = .ok (.getfield 93, 3) := dk_180 0 93 (dk_at dksX3_attemptCarrier_0 18 rfl rfl)
theorem dX3_attemptCarrier_21 : decode cX3_attemptCarrier 21 = .ok (.iload_n 1, 1) := dk_27 (dk_at dksX3_attemptCarrier_0 21 rfl rfl)
theorem dX3_attemptCarrier_22 : decode cX3_attemptCarrier 22 = .ok (.iaload, 1) := dk_46 (dk_at dksX3_attemptCarrier_0 22 rfl rfl)
theorem dX3_attemptCarrier_23 : decode cX3_attemptCarrier 23 = .ok (.ireturn, 1) := dk_172 (dk_at dksX3_attemptCarrier_0 23 rfl rfl)
abbrev cX3_attemptStreet : ByteArray := prog_23_method_62_code
def yX3_attemptStreet : MethodName := ⟨RX3, "attemptStreet", "(I)I"⟩
def dkwX3_attemptStreet_0 : List UInt8 := [42, 3, 181, 0, 1, 42, 27, 182, 1, 38, 153, 0, 7, 3, 167, 0, 9, 42, 180, 0, 96, 27, 46, 172]
abbrev dktX3_attemptStreet_0 : List UInt8 := dkwX3_attemptStreet_0 ++ []
theorem dksX3_attemptStreet_0 : cX3_attemptStreet.data.toList.drop 0 = dktX3_attemptStreet_0 := by decide +kernel
theorem dX3_attemptStreet_0 : decode cX3_attemptStreet 0 = .ok (.aload_n 0, 1) := dk_42 (dk_at dksX3_attemptStreet_0 0 rfl rfl)
theorem dX3_attemptStreet_1 : decode cX3_attemptStreet 1 = .ok (.iconst 0, 1) := dk_3 (dk_at dksX3_attemptStreet_0 1 rfl rfl)
theorem dX3_attemptStreet_2 : decode cX3_attemptStreet 2 = .ok (.putfield 1, 3) := dk_181 0 1 (dk_at dksX3_attemptStreet_0 2 rfl rfl)
theorem dX3_attemptStreet_5 : decode cX3_attemptStreet 5 = .ok (.aload_n 0, 1) := dk_42 (dk_at dksX3_attemptStreet_0 5 rfl rfl)
theorem dX3_attemptStreet_6 : decode cX3_attemptStreet 6 = .ok (.iload_n 1, 1) := dk_27 (dk_at dksX3_attemptStreet_0 6 rfl rfl)
theorem dX3_attemptStreet_7 : decode cX3_attemptStreet 7 = .ok (.invokevirtual 294, 3) := dk_182 1 38 (dk_at dksX3_attemptStreet_0 7 rfl rfl)
theorem dX3_attemptStreet_10 : decode cX3_attemptStreet 10 = .ok (.ifCond .eq 7, 3) := dk_153 0 7 (dk_at dksX3_attemptStreet_0 10 rfl rfl)
theorem dX3_attemptStreet_13 : decode cX3_attemptStreet 13 = .ok (.iconst 0, 1) := dk_3 (dk_at dksX3_attemptStreet_0 13 rfl rfl)
theorem dX3_attemptStreet_14 : decode cX3_attemptStreet 14 = .ok (.goto 9, 3) := dk_167 0 9 (dk_at dksX3_attemptStreet_0 14 rfl rfl)
theorem dX3_attemptStreet_17 : decode cX3_attemptStreet 17 = .ok (.aload_n 0, 1) := dk_42 (dk_at dksX3_attemptStreet_0 17 rfl rfl)
theorem dX3_attemptStreet_18 : decode cX3_attemptStreet 18 = .ok (.getfield 96, 3) := dk_180 0 96 (dk_at dksX3_attemptStreet_0 18 rfl rfl)
theorem dX3_attemptStreet_21 : decode cX3_attemptStreet 21 = .ok (.iload_n 1, 1) := dk_27 (dk_at dksX3_attemptStreet_0 21 rfl rfl)
theorem dX3_attemptStreet_22 : decode cX3_attemptStreet 22 = .ok (.iaload, 1) := dk_46 (dk_at dksX3_attemptStreet_0 22 rfl rfl)
theorem dX3_attemptStreet_23 : decode cX3_attemptStreet 23 = .ok (.ireturn, 1) := dk_172 (dk_at dksX3_attemptStreet_0 23 rfl rfl)
abbrev cX3_attemptDay : ByteArray := prog_23_method_63_code
def yX3_attemptDay : MethodName := ⟨RX3, "attemptDay", "(I)I"⟩
def dkwX3_attemptDay_0 : List UInt8 := [42, 3, 181, 0, 1, 42, 27, 182, 1, 38, 153, 0, 7, 3, 167, 0, 9, 42, 180, 0, 99, 27, 46, 172]
abbrev dktX3_attemptDay_0 : List UInt8 := dkwX3_attemptDay_0 ++ []
theorem dksX3_attemptDay_0 : cX3_attemptDay.data.toList.drop 0 = dktX3_attemptDay_0 := by decide +kernel
theorem dX3_attemptDay_0 : decode cX3_attemptDay 0 = .ok (.aload_n 0, 1) := dk_42 (dk_at dksX3_attemptDay_0 0 rfl rfl)
theorem dX3_attemptDay_1 : decode cX3_attemptDay 1 = .ok (.iconst 0, 1) := dk_3 (dk_at dksX3_attemptDay_0 1 rfl rfl)
theorem dX3_attemptDay_2 : decode cX3_attemptDay 2 = .ok (.putfield 1, 3) := dk_181 0 1 (dk_at dksX3_attemptDay_0 2 rfl rfl)
theorem dX3_attemptDay_5 : decode cX3_attemptDay 5 = .ok (.aload_n 0, 1) := dk_42 (dk_at dksX3_attemptDay_0 5 rfl rfl)
theorem dX3_attemptDay_6 : decode cX3_attemptDay 6 = .ok (.iload_n 1, 1) := dk_27 (dk_at dksX3_attemptDay_0 6 rfl rfl)
theorem dX3_attemptDay_7 : decode cX3_attemptDay 7 = .ok (.invokevirtual 294, 3) := dk_182 1 38 (dk_at dksX3_attemptDay_0 7 rfl rfl)
theorem dX3_attemptDay_10 : decode cX3_attemptDay 10 = .ok (.ifCond .eq 7, 3) := dk_153 0 7 (dk_at dksX3_attemptDay_0 10 rfl rfl)
theorem dX3_attemptDay_13 : decode cX3_attemptDay 13 = .ok (.iconst 0, 1) := dk_3 (dk_at dksX3_attemptDay_0 13 rfl rfl)
theorem dX3_attemptDay_14 : decode cX3_attemptDay 14 = .ok (.goto 9, 3) := dk_167 0 9 (dk_at dksX3_attemptDay_0 14 rfl rfl)
theorem dX3_attemptDay_17 : decode cX3_attemptDay 17 = .ok (.aload_n 0, 1) := dk_42 (dk_at dksX3_attemptDay_0 17 rfl rfl)
theorem dX3_attemptDay_18 : decode cX3_attemptDay 18 = .ok (.getfield 99, 3) := dk_180 0 99 (dk_at dksX3_attemptDay_0 18 rfl rfl)
theorem dX3_attemptDay_21 : decode cX3_attemptDay 21 = .ok (.iload_n 1, 1) := dk_27 (dk_at dksX3_attemptDay_0 21 rfl rfl)
theorem dX3_attemptDay_22 : decode cX3_attemptDay 22 = .ok (.iaload, 1) := dk_46 (dk_at dksX3_attemptDay_0 22 rfl rfl)
theorem dX3_attemptDay_23 : decode cX3_attemptDay 23 = .ok (.ireturn, 1) := dk_172 (dk_at dksX3_attemptDay_0 23 rfl rfl)
abbrev cX3_wasDelivered : ByteArray := prog_23_method_64_code
def yX3_wasDelivered : MethodName := ⟨RX3, "wasDelivered", "(I)Z"⟩
def dkwX3_wasDelivered_1 : List UInt8 := [167, 0, 4, 3, 172]
abbrev dktX3_wasDelivered_1 : List UInt8 := dkwX3_wasDelivered_1 ++ []
def dkwX3_wasDelivered_0 : List UInt8 := [42, 3, 181, 0, 1, 42, 27, 182, 1, 38, 154, 0, 16, 42, 180, 0, 102, 27, 51, 153, 0, 7, 4]
abbrev dktX3_wasDelivered_0 : List UInt8 := dkwX3_wasDelivered_0 ++ dktX3_wasDelivered_1
theorem dksX3_wasDelivered_0 : cX3_wasDelivered.data.toList.drop 0 = dktX3_wasDelivered_0 := by decide +kernel
theorem dksX3_wasDelivered_1 : cX3_wasDelivered.data.toList.drop 23 = dktX3_wasDelivered_1 := dk_seg dksX3_wasDelivered_0 23 rfl rfl
theorem dX3_wasDelivered_0 : decode cX3_wasDelivered 0 = .ok (.aload_n 0, 1) := dk_42 (dk_at dksX3_wasDelivered_0 0 rfl rfl)
theorem dX3_wasDelivered_1 : decode cX3_wasDelivered 1 = .ok (.iconst 0, 1) := dk_3 (dk_at dksX3_wasDelivered_0 1 rfl rfl)
theorem dX3_wasDelivered_2 : decode cX3_wasDelivered 2 = .ok (.putfield 1, 3) := dk_181 0 1 (dk_at dksX3_wasDelivered_0 2 rfl rfl)
theorem dX3_wasDelivered_5 : decode cX3_wasDelivered 5 = .ok (.aload_n 0, 1) := dk_42 (dk_at dksX3_wasDelivered_0 5 rfl rfl)
theorem dX3_wasDelivered_6 : decode cX3_wasDelivered 6 = .ok (.iload_n 1, 1) := dk_27 (dk_at dksX3_wasDelivered_0 6 rfl rfl)
theorem dX3_wasDelivered_7 : decode cX3_wasDelivered 7 = .ok (.invokevirtual 294, 3) := dk_182 1 38 (dk_at dksX3_wasDelivered_0 7 rfl rfl)
theorem dX3_wasDelivered_10 : decode cX3_wasDelivered 10 = .ok (.ifCond .ne 16, 3) := dk_154 0 16 (dk_at dksX3_wasDelivered_0 10 rfl rfl)
theorem dX3_wasDelivered_13 : decode cX3_wasDelivered 13 = .ok (.aload_n 0, 1) := dk_42 (dk_at dksX3_wasDelivered_0 13 rfl rfl)
theorem dX3_wasDelivered_14 : decode cX3_wasDelivered 14 = .ok (.getfield 102, 3) := dk_180 0 102 (dk_at dksX3_wasDelivered_0 14 rfl rfl)
theorem dX3_wasDelivered_17 : decode cX3_wasDelivered 17 = .ok (.iload_n 1, 1) := dk_27 (dk_at dksX3_wasDelivered_0 17 rfl rfl)
theorem dX3_wasDelivered_18 : decode cX3_wasDelivered 18 = .ok (.baload, 1) := dk_51 (dk_at dksX3_wasDelivered_0 18 rfl rfl)
theorem dX3_wasDelivered_19 : decode cX3_wasDelivered 19 = .ok (.ifCond .eq 7, 3) := dk_153 0 7 (dk_at dksX3_wasDelivered_0 19 rfl rfl)
theorem dX3_wasDelivered_22 : decode cX3_wasDelivered 22 = .ok (.iconst 1, 1) := dk_4 (dk_at dksX3_wasDelivered_0 22 rfl rfl)
theorem dX3_wasDelivered_23 : decode cX3_wasDelivered 23 = .ok (.goto 4, 3) := dk_167 0 4 (dk_at dksX3_wasDelivered_1 0 rfl rfl)
theorem dX3_wasDelivered_26 : decode cX3_wasDelivered 26 = .ok (.iconst 0, 1) := dk_3 (dk_at dksX3_wasDelivered_1 3 rfl rfl)
theorem dX3_wasDelivered_27 : decode cX3_wasDelivered 27 = .ok (.ireturn, 1) := dk_172 (dk_at dksX3_wasDelivered_1 4 rfl rfl)
abbrev cX3_claim : ByteArray := prog_23_method_66_code
def yX3_claim : MethodName := ⟨RX3, "claim", "(III)I"⟩
def dkwX3_claim_7 : List UInt8 := [21, 4, 172]
abbrev dktX3_claim_7 : List UInt8 := dkwX3_claim_7 ++ []
def dkwX3_claim_6 : List UInt8 := [28, 104, 21, 5, 96, 46, 2, 160, 0, 7, 3, 167, 0, 4, 4, 96, 54, 4, 132, 5, 1, 167, 255, 222]
abbrev dktX3_claim_6 : List UInt8 := dkwX3_claim_6 ++ dktX3_claim_7
def dkwX3_claim_5 : List UInt8 := [42, 28, 182, 1, 44, 3, 54, 4, 3, 54, 5, 21, 5, 7, 162, 0, 34, 21, 4, 42, 180, 0, 109, 7]
abbrev dktX3_claim_5 : List UInt8 := dkwX3_claim_5 ++ dktX3_claim_6
def dkwX3_claim_4 : List UInt8 := [42, 180, 0, 112, 7, 28, 104, 27, 96, 42, 180, 1, 41, 79, 42, 89, 180, 1, 41, 4, 96, 181, 1, 41]
abbrev dktX3_claim_4 : List UInt8 := dkwX3_claim_4 ++ dktX3_claim_5
def dkwX3_claim_3 : List UInt8 := [167, 0, 4, 3, 6, 182, 0, 134, 153, 0, 5, 3, 172, 42, 180, 0, 109, 7, 28, 104, 27, 96, 29, 79]
abbrev dktX3_claim_3 : List UInt8 := dkwX3_claim_3 ++ dktX3_claim_4
def dkwX3_claim_2 : List UInt8 := [180, 0, 109, 7, 28, 104, 27, 96, 46, 2, 160, 0, 17, 42, 27, 28, 29, 182, 0, 239, 153, 0, 7, 4]
abbrev dktX3_claim_2 : List UInt8 := dkwX3_claim_2 ++ dktX3_claim_3
def dkwX3_claim_1 : List UInt8 := [184, 0, 177, 5, 182, 0, 134, 154, 0, 50, 42, 42, 180, 0, 115, 28, 46, 2, 160, 0, 31, 42]
abbrev dktX3_claim_1 : List UInt8 := dkwX3_claim_1 ++ dktX3_claim_2
def dkwX3_claim_0 : List UInt8 := [42, 3, 181, 0, 1, 42, 28, 182, 0, 171, 154, 0, 70, 42, 29, 182, 0, 174, 154, 0, 62, 42, 27]
abbrev dktX3_claim_0 : List UInt8 := dkwX3_claim_0 ++ dktX3_claim_1
theorem dksX3_claim_0 : cX3_claim.data.toList.drop 0 = dktX3_claim_0 := by decide +kernel
theorem dksX3_claim_1 : cX3_claim.data.toList.drop 23 = dktX3_claim_1 := dk_seg dksX3_claim_0 23 rfl rfl
theorem dksX3_claim_2 : cX3_claim.data.toList.drop 45 = dktX3_claim_2 := dk_seg dksX3_claim_1 22 rfl rfl
theorem dksX3_claim_3 : cX3_claim.data.toList.drop 69 = dktX3_claim_3 := dk_seg dksX3_claim_2 24 rfl rfl
theorem dksX3_claim_4 : cX3_claim.data.toList.drop 93 = dktX3_claim_4 := dk_seg dksX3_claim_3 24 rfl rfl
theorem dksX3_claim_5 : cX3_claim.data.toList.drop 117 = dktX3_claim_5 := dk_seg dksX3_claim_4 24 rfl rfl
theorem dksX3_claim_6 : cX3_claim.data.toList.drop 141 = dktX3_claim_6 := dk_seg dksX3_claim_5 24 rfl rfl
theorem dksX3_claim_7 : cX3_claim.data.toList.drop 165 = dktX3_claim_7 := dk_seg dksX3_claim_6 24 rfl rfl
theorem dX3_claim_0 : decode cX3_claim 0 = .ok (.aload_n 0, 1) := dk_42 (dk_at dksX3_claim_0 0 rfl rfl)
theorem dX3_claim_1 : decode cX3_claim 1 = .ok (.iconst 0, 1) := dk_3 (dk_at dksX3_claim_0 1 rfl rfl)
theorem dX3_claim_2 : decode cX3_claim 2 = .ok (.putfield 1, 3) := dk_181 0 1 (dk_at dksX3_claim_0 2 rfl rfl)
theorem dX3_claim_5 : decode cX3_claim 5 = .ok (.aload_n 0, 1) := dk_42 (dk_at dksX3_claim_0 5 rfl rfl)
theorem dX3_claim_6 : decode cX3_claim 6 = .ok (.iload_n 2, 1) := dk_28 (dk_at dksX3_claim_0 6 rfl rfl)
theorem dX3_claim_7 : decode cX3_claim 7 = .ok (.invokevirtual 171, 3) := dk_182 0 171 (dk_at dksX3_claim_0 7 rfl rfl)
theorem dX3_claim_10 : decode cX3_claim 10 = .ok (.ifCond .ne 70, 3) := dk_154 0 70 (dk_at dksX3_claim_0 10 rfl rfl)
theorem dX3_claim_13 : decode cX3_claim 13 = .ok (.aload_n 0, 1) := dk_42 (dk_at dksX3_claim_0 13 rfl rfl)
theorem dX3_claim_14 : decode cX3_claim 14 = .ok (.iload_n 3, 1) := dk_29 (dk_at dksX3_claim_0 14 rfl rfl)
theorem dX3_claim_15 : decode cX3_claim 15 = .ok (.invokevirtual 174, 3) := dk_182 0 174 (dk_at dksX3_claim_0 15 rfl rfl)
theorem dX3_claim_18 : decode cX3_claim 18 = .ok (.ifCond .ne 62, 3) := dk_154 0 62 (dk_at dksX3_claim_0 18 rfl rfl)
theorem dX3_claim_21 : decode cX3_claim 21 = .ok (.aload_n 0, 1) := dk_42 (dk_at dksX3_claim_0 21 rfl rfl)
theorem dX3_claim_22 : decode cX3_claim 22 = .ok (.iload_n 1, 1) := dk_27 (dk_at dksX3_claim_0 22 rfl rfl)
theorem dX3_claim_23 : decode cX3_claim 23 = .ok (.invokestatic 177, 3) := dk_184 0 177 (dk_at dksX3_claim_1 0 rfl rfl)
theorem dX3_claim_26 : decode cX3_claim 26 = .ok (.iconst 2, 1) := dk_5 (dk_at dksX3_claim_1 3 rfl rfl)
theorem dX3_claim_27 : decode cX3_claim 27 = .ok (.invokevirtual 134, 3) := dk_182 0 134 (dk_at dksX3_claim_1 4 rfl rfl)
theorem dX3_claim_30 : decode cX3_claim 30 = .ok (.ifCond .ne 50, 3) := dk_154 0 50 (dk_at dksX3_claim_1 7 rfl rfl)
theorem dX3_claim_33 : decode cX3_claim 33 = .ok (.aload_n 0, 1) := dk_42 (dk_at dksX3_claim_1 10 rfl rfl)
theorem dX3_claim_34 : decode cX3_claim 34 = .ok (.aload_n 0, 1) := dk_42 (dk_at dksX3_claim_1 11 rfl rfl)
theorem dX3_claim_35 : decode cX3_claim 35 = .ok (.getfield 115, 3) := dk_180 0 115 (dk_at dksX3_claim_1 12 rfl rfl)
theorem dX3_claim_38 : decode cX3_claim 38 = .ok (.iload_n 2, 1) := dk_28 (dk_at dksX3_claim_1 15 rfl rfl)
theorem dX3_claim_39 : decode cX3_claim 39 = .ok (.iaload, 1) := dk_46 (dk_at dksX3_claim_1 16 rfl rfl)
theorem dX3_claim_40 : decode cX3_claim 40 = .ok (.iconst (-1), 1) := dk_2 (dk_at dksX3_claim_1 17 rfl rfl)
theorem dX3_claim_41 : decode cX3_claim 41 = .ok (.if_icmp .ne 31, 3) := dk_160 0 31 (dk_at dksX3_claim_1 18 rfl rfl)
theorem dX3_claim_44 : decode cX3_claim 44 = .ok (.aload_n 0, 1) := dk_42 (dk_at dksX3_claim_1 21 rfl rfl)
theorem dX3_claim_45 : decode cX3_claim 45 = .ok (.getfield 109, 3) := dk_180 0 109 (dk_at dksX3_claim_2 0 rfl rfl)
theorem dX3_claim_48 : decode cX3_claim 48 = .ok (.iconst 4, 1) := dk_7 (dk_at dksX3_claim_2 3 rfl rfl)
theorem dX3_claim_49 : decode cX3_claim 49 = .ok (.iload_n 2, 1) := dk_28 (dk_at dksX3_claim_2 4 rfl rfl)
theorem dX3_claim_50 : decode cX3_claim 50 = .ok (.imul, 1) := dk_104 (dk_at dksX3_claim_2 5 rfl rfl)
theorem dX3_claim_51 : decode cX3_claim 51 = .ok (.iload_n 1, 1) := dk_27 (dk_at dksX3_claim_2 6 rfl rfl)
theorem dX3_claim_52 : decode cX3_claim 52 = .ok (.iadd, 1) := dk_96 (dk_at dksX3_claim_2 7 rfl rfl)
theorem dX3_claim_53 : decode cX3_claim 53 = .ok (.iaload, 1) := dk_46 (dk_at dksX3_claim_2 8 rfl rfl)
theorem dX3_claim_54 : decode cX3_claim 54 = .ok (.iconst (-1), 1) := dk_2 (dk_at dksX3_claim_2 9 rfl rfl)
theorem dX3_claim_55 : decode cX3_claim 55 = .ok (.if_icmp .ne 17, 3) := dk_160 0 17 (dk_at dksX3_claim_2 10 rfl rfl)
theorem dX3_claim_58 : decode cX3_claim 58 = .ok (.aload_n 0, 1) := dk_42 (dk_at dksX3_claim_2 13 rfl rfl)
theorem dX3_claim_59 : decode cX3_claim 59 = .ok (.iload_n 1, 1) := dk_27 (dk_at dksX3_claim_2 14 rfl rfl)
theorem dX3_claim_60 : decode cX3_claim 60 = .ok (.iload_n 2, 1) := dk_28 (dk_at dksX3_claim_2 15 rfl rfl)
theorem dX3_claim_61 : decode cX3_claim 61 = .ok (.iload_n 3, 1) := dk_29 (dk_at dksX3_claim_2 16 rfl rfl)
theorem dX3_claim_62 : decode cX3_claim 62 = .ok (.invokevirtual 239, 3) := dk_182 0 239 (dk_at dksX3_claim_2 17 rfl rfl)
theorem dX3_claim_65 : decode cX3_claim 65 = .ok (.ifCond .eq 7, 3) := dk_153 0 7 (dk_at dksX3_claim_2 20 rfl rfl)
theorem dX3_claim_68 : decode cX3_claim 68 = .ok (.iconst 1, 1) := dk_4 (dk_at dksX3_claim_2 23 rfl rfl)
theorem dX3_claim_69 : decode cX3_claim 69 = .ok (.goto 4, 3) := dk_167 0 4 (dk_at dksX3_claim_3 0 rfl rfl)
theorem dX3_claim_72 : decode cX3_claim 72 = .ok (.iconst 0, 1) := dk_3 (dk_at dksX3_claim_3 3 rfl rfl)
theorem dX3_claim_73 : decode cX3_claim 73 = .ok (.iconst 3, 1) := dk_6 (dk_at dksX3_claim_3 4 rfl rfl)
theorem dX3_claim_74 : decode cX3_claim 74 = .ok (.invokevirtual 134, 3) := dk_182 0 134 (dk_at dksX3_claim_3 5 rfl rfl)
theorem dX3_claim_77 : decode cX3_claim 77 = .ok (.ifCond .eq 5, 3) := dk_153 0 5 (dk_at dksX3_claim_3 8 rfl rfl)
theorem dX3_claim_80 : decode cX3_claim 80 = .ok (.iconst 0, 1) := dk_3 (dk_at dksX3_claim_3 11 rfl rfl)
theorem dX3_claim_81 : decode cX3_claim 81 = .ok (.ireturn, 1) := dk_172 (dk_at dksX3_claim_3 12 rfl rfl)
theorem dX3_claim_82 : decode cX3_claim 82 = .ok (.aload_n 0, 1) := dk_42 (dk_at dksX3_claim_3 13 rfl rfl)
theorem dX3_claim_83 : decode cX3_claim 83 = .ok (.getfield 109, 3) := dk_180 0 109 (dk_at dksX3_claim_3 14 rfl rfl)
theorem dX3_claim_86 : decode cX3_claim 86 = .ok (.iconst 4, 1) := dk_7 (dk_at dksX3_claim_3 17 rfl rfl)
theorem dX3_claim_87 : decode cX3_claim 87 = .ok (.iload_n 2, 1) := dk_28 (dk_at dksX3_claim_3 18 rfl rfl)
theorem dX3_claim_88 : decode cX3_claim 88 = .ok (.imul, 1) := dk_104 (dk_at dksX3_claim_3 19 rfl rfl)
theorem dX3_claim_89 : decode cX3_claim 89 = .ok (.iload_n 1, 1) := dk_27 (dk_at dksX3_claim_3 20 rfl rfl)
theorem dX3_claim_90 : decode cX3_claim 90 = .ok (.iadd, 1) := dk_96 (dk_at dksX3_claim_3 21 rfl rfl)
theorem dX3_claim_91 : decode cX3_claim 91 = .ok (.iload_n 3, 1) := dk_29 (dk_at dksX3_claim_3 22 rfl rfl)
theorem dX3_claim_92 : decode cX3_claim 92 = .ok (.iastore, 1) := dk_79 (dk_at dksX3_claim_3 23 rfl rfl)
theorem dX3_claim_93 : decode cX3_claim 93 = .ok (.aload_n 0, 1) := dk_42 (dk_at dksX3_claim_4 0 rfl rfl)
theorem dX3_claim_94 : decode cX3_claim 94 = .ok (.getfield 112, 3) := dk_180 0 112 (dk_at dksX3_claim_4 1 rfl rfl)
theorem dX3_claim_97 : decode cX3_claim 97 = .ok (.iconst 4, 1) := dk_7 (dk_at dksX3_claim_4 4 rfl rfl)
theorem dX3_claim_98 : decode cX3_claim 98 = .ok (.iload_n 2, 1) := dk_28 (dk_at dksX3_claim_4 5 rfl rfl)
theorem dX3_claim_99 : decode cX3_claim 99 = .ok (.imul, 1) := dk_104 (dk_at dksX3_claim_4 6 rfl rfl)
theorem dX3_claim_100 : decode cX3_claim 100 = .ok (.iload_n 1, 1) := dk_27 (dk_at dksX3_claim_4 7 rfl rfl)
theorem dX3_claim_101 : decode cX3_claim 101 = .ok (.iadd, 1) := dk_96 (dk_at dksX3_claim_4 8 rfl rfl)
theorem dX3_claim_102 : decode cX3_claim 102 = .ok (.aload_n 0, 1) := dk_42 (dk_at dksX3_claim_4 9 rfl rfl)
theorem dX3_claim_103 : decode cX3_claim 103 = .ok (.getfield 297, 3) := dk_180 1 41 (dk_at dksX3_claim_4 10 rfl rfl)
theorem dX3_claim_106 : decode cX3_claim 106 = .ok (.iastore, 1) := dk_79 (dk_at dksX3_claim_4 13 rfl rfl)
theorem dX3_claim_107 : decode cX3_claim 107 = .ok (.aload_n 0, 1) := dk_42 (dk_at dksX3_claim_4 14 rfl rfl)
theorem dX3_claim_108 : decode cX3_claim 108 = .ok (.dup, 1) := dk_89 (dk_at dksX3_claim_4 15 rfl rfl)
theorem dX3_claim_109 : decode cX3_claim 109 = .ok (.getfield 297, 3) := dk_180 1 41 (dk_at dksX3_claim_4 16 rfl rfl)
theorem dX3_claim_112 : decode cX3_claim 112 = .ok (.iconst 1, 1) := dk_4 (dk_at dksX3_claim_4 19 rfl rfl)
theorem dX3_claim_113 : decode cX3_claim 113 = .ok (.iadd, 1) := dk_96 (dk_at dksX3_claim_4 20 rfl rfl)
theorem dX3_claim_114 : decode cX3_claim 114 = .ok (.putfield 297, 3) := dk_181 1 41 (dk_at dksX3_claim_4 21 rfl rfl)
theorem dX3_claim_117 : decode cX3_claim 117 = .ok (.aload_n 0, 1) := dk_42 (dk_at dksX3_claim_5 0 rfl rfl)
theorem dX3_claim_118 : decode cX3_claim 118 = .ok (.iload_n 2, 1) := dk_28 (dk_at dksX3_claim_5 1 rfl rfl)
theorem dX3_claim_119 : decode cX3_claim 119 = .ok (.invokevirtual 300, 3) := dk_182 1 44 (dk_at dksX3_claim_5 2 rfl rfl)
theorem dX3_claim_122 : decode cX3_claim 122 = .ok (.iconst 0, 1) := dk_3 (dk_at dksX3_claim_5 5 rfl rfl)
theorem dX3_claim_123 : decode cX3_claim 123 = .ok (.istore 4, 2) := dk_54 4 (dk_at dksX3_claim_5 6 rfl rfl)
theorem dX3_claim_125 : decode cX3_claim 125 = .ok (.iconst 0, 1) := dk_3 (dk_at dksX3_claim_5 8 rfl rfl)
theorem dX3_claim_126 : decode cX3_claim 126 = .ok (.istore 5, 2) := dk_54 5 (dk_at dksX3_claim_5 9 rfl rfl)
theorem dX3_claim_128 : decode cX3_claim 128 = .ok (.iload 5, 2) := dk_21 5 (dk_at dksX3_claim_5 11 rfl rfl)
theorem dX3_claim_130 : decode cX3_claim 130 = .ok (.iconst 4, 1) := dk_7 (dk_at dksX3_claim_5 13 rfl rfl)
theorem dX3_claim_131 : decode cX3_claim 131 = .ok (.if_icmp .ge 34, 3) := dk_162 0 34 (dk_at dksX3_claim_5 14 rfl rfl)
theorem dX3_claim_134 : decode cX3_claim 134 = .ok (.iload 4, 2) := dk_21 4 (dk_at dksX3_claim_5 17 rfl rfl)
theorem dX3_claim_136 : decode cX3_claim 136 = .ok (.aload_n 0, 1) := dk_42 (dk_at dksX3_claim_5 19 rfl rfl)
theorem dX3_claim_137 : decode cX3_claim 137 = .ok (.getfield 109, 3) := dk_180 0 109 (dk_at dksX3_claim_5 20 rfl rfl)
theorem dX3_claim_140 : decode cX3_claim 140 = .ok (.iconst 4, 1) := dk_7 (dk_at dksX3_claim_5 23 rfl rfl)
theorem dX3_claim_141 : decode cX3_claim 141 = .ok (.iload_n 2, 1) := dk_28 (dk_at dksX3_claim_6 0 rfl rfl)
theorem dX3_claim_142 : decode cX3_claim 142 = .ok (.imul, 1) := dk_104 (dk_at dksX3_claim_6 1 rfl rfl)
theorem dX3_claim_143 : decode cX3_claim 143 = .ok (.iload 5, 2) := dk_21 5 (dk_at dksX3_claim_6 2 rfl rfl)
theorem dX3_claim_145 : decode cX3_claim 145 = .ok (.iadd, 1) := dk_96 (dk_at dksX3_claim_6 4 rfl rfl)
theorem dX3_claim_146 : decode cX3_claim 146 = .ok (.iaload, 1) := dk_46 (dk_at dksX3_claim_6 5 rfl rfl)
theorem dX3_claim_147 : decode cX3_claim 147 = .ok (.iconst (-1), 1) := dk_2 (dk_at dksX3_claim_6 6 rfl rfl)
theorem dX3_claim_148 : decode cX3_claim 148 = .ok (.if_icmp .ne 7, 3) := dk_160 0 7 (dk_at dksX3_claim_6 7 rfl rfl)
theorem dX3_claim_151 : decode cX3_claim 151 = .ok (.iconst 0, 1) := dk_3 (dk_at dksX3_claim_6 10 rfl rfl)
theorem dX3_claim_152 : decode cX3_claim 152 = .ok (.goto 4, 3) := dk_167 0 4 (dk_at dksX3_claim_6 11 rfl rfl)
theorem dX3_claim_155 : decode cX3_claim 155 = .ok (.iconst 1, 1) := dk_4 (dk_at dksX3_claim_6 14 rfl rfl)
theorem dX3_claim_156 : decode cX3_claim 156 = .ok (.iadd, 1) := dk_96 (dk_at dksX3_claim_6 15 rfl rfl)
theorem dX3_claim_157 : decode cX3_claim 157 = .ok (.istore 4, 2) := dk_54 4 (dk_at dksX3_claim_6 16 rfl rfl)
theorem dX3_claim_159 : decode cX3_claim 159 = .ok (.iinc 5 1, 3) := dk_132 5 1 (dk_at dksX3_claim_6 18 rfl rfl)
theorem dX3_claim_162 : decode cX3_claim 162 = .ok (.goto (-34), 3) := dk_167 255 222 (dk_at dksX3_claim_6 21 rfl rfl)
theorem dX3_claim_165 : decode cX3_claim 165 = .ok (.iload 4, 2) := dk_21 4 (dk_at dksX3_claim_7 0 rfl rfl)
theorem dX3_claim_167 : decode cX3_claim 167 = .ok (.ireturn, 1) := dk_172 (dk_at dksX3_claim_7 2 rfl rfl)
abbrev cX3_disputes : ByteArray := prog_23_method_65_code
def yX3_disputes : MethodName := ⟨RX3, "disputes", "(I)V"⟩
def dkwX3_disputes_4 : List UInt8 := [79, 177]
abbrev dktX3_disputes_4 : List UInt8 := dkwX3_disputes_4 ++ []
def dkwX3_disputes_3 : List UInt8 := [2, 79, 167, 0, 23, 42, 180, 0, 121, 27, 46, 2, 160, 0, 13, 42, 180, 0, 121, 27, 42, 180, 1, 16]
abbrev dktX3_disputes_3 : List UInt8 := dkwX3_disputes_3 ++ dktX3_disputes_4
def dkwX3_disputes_2 : List UInt8 := [167, 0, 4, 3, 128, 62, 21, 5, 61, 132, 4, 1, 167, 255, 203, 29, 154, 0, 13, 42, 180, 0, 121, 27]
abbrev dktX3_disputes_2 : List UInt8 := dkwX3_disputes_2 ++ dktX3_disputes_3
def dkwX3_disputes_1 : List UInt8 := [54, 5, 21, 5, 2, 160, 0, 6, 167, 0, 25, 29, 28, 2, 159, 0, 13, 21, 5, 28, 159, 0, 7, 4]
abbrev dktX3_disputes_1 : List UInt8 := dkwX3_disputes_1 ++ dktX3_disputes_2
def dkwX3_disputes_0 : List UInt8 := [2, 61, 3, 62, 3, 54, 4, 21, 4, 7, 162, 0, 53, 42, 180, 0, 109, 7, 27, 104, 21, 4, 96, 46]
abbrev dktX3_disputes_0 : List UInt8 := dkwX3_disputes_0 ++ dktX3_disputes_1
theorem dksX3_disputes_0 : cX3_disputes.data.toList.drop 0 = dktX3_disputes_0 := by decide +kernel
theorem dksX3_disputes_1 : cX3_disputes.data.toList.drop 24 = dktX3_disputes_1 := dk_seg dksX3_disputes_0 24 rfl rfl
theorem dksX3_disputes_2 : cX3_disputes.data.toList.drop 48 = dktX3_disputes_2 := dk_seg dksX3_disputes_1 24 rfl rfl
theorem dksX3_disputes_3 : cX3_disputes.data.toList.drop 72 = dktX3_disputes_3 := dk_seg dksX3_disputes_2 24 rfl rfl
theorem dksX3_disputes_4 : cX3_disputes.data.toList.drop 96 = dktX3_disputes_4 := dk_seg dksX3_disputes_3 24 rfl rfl
theorem dX3_disputes_0 : decode cX3_disputes 0 = .ok (.iconst (-1), 1) := dk_2 (dk_at dksX3_disputes_0 0 rfl rfl)
theorem dX3_disputes_1 : decode cX3_disputes 1 = .ok (.istore_n 2, 1) := dk_61 (dk_at dksX3_disputes_0 1 rfl rfl)
theorem dX3_disputes_2 : decode cX3_disputes 2 = .ok (.iconst 0, 1) := dk_3 (dk_at dksX3_disputes_0 2 rfl rfl)
theorem dX3_disputes_3 : decode cX3_disputes 3 = .ok (.istore_n 3, 1) := dk_62 (dk_at dksX3_disputes_0 3 rfl rfl)
theorem dX3_disputes_4 : decode cX3_disputes 4 = .ok (.iconst 0, 1) := dk_3 (dk_at dksX3_disputes_0 4 rfl rfl)
theorem dX3_disputes_5 : decode cX3_disputes 5 = .ok (.istore 4, 2) := dk_54 4 (dk_at dksX3_disputes_0 5 rfl rfl)
theorem dX3_disputes_7 : decode cX3_disputes 7 = .ok (.iload 4, 2) := dk_21 4 (dk_at dksX3_disputes_0 7 rfl rfl)
theorem dX3_disputes_9 : decode cX3_disputes 9 = .ok (.iconst 4, 1) := dk_7 (dk_at dksX3_disputes_0 9 rfl rfl)
theorem dX3_disputes_10 : decode cX3_disputes 10 = .ok (.if_icmp .ge 53, 3) := dk_162 0 53 (dk_at dksX3_disputes_0 10 rfl rfl)
theorem dX3_disputes_13 : decode cX3_disputes 13 = .ok (.aload_n 0, 1) := dk_42 (dk_at dksX3_disputes_0 13 rfl rfl)
theorem dX3_disputes_14 : decode cX3_disputes 14 = .ok (.getfield 109, 3) := dk_180 0 109 (dk_at dksX3_disputes_0 14 rfl rfl)
theorem dX3_disputes_17 : decode cX3_disputes 17 = .ok (.iconst 4, 1) := dk_7 (dk_at dksX3_disputes_0 17 rfl rfl)
theorem dX3_disputes_18 : decode cX3_disputes 18 = .ok (.iload_n 1, 1) := dk_27 (dk_at dksX3_disputes_0 18 rfl rfl)
theorem dX3_disputes_19 : decode cX3_disputes 19 = .ok (.imul, 1) := dk_104 (dk_at dksX3_disputes_0 19 rfl rfl)
theorem dX3_disputes_20 : decode cX3_disputes 20 = .ok (.iload 4, 2) := dk_21 4 (dk_at dksX3_disputes_0 20 rfl rfl)
theorem dX3_disputes_22 : decode cX3_disputes 22 = .ok (.iadd, 1) := dk_96 (dk_at dksX3_disputes_0 22 rfl rfl)
theorem dX3_disputes_23 : decode cX3_disputes 23 = .ok (.iaload, 1) := dk_46 (dk_at dksX3_disputes_0 23 rfl rfl)
theorem dX3_disputes_24 : decode cX3_disputes 24 = .ok (.istore 5, 2) := dk_54 5 (dk_at dksX3_disputes_1 0 rfl rfl)
theorem dX3_disputes_26 : decode cX3_disputes 26 = .ok (.iload 5, 2) := dk_21 5 (dk_at dksX3_disputes_1 2 rfl rfl)
theorem dX3_disputes_28 : decode cX3_disputes 28 = .ok (.iconst (-1), 1) := dk_2 (dk_at dksX3_disputes_1 4 rfl rfl)
theorem dX3_disputes_29 : decode cX3_disputes 29 = .ok (.if_icmp .ne 6, 3) := dk_160 0 6 (dk_at dksX3_disputes_1 5 rfl rfl)
theorem dX3_disputes_32 : decode cX3_disputes 32 = .ok (.goto 25, 3) := dk_167 0 25 (dk_at dksX3_disputes_1 8 rfl rfl)
theorem dX3_disputes_35 : decode cX3_disputes 35 = .ok (.iload_n 3, 1) := dk_29 (dk_at dksX3_disputes_1 11 rfl rfl)
theorem dX3_disputes_36 : decode cX3_disputes 36 = .ok (.iload_n 2, 1) := dk_28 (dk_at dksX3_disputes_1 12 rfl rfl)
theorem dX3_disputes_37 : decode cX3_disputes 37 = .ok (.iconst (-1), 1) := dk_2 (dk_at dksX3_disputes_1 13 rfl rfl)
theorem dX3_disputes_38 : decode cX3_disputes 38 = .ok (.if_icmp .eq 13, 3) := dk_159 0 13 (dk_at dksX3_disputes_1 14 rfl rfl)
theorem dX3_disputes_41 : decode cX3_disputes 41 = .ok (.iload 5, 2) := dk_21 5 (dk_at dksX3_disputes_1 17 rfl rfl)
theorem dX3_disputes_43 : decode cX3_disputes 43 = .ok (.iload_n 2, 1) := dk_28 (dk_at dksX3_disputes_1 19 rfl rfl)
theorem dX3_disputes_44 : decode cX3_disputes 44 = .ok (.if_icmp .eq 7, 3) := dk_159 0 7 (dk_at dksX3_disputes_1 20 rfl rfl)
theorem dX3_disputes_47 : decode cX3_disputes 47 = .ok (.iconst 1, 1) := dk_4 (dk_at dksX3_disputes_1 23 rfl rfl)
theorem dX3_disputes_48 : decode cX3_disputes 48 = .ok (.goto 4, 3) := dk_167 0 4 (dk_at dksX3_disputes_2 0 rfl rfl)
theorem dX3_disputes_51 : decode cX3_disputes 51 = .ok (.iconst 0, 1) := dk_3 (dk_at dksX3_disputes_2 3 rfl rfl)
theorem dX3_disputes_52 : decode cX3_disputes 52 = .ok (.ior, 1) := dk_128 (dk_at dksX3_disputes_2 4 rfl rfl)
theorem dX3_disputes_53 : decode cX3_disputes 53 = .ok (.istore_n 3, 1) := dk_62 (dk_at dksX3_disputes_2 5 rfl rfl)
theorem dX3_disputes_54 : decode cX3_disputes 54 = .ok (.iload 5, 2) := dk_21 5 (dk_at dksX3_disputes_2 6 rfl rfl)
theorem dX3_disputes_56 : decode cX3_disputes 56 = .ok (.istore_n 2, 1) := dk_61 (dk_at dksX3_disputes_2 8 rfl rfl)
theorem dX3_disputes_57 : decode cX3_disputes 57 = .ok (.iinc 4 1, 3) := dk_132 4 1 (dk_at dksX3_disputes_2 9 rfl rfl)
theorem dX3_disputes_60 : decode cX3_disputes 60 = .ok (.goto (-53), 3) := dk_167 255 203 (dk_at dksX3_disputes_2 12 rfl rfl)
theorem dX3_disputes_63 : decode cX3_disputes 63 = .ok (.iload_n 3, 1) := dk_29 (dk_at dksX3_disputes_2 15 rfl rfl)
theorem dX3_disputes_64 : decode cX3_disputes 64 = .ok (.ifCond .ne 13, 3) := dk_154 0 13 (dk_at dksX3_disputes_2 16 rfl rfl)
theorem dX3_disputes_67 : decode cX3_disputes 67 = .ok (.aload_n 0, 1) := dk_42 (dk_at dksX3_disputes_2 19 rfl rfl)
theorem dX3_disputes_68 : decode cX3_disputes 68 = .ok (.getfield 121, 3) := dk_180 0 121 (dk_at dksX3_disputes_2 20 rfl rfl)
theorem dX3_disputes_71 : decode cX3_disputes 71 = .ok (.iload_n 1, 1) := dk_27 (dk_at dksX3_disputes_2 23 rfl rfl)
theorem dX3_disputes_72 : decode cX3_disputes 72 = .ok (.iconst (-1), 1) := dk_2 (dk_at dksX3_disputes_3 0 rfl rfl)
theorem dX3_disputes_73 : decode cX3_disputes 73 = .ok (.iastore, 1) := dk_79 (dk_at dksX3_disputes_3 1 rfl rfl)
theorem dX3_disputes_74 : decode cX3_disputes 74 = .ok (.goto 23, 3) := dk_167 0 23 (dk_at dksX3_disputes_3 2 rfl rfl)
theorem dX3_disputes_77 : decode cX3_disputes 77 = .ok (.aload_n 0, 1) := dk_42 (dk_at dksX3_disputes_3 5 rfl rfl)
theorem dX3_disputes_78 : decode cX3_disputes 78 = .ok (.getfield 121, 3) := dk_180 0 121 (dk_at dksX3_disputes_3 6 rfl rfl)
theorem dX3_disputes_81 : decode cX3_disputes 81 = .ok (.iload_n 1, 1) := dk_27 (dk_at dksX3_disputes_3 9 rfl rfl)
theorem dX3_disputes_82 : decode cX3_disputes 82 = .ok (.iaload, 1) := dk_46 (dk_at dksX3_disputes_3 10 rfl rfl)
theorem dX3_disputes_83 : decode cX3_disputes 83 = .ok (.iconst (-1), 1) := dk_2 (dk_at dksX3_disputes_3 11 rfl rfl)
theorem dX3_disputes_84 : decode cX3_disputes 84 = .ok (.if_icmp .ne 13, 3) := dk_160 0 13 (dk_at dksX3_disputes_3 12 rfl rfl)
theorem dX3_disputes_87 : decode cX3_disputes 87 = .ok (.aload_n 0, 1) := dk_42 (dk_at dksX3_disputes_3 15 rfl rfl)
theorem dX3_disputes_88 : decode cX3_disputes 88 = .ok (.getfield 121, 3) := dk_180 0 121 (dk_at dksX3_disputes_3 16 rfl rfl)
theorem dX3_disputes_91 : decode cX3_disputes 91 = .ok (.iload_n 1, 1) := dk_27 (dk_at dksX3_disputes_3 19 rfl rfl)
theorem dX3_disputes_92 : decode cX3_disputes 92 = .ok (.aload_n 0, 1) := dk_42 (dk_at dksX3_disputes_3 20 rfl rfl)
theorem dX3_disputes_93 : decode cX3_disputes 93 = .ok (.getfield 272, 3) := dk_180 1 16 (dk_at dksX3_disputes_3 21 rfl rfl)
theorem dX3_disputes_96 : decode cX3_disputes 96 = .ok (.iastore, 1) := dk_79 (dk_at dksX3_disputes_4 0 rfl rfl)
theorem dX3_disputes_97 : decode cX3_disputes 97 = .ok (.return_, 1) := dk_177 (dk_at dksX3_disputes_4 1 rfl rfl)
abbrev cX3_withdraw : ByteArray := prog_23_method_67_code
def yX3_withdraw : MethodName := ⟨RX3, "withdraw", "(II)I"⟩
def dkwX3_withdraw_3 : List UInt8 := [28, 104, 27, 96, 2, 79, 42, 28, 182, 1, 44, 29, 172]
abbrev dktX3_withdraw_3 : List UInt8 := dkwX3_withdraw_3 ++ []
def dkwX3_withdraw_2 : List UInt8 := [182, 0, 134, 153, 0, 5, 3, 172, 42, 180, 0, 109, 7, 28, 104, 27, 96, 46, 62, 42, 180, 0, 109, 7]
abbrev dktX3_withdraw_2 : List UInt8 := dkwX3_withdraw_2 ++ dktX3_withdraw_3
def dkwX3_withdraw_1 : List UInt8 := [154, 0, 30, 42, 42, 180, 0, 109, 7, 28, 104, 27, 96, 46, 2, 159, 0, 7, 4, 167, 0, 4, 3, 6]
abbrev dktX3_withdraw_1 : List UInt8 := dkwX3_withdraw_1 ++ dktX3_withdraw_2
def dkwX3_withdraw_0 : List UInt8 := [42, 3, 181, 0, 1, 42, 28, 182, 0, 171, 154, 0, 42, 42, 27, 184, 0, 177, 5, 182, 0, 134]
abbrev dktX3_withdraw_0 : List UInt8 := dkwX3_withdraw_0 ++ dktX3_withdraw_1
theorem dksX3_withdraw_0 : cX3_withdraw.data.toList.drop 0 = dktX3_withdraw_0 := by decide +kernel
theorem dksX3_withdraw_1 : cX3_withdraw.data.toList.drop 22 = dktX3_withdraw_1 := dk_seg dksX3_withdraw_0 22 rfl rfl
theorem dksX3_withdraw_2 : cX3_withdraw.data.toList.drop 46 = dktX3_withdraw_2 := dk_seg dksX3_withdraw_1 24 rfl rfl
theorem dksX3_withdraw_3 : cX3_withdraw.data.toList.drop 70 = dktX3_withdraw_3 := dk_seg dksX3_withdraw_2 24 rfl rfl
theorem dX3_withdraw_0 : decode cX3_withdraw 0 = .ok (.aload_n 0, 1) := dk_42 (dk_at dksX3_withdraw_0 0 rfl rfl)
theorem dX3_withdraw_1 : decode cX3_withdraw 1 = .ok (.iconst 0, 1) := dk_3 (dk_at dksX3_withdraw_0 1 rfl rfl)
theorem dX3_withdraw_2 : decode cX3_withdraw 2 = .ok (.putfield 1, 3) := dk_181 0 1 (dk_at dksX3_withdraw_0 2 rfl rfl)
theorem dX3_withdraw_5 : decode cX3_withdraw 5 = .ok (.aload_n 0, 1) := dk_42 (dk_at dksX3_withdraw_0 5 rfl rfl)
theorem dX3_withdraw_6 : decode cX3_withdraw 6 = .ok (.iload_n 2, 1) := dk_28 (dk_at dksX3_withdraw_0 6 rfl rfl)
theorem dX3_withdraw_7 : decode cX3_withdraw 7 = .ok (.invokevirtual 171, 3) := dk_182 0 171 (dk_at dksX3_withdraw_0 7 rfl rfl)
theorem dX3_withdraw_10 : decode cX3_withdraw 10 = .ok (.ifCond .ne 42, 3) := dk_154 0 42 (dk_at dksX3_withdraw_0 10 rfl rfl)
theorem dX3_withdraw_13 : decode cX3_withdraw 13 = .ok (.aload_n 0, 1) := dk_42 (dk_at dksX3_withdraw_0 13 rfl rfl)
theorem dX3_withdraw_14 : decode cX3_withdraw 14 = .ok (.iload_n 1, 1) := dk_27 (dk_at dksX3_withdraw_0 14 rfl rfl)
theorem dX3_withdraw_15 : decode cX3_withdraw 15 = .ok (.invokestatic 177, 3) := dk_184 0 177 (dk_at dksX3_withdraw_0 15 rfl rfl)
theorem dX3_withdraw_18 : decode cX3_withdraw 18 = .ok (.iconst 2, 1) := dk_5 (dk_at dksX3_withdraw_0 18 rfl rfl)
theorem dX3_withdraw_19 : decode cX3_withdraw 19 = .ok (.invokevirtual 134, 3) := dk_182 0 134 (dk_at dksX3_withdraw_0 19 rfl rfl)
theorem dX3_withdraw_22 : decode cX3_withdraw 22 = .ok (.ifCond .ne 30, 3) := dk_154 0 30 (dk_at dksX3_withdraw_1 0 rfl rfl)
theorem dX3_withdraw_25 : decode cX3_withdraw 25 = .ok (.aload_n 0, 1) := dk_42 (dk_at dksX3_withdraw_1 3 rfl rfl)
theorem dX3_withdraw_26 : decode cX3_withdraw 26 = .ok (.aload_n 0, 1) := dk_42 (dk_at dksX3_withdraw_1 4 rfl rfl)
theorem dX3_withdraw_27 : decode cX3_withdraw 27 = .ok (.getfield 109, 3) := dk_180 0 109 (dk_at dksX3_withdraw_1 5 rfl rfl)
theorem dX3_withdraw_30 : decode cX3_withdraw 30 = .ok (.iconst 4, 1) := dk_7 (dk_at dksX3_withdraw_1 8 rfl rfl)
theorem dX3_withdraw_31 : decode cX3_withdraw 31 = .ok (.iload_n 2, 1) := dk_28 (dk_at dksX3_withdraw_1 9 rfl rfl)
theorem dX3_withdraw_32 : decode cX3_withdraw 32 = .ok (.imul, 1) := dk_104 (dk_at dksX3_withdraw_1 10 rfl rfl)
theorem dX3_withdraw_33 : decode cX3_withdraw 33 = .ok (.iload_n 1, 1) := dk_27 (dk_at dksX3_withdraw_1 11 rfl rfl)
theorem dX3_withdraw_34 : decode cX3_withdraw 34 = .ok (.iadd, 1) := dk_96 (dk_at dksX3_withdraw_1 12 rfl rfl)
theorem dX3_withdraw_35 : decode cX3_withdraw 35 = .ok (.iaload, 1) := dk_46 (dk_at dksX3_withdraw_1 13 rfl rfl)
theorem dX3_withdraw_36 : decode cX3_withdraw 36 = .ok (.iconst (-1), 1) := dk_2 (dk_at dksX3_withdraw_1 14 rfl rfl)
theorem dX3_withdraw_37 : decode cX3_withdraw 37 = .ok (.if_icmp .eq 7, 3) := dk_159 0 7 (dk_at dksX3_withdraw_1 15 rfl rfl)
theorem dX3_withdraw_40 : decode cX3_withdraw 40 = .ok (.iconst 1, 1) := dk_4 (dk_at dksX3_withdraw_1 18 rfl rfl)
theorem dX3_withdraw_41 : decode cX3_withdraw 41 = .ok (.goto 4, 3) := dk_167 0 4 (dk_at dksX3_withdraw_1 19 rfl rfl)
theorem dX3_withdraw_44 : decode cX3_withdraw 44 = .ok (.iconst 0, 1) := dk_3 (dk_at dksX3_withdraw_1 22 rfl rfl)
theorem dX3_withdraw_45 : decode cX3_withdraw 45 = .ok (.iconst 3, 1) := dk_6 (dk_at dksX3_withdraw_1 23 rfl rfl)
theorem dX3_withdraw_46 : decode cX3_withdraw 46 = .ok (.invokevirtual 134, 3) := dk_182 0 134 (dk_at dksX3_withdraw_2 0 rfl rfl)
theorem dX3_withdraw_49 : decode cX3_withdraw 49 = .ok (.ifCond .eq 5, 3) := dk_153 0 5 (dk_at dksX3_withdraw_2 3 rfl rfl)
theorem dX3_withdraw_52 : decode cX3_withdraw 52 = .ok (.iconst 0, 1) := dk_3 (dk_at dksX3_withdraw_2 6 rfl rfl)
theorem dX3_withdraw_53 : decode cX3_withdraw 53 = .ok (.ireturn, 1) := dk_172 (dk_at dksX3_withdraw_2 7 rfl rfl)
theorem dX3_withdraw_54 : decode cX3_withdraw 54 = .ok (.aload_n 0, 1) := dk_42 (dk_at dksX3_withdraw_2 8 rfl rfl)
theorem dX3_withdraw_55 : decode cX3_withdraw 55 = .ok (.getfield 109, 3) := dk_180 0 109 (dk_at dksX3_withdraw_2 9 rfl rfl)
theorem dX3_withdraw_58 : decode cX3_withdraw 58 = .ok (.iconst 4, 1) := dk_7 (dk_at dksX3_withdraw_2 12 rfl rfl)
theorem dX3_withdraw_59 : decode cX3_withdraw 59 = .ok (.iload_n 2, 1) := dk_28 (dk_at dksX3_withdraw_2 13 rfl rfl)
theorem dX3_withdraw_60 : decode cX3_withdraw 60 = .ok (.imul, 1) := dk_104 (dk_at dksX3_withdraw_2 14 rfl rfl)
theorem dX3_withdraw_61 : decode cX3_withdraw 61 = .ok (.iload_n 1, 1) := dk_27 (dk_at dksX3_withdraw_2 15 rfl rfl)
theorem dX3_withdraw_62 : decode cX3_withdraw 62 = .ok (.iadd, 1) := dk_96 (dk_at dksX3_withdraw_2 16 rfl rfl)
theorem dX3_withdraw_63 : decode cX3_withdraw 63 = .ok (.iaload, 1) := dk_46 (dk_at dksX3_withdraw_2 17 rfl rfl)
theorem dX3_withdraw_64 : decode cX3_withdraw 64 = .ok (.istore_n 3, 1) := dk_62 (dk_at dksX3_withdraw_2 18 rfl rfl)
theorem dX3_withdraw_65 : decode cX3_withdraw 65 = .ok (.aload_n 0, 1) := dk_42 (dk_at dksX3_withdraw_2 19 rfl rfl)
theorem dX3_withdraw_66 : decode cX3_withdraw 66 = .ok (.getfield 109, 3) := dk_180 0 109 (dk_at dksX3_withdraw_2 20 rfl rfl)
theorem dX3_withdraw_69 : decode cX3_withdraw 69 = .ok (.iconst 4, 1) := dk_7 (dk_at dksX3_withdraw_2 23 rfl rfl)
theorem dX3_withdraw_70 : decode cX3_withdraw 70 = .ok (.iload_n 2, 1) := dk_28 (dk_at dksX3_withdraw_3 0 rfl rfl)
theorem dX3_withdraw_71 : decode cX3_withdraw 71 = .ok (.imul, 1) := dk_104 (dk_at dksX3_withdraw_3 1 rfl rfl)
theorem dX3_withdraw_72 : decode cX3_withdraw 72 = .ok (.iload_n 1, 1) := dk_27 (dk_at dksX3_withdraw_3 2 rfl rfl)
theorem dX3_withdraw_73 : decode cX3_withdraw 73 = .ok (.iadd, 1) := dk_96 (dk_at dksX3_withdraw_3 3 rfl rfl)
theorem dX3_withdraw_74 : decode cX3_withdraw 74 = .ok (.iconst (-1), 1) := dk_2 (dk_at dksX3_withdraw_3 4 rfl rfl)
theorem dX3_withdraw_75 : decode cX3_withdraw 75 = .ok (.iastore, 1) := dk_79 (dk_at dksX3_withdraw_3 5 rfl rfl)
theorem dX3_withdraw_76 : decode cX3_withdraw 76 = .ok (.aload_n 0, 1) := dk_42 (dk_at dksX3_withdraw_3 6 rfl rfl)
theorem dX3_withdraw_77 : decode cX3_withdraw 77 = .ok (.iload_n 2, 1) := dk_28 (dk_at dksX3_withdraw_3 7 rfl rfl)
theorem dX3_withdraw_78 : decode cX3_withdraw 78 = .ok (.invokevirtual 300, 3) := dk_182 1 44 (dk_at dksX3_withdraw_3 8 rfl rfl)
theorem dX3_withdraw_81 : decode cX3_withdraw 81 = .ok (.iload_n 3, 1) := dk_29 (dk_at dksX3_withdraw_3 11 rfl rfl)
theorem dX3_withdraw_82 : decode cX3_withdraw 82 = .ok (.ireturn, 1) := dk_172 (dk_at dksX3_withdraw_3 12 rfl rfl)
abbrev cX3_claimOf : ByteArray := prog_23_method_68_code
def yX3_claimOf : MethodName := ⟨RX3, "claimOf", "(II)I"⟩
def dkwX3_claimOf_1 : List UInt8 := [153, 0, 7, 3, 167, 0, 13, 42, 180, 0, 109, 7, 28, 104, 27, 96, 46, 172]
abbrev dktX3_claimOf_1 : List UInt8 := dkwX3_claimOf_1 ++ []
def dkwX3_claimOf_0 : List UInt8 := [42, 3, 181, 0, 1, 42, 28, 182, 0, 171, 154, 0, 15, 42, 27, 184, 0, 177, 5, 182, 0, 134]
abbrev dktX3_claimOf_0 : List UInt8 := dkwX3_claimOf_0 ++ dktX3_claimOf_1
theorem dksX3_claimOf_0 : cX3_claimOf.data.toList.drop 0 = dktX3_claimOf_0 := by decide +kernel
theorem dksX3_claimOf_1 : cX3_claimOf.data.toList.drop 22 = dktX3_claimOf_1 := dk_seg dksX3_claimOf_0 22 rfl rfl
theorem dX3_claimOf_0 : decode cX3_claimOf 0 = .ok (.aload_n 0, 1) := dk_42 (dk_at dksX3_claimOf_0 0 rfl rfl)
theorem dX3_claimOf_1 : decode cX3_claimOf 1 = .ok (.iconst 0, 1) := dk_3 (dk_at dksX3_claimOf_0 1 rfl rfl)
theorem dX3_claimOf_2 : decode cX3_claimOf 2 = .ok (.putfield 1, 3) := dk_181 0 1 (dk_at dksX3_claimOf_0 2 rfl rfl)
theorem dX3_claimOf_5 : decode cX3_claimOf 5 = .ok (.aload_n 0, 1) := dk_42 (dk_at dksX3_claimOf_0 5 rfl rfl)
theorem dX3_claimOf_6 : decode cX3_claimOf 6 = .ok (.iload_n 2, 1) := dk_28 (dk_at dksX3_claimOf_0 6 rfl rfl)
theorem dX3_claimOf_7 : decode cX3_claimOf 7 = .ok (.invokevirtual 171, 3) := dk_182 0 171 (dk_at dksX3_claimOf_0 7 rfl rfl)
theorem dX3_claimOf_10 : decode cX3_claimOf 10 = .ok (.ifCond .ne 15, 3) := dk_154 0 15 (dk_at dksX3_claimOf_0 10 rfl rfl)
theorem dX3_claimOf_13 : decode cX3_claimOf 13 = .ok (.aload_n 0, 1) := dk_42 (dk_at dksX3_claimOf_0 13 rfl rfl)
theorem dX3_claimOf_14 : decode cX3_claimOf 14 = .ok (.iload_n 1, 1) := dk_27 (dk_at dksX3_claimOf_0 14 rfl rfl)
theorem dX3_claimOf_15 : decode cX3_claimOf 15 = .ok (.invokestatic 177, 3) := dk_184 0 177 (dk_at dksX3_claimOf_0 15 rfl rfl)
theorem dX3_claimOf_18 : decode cX3_claimOf 18 = .ok (.iconst 2, 1) := dk_5 (dk_at dksX3_claimOf_0 18 rfl rfl)
theorem dX3_claimOf_19 : decode cX3_claimOf 19 = .ok (.invokevirtual 134, 3) := dk_182 0 134 (dk_at dksX3_claimOf_0 19 rfl rfl)
theorem dX3_claimOf_22 : decode cX3_claimOf 22 = .ok (.ifCond .eq 7, 3) := dk_153 0 7 (dk_at dksX3_claimOf_1 0 rfl rfl)
theorem dX3_claimOf_25 : decode cX3_claimOf 25 = .ok (.iconst 0, 1) := dk_3 (dk_at dksX3_claimOf_1 3 rfl rfl)
theorem dX3_claimOf_26 : decode cX3_claimOf 26 = .ok (.goto 13, 3) := dk_167 0 13 (dk_at dksX3_claimOf_1 4 rfl rfl)
theorem dX3_claimOf_29 : decode cX3_claimOf 29 = .ok (.aload_n 0, 1) := dk_42 (dk_at dksX3_claimOf_1 7 rfl rfl)
theorem dX3_claimOf_30 : decode cX3_claimOf 30 = .ok (.getfield 109, 3) := dk_180 0 109 (dk_at dksX3_claimOf_1 8 rfl rfl)
theorem dX3_claimOf_33 : decode cX3_claimOf 33 = .ok (.iconst 4, 1) := dk_7 (dk_at dksX3_claimOf_1 11 rfl rfl)
theorem dX3_claimOf_34 : decode cX3_claimOf 34 = .ok (.iload_n 2, 1) := dk_28 (dk_at dksX3_claimOf_1 12 rfl rfl)
theorem dX3_claimOf_35 : decode cX3_claimOf 35 = .ok (.imul, 1) := dk_104 (dk_at dksX3_claimOf_1 13 rfl rfl)
theorem dX3_claimOf_36 : decode cX3_claimOf 36 = .ok (.iload_n 1, 1) := dk_27 (dk_at dksX3_claimOf_1 14 rfl rfl)
theorem dX3_claimOf_37 : decode cX3_claimOf 37 = .ok (.iadd, 1) := dk_96 (dk_at dksX3_claimOf_1 15 rfl rfl)
theorem dX3_claimOf_38 : decode cX3_claimOf 38 = .ok (.iaload, 1) := dk_46 (dk_at dksX3_claimOf_1 16 rfl rfl)
theorem dX3_claimOf_39 : decode cX3_claimOf 39 = .ok (.ireturn, 1) := dk_172 (dk_at dksX3_claimOf_1 17 rfl rfl)
abbrev cX3_disputeDay : ByteArray := prog_23_method_69_code
def yX3_disputeDay : MethodName := ⟨RX3, "disputeDay", "(I)I"⟩
def dkwX3_disputeDay_0 : List UInt8 := [42, 3, 181, 0, 1, 42, 27, 182, 0, 171, 153, 0, 7, 3, 167, 0, 9, 42, 180, 0, 121, 27, 46, 172]
abbrev dktX3_disputeDay_0 : List UInt8 := dkwX3_disputeDay_0 ++ []
theorem dksX3_disputeDay_0 : cX3_disputeDay.data.toList.drop 0 = dktX3_disputeDay_0 := by decide +kernel
theorem dX3_disputeDay_0 : decode cX3_disputeDay 0 = .ok (.aload_n 0, 1) := dk_42 (dk_at dksX3_disputeDay_0 0 rfl rfl)
theorem dX3_disputeDay_1 : decode cX3_disputeDay 1 = .ok (.iconst 0, 1) := dk_3 (dk_at dksX3_disputeDay_0 1 rfl rfl)
theorem dX3_disputeDay_2 : decode cX3_disputeDay 2 = .ok (.putfield 1, 3) := dk_181 0 1 (dk_at dksX3_disputeDay_0 2 rfl rfl)
theorem dX3_disputeDay_5 : decode cX3_disputeDay 5 = .ok (.aload_n 0, 1) := dk_42 (dk_at dksX3_disputeDay_0 5 rfl rfl)
theorem dX3_disputeDay_6 : decode cX3_disputeDay 6 = .ok (.iload_n 1, 1) := dk_27 (dk_at dksX3_disputeDay_0 6 rfl rfl)
theorem dX3_disputeDay_7 : decode cX3_disputeDay 7 = .ok (.invokevirtual 171, 3) := dk_182 0 171 (dk_at dksX3_disputeDay_0 7 rfl rfl)
theorem dX3_disputeDay_10 : decode cX3_disputeDay 10 = .ok (.ifCond .eq 7, 3) := dk_153 0 7 (dk_at dksX3_disputeDay_0 10 rfl rfl)
theorem dX3_disputeDay_13 : decode cX3_disputeDay 13 = .ok (.iconst 0, 1) := dk_3 (dk_at dksX3_disputeDay_0 13 rfl rfl)
theorem dX3_disputeDay_14 : decode cX3_disputeDay 14 = .ok (.goto 9, 3) := dk_167 0 9 (dk_at dksX3_disputeDay_0 14 rfl rfl)
theorem dX3_disputeDay_17 : decode cX3_disputeDay 17 = .ok (.aload_n 0, 1) := dk_42 (dk_at dksX3_disputeDay_0 17 rfl rfl)
theorem dX3_disputeDay_18 : decode cX3_disputeDay 18 = .ok (.getfield 121, 3) := dk_180 0 121 (dk_at dksX3_disputeDay_0 18 rfl rfl)
theorem dX3_disputeDay_21 : decode cX3_disputeDay 21 = .ok (.iload_n 1, 1) := dk_27 (dk_at dksX3_disputeDay_0 21 rfl rfl)
theorem dX3_disputeDay_22 : decode cX3_disputeDay 22 = .ok (.iaload, 1) := dk_46 (dk_at dksX3_disputeDay_0 22 rfl rfl)
theorem dX3_disputeDay_23 : decode cX3_disputeDay 23 = .ok (.ireturn, 1) := dk_172 (dk_at dksX3_disputeDay_0 23 rfl rfl)
abbrev cX3_ruledStreet : ByteArray := prog_23_method_70_code
def yX3_ruledStreet : MethodName := ⟨RX3, "ruledStreet", "(I)I"⟩
def dkwX3_ruledStreet_0 : List UInt8 := [42, 3, 181, 0, 1, 42, 27, 182, 0, 171, 153, 0, 7, 3, 167, 0, 9, 42, 180, 0, 115, 27, 46, 172]
abbrev dktX3_ruledStreet_0 : List UInt8 := dkwX3_ruledStreet_0 ++ []
theorem dksX3_ruledStreet_0 : cX3_ruledStreet.data.toList.drop 0 = dktX3_ruledStreet_0 := by decide +kernel
theorem dX3_ruledStreet_0 : decode cX3_ruledStreet 0 = .ok (.aload_n 0, 1) := dk_42 (dk_at dksX3_ruledStreet_0 0 rfl rfl)
theorem dX3_ruledStreet_1 : decode cX3_ruledStreet 1 = .ok (.iconst 0, 1) := dk_3 (dk_at dksX3_ruledStreet_0 1 rfl rfl)
theorem dX3_ruledStreet_2 : decode cX3_ruledStreet 2 = .ok (.putfield 1, 3) := dk_181 0 1 (dk_at dksX3_ruledStreet_0 2 rfl rfl)
theorem dX3_ruledStreet_5 : decode cX3_ruledStreet 5 = .ok (.aload_n 0, 1) := dk_42 (dk_at dksX3_ruledStreet_0 5 rfl rfl)
theorem dX3_ruledStreet_6 : decode cX3_ruledStreet 6 = .ok (.iload_n 1, 1) := dk_27 (dk_at dksX3_ruledStreet_0 6 rfl rfl)
theorem dX3_ruledStreet_7 : decode cX3_ruledStreet 7 = .ok (.invokevirtual 171, 3) := dk_182 0 171 (dk_at dksX3_ruledStreet_0 7 rfl rfl)
theorem dX3_ruledStreet_10 : decode cX3_ruledStreet 10 = .ok (.ifCond .eq 7, 3) := dk_153 0 7 (dk_at dksX3_ruledStreet_0 10 rfl rfl)
theorem dX3_ruledStreet_13 : decode cX3_ruledStreet 13 = .ok (.iconst 0, 1) := dk_3 (dk_at dksX3_ruledStreet_0 13 rfl rfl)
theorem dX3_ruledStreet_14 : decode cX3_ruledStreet 14 = .ok (.goto 9, 3) := dk_167 0 9 (dk_at dksX3_ruledStreet_0 14 rfl rfl)
theorem dX3_ruledStreet_17 : decode cX3_ruledStreet 17 = .ok (.aload_n 0, 1) := dk_42 (dk_at dksX3_ruledStreet_0 17 rfl rfl)
theorem dX3_ruledStreet_18 : decode cX3_ruledStreet 18 = .ok (.getfield 115, 3) := dk_180 0 115 (dk_at dksX3_ruledStreet_0 18 rfl rfl)
theorem dX3_ruledStreet_21 : decode cX3_ruledStreet 21 = .ok (.iload_n 1, 1) := dk_27 (dk_at dksX3_ruledStreet_0 21 rfl rfl)
theorem dX3_ruledStreet_22 : decode cX3_ruledStreet 22 = .ok (.iaload, 1) := dk_46 (dk_at dksX3_ruledStreet_0 22 rfl rfl)
theorem dX3_ruledStreet_23 : decode cX3_ruledStreet 23 = .ok (.ireturn, 1) := dk_172 (dk_at dksX3_ruledStreet_0 23 rfl rfl)
abbrev cX3_evidence : ByteArray := prog_23_method_72_code
def yX3_evidence : MethodName := ⟨RX3, "evidence", "(II)I"⟩
def dkwX3_evidence_1 : List UInt8 := [167, 0, 9, 42, 27, 28, 182, 1, 47, 172]
abbrev dktX3_evidence_1 : List UInt8 := dkwX3_evidence_1 ++ []
def dkwX3_evidence_0 : List UInt8 := [42, 3, 181, 0, 1, 42, 27, 182, 0, 171, 154, 0, 11, 42, 28, 182, 0, 174, 153, 0, 7, 3]
abbrev dktX3_evidence_0 : List UInt8 := dkwX3_evidence_0 ++ dktX3_evidence_1
theorem dksX3_evidence_0 : cX3_evidence.data.toList.drop 0 = dktX3_evidence_0 := by decide +kernel
theorem dksX3_evidence_1 : cX3_evidence.data.toList.drop 22 = dktX3_evidence_1 := dk_seg dksX3_evidence_0 22 rfl rfl
theorem dX3_evidence_0 : decode cX3_evidence 0 = .ok (.aload_n 0, 1) := dk_42 (dk_at dksX3_evidence_0 0 rfl rfl)
theorem dX3_evidence_1 : decode cX3_evidence 1 = .ok (.iconst 0, 1) := dk_3 (dk_at dksX3_evidence_0 1 rfl rfl)
theorem dX3_evidence_2 : decode cX3_evidence 2 = .ok (.putfield 1, 3) := dk_181 0 1 (dk_at dksX3_evidence_0 2 rfl rfl)
theorem dX3_evidence_5 : decode cX3_evidence 5 = .ok (.aload_n 0, 1) := dk_42 (dk_at dksX3_evidence_0 5 rfl rfl)
theorem dX3_evidence_6 : decode cX3_evidence 6 = .ok (.iload_n 1, 1) := dk_27 (dk_at dksX3_evidence_0 6 rfl rfl)
theorem dX3_evidence_7 : decode cX3_evidence 7 = .ok (.invokevirtual 171, 3) := dk_182 0 171 (dk_at dksX3_evidence_0 7 rfl rfl)
theorem dX3_evidence_10 : decode cX3_evidence 10 = .ok (.ifCond .ne 11, 3) := dk_154 0 11 (dk_at dksX3_evidence_0 10 rfl rfl)
theorem dX3_evidence_13 : decode cX3_evidence 13 = .ok (.aload_n 0, 1) := dk_42 (dk_at dksX3_evidence_0 13 rfl rfl)
theorem dX3_evidence_14 : decode cX3_evidence 14 = .ok (.iload_n 2, 1) := dk_28 (dk_at dksX3_evidence_0 14 rfl rfl)
theorem dX3_evidence_15 : decode cX3_evidence 15 = .ok (.invokevirtual 174, 3) := dk_182 0 174 (dk_at dksX3_evidence_0 15 rfl rfl)
theorem dX3_evidence_18 : decode cX3_evidence 18 = .ok (.ifCond .eq 7, 3) := dk_153 0 7 (dk_at dksX3_evidence_0 18 rfl rfl)
theorem dX3_evidence_21 : decode cX3_evidence 21 = .ok (.iconst 0, 1) := dk_3 (dk_at dksX3_evidence_0 21 rfl rfl)
theorem dX3_evidence_22 : decode cX3_evidence 22 = .ok (.goto 9, 3) := dk_167 0 9 (dk_at dksX3_evidence_1 0 rfl rfl)
theorem dX3_evidence_25 : decode cX3_evidence 25 = .ok (.aload_n 0, 1) := dk_42 (dk_at dksX3_evidence_1 3 rfl rfl)
theorem dX3_evidence_26 : decode cX3_evidence 26 = .ok (.iload_n 1, 1) := dk_27 (dk_at dksX3_evidence_1 4 rfl rfl)
theorem dX3_evidence_27 : decode cX3_evidence 27 = .ok (.iload_n 2, 1) := dk_28 (dk_at dksX3_evidence_1 5 rfl rfl)
theorem dX3_evidence_28 : decode cX3_evidence 28 = .ok (.invokevirtual 303, 3) := dk_182 1 47 (dk_at dksX3_evidence_1 6 rfl rfl)
theorem dX3_evidence_31 : decode cX3_evidence 31 = .ok (.ireturn, 1) := dk_172 (dk_at dksX3_evidence_1 9 rfl rfl)
abbrev cX3_appeal : ByteArray := prog_23_method_75_code
def yX3_appeal : MethodName := ⟨RX3, "appeal", "(II)Z"⟩
def dkwX3_appeal_5 : List UInt8 := [163, 0, 5, 3, 172, 42, 180, 0, 115, 28, 2, 79, 4, 172]
abbrev dktX3_appeal_5 : List UInt8 := dkwX3_appeal_5 ++ []
def dkwX3_appeal_4 : List UInt8 := [42, 28, 42, 27, 28, 182, 1, 51, 182, 1, 47, 42, 28, 42, 180, 0, 115, 28, 46, 182, 1, 47]
abbrev dktX3_appeal_4 : List UInt8 := dkwX3_appeal_4 ++ dktX3_appeal_5
def dkwX3_appeal_3 : List UInt8 := [154, 0, 7, 4, 167, 0, 4, 3, 6, 182, 0, 134, 153, 0, 5, 3, 172, 42, 180, 0, 124, 28, 4, 84]
abbrev dktX3_appeal_3 : List UInt8 := dkwX3_appeal_3 ++ dktX3_appeal_4
def dkwX3_appeal_2 : List UInt8 := [28, 46, 100, 16, 10, 163, 0, 26, 42, 27, 28, 182, 1, 51, 2, 159, 0, 16, 42, 180, 0, 124, 28, 51]
abbrev dktX3_appeal_2 : List UInt8 := dkwX3_appeal_2 ++ dktX3_appeal_3
def dkwX3_appeal_1 : List UInt8 := [153, 0, 5, 3, 172, 42, 42, 180, 0, 115, 28, 46, 2, 159, 0, 42, 42, 180, 1, 16, 42, 180, 0, 118]
abbrev dktX3_appeal_1 : List UInt8 := dkwX3_appeal_1 ++ dktX3_appeal_2
def dkwX3_appeal_0 : List UInt8 := [42, 3, 181, 0, 1, 42, 28, 182, 0, 171, 154, 0, 15, 42, 27, 184, 0, 177, 5, 182, 0, 134]
abbrev dktX3_appeal_0 : List UInt8 := dkwX3_appeal_0 ++ dktX3_appeal_1
theorem dksX3_appeal_0 : cX3_appeal.data.toList.drop 0 = dktX3_appeal_0 := by decide +kernel
theorem dksX3_appeal_1 : cX3_appeal.data.toList.drop 22 = dktX3_appeal_1 := dk_seg dksX3_appeal_0 22 rfl rfl
theorem dksX3_appeal_2 : cX3_appeal.data.toList.drop 46 = dktX3_appeal_2 := dk_seg dksX3_appeal_1 24 rfl rfl
theorem dksX3_appeal_3 : cX3_appeal.data.toList.drop 70 = dktX3_appeal_3 := dk_seg dksX3_appeal_2 24 rfl rfl
theorem dksX3_appeal_4 : cX3_appeal.data.toList.drop 94 = dktX3_appeal_4 := dk_seg dksX3_appeal_3 24 rfl rfl
theorem dksX3_appeal_5 : cX3_appeal.data.toList.drop 116 = dktX3_appeal_5 := dk_seg dksX3_appeal_4 22 rfl rfl
theorem dX3_appeal_0 : decode cX3_appeal 0 = .ok (.aload_n 0, 1) := dk_42 (dk_at dksX3_appeal_0 0 rfl rfl)
theorem dX3_appeal_1 : decode cX3_appeal 1 = .ok (.iconst 0, 1) := dk_3 (dk_at dksX3_appeal_0 1 rfl rfl)
theorem dX3_appeal_2 : decode cX3_appeal 2 = .ok (.putfield 1, 3) := dk_181 0 1 (dk_at dksX3_appeal_0 2 rfl rfl)
theorem dX3_appeal_5 : decode cX3_appeal 5 = .ok (.aload_n 0, 1) := dk_42 (dk_at dksX3_appeal_0 5 rfl rfl)
theorem dX3_appeal_6 : decode cX3_appeal 6 = .ok (.iload_n 2, 1) := dk_28 (dk_at dksX3_appeal_0 6 rfl rfl)
theorem dX3_appeal_7 : decode cX3_appeal 7 = .ok (.invokevirtual 171, 3) := dk_182 0 171 (dk_at dksX3_appeal_0 7 rfl rfl)
theorem dX3_appeal_10 : decode cX3_appeal 10 = .ok (.ifCond .ne 15, 3) := dk_154 0 15 (dk_at dksX3_appeal_0 10 rfl rfl)
theorem dX3_appeal_13 : decode cX3_appeal 13 = .ok (.aload_n 0, 1) := dk_42 (dk_at dksX3_appeal_0 13 rfl rfl)
theorem dX3_appeal_14 : decode cX3_appeal 14 = .ok (.iload_n 1, 1) := dk_27 (dk_at dksX3_appeal_0 14 rfl rfl)
theorem dX3_appeal_15 : decode cX3_appeal 15 = .ok (.invokestatic 177, 3) := dk_184 0 177 (dk_at dksX3_appeal_0 15 rfl rfl)
theorem dX3_appeal_18 : decode cX3_appeal 18 = .ok (.iconst 2, 1) := dk_5 (dk_at dksX3_appeal_0 18 rfl rfl)
theorem dX3_appeal_19 : decode cX3_appeal 19 = .ok (.invokevirtual 134, 3) := dk_182 0 134 (dk_at dksX3_appeal_0 19 rfl rfl)
theorem dX3_appeal_22 : decode cX3_appeal 22 = .ok (.ifCond .eq 5, 3) := dk_153 0 5 (dk_at dksX3_appeal_1 0 rfl rfl)
theorem dX3_appeal_25 : decode cX3_appeal 25 = .ok (.iconst 0, 1) := dk_3 (dk_at dksX3_appeal_1 3 rfl rfl)
theorem dX3_appeal_26 : decode cX3_appeal 26 = .ok (.ireturn, 1) := dk_172 (dk_at dksX3_appeal_1 4 rfl rfl)
theorem dX3_appeal_27 : decode cX3_appeal 27 = .ok (.aload_n 0, 1) := dk_42 (dk_at dksX3_appeal_1 5 rfl rfl)
theorem dX3_appeal_28 : decode cX3_appeal 28 = .ok (.aload_n 0, 1) := dk_42 (dk_at dksX3_appeal_1 6 rfl rfl)
theorem dX3_appeal_29 : decode cX3_appeal 29 = .ok (.getfield 115, 3) := dk_180 0 115 (dk_at dksX3_appeal_1 7 rfl rfl)
theorem dX3_appeal_32 : decode cX3_appeal 32 = .ok (.iload_n 2, 1) := dk_28 (dk_at dksX3_appeal_1 10 rfl rfl)
theorem dX3_appeal_33 : decode cX3_appeal 33 = .ok (.iaload, 1) := dk_46 (dk_at dksX3_appeal_1 11 rfl rfl)
theorem dX3_appeal_34 : decode cX3_appeal 34 = .ok (.iconst (-1), 1) := dk_2 (dk_at dksX3_appeal_1 12 rfl rfl)
theorem dX3_appeal_35 : decode cX3_appeal 35 = .ok (.if_icmp .eq 42, 3) := dk_159 0 42 (dk_at dksX3_appeal_1 13 rfl rfl)
theorem dX3_appeal_38 : decode cX3_appeal 38 = .ok (.aload_n 0, 1) := dk_42 (dk_at dksX3_appeal_1 16 rfl rfl)
theorem dX3_appeal_39 : decode cX3_appeal 39 = .ok (.getfield 272, 3) := dk_180 1 16 (dk_at dksX3_appeal_1 17 rfl rfl)
theorem dX3_appeal_42 : decode cX3_appeal 42 = .ok (.aload_n 0, 1) := dk_42 (dk_at dksX3_appeal_1 20 rfl rfl)
theorem dX3_appeal_43 : decode cX3_appeal 43 = .ok (.getfield 118, 3) := dk_180 0 118 (dk_at dksX3_appeal_1 21 rfl rfl)
theorem dX3_appeal_46 : decode cX3_appeal 46 = .ok (.iload_n 2, 1) := dk_28 (dk_at dksX3_appeal_2 0 rfl rfl)
theorem dX3_appeal_47 : decode cX3_appeal 47 = .ok (.iaload, 1) := dk_46 (dk_at dksX3_appeal_2 1 rfl rfl)
theorem dX3_appeal_48 : decode cX3_appeal 48 = .ok (.isub, 1) := dk_100 (dk_at dksX3_appeal_2 2 rfl rfl)
theorem dX3_appeal_49 : decode cX3_appeal 49 = .ok (.bipush 10, 2) := dk_16 10 (dk_at dksX3_appeal_2 3 rfl rfl)
theorem dX3_appeal_51 : decode cX3_appeal 51 = .ok (.if_icmp .gt 26, 3) := dk_163 0 26 (dk_at dksX3_appeal_2 5 rfl rfl)
theorem dX3_appeal_54 : decode cX3_appeal 54 = .ok (.aload_n 0, 1) := dk_42 (dk_at dksX3_appeal_2 8 rfl rfl)
theorem dX3_appeal_55 : decode cX3_appeal 55 = .ok (.iload_n 1, 1) := dk_27 (dk_at dksX3_appeal_2 9 rfl rfl)
theorem dX3_appeal_56 : decode cX3_appeal 56 = .ok (.iload_n 2, 1) := dk_28 (dk_at dksX3_appeal_2 10 rfl rfl)
theorem dX3_appeal_57 : decode cX3_appeal 57 = .ok (.invokevirtual 307, 3) := dk_182 1 51 (dk_at dksX3_appeal_2 11 rfl rfl)
theorem dX3_appeal_60 : decode cX3_appeal 60 = .ok (.iconst (-1), 1) := dk_2 (dk_at dksX3_appeal_2 14 rfl rfl)
theorem dX3_appeal_61 : decode cX3_appeal 61 = .ok (.if_icmp .eq 16, 3) := dk_159 0 16 (dk_at dksX3_appeal_2 15 rfl rfl)
theorem dX3_appeal_64 : decode cX3_appeal 64 = .ok (.aload_n 0, 1) := dk_42 (dk_at dksX3_appeal_2 18 rfl rfl)
theorem dX3_appeal_65 : decode cX3_appeal 65 = .ok (.getfield 124, 3) := dk_180 0 124 (dk_at dksX3_appeal_2 19 rfl rfl)
theorem dX3_appeal_68 : decode cX3_appeal 68 = .ok (.iload_n 2, 1) := dk_28 (dk_at dksX3_appeal_2 22 rfl rfl)
theorem dX3_appeal_69 : decode cX3_appeal 69 = .ok (.baload, 1) := dk_51 (dk_at dksX3_appeal_2 23 rfl rfl)
theorem dX3_appeal_70 : decode cX3_appeal 70 = .ok (.ifCond .ne 7, 3) := dk_154 0 7 (dk_at dksX3_appeal_3 0 rfl rfl)
theorem dX3_appeal_73 : decode cX3_appeal 73 = .ok (.iconst 1, 1) := dk_4 (dk_at dksX3_appeal_3 3 rfl rfl)
theorem dX3_appeal_74 : decode cX3_appeal 74 = .ok (.goto 4, 3) := dk_167 0 4 (dk_at dksX3_appeal_3 4 rfl rfl)
theorem dX3_appeal_77 : decode cX3_appeal 77 = .ok (.iconst 0, 1) := dk_3 (dk_at dksX3_appeal_3 7 rfl rfl)
theorem dX3_appeal_78 : decode cX3_appeal 78 = .ok (.iconst 3, 1) := dk_6 (dk_at dksX3_appeal_3 8 rfl rfl)
theorem dX3_appeal_79 : decode cX3_appeal 79 = .ok (.invokevirtual 134, 3) := dk_182 0 134 (dk_at dksX3_appeal_3 9 rfl rfl)
theorem dX3_appeal_82 : decode cX3_appeal 82 = .ok (.ifCond .eq 5, 3) := dk_153 0 5 (dk_at dksX3_appeal_3 12 rfl rfl)
theorem dX3_appeal_85 : decode cX3_appeal 85 = .ok (.iconst 0, 1) := dk_3 (dk_at dksX3_appeal_3 15 rfl rfl)
theorem dX3_appeal_86 : decode cX3_appeal 86 = .ok (.ireturn, 1) := dk_172 (dk_at dksX3_appeal_3 16 rfl rfl)
theorem dX3_appeal_87 : decode cX3_appeal 87 = .ok (.aload_n 0, 1) := dk_42 (dk_at dksX3_appeal_3 17 rfl rfl)
theorem dX3_appeal_88 : decode cX3_appeal 88 = .ok (.getfield 124, 3) := dk_180 0 124 (dk_at dksX3_appeal_3 18 rfl rfl)
theorem dX3_appeal_91 : decode cX3_appeal 91 = .ok (.iload_n 2, 1) := dk_28 (dk_at dksX3_appeal_3 21 rfl rfl)
theorem dX3_appeal_92 : decode cX3_appeal 92 = .ok (.iconst 1, 1) := dk_4 (dk_at dksX3_appeal_3 22 rfl rfl)
theorem dX3_appeal_93 : decode cX3_appeal 93 = .ok (.bastore, 1) := dk_84 (dk_at dksX3_appeal_3 23 rfl rfl)
theorem dX3_appeal_94 : decode cX3_appeal 94 = .ok (.aload_n 0, 1) := dk_42 (dk_at dksX3_appeal_4 0 rfl rfl)
theorem dX3_appeal_95 : decode cX3_appeal 95 = .ok (.iload_n 2, 1) := dk_28 (dk_at dksX3_appeal_4 1 rfl rfl)
theorem dX3_appeal_96 : decode cX3_appeal 96 = .ok (.aload_n 0, 1) := dk_42 (dk_at dksX3_appeal_4 2 rfl rfl)
theorem dX3_appeal_97 : decode cX3_appeal 97 = .ok (.iload_n 1, 1) := dk_27 (dk_at dksX3_appeal_4 3 rfl rfl)
theorem dX3_appeal_98 : decode cX3_appeal 98 = .ok (.iload_n 2, 1) := dk_28 (dk_at dksX3_appeal_4 4 rfl rfl)
theorem dX3_appeal_99 : decode cX3_appeal 99 = .ok (.invokevirtual 307, 3) := dk_182 1 51 (dk_at dksX3_appeal_4 5 rfl rfl)
theorem dX3_appeal_102 : decode cX3_appeal 102 = .ok (.invokevirtual 303, 3) := dk_182 1 47 (dk_at dksX3_appeal_4 8 rfl rfl)
theorem dX3_appeal_105 : decode cX3_appeal 105 = .ok (.aload_n 0, 1) := dk_42 (dk_at dksX3_appeal_4 11 rfl rfl)
theorem dX3_appeal_106 : decode cX3_appeal 106 = .ok (.iload_n 2, 1) := dk_28 (dk_at dksX3_appeal_4 12 rfl rfl)
theorem dX3_appeal_107 : decode cX3_appeal 107 = .ok (.aload_n 0, 1) := dk_42 (dk_at dksX3_appeal_4 13 rfl rfl)
theorem dX3_appeal_108 : decode cX3_appeal 108 = .ok (.getfield 115, 3) := dk_180 0 115 (dk_at dksX3_appeal_4 14 rfl rfl)
theorem dX3_appeal_111 : decode cX3_appeal 111 = .ok (.iload_n 2, 1) := dk_28 (dk_at dksX3_appeal_4 17 rfl rfl)
theorem dX3_appeal_112 : decode cX3_appeal 112 = .ok (.iaload, 1) := dk_46 (dk_at dksX3_appeal_4 18 rfl rfl)
theorem dX3_appeal_113 : decode cX3_appeal 113 = .ok (.invokevirtual 303, 3) := dk_182 1 47 (dk_at dksX3_appeal_4 19 rfl rfl)
theorem dX3_appeal_116 : decode cX3_appeal 116 = .ok (.if_icmp .gt 5, 3) := dk_163 0 5 (dk_at dksX3_appeal_5 0 rfl rfl)
theorem dX3_appeal_119 : decode cX3_appeal 119 = .ok (.iconst 0, 1) := dk_3 (dk_at dksX3_appeal_5 3 rfl rfl)
theorem dX3_appeal_120 : decode cX3_appeal 120 = .ok (.ireturn, 1) := dk_172 (dk_at dksX3_appeal_5 4 rfl rfl)
theorem dX3_appeal_121 : decode cX3_appeal 121 = .ok (.aload_n 0, 1) := dk_42 (dk_at dksX3_appeal_5 5 rfl rfl)
theorem dX3_appeal_122 : decode cX3_appeal 122 = .ok (.getfield 115, 3) := dk_180 0 115 (dk_at dksX3_appeal_5 6 rfl rfl)
theorem dX3_appeal_125 : decode cX3_appeal 125 = .ok (.iload_n 2, 1) := dk_28 (dk_at dksX3_appeal_5 9 rfl rfl)
theorem dX3_appeal_126 : decode cX3_appeal 126 = .ok (.iconst (-1), 1) := dk_2 (dk_at dksX3_appeal_5 10 rfl rfl)
theorem dX3_appeal_127 : decode cX3_appeal 127 = .ok (.iastore, 1) := dk_79 (dk_at dksX3_appeal_5 11 rfl rfl)
theorem dX3_appeal_128 : decode cX3_appeal 128 = .ok (.iconst 1, 1) := dk_4 (dk_at dksX3_appeal_5 12 rfl rfl)
theorem dX3_appeal_129 : decode cX3_appeal 129 = .ok (.ireturn, 1) := dk_172 (dk_at dksX3_appeal_5 13 rfl rfl)
abbrev cX3_otherStreet : ByteArray := prog_23_method_74_code
def yX3_otherStreet : MethodName := ⟨RX3, "otherStreet", "(II)I"⟩
def dkwX3_otherStreet_2 : List UInt8 := [180, 0, 26, 29, 46, 172, 132, 3, 1, 167, 255, 203, 2, 172]
abbrev dktX3_otherStreet_2 : List UInt8 := dkwX3_otherStreet_2 ++ []
def dkwX3_otherStreet_1 : List UInt8 := [29, 46, 28, 160, 0, 25, 42, 180, 0, 26, 29, 46, 42, 180, 0, 115, 28, 46, 159, 0, 10, 42]
abbrev dktX3_otherStreet_1 : List UInt8 := dkwX3_otherStreet_1 ++ dktX3_otherStreet_2
def dkwX3_otherStreet_0 : List UInt8 := [3, 62, 29, 42, 180, 0, 168, 162, 0, 51, 42, 180, 0, 20, 29, 46, 27, 160, 0, 35, 42, 180, 0, 23]
abbrev dktX3_otherStreet_0 : List UInt8 := dkwX3_otherStreet_0 ++ dktX3_otherStreet_1
theorem dksX3_otherStreet_0 : cX3_otherStreet.data.toList.drop 0 = dktX3_otherStreet_0 := by decide +kernel
theorem dksX3_otherStreet_1 : cX3_otherStreet.data.toList.drop 24 = dktX3_otherStreet_1 := dk_seg dksX3_otherStreet_0 24 rfl rfl
theorem dksX3_otherStreet_2 : cX3_otherStreet.data.toList.drop 46 = dktX3_otherStreet_2 := dk_seg dksX3_otherStreet_1 22 rfl rfl
theorem dX3_otherStreet_0 : decode cX3_otherStreet 0 = .ok (.iconst 0, 1) := dk_3 (dk_at dksX3_otherStreet_0 0 rfl rfl)
theorem dX3_otherStreet_1 : decode cX3_otherStreet 1 = .ok (.istore_n 3, 1) := dk_62 (dk_at dksX3_otherStreet_0 1 rfl rfl)
theorem dX3_otherStreet_2 : decode cX3_otherStreet 2 = .ok (.iload_n 3, 1) := dk_29 (dk_at dksX3_otherStreet_0 2 rfl rfl)
theorem dX3_otherStreet_3 : decode cX3_otherStreet 3 = .ok (.aload_n 0, 1) := dk_42 (dk_at dksX3_otherStreet_0 3 rfl rfl)
theorem dX3_otherStreet_4 : decode cX3_otherStreet 4 = .ok (.getfield 168, 3) := dk_180 0 168 (dk_at dksX3_otherStreet_0 4 rfl rfl)
theorem dX3_otherStreet_7 : decode cX3_otherStreet 7 = .ok (.if_icmp .ge 51, 3) := dk_162 0 51 (dk_at dksX3_otherStreet_0 7 rfl rfl)
theorem dX3_otherStreet_10 : decode cX3_otherStreet 10 = .ok (.aload_n 0, 1) := dk_42 (dk_at dksX3_otherStreet_0 10 rfl rfl)
theorem dX3_otherStreet_11 : decode cX3_otherStreet 11 = .ok (.getfield 20, 3) := dk_180 0 20 (dk_at dksX3_otherStreet_0 11 rfl rfl)
theorem dX3_otherStreet_14 : decode cX3_otherStreet 14 = .ok (.iload_n 3, 1) := dk_29 (dk_at dksX3_otherStreet_0 14 rfl rfl)
theorem dX3_otherStreet_15 : decode cX3_otherStreet 15 = .ok (.iaload, 1) := dk_46 (dk_at dksX3_otherStreet_0 15 rfl rfl)
theorem dX3_otherStreet_16 : decode cX3_otherStreet 16 = .ok (.iload_n 1, 1) := dk_27 (dk_at dksX3_otherStreet_0 16 rfl rfl)
theorem dX3_otherStreet_17 : decode cX3_otherStreet 17 = .ok (.if_icmp .ne 35, 3) := dk_160 0 35 (dk_at dksX3_otherStreet_0 17 rfl rfl)
theorem dX3_otherStreet_20 : decode cX3_otherStreet 20 = .ok (.aload_n 0, 1) := dk_42 (dk_at dksX3_otherStreet_0 20 rfl rfl)
theorem dX3_otherStreet_21 : decode cX3_otherStreet 21 = .ok (.getfield 23, 3) := dk_180 0 23 (dk_at dksX3_otherStreet_0 21 rfl rfl)
theorem dX3_otherStreet_24 : decode cX3_otherStreet 24 = .ok (.iload_n 3, 1) := dk_29 (dk_at dksX3_otherStreet_1 0 rfl rfl)
theorem dX3_otherStreet_25 : decode cX3_otherStreet 25 = .ok (.iaload, 1) := dk_46 (dk_at dksX3_otherStreet_1 1 rfl rfl)
theorem dX3_otherStreet_26 : decode cX3_otherStreet 26 = .ok (.iload_n 2, 1) := dk_28 (dk_at dksX3_otherStreet_1 2 rfl rfl)
theorem dX3_otherStreet_27 : decode cX3_otherStreet 27 = .ok (.if_icmp .ne 25, 3) := dk_160 0 25 (dk_at dksX3_otherStreet_1 3 rfl rfl)
theorem dX3_otherStreet_30 : decode cX3_otherStreet 30 = .ok (.aload_n 0, 1) := dk_42 (dk_at dksX3_otherStreet_1 6 rfl rfl)
theorem dX3_otherStreet_31 : decode cX3_otherStreet 31 = .ok (.getfield 26, 3) := dk_180 0 26 (dk_at dksX3_otherStreet_1 7 rfl rfl)
theorem dX3_otherStreet_34 : decode cX3_otherStreet 34 = .ok (.iload_n 3, 1) := dk_29 (dk_at dksX3_otherStreet_1 10 rfl rfl)
theorem dX3_otherStreet_35 : decode cX3_otherStreet 35 = .ok (.iaload, 1) := dk_46 (dk_at dksX3_otherStreet_1 11 rfl rfl)
theorem dX3_otherStreet_36 : decode cX3_otherStreet 36 = .ok (.aload_n 0, 1) := dk_42 (dk_at dksX3_otherStreet_1 12 rfl rfl)
theorem dX3_otherStreet_37 : decode cX3_otherStreet 37 = .ok (.getfield 115, 3) := dk_180 0 115 (dk_at dksX3_otherStreet_1 13 rfl rfl)
theorem dX3_otherStreet_40 : decode cX3_otherStreet 40 = .ok (.iload_n 2, 1) := dk_28 (dk_at dksX3_otherStreet_1 16 rfl rfl)
theorem dX3_otherStreet_41 : decode cX3_otherStreet 41 = .ok (.iaload, 1) := dk_46 (dk_at dksX3_otherStreet_1 17 rfl rfl)
theorem dX3_otherStreet_42 : decode cX3_otherStreet 42 = .ok (.if_icmp .eq 10, 3) := dk_159 0 10 (dk_at dksX3_otherStreet_1 18 rfl rfl)
theorem dX3_otherStreet_45 : decode cX3_otherStreet 45 = .ok (.aload_n 0, 1) := dk_42 (dk_at dksX3_otherStreet_1 21 rfl rfl)
theorem dX3_otherStreet_46 : decode cX3_otherStreet 46 = .ok (.getfield 26, 3) := dk_180 0 26 (dk_at dksX3_otherStreet_2 0 rfl rfl)
theorem dX3_otherStreet_49 : decode cX3_otherStreet 49 = .ok (.iload_n 3, 1) := dk_29 (dk_at dksX3_otherStreet_2 3 rfl rfl)
theorem dX3_otherStreet_50 : decode cX3_otherStreet 50 = .ok (.iaload, 1) := dk_46 (dk_at dksX3_otherStreet_2 4 rfl rfl)
theorem dX3_otherStreet_51 : decode cX3_otherStreet 51 = .ok (.ireturn, 1) := dk_172 (dk_at dksX3_otherStreet_2 5 rfl rfl)
theorem dX3_otherStreet_52 : decode cX3_otherStreet 52 = .ok (.iinc 3 1, 3) := dk_132 3 1 (dk_at dksX3_otherStreet_2 6 rfl rfl)
theorem dX3_otherStreet_55 : decode cX3_otherStreet 55 = .ok (.goto (-53), 3) := dk_167 255 203 (dk_at dksX3_otherStreet_2 9 rfl rfl)
theorem dX3_otherStreet_58 : decode cX3_otherStreet 58 = .ok (.iconst (-1), 1) := dk_2 (dk_at dksX3_otherStreet_2 12 rfl rfl)
theorem dX3_otherStreet_59 : decode cX3_otherStreet 59 = .ok (.ireturn, 1) := dk_172 (dk_at dksX3_otherStreet_2 13 rfl rfl)
abbrev cX3_givenUp : ByteArray := prog_23_method_76_code
def yX3_givenUp : MethodName := ⟨RX3, "givenUp", "()I"⟩
def dkwX3_givenUp_0 : List UInt8 := [42, 3, 181, 0, 1, 42, 180, 1, 0, 172]
abbrev dktX3_givenUp_0 : List UInt8 := dkwX3_givenUp_0 ++ []
theorem dksX3_givenUp_0 : cX3_givenUp.data.toList.drop 0 = dktX3_givenUp_0 := by decide +kernel
theorem dX3_givenUp_0 : decode cX3_givenUp 0 = .ok (.aload_n 0, 1) := dk_42 (dk_at dksX3_givenUp_0 0 rfl rfl)
theorem dX3_givenUp_1 : decode cX3_givenUp 1 = .ok (.iconst 0, 1) := dk_3 (dk_at dksX3_givenUp_0 1 rfl rfl)
theorem dX3_givenUp_2 : decode cX3_givenUp 2 = .ok (.putfield 1, 3) := dk_181 0 1 (dk_at dksX3_givenUp_0 2 rfl rfl)
theorem dX3_givenUp_5 : decode cX3_givenUp 5 = .ok (.aload_n 0, 1) := dk_42 (dk_at dksX3_givenUp_0 5 rfl rfl)
theorem dX3_givenUp_6 : decode cX3_givenUp 6 = .ok (.getfield 256, 3) := dk_180 1 0 (dk_at dksX3_givenUp_0 6 rfl rfl)
theorem dX3_givenUp_9 : decode cX3_givenUp 9 = .ok (.ireturn, 1) := dk_172 (dk_at dksX3_givenUp_0 9 rfl rfl)
abbrev cX3_givenUpThoughKnown : ByteArray := prog_23_method_77_code
def yX3_givenUpThoughKnown : MethodName := ⟨RX3, "givenUpThoughKnown", "()I"⟩
def dkwX3_givenUpThoughKnown_0 : List UInt8 := [42, 3, 181, 0, 1, 42, 180, 1, 3, 172]
abbrev dktX3_givenUpThoughKnown_0 : List UInt8 := dkwX3_givenUpThoughKnown_0 ++ []
theorem dksX3_givenUpThoughKnown_0 : cX3_givenUpThoughKnown.data.toList.drop 0 = dktX3_givenUpThoughKnown_0 := by decide +kernel
theorem dX3_givenUpThoughKnown_0 : decode cX3_givenUpThoughKnown 0 = .ok (.aload_n 0, 1) := dk_42 (dk_at dksX3_givenUpThoughKnown_0 0 rfl rfl)
theorem dX3_givenUpThoughKnown_1 : decode cX3_givenUpThoughKnown 1 = .ok (.iconst 0, 1) := dk_3 (dk_at dksX3_givenUpThoughKnown_0 1 rfl rfl)
theorem dX3_givenUpThoughKnown_2 : decode cX3_givenUpThoughKnown 2 = .ok (.putfield 1, 3) := dk_181 0 1 (dk_at dksX3_givenUpThoughKnown_0 2 rfl rfl)
theorem dX3_givenUpThoughKnown_5 : decode cX3_givenUpThoughKnown 5 = .ok (.aload_n 0, 1) := dk_42 (dk_at dksX3_givenUpThoughKnown_0 5 rfl rfl)
theorem dX3_givenUpThoughKnown_6 : decode cX3_givenUpThoughKnown 6 = .ok (.getfield 259, 3) := dk_180 1 3 (dk_at dksX3_givenUpThoughKnown_0 6 rfl rfl)
theorem dX3_givenUpThoughKnown_9 : decode cX3_givenUpThoughKnown 9 = .ok (.ireturn, 1) := dk_172 (dk_at dksX3_givenUpThoughKnown_0 9 rfl rfl)
abbrev cX3_errors : ByteArray := prog_23_method_78_code
def yX3_errors : MethodName := ⟨RX3, "errors", "()I"⟩
def dkwX3_errors_0 : List UInt8 := [42, 3, 181, 0, 1, 3, 172]
abbrev dktX3_errors_0 : List UInt8 := dkwX3_errors_0 ++ []
theorem dksX3_errors_0 : cX3_errors.data.toList.drop 0 = dktX3_errors_0 := by decide +kernel
theorem dX3_errors_0 : decode cX3_errors 0 = .ok (.aload_n 0, 1) := dk_42 (dk_at dksX3_errors_0 0 rfl rfl)
theorem dX3_errors_1 : decode cX3_errors 1 = .ok (.iconst 0, 1) := dk_3 (dk_at dksX3_errors_0 1 rfl rfl)
theorem dX3_errors_2 : decode cX3_errors 2 = .ok (.putfield 1, 3) := dk_181 0 1 (dk_at dksX3_errors_0 2 rfl rfl)
theorem dX3_errors_5 : decode cX3_errors 5 = .ok (.iconst 0, 1) := dk_3 (dk_at dksX3_errors_0 5 rfl rfl)
theorem dX3_errors_6 : decode cX3_errors 6 = .ok (.ireturn, 1) := dk_172 (dk_at dksX3_errors_0 6 rfl rfl)
abbrev cX3_meanAttempts : ByteArray := prog_23_method_79_code
def yX3_meanAttempts : MethodName := ⟨RX3, "meanAttempts", "()D"⟩
def dkwX3_meanAttempts_1 : List UInt8 := [180, 1, 6, 135, 111, 175]
abbrev dktX3_meanAttempts_1 : List UInt8 := dkwX3_meanAttempts_1 ++ []
def dkwX3_meanAttempts_0 : List UInt8 := [42, 3, 181, 0, 1, 42, 180, 1, 6, 154, 0, 7, 14, 167, 0, 14, 42, 180, 1, 9, 135, 42]
abbrev dktX3_meanAttempts_0 : List UInt8 := dkwX3_meanAttempts_0 ++ dktX3_meanAttempts_1
theorem dksX3_meanAttempts_0 : cX3_meanAttempts.data.toList.drop 0 = dktX3_meanAttempts_0 := by decide +kernel
theorem dksX3_meanAttempts_1 : cX3_meanAttempts.data.toList.drop 22 = dktX3_meanAttempts_1 := dk_seg dksX3_meanAttempts_0 22 rfl rfl
theorem dX3_meanAttempts_0 : decode cX3_meanAttempts 0 = .ok (.aload_n 0, 1) := dk_42 (dk_at dksX3_meanAttempts_0 0 rfl rfl)
theorem dX3_meanAttempts_1 : decode cX3_meanAttempts 1 = .ok (.iconst 0, 1) := dk_3 (dk_at dksX3_meanAttempts_0 1 rfl rfl)
theorem dX3_meanAttempts_2 : decode cX3_meanAttempts 2 = .ok (.putfield 1, 3) := dk_181 0 1 (dk_at dksX3_meanAttempts_0 2 rfl rfl)
theorem dX3_meanAttempts_5 : decode cX3_meanAttempts 5 = .ok (.aload_n 0, 1) := dk_42 (dk_at dksX3_meanAttempts_0 5 rfl rfl)
theorem dX3_meanAttempts_6 : decode cX3_meanAttempts 6 = .ok (.getfield 262, 3) := dk_180 1 6 (dk_at dksX3_meanAttempts_0 6 rfl rfl)
theorem dX3_meanAttempts_9 : decode cX3_meanAttempts 9 = .ok (.ifCond .ne 7, 3) := dk_154 0 7 (dk_at dksX3_meanAttempts_0 9 rfl rfl)
theorem dX3_meanAttempts_12 : decode cX3_meanAttempts 12 = .ok (.dconst 0, 1) := dk_14 (dk_at dksX3_meanAttempts_0 12 rfl rfl)
theorem dX3_meanAttempts_13 : decode cX3_meanAttempts 13 = .ok (.goto 14, 3) := dk_167 0 14 (dk_at dksX3_meanAttempts_0 13 rfl rfl)
theorem dX3_meanAttempts_16 : decode cX3_meanAttempts 16 = .ok (.aload_n 0, 1) := dk_42 (dk_at dksX3_meanAttempts_0 16 rfl rfl)
theorem dX3_meanAttempts_17 : decode cX3_meanAttempts 17 = .ok (.getfield 265, 3) := dk_180 1 9 (dk_at dksX3_meanAttempts_0 17 rfl rfl)
theorem dX3_meanAttempts_20 : decode cX3_meanAttempts 20 = .ok (.i2d, 1) := dk_135 (dk_at dksX3_meanAttempts_0 20 rfl rfl)
theorem dX3_meanAttempts_21 : decode cX3_meanAttempts 21 = .ok (.aload_n 0, 1) := dk_42 (dk_at dksX3_meanAttempts_0 21 rfl rfl)
theorem dX3_meanAttempts_22 : decode cX3_meanAttempts 22 = .ok (.getfield 262, 3) := dk_180 1 6 (dk_at dksX3_meanAttempts_1 0 rfl rfl)
theorem dX3_meanAttempts_25 : decode cX3_meanAttempts 25 = .ok (.i2d, 1) := dk_135 (dk_at dksX3_meanAttempts_1 3 rfl rfl)
theorem dX3_meanAttempts_26 : decode cX3_meanAttempts 26 = .ok (.ddiv, 1) := dk_111 (dk_at dksX3_meanAttempts_1 4 rfl rfl)
theorem dX3_meanAttempts_27 : decode cX3_meanAttempts 27 = .ok (.dreturn, 1) := dk_175 (dk_at dksX3_meanAttempts_1 5 rfl rfl)
abbrev cX3_deliveredShare : ByteArray := prog_23_method_80_code
def yX3_deliveredShare : MethodName := ⟨RX3, "deliveredShare", "()F"⟩
def dkwX3_deliveredShare_1 : List UInt8 := [180, 1, 19, 134, 110, 174]
abbrev dktX3_deliveredShare_1 : List UInt8 := dkwX3_deliveredShare_1 ++ []
def dkwX3_deliveredShare_0 : List UInt8 := [42, 3, 181, 0, 1, 42, 180, 1, 19, 154, 0, 7, 11, 167, 0, 14, 42, 180, 1, 6, 134, 42]
abbrev dktX3_deliveredShare_0 : List UInt8 := dkwX3_deliveredShare_0 ++ dktX3_deliveredShare_1
theorem dksX3_deliveredShare_0 : cX3_deliveredShare.data.toList.drop 0 = dktX3_deliveredShare_0 := by decide +kernel
theorem dksX3_deliveredShare_1 : cX3_deliveredShare.data.toList.drop 22 = dktX3_deliveredShare_1 := dk_seg dksX3_deliveredShare_0 22 rfl rfl
theorem dX3_deliveredShare_0 : decode cX3_deliveredShare 0 = .ok (.aload_n 0, 1) := dk_42 (dk_at dksX3_deliveredShare_0 0 rfl rfl)
theorem dX3_deliveredShare_1 : decode cX3_deliveredShare 1 = .ok (.iconst 0, 1) := dk_3 (dk_at dksX3_deliveredShare_0 1 rfl rfl)
theorem dX3_deliveredShare_2 : decode cX3_deliveredShare 2 = .ok (.putfield 1, 3) := dk_181 0 1 (dk_at dksX3_deliveredShare_0 2 rfl rfl)
theorem dX3_deliveredShare_5 : decode cX3_deliveredShare 5 = .ok (.aload_n 0, 1) := dk_42 (dk_at dksX3_deliveredShare_0 5 rfl rfl)
theorem dX3_deliveredShare_6 : decode cX3_deliveredShare 6 = .ok (.getfield 275, 3) := dk_180 1 19 (dk_at dksX3_deliveredShare_0 6 rfl rfl)
theorem dX3_deliveredShare_9 : decode cX3_deliveredShare 9 = .ok (.ifCond .ne 7, 3) := dk_154 0 7 (dk_at dksX3_deliveredShare_0 9 rfl rfl)
theorem dX3_deliveredShare_12 : decode cX3_deliveredShare 12 = .ok (.fconst 0, 1) := dk_11 (dk_at dksX3_deliveredShare_0 12 rfl rfl)
theorem dX3_deliveredShare_13 : decode cX3_deliveredShare 13 = .ok (.goto 14, 3) := dk_167 0 14 (dk_at dksX3_deliveredShare_0 13 rfl rfl)
theorem dX3_deliveredShare_16 : decode cX3_deliveredShare 16 = .ok (.aload_n 0, 1) := dk_42 (dk_at dksX3_deliveredShare_0 16 rfl rfl)
theorem dX3_deliveredShare_17 : decode cX3_deliveredShare 17 = .ok (.getfield 262, 3) := dk_180 1 6 (dk_at dksX3_deliveredShare_0 17 rfl rfl)
theorem dX3_deliveredShare_20 : decode cX3_deliveredShare 20 = .ok (.i2f, 1) := dk_134 (dk_at dksX3_deliveredShare_0 20 rfl rfl)
theorem dX3_deliveredShare_21 : decode cX3_deliveredShare 21 = .ok (.aload_n 0, 1) := dk_42 (dk_at dksX3_deliveredShare_0 21 rfl rfl)
theorem dX3_deliveredShare_22 : decode cX3_deliveredShare 22 = .ok (.getfield 275, 3) := dk_180 1 19 (dk_at dksX3_deliveredShare_1 0 rfl rfl)
theorem dX3_deliveredShare_25 : decode cX3_deliveredShare 25 = .ok (.i2f, 1) := dk_134 (dk_at dksX3_deliveredShare_1 3 rfl rfl)
theorem dX3_deliveredShare_26 : decode cX3_deliveredShare 26 = .ok (.fdiv, 1) := dk_110 (dk_at dksX3_deliveredShare_1 4 rfl rfl)
theorem dX3_deliveredShare_27 : decode cX3_deliveredShare 27 = .ok (.freturn, 1) := dk_174 (dk_at dksX3_deliveredShare_1 5 rfl rfl)
theorem q80 : (Jvm.Cond.initialized "DialectdepotModel") ∈ lw_all := lw_g (lw_at lw_m1 15 rfl) rfl
theorem q873 : (Jvm.Cond.selects "DialectdepotModel" ({ cls := "java/lang/Object", name := "getClass", desc := "()Ljava/lang/Class;" } : Jvm.MethodName) ({ cls := "java/lang/Object", name := "getClass", desc := "()Ljava/lang/Class;" } : Jvm.MethodName)) ∈ lw_all := lw_g (lw_at lw_m4 88 rfl) rfl
theorem q1922 : (Jvm.Cond.instanceMethod ({ cls := "DialectdepotModel", name := "thrown", desc := "()I" } : Jvm.MethodName)) ∈ lw_all := lw_g (lw_at lw_m8 177 rfl) rfl
theorem q1923 : (Jvm.Cond.selects "DialectdepotModel" ({ cls := "DialectdepotModel", name := "thrown", desc := "()I" } : Jvm.MethodName) ({ cls := "DialectdepotModel", name := "thrown", desc := "()I" } : Jvm.MethodName)) ∈ lw_all := lw_g (lw_at lw_m8 178 rfl) rfl
theorem q1924 : (Jvm.Cond.code ({ cls := "DialectdepotModel", name := "thrown", desc := "()I" } : Jvm.MethodName) prog_23_method_1_code (1 : Nat) (Option.some Jvm.ClassFile.FieldType.int)) ∈ lw_all := lw_g (lw_at lw_m8 179 rfl) rfl
theorem q1926 : (Jvm.Cond.instantiable "DialectdepotModel" (57 : Nat)) ∈ lw_all := lw_g (lw_at lw_m8 181 rfl) rfl
theorem q1928 : (Jvm.Cond.instanceMethod ({ cls := "DialectdepotModel", name := "<init>", desc := "()V" } : Jvm.MethodName)) ∈ lw_all := lw_g (lw_at lw_m8 183 rfl) rfl
theorem q1929 : (Jvm.Cond.code ({ cls := "DialectdepotModel", name := "<init>", desc := "()V" } : Jvm.MethodName) prog_23_method_5_code (2 : Nat) (Option.none : Option Jvm.ClassFile.FieldType)) ∈ lw_all := lw_g (lw_at lw_m8 184 rfl) rfl
theorem q1930 : (Jvm.Cond.methodLink "DialectdepotModel" (7 : Nat) ({ cls := "java/lang/Object", name := "<init>", desc := "()V" } : Jvm.MethodName)) ∈ lw_all := lw_g (lw_at lw_m8 185 rfl) rfl
theorem q1931 : (Jvm.Cond.fieldLink "DialectdepotModel" (1 : Nat) "DialectdepotModel" "thrown" "I") ∈ lw_all := lw_g (lw_at lw_m8 186 rfl) rfl
theorem q1932 : (Jvm.Cond.fieldLink "DialectdepotModel" (127 : Nat) "DialectdepotModel" "streets" "I") ∈ lw_all := lw_g (lw_at lw_m8 187 rfl) rfl
theorem q1933 : (Jvm.Cond.fieldLink "DialectdepotModel" (138 : Nat) "DialectdepotModel" "names" "I") ∈ lw_all := lw_g (lw_at lw_m8 188 rfl) rfl
theorem q1934 : (Jvm.Cond.fieldLink "DialectdepotModel" (168 : Nat) "DialectdepotModel" "usages" "I") ∈ lw_all := lw_g (lw_at lw_m8 189 rfl) rfl
theorem q1935 : (Jvm.Cond.fieldLink "DialectdepotModel" (141 : Nat) "DialectdepotModel" "carriers" "I") ∈ lw_all := lw_g (lw_at lw_m8 190 rfl) rfl
theorem q1936 : (Jvm.Cond.fieldLink "DialectdepotModel" (144 : Nat) "DialectdepotModel" "parcels" "I") ∈ lw_all := lw_g (lw_at lw_m8 191 rfl) rfl
theorem q1937 : (Jvm.Cond.fieldLink "DialectdepotModel" (272 : Nat) "DialectdepotModel" "today" "I") ∈ lw_all := lw_g (lw_at lw_m8 192 rfl) rfl
theorem q1938 : (Jvm.Cond.fieldLink "DialectdepotModel" (13 : Nat) "DialectdepotModel" "size" "[I") ∈ lw_all := lw_g (lw_at lw_m8 193 rfl) rfl
theorem q1939 : (Jvm.Cond.fieldLink "DialectdepotModel" (17 : Nat) "DialectdepotModel" "letters" "[I") ∈ lw_all := lw_g (lw_at lw_m8 194 rfl) rfl
theorem q1940 : (Jvm.Cond.fieldLink "DialectdepotModel" (20 : Nat) "DialectdepotModel" "uGroup" "[I") ∈ lw_all := lw_g (lw_at lw_m8 195 rfl) rfl
theorem q1941 : (Jvm.Cond.fieldLink "DialectdepotModel" (23 : Nat) "DialectdepotModel" "uName" "[I") ∈ lw_all := lw_g (lw_at lw_m8 196 rfl) rfl
theorem q1942 : (Jvm.Cond.fieldLink "DialectdepotModel" (26 : Nat) "DialectdepotModel" "uStreet" "[I") ∈ lw_all := lw_g (lw_at lw_m8 197 rfl) rfl
theorem q1943 : (Jvm.Cond.fieldLink "DialectdepotModel" (29 : Nat) "DialectdepotModel" "uFrom" "[I") ∈ lw_all := lw_g (lw_at lw_m8 198 rfl) rfl
theorem q1944 : (Jvm.Cond.fieldLink "DialectdepotModel" (32 : Nat) "DialectdepotModel" "uTo" "[I") ∈ lw_all := lw_g (lw_at lw_m8 199 rfl) rfl
theorem q1945 : (Jvm.Cond.fieldLink "DialectdepotModel" (35 : Nat) "DialectdepotModel" "tape" "[I") ∈ lw_all := lw_g (lw_at lw_m8 200 rfl) rfl
theorem q1946 : (Jvm.Cond.fieldLink "DialectdepotModel" (157 : Nat) "DialectdepotModel" "tapeMany" "I") ∈ lw_all := lw_g (lw_at lw_m8 201 rfl) rfl
theorem q1947 : (Jvm.Cond.fieldLink "DialectdepotModel" (150 : Nat) "DialectdepotModel" "from" "I") ∈ lw_all := lw_g (lw_at lw_m8 202 rfl) rfl
theorem q1948 : (Jvm.Cond.fieldLink "DialectdepotModel" (147 : Nat) "DialectdepotModel" "to" "I") ∈ lw_all := lw_g (lw_at lw_m8 203 rfl) rfl
theorem q1949 : (Jvm.Cond.fieldLink "DialectdepotModel" (38 : Nat) "DialectdepotModel" "orWord" "[C") ∈ lw_all := lw_g (lw_at lw_m8 204 rfl) rfl
theorem q1950 : (Jvm.Cond.fieldLink "DialectdepotModel" (42 : Nat) "DialectdepotModel" "notWord" "[C") ∈ lw_all := lw_g (lw_at lw_m8 205 rfl) rfl
theorem q1951 : (Jvm.Cond.fieldLink "DialectdepotModel" (45 : Nat) "DialectdepotModel" "round" "[I") ∈ lw_all := lw_g (lw_at lw_m8 206 rfl) rfl
theorem q1952 : (Jvm.Cond.fieldLink "DialectdepotModel" (48 : Nat) "DialectdepotModel" "room" "[I") ∈ lw_all := lw_g (lw_at lw_m8 207 rfl) rfl
theorem q1953 : (Jvm.Cond.fieldLink "DialectdepotModel" (51 : Nat) "DialectdepotModel" "lessons" "[I") ∈ lw_all := lw_g (lw_at lw_m8 208 rfl) rfl
theorem q1954 : (Jvm.Cond.fieldLink "DialectdepotModel" (212 : Nat) "DialectdepotModel" "read" "I") ∈ lw_all := lw_g (lw_at lw_m8 209 rfl) rfl
theorem q1955 : (Jvm.Cond.fieldLink "DialectdepotModel" (221 : Nat) "DialectdepotModel" "unread" "I") ∈ lw_all := lw_g (lw_at lw_m8 210 rfl) rfl
theorem q1956 : (Jvm.Cond.fieldLink "DialectdepotModel" (198 : Nat) "DialectdepotModel" "fault" "I") ∈ lw_all := lw_g (lw_at lw_m8 211 rfl) rfl
theorem q1957 : (Jvm.Cond.fieldLink "DialectdepotModel" (201 : Nat) "DialectdepotModel" "faultAt" "I") ∈ lw_all := lw_g (lw_at lw_m8 212 rfl) rfl
theorem q1958 : (Jvm.Cond.fieldLink "DialectdepotModel" (54 : Nat) "DialectdepotModel" "wanted" "[I") ∈ lw_all := lw_g (lw_at lw_m8 213 rfl) rfl
theorem q1959 : (Jvm.Cond.fieldLink "DialectdepotModel" (57 : Nat) "DialectdepotModel" "unwanted" "[I") ∈ lw_all := lw_g (lw_at lw_m8 214 rfl) rfl
theorem q1960 : (Jvm.Cond.fieldLink "DialectdepotModel" (60 : Nat) "DialectdepotModel" "writer" "[I") ∈ lw_all := lw_g (lw_at lw_m8 215 rfl) rfl
theorem q1961 : (Jvm.Cond.fieldLink "DialectdepotModel" (63 : Nat) "DialectdepotModel" "age" "[I") ∈ lw_all := lw_g (lw_at lw_m8 216 rfl) rfl
theorem q1962 : (Jvm.Cond.fieldLink "DialectdepotModel" (66 : Nat) "DialectdepotModel" "truth" "[I") ∈ lw_all := lw_g (lw_at lw_m8 217 rfl) rfl
theorem q1963 : (Jvm.Cond.fieldLink "DialectdepotModel" (69 : Nat) "DialectdepotModel" "since" "[I") ∈ lw_all := lw_g (lw_at lw_m8 218 rfl) rfl
theorem q1964 : (Jvm.Cond.fieldLink "DialectdepotModel" (72 : Nat) "DialectdepotModel" "state" "[I") ∈ lw_all := lw_g (lw_at lw_m8 219 rfl) rfl
theorem q1965 : (Jvm.Cond.fieldLink "DialectdepotModel" (75 : Nat) "DialectdepotModel" "backs" "[I") ∈ lw_all := lw_g (lw_at lw_m8 220 rfl) rfl
theorem q1966 : (Jvm.Cond.fieldLink "DialectdepotModel" (78 : Nat) "DialectdepotModel" "why" "[I") ∈ lw_all := lw_g (lw_at lw_m8 221 rfl) rfl
theorem q1967 : (Jvm.Cond.fieldLink "DialectdepotModel" (81 : Nat) "DialectdepotModel" "waited" "[I") ∈ lw_all := lw_g (lw_at lw_m8 222 rfl) rfl
theorem q1968 : (Jvm.Cond.fieldLink "DialectdepotModel" (84 : Nat) "DialectdepotModel" "backFrom" "[I") ∈ lw_all := lw_g (lw_at lw_m8 223 rfl) rfl
theorem q1969 : (Jvm.Cond.fieldLink "DialectdepotModel" (87 : Nat) "DialectdepotModel" "given" "[I") ∈ lw_all := lw_g (lw_at lw_m8 224 rfl) rfl
theorem q1970 : (Jvm.Cond.fieldLink "DialectdepotModel" (275 : Nat) "DialectdepotModel" "attempts" "I") ∈ lw_all := lw_g (lw_at lw_m8 225 rfl) rfl
theorem q1971 : (Jvm.Cond.fieldLink "DialectdepotModel" (256 : Nat) "DialectdepotModel" "givenUp" "I") ∈ lw_all := lw_g (lw_at lw_m8 226 rfl) rfl
theorem q1972 : (Jvm.Cond.fieldLink "DialectdepotModel" (259 : Nat) "DialectdepotModel" "known" "I") ∈ lw_all := lw_g (lw_at lw_m8 227 rfl) rfl
theorem q1973 : (Jvm.Cond.fieldLink "DialectdepotModel" (262 : Nat) "DialectdepotModel" "arrived" "I") ∈ lw_all := lw_g (lw_at lw_m8 228 rfl) rfl
theorem q1974 : (Jvm.Cond.fieldLink "DialectdepotModel" (265 : Nat) "DialectdepotModel" "triesOfArrived" "I") ∈ lw_all := lw_g (lw_at lw_m8 229 rfl) rfl
theorem q1975 : (Jvm.Cond.fieldLink "DialectdepotModel" (90 : Nat) "DialectdepotModel" "aParcel" "[I") ∈ lw_all := lw_g (lw_at lw_m8 230 rfl) rfl
theorem q1976 : (Jvm.Cond.fieldLink "DialectdepotModel" (93 : Nat) "DialectdepotModel" "aCarrier" "[I") ∈ lw_all := lw_g (lw_at lw_m8 231 rfl) rfl
theorem q1977 : (Jvm.Cond.fieldLink "DialectdepotModel" (96 : Nat) "DialectdepotModel" "aStreet" "[I") ∈ lw_all := lw_g (lw_at lw_m8 232 rfl) rfl
theorem q1978 : (Jvm.Cond.fieldLink "DialectdepotModel" (99 : Nat) "DialectdepotModel" "aDay" "[I") ∈ lw_all := lw_g (lw_at lw_m8 233 rfl) rfl
theorem q1979 : (Jvm.Cond.fieldLink "DialectdepotModel" (102 : Nat) "DialectdepotModel" "aDone" "[Z") ∈ lw_all := lw_g (lw_at lw_m8 234 rfl) rfl
theorem q1980 : (Jvm.Cond.fieldLink "DialectdepotModel" (106 : Nat) "DialectdepotModel" "plan" "[I") ∈ lw_all := lw_g (lw_at lw_m8 235 rfl) rfl
theorem q1981 : (Jvm.Cond.fieldLink "DialectdepotModel" (297 : Nat) "DialectdepotModel" "claimsEver" "I") ∈ lw_all := lw_g (lw_at lw_m8 236 rfl) rfl
theorem q1982 : (Jvm.Cond.fieldLink "DialectdepotModel" (109 : Nat) "DialectdepotModel" "claims" "[I") ∈ lw_all := lw_g (lw_at lw_m8 237 rfl) rfl
theorem q1983 : (Jvm.Cond.fieldLink "DialectdepotModel" (112 : Nat) "DialectdepotModel" "turn" "[I") ∈ lw_all := lw_g (lw_at lw_m8 238 rfl) rfl
theorem q1984 : (Jvm.Cond.fieldLink "DialectdepotModel" (115 : Nat) "DialectdepotModel" "ruled" "[I") ∈ lw_all := lw_g (lw_at lw_m8 239 rfl) rfl
theorem q1985 : (Jvm.Cond.fieldLink "DialectdepotModel" (118 : Nat) "DialectdepotModel" "ruledOn" "[I") ∈ lw_all := lw_g (lw_at lw_m9 0 rfl) rfl
theorem q1986 : (Jvm.Cond.fieldLink "DialectdepotModel" (121 : Nat) "DialectdepotModel" "dispute" "[I") ∈ lw_all := lw_g (lw_at lw_m9 1 rfl) rfl
theorem q1987 : (Jvm.Cond.fieldLink "DialectdepotModel" (124 : Nat) "DialectdepotModel" "wasAppealed" "[Z") ∈ lw_all := lw_g (lw_at lw_m9 2 rfl) rfl
theorem q1988 : (Jvm.Cond.lays "DialectdepotModel" "DialectdepotModel" "thrown" "I") ∈ lw_all := lw_g (lw_at lw_m9 3 rfl) rfl
theorem q1989 : (Jvm.Cond.soleField "DialectdepotModel" "thrown") ∈ lw_all := lw_g (lw_at lw_m9 4 rfl) rfl
theorem q1990 : (Jvm.Cond.lays "DialectdepotModel" "DialectdepotModel" "streets" "I") ∈ lw_all := lw_g (lw_at lw_m9 5 rfl) rfl
theorem q1991 : (Jvm.Cond.soleField "DialectdepotModel" "streets") ∈ lw_all := lw_g (lw_at lw_m9 6 rfl) rfl
theorem q1992 : (Jvm.Cond.lays "DialectdepotModel" "DialectdepotModel" "names" "I") ∈ lw_all := lw_g (lw_at lw_m9 7 rfl) rfl
theorem q1993 : (Jvm.Cond.soleField "DialectdepotModel" "names") ∈ lw_all := lw_g (lw_at lw_m9 8 rfl) rfl
theorem q1994 : (Jvm.Cond.lays "DialectdepotModel" "DialectdepotModel" "usages" "I") ∈ lw_all := lw_g (lw_at lw_m9 9 rfl) rfl
theorem q1995 : (Jvm.Cond.soleField "DialectdepotModel" "usages") ∈ lw_all := lw_g (lw_at lw_m9 10 rfl) rfl
theorem q1996 : (Jvm.Cond.lays "DialectdepotModel" "DialectdepotModel" "carriers" "I") ∈ lw_all := lw_g (lw_at lw_m9 11 rfl) rfl
theorem q1997 : (Jvm.Cond.soleField "DialectdepotModel" "carriers") ∈ lw_all := lw_g (lw_at lw_m9 12 rfl) rfl
theorem q1998 : (Jvm.Cond.lays "DialectdepotModel" "DialectdepotModel" "parcels" "I") ∈ lw_all := lw_g (lw_at lw_m9 13 rfl) rfl
theorem q1999 : (Jvm.Cond.soleField "DialectdepotModel" "parcels") ∈ lw_all := lw_g (lw_at lw_m9 14 rfl) rfl
theorem q2000 : (Jvm.Cond.lays "DialectdepotModel" "DialectdepotModel" "today" "I") ∈ lw_all := lw_g (lw_at lw_m9 15 rfl) rfl
theorem q2001 : (Jvm.Cond.soleField "DialectdepotModel" "today") ∈ lw_all := lw_g (lw_at lw_m9 16 rfl) rfl
theorem q2002 : (Jvm.Cond.laysFinal "DialectdepotModel" "DialectdepotModel" "size" "[I") ∈ lw_all := lw_g (lw_at lw_m9 17 rfl) rfl
theorem q2003 : (Jvm.Cond.soleField "DialectdepotModel" "size") ∈ lw_all := lw_g (lw_at lw_m9 18 rfl) rfl
theorem q2004 : (Jvm.Cond.laysFinal "DialectdepotModel" "DialectdepotModel" "letters" "[I") ∈ lw_all := lw_g (lw_at lw_m9 19 rfl) rfl
theorem q2005 : (Jvm.Cond.soleField "DialectdepotModel" "letters") ∈ lw_all := lw_g (lw_at lw_m9 20 rfl) rfl
theorem q2006 : (Jvm.Cond.laysFinal "DialectdepotModel" "DialectdepotModel" "uGroup" "[I") ∈ lw_all := lw_g (lw_at lw_m9 21 rfl) rfl
theorem q2007 : (Jvm.Cond.soleField "DialectdepotModel" "uGroup") ∈ lw_all := lw_g (lw_at lw_m9 22 rfl) rfl
theorem q2008 : (Jvm.Cond.laysFinal "DialectdepotModel" "DialectdepotModel" "uName" "[I") ∈ lw_all := lw_g (lw_at lw_m9 23 rfl) rfl
theorem q2009 : (Jvm.Cond.soleField "DialectdepotModel" "uName") ∈ lw_all := lw_g (lw_at lw_m9 24 rfl) rfl
theorem q2010 : (Jvm.Cond.laysFinal "DialectdepotModel" "DialectdepotModel" "uStreet" "[I") ∈ lw_all := lw_g (lw_at lw_m9 25 rfl) rfl
theorem q2011 : (Jvm.Cond.soleField "DialectdepotModel" "uStreet") ∈ lw_all := lw_g (lw_at lw_m9 26 rfl) rfl
theorem q2012 : (Jvm.Cond.laysFinal "DialectdepotModel" "DialectdepotModel" "uFrom" "[I") ∈ lw_all := lw_g (lw_at lw_m9 27 rfl) rfl
theorem q2013 : (Jvm.Cond.soleField "DialectdepotModel" "uFrom") ∈ lw_all := lw_g (lw_at lw_m9 28 rfl) rfl
theorem q2014 : (Jvm.Cond.laysFinal "DialectdepotModel" "DialectdepotModel" "uTo" "[I") ∈ lw_all := lw_g (lw_at lw_m9 29 rfl) rfl
theorem q2015 : (Jvm.Cond.soleField "DialectdepotModel" "uTo") ∈ lw_all := lw_g (lw_at lw_m9 30 rfl) rfl
theorem q2016 : (Jvm.Cond.laysFinal "DialectdepotModel" "DialectdepotModel" "tape" "[I") ∈ lw_all := lw_g (lw_at lw_m9 31 rfl) rfl
theorem q2017 : (Jvm.Cond.soleField "DialectdepotModel" "tape") ∈ lw_all := lw_g (lw_at lw_m9 32 rfl) rfl
theorem q2018 : (Jvm.Cond.lays "DialectdepotModel" "DialectdepotModel" "tapeMany" "I") ∈ lw_all := lw_g (lw_at lw_m9 33 rfl) rfl
theorem q2019 : (Jvm.Cond.soleField "DialectdepotModel" "tapeMany") ∈ lw_all := lw_g (lw_at lw_m9 34 rfl) rfl
theorem q2020 : (Jvm.Cond.lays "DialectdepotModel" "DialectdepotModel" "from" "I") ∈ lw_all := lw_g (lw_at lw_m9 35 rfl) rfl
theorem q2021 : (Jvm.Cond.soleField "DialectdepotModel" "from") ∈ lw_all := lw_g (lw_at lw_m9 36 rfl) rfl
theorem q2022 : (Jvm.Cond.lays "DialectdepotModel" "DialectdepotModel" "to" "I") ∈ lw_all := lw_g (lw_at lw_m9 37 rfl) rfl
theorem q2023 : (Jvm.Cond.soleField "DialectdepotModel" "to") ∈ lw_all := lw_g (lw_at lw_m9 38 rfl) rfl
theorem q2024 : (Jvm.Cond.laysFinal "DialectdepotModel" "DialectdepotModel" "orWord" "[C") ∈ lw_all := lw_g (lw_at lw_m9 39 rfl) rfl
theorem q2025 : (Jvm.Cond.soleField "DialectdepotModel" "orWord") ∈ lw_all := lw_g (lw_at lw_m9 40 rfl) rfl
theorem q2026 : (Jvm.Cond.laysFinal "DialectdepotModel" "DialectdepotModel" "notWord" "[C") ∈ lw_all := lw_g (lw_at lw_m9 41 rfl) rfl
theorem q2027 : (Jvm.Cond.soleField "DialectdepotModel" "notWord") ∈ lw_all := lw_g (lw_at lw_m9 42 rfl) rfl
theorem q2028 : (Jvm.Cond.laysFinal "DialectdepotModel" "DialectdepotModel" "round" "[I") ∈ lw_all := lw_g (lw_at lw_m9 43 rfl) rfl
theorem q2029 : (Jvm.Cond.soleField "DialectdepotModel" "round") ∈ lw_all := lw_g (lw_at lw_m9 44 rfl) rfl
theorem q2030 : (Jvm.Cond.laysFinal "DialectdepotModel" "DialectdepotModel" "room" "[I") ∈ lw_all := lw_g (lw_at lw_m9 45 rfl) rfl
theorem q2031 : (Jvm.Cond.soleField "DialectdepotModel" "room") ∈ lw_all := lw_g (lw_at lw_m9 46 rfl) rfl
theorem q2032 : (Jvm.Cond.laysFinal "DialectdepotModel" "DialectdepotModel" "lessons" "[I") ∈ lw_all := lw_g (lw_at lw_m9 47 rfl) rfl
theorem q2033 : (Jvm.Cond.soleField "DialectdepotModel" "lessons") ∈ lw_all := lw_g (lw_at lw_m9 48 rfl) rfl
theorem q2034 : (Jvm.Cond.lays "DialectdepotModel" "DialectdepotModel" "read" "I") ∈ lw_all := lw_g (lw_at lw_m9 49 rfl) rfl
theorem q2035 : (Jvm.Cond.soleField "DialectdepotModel" "read") ∈ lw_all := lw_g (lw_at lw_m9 50 rfl) rfl
theorem q2036 : (Jvm.Cond.lays "DialectdepotModel" "DialectdepotModel" "unread" "I") ∈ lw_all := lw_g (lw_at lw_m9 51 rfl) rfl
theorem q2037 : (Jvm.Cond.soleField "DialectdepotModel" "unread") ∈ lw_all := lw_g (lw_at lw_m9 52 rfl) rfl
theorem q2038 : (Jvm.Cond.lays "DialectdepotModel" "DialectdepotModel" "fault" "I") ∈ lw_all := lw_g (lw_at lw_m9 53 rfl) rfl
theorem q2039 : (Jvm.Cond.soleField "DialectdepotModel" "fault") ∈ lw_all := lw_g (lw_at lw_m9 54 rfl) rfl
theorem q2040 : (Jvm.Cond.lays "DialectdepotModel" "DialectdepotModel" "faultAt" "I") ∈ lw_all := lw_g (lw_at lw_m9 55 rfl) rfl
theorem q2041 : (Jvm.Cond.soleField "DialectdepotModel" "faultAt") ∈ lw_all := lw_g (lw_at lw_m9 56 rfl) rfl
theorem q2042 : (Jvm.Cond.laysFinal "DialectdepotModel" "DialectdepotModel" "wanted" "[I") ∈ lw_all := lw_g (lw_at lw_m9 57 rfl) rfl
theorem q2043 : (Jvm.Cond.soleField "DialectdepotModel" "wanted") ∈ lw_all := lw_g (lw_at lw_m9 58 rfl) rfl
theorem q2044 : (Jvm.Cond.laysFinal "DialectdepotModel" "DialectdepotModel" "unwanted" "[I") ∈ lw_all := lw_g (lw_at lw_m9 59 rfl) rfl
theorem q2045 : (Jvm.Cond.soleField "DialectdepotModel" "unwanted") ∈ lw_all := lw_g (lw_at lw_m9 60 rfl) rfl
theorem q2046 : (Jvm.Cond.laysFinal "DialectdepotModel" "DialectdepotModel" "writer" "[I") ∈ lw_all := lw_g (lw_at lw_m9 61 rfl) rfl
theorem q2047 : (Jvm.Cond.soleField "DialectdepotModel" "writer") ∈ lw_all := lw_g (lw_at lw_m9 62 rfl) rfl
theorem q2048 : (Jvm.Cond.laysFinal "DialectdepotModel" "DialectdepotModel" "age" "[I") ∈ lw_all := lw_g (lw_at lw_m9 63 rfl) rfl
theorem q2049 : (Jvm.Cond.soleField "DialectdepotModel" "age") ∈ lw_all := lw_g (lw_at lw_m9 64 rfl) rfl
theorem q2050 : (Jvm.Cond.laysFinal "DialectdepotModel" "DialectdepotModel" "truth" "[I") ∈ lw_all := lw_g (lw_at lw_m9 65 rfl) rfl
theorem q2051 : (Jvm.Cond.soleField "DialectdepotModel" "truth") ∈ lw_all := lw_g (lw_at lw_m9 66 rfl) rfl
theorem q2052 : (Jvm.Cond.laysFinal "DialectdepotModel" "DialectdepotModel" "since" "[I") ∈ lw_all := lw_g (lw_at lw_m9 67 rfl) rfl
theorem q2053 : (Jvm.Cond.soleField "DialectdepotModel" "since") ∈ lw_all := lw_g (lw_at lw_m9 68 rfl) rfl
theorem q2054 : (Jvm.Cond.laysFinal "DialectdepotModel" "DialectdepotModel" "state" "[I") ∈ lw_all := lw_g (lw_at lw_m9 69 rfl) rfl
theorem q2055 : (Jvm.Cond.soleField "DialectdepotModel" "state") ∈ lw_all := lw_g (lw_at lw_m9 70 rfl) rfl
theorem q2056 : (Jvm.Cond.laysFinal "DialectdepotModel" "DialectdepotModel" "backs" "[I") ∈ lw_all := lw_g (lw_at lw_m9 71 rfl) rfl
theorem q2057 : (Jvm.Cond.soleField "DialectdepotModel" "backs") ∈ lw_all := lw_g (lw_at lw_m9 72 rfl) rfl
theorem q2058 : (Jvm.Cond.laysFinal "DialectdepotModel" "DialectdepotModel" "why" "[I") ∈ lw_all := lw_g (lw_at lw_m9 73 rfl) rfl
theorem q2059 : (Jvm.Cond.soleField "DialectdepotModel" "why") ∈ lw_all := lw_g (lw_at lw_m9 74 rfl) rfl
theorem q2060 : (Jvm.Cond.laysFinal "DialectdepotModel" "DialectdepotModel" "waited" "[I") ∈ lw_all := lw_g (lw_at lw_m9 75 rfl) rfl
theorem q2061 : (Jvm.Cond.soleField "DialectdepotModel" "waited") ∈ lw_all := lw_g (lw_at lw_m9 76 rfl) rfl
theorem q2062 : (Jvm.Cond.laysFinal "DialectdepotModel" "DialectdepotModel" "backFrom" "[I") ∈ lw_all := lw_g (lw_at lw_m9 77 rfl) rfl
theorem q2063 : (Jvm.Cond.soleField "DialectdepotModel" "backFrom") ∈ lw_all := lw_g (lw_at lw_m9 78 rfl) rfl
theorem q2064 : (Jvm.Cond.laysFinal "DialectdepotModel" "DialectdepotModel" "given" "[I") ∈ lw_all := lw_g (lw_at lw_m9 79 rfl) rfl
theorem q2065 : (Jvm.Cond.soleField "DialectdepotModel" "given") ∈ lw_all := lw_g (lw_at lw_m9 80 rfl) rfl
theorem q2066 : (Jvm.Cond.lays "DialectdepotModel" "DialectdepotModel" "attempts" "I") ∈ lw_all := lw_g (lw_at lw_m9 81 rfl) rfl
theorem q2067 : (Jvm.Cond.soleField "DialectdepotModel" "attempts") ∈ lw_all := lw_g (lw_at lw_m9 82 rfl) rfl
theorem q2068 : (Jvm.Cond.lays "DialectdepotModel" "DialectdepotModel" "givenUp" "I") ∈ lw_all := lw_g (lw_at lw_m9 83 rfl) rfl
theorem q2069 : (Jvm.Cond.soleField "DialectdepotModel" "givenUp") ∈ lw_all := lw_g (lw_at lw_m9 84 rfl) rfl
theorem q2070 : (Jvm.Cond.lays "DialectdepotModel" "DialectdepotModel" "known" "I") ∈ lw_all := lw_g (lw_at lw_m9 85 rfl) rfl
theorem q2071 : (Jvm.Cond.soleField "DialectdepotModel" "known") ∈ lw_all := lw_g (lw_at lw_m9 86 rfl) rfl
theorem q2072 : (Jvm.Cond.lays "DialectdepotModel" "DialectdepotModel" "arrived" "I") ∈ lw_all := lw_g (lw_at lw_m9 87 rfl) rfl
theorem q2073 : (Jvm.Cond.soleField "DialectdepotModel" "arrived") ∈ lw_all := lw_g (lw_at lw_m9 88 rfl) rfl
theorem q2074 : (Jvm.Cond.lays "DialectdepotModel" "DialectdepotModel" "triesOfArrived" "I") ∈ lw_all := lw_g (lw_at lw_m9 89 rfl) rfl
theorem q2075 : (Jvm.Cond.soleField "DialectdepotModel" "triesOfArrived") ∈ lw_all := lw_g (lw_at lw_m9 90 rfl) rfl
theorem q2076 : (Jvm.Cond.laysFinal "DialectdepotModel" "DialectdepotModel" "aParcel" "[I") ∈ lw_all := lw_g (lw_at lw_m9 91 rfl) rfl
theorem q2077 : (Jvm.Cond.soleField "DialectdepotModel" "aParcel") ∈ lw_all := lw_g (lw_at lw_m9 92 rfl) rfl
theorem q2078 : (Jvm.Cond.laysFinal "DialectdepotModel" "DialectdepotModel" "aCarrier" "[I") ∈ lw_all := lw_g (lw_at lw_m9 93 rfl) rfl
theorem q2079 : (Jvm.Cond.soleField "DialectdepotModel" "aCarrier") ∈ lw_all := lw_g (lw_at lw_m9 94 rfl) rfl
theorem q2080 : (Jvm.Cond.laysFinal "DialectdepotModel" "DialectdepotModel" "aStreet" "[I") ∈ lw_all := lw_g (lw_at lw_m9 95 rfl) rfl
theorem q2081 : (Jvm.Cond.soleField "DialectdepotModel" "aStreet") ∈ lw_all := lw_g (lw_at lw_m9 96 rfl) rfl
theorem q2082 : (Jvm.Cond.laysFinal "DialectdepotModel" "DialectdepotModel" "aDay" "[I") ∈ lw_all := lw_g (lw_at lw_m9 97 rfl) rfl
theorem q2083 : (Jvm.Cond.soleField "DialectdepotModel" "aDay") ∈ lw_all := lw_g (lw_at lw_m9 98 rfl) rfl
theorem q2084 : (Jvm.Cond.laysFinal "DialectdepotModel" "DialectdepotModel" "aDone" "[Z") ∈ lw_all := lw_g (lw_at lw_m9 99 rfl) rfl
theorem q2085 : (Jvm.Cond.soleField "DialectdepotModel" "aDone") ∈ lw_all := lw_g (lw_at lw_m9 100 rfl) rfl
theorem q2086 : (Jvm.Cond.laysFinal "DialectdepotModel" "DialectdepotModel" "plan" "[I") ∈ lw_all := lw_g (lw_at lw_m9 101 rfl) rfl
theorem q2087 : (Jvm.Cond.soleField "DialectdepotModel" "plan") ∈ lw_all := lw_g (lw_at lw_m9 102 rfl) rfl
theorem q2088 : (Jvm.Cond.lays "DialectdepotModel" "DialectdepotModel" "claimsEver" "I") ∈ lw_all := lw_g (lw_at lw_m9 103 rfl) rfl
theorem q2089 : (Jvm.Cond.soleField "DialectdepotModel" "claimsEver") ∈ lw_all := lw_g (lw_at lw_m9 104 rfl) rfl
theorem q2090 : (Jvm.Cond.laysFinal "DialectdepotModel" "DialectdepotModel" "claims" "[I") ∈ lw_all := lw_g (lw_at lw_m9 105 rfl) rfl
theorem q2091 : (Jvm.Cond.soleField "DialectdepotModel" "claims") ∈ lw_all := lw_g (lw_at lw_m9 106 rfl) rfl
theorem q2092 : (Jvm.Cond.laysFinal "DialectdepotModel" "DialectdepotModel" "turn" "[I") ∈ lw_all := lw_g (lw_at lw_m9 107 rfl) rfl
theorem q2093 : (Jvm.Cond.soleField "DialectdepotModel" "turn") ∈ lw_all := lw_g (lw_at lw_m9 108 rfl) rfl
theorem q2094 : (Jvm.Cond.laysFinal "DialectdepotModel" "DialectdepotModel" "ruled" "[I") ∈ lw_all := lw_g (lw_at lw_m9 109 rfl) rfl
theorem q2095 : (Jvm.Cond.soleField "DialectdepotModel" "ruled") ∈ lw_all := lw_g (lw_at lw_m9 110 rfl) rfl
theorem q2096 : (Jvm.Cond.laysFinal "DialectdepotModel" "DialectdepotModel" "ruledOn" "[I") ∈ lw_all := lw_g (lw_at lw_m9 111 rfl) rfl
theorem q2097 : (Jvm.Cond.soleField "DialectdepotModel" "ruledOn") ∈ lw_all := lw_g (lw_at lw_m9 112 rfl) rfl
theorem q2098 : (Jvm.Cond.laysFinal "DialectdepotModel" "DialectdepotModel" "dispute" "[I") ∈ lw_all := lw_g (lw_at lw_m9 113 rfl) rfl
theorem q2099 : (Jvm.Cond.soleField "DialectdepotModel" "dispute") ∈ lw_all := lw_g (lw_at lw_m9 114 rfl) rfl
theorem q2100 : (Jvm.Cond.laysFinal "DialectdepotModel" "DialectdepotModel" "wasAppealed" "[Z") ∈ lw_all := lw_g (lw_at lw_m9 115 rfl) rfl
theorem q2101 : (Jvm.Cond.soleField "DialectdepotModel" "wasAppealed") ∈ lw_all := lw_g (lw_at lw_m9 116 rfl) rfl
theorem q2102 : (Jvm.Cond.superclass "DialectdepotModel" "java/lang/Object") ∈ lw_all := lw_g (lw_at lw_m9 117 rfl) rfl
theorem q2106 : (Jvm.Cond.instanceMethod ({ cls := "DialectdepotModel", name := "addStreet", desc := "()I" } : Jvm.MethodName)) ∈ lw_all := lw_g (lw_at lw_m9 121 rfl) rfl
theorem q2107 : (Jvm.Cond.selects "DialectdepotModel" ({ cls := "DialectdepotModel", name := "addStreet", desc := "()I" } : Jvm.MethodName) ({ cls := "DialectdepotModel", name := "addStreet", desc := "()I" } : Jvm.MethodName)) ∈ lw_all := lw_g (lw_at lw_m9 122 rfl) rfl
theorem q2108 : (Jvm.Cond.code ({ cls := "DialectdepotModel", name := "addStreet", desc := "()I" } : Jvm.MethodName) prog_23_method_11_code (1 : Nat) (Option.some Jvm.ClassFile.FieldType.int)) ∈ lw_all := lw_g (lw_at lw_m9 123 rfl) rfl
theorem q2109 : (Jvm.Cond.methodLink "DialectdepotModel" (134 : Nat) ({ cls := "DialectdepotModel", name := "fails", desc := "(ZI)Z" } : Jvm.MethodName)) ∈ lw_all := lw_g (lw_at lw_m9 124 rfl) rfl
theorem q2110 : (Jvm.Cond.privateMethod ({ cls := "DialectdepotModel", name := "fails", desc := "(ZI)Z" } : Jvm.MethodName)) ∈ lw_tbl := lw_at lw_m9 125 rfl
theorem q2111 : (Jvm.Cond.instanceMethod ({ cls := "DialectdepotModel", name := "fails", desc := "(ZI)Z" } : Jvm.MethodName)) ∈ lw_all := lw_g (lw_at lw_m9 126 rfl) rfl
theorem q2112 : (Jvm.Cond.code ({ cls := "DialectdepotModel", name := "fails", desc := "(ZI)Z" } : Jvm.MethodName) prog_23_method_4_code (3 : Nat) (Option.some Jvm.ClassFile.FieldType.boolean)) ∈ lw_all := lw_g (lw_at lw_m9 127 rfl) rfl
theorem q2114 : (Jvm.Cond.instanceMethod ({ cls := "DialectdepotModel", name := "addName", desc := "()I" } : Jvm.MethodName)) ∈ lw_all := lw_g (lw_at lw_m9 129 rfl) rfl
theorem q2115 : (Jvm.Cond.selects "DialectdepotModel" ({ cls := "DialectdepotModel", name := "addName", desc := "()I" } : Jvm.MethodName) ({ cls := "DialectdepotModel", name := "addName", desc := "()I" } : Jvm.MethodName)) ∈ lw_all := lw_g (lw_at lw_m9 130 rfl) rfl
theorem q2116 : (Jvm.Cond.code ({ cls := "DialectdepotModel", name := "addName", desc := "()I" } : Jvm.MethodName) prog_23_method_15_code (3 : Nat) (Option.some Jvm.ClassFile.FieldType.int)) ∈ lw_all := lw_g (lw_at lw_m9 131 rfl) rfl
theorem q2117 : (Jvm.Cond.methodLink "DialectdepotModel" (130 : Nat) ({ cls := "DialectdepotModel", name := "in", desc := "(III)Z" } : Jvm.MethodName)) ∈ lw_all := lw_g (lw_at lw_m9 132 rfl) rfl
theorem q2118 : (Jvm.Cond.static ({ cls := "DialectdepotModel", name := "in", desc := "(III)Z" } : Jvm.MethodName)) ∈ lw_all := lw_g (lw_at lw_m9 133 rfl) rfl
theorem q2119 : (Jvm.Cond.code ({ cls := "DialectdepotModel", name := "in", desc := "(III)Z" } : Jvm.MethodName) prog_23_method_2_code (3 : Nat) (Option.some Jvm.ClassFile.FieldType.boolean)) ∈ lw_all := lw_g (lw_at lw_m9 134 rfl) rfl
theorem q2120 : (Jvm.Cond.methodLink "DialectdepotModel" (160 : Nat) ({ cls := "DialectdepotModel", name := "isWord", desc := "([C)Z" } : Jvm.MethodName)) ∈ lw_all := lw_g (lw_at lw_m9 135 rfl) rfl
theorem q2121 : (Jvm.Cond.privateMethod ({ cls := "DialectdepotModel", name := "isWord", desc := "([C)Z" } : Jvm.MethodName)) ∈ lw_tbl := lw_at lw_m9 136 rfl
theorem q2122 : (Jvm.Cond.instanceMethod ({ cls := "DialectdepotModel", name := "isWord", desc := "([C)Z" } : Jvm.MethodName)) ∈ lw_all := lw_g (lw_at lw_m9 137 rfl) rfl
theorem q2123 : (Jvm.Cond.code ({ cls := "DialectdepotModel", name := "isWord", desc := "([C)Z" } : Jvm.MethodName) prog_23_method_12_code (3 : Nat) (Option.some Jvm.ClassFile.FieldType.boolean)) ∈ lw_all := lw_g (lw_at lw_m9 138 rfl) rfl
theorem q2124 : (Jvm.Cond.methodLink "DialectdepotModel" (164 : Nat) ({ cls := "DialectdepotModel", name := "nameHere", desc := "()I" } : Jvm.MethodName)) ∈ lw_all := lw_g (lw_at lw_m9 139 rfl) rfl
theorem q2125 : (Jvm.Cond.privateMethod ({ cls := "DialectdepotModel", name := "nameHere", desc := "()I" } : Jvm.MethodName)) ∈ lw_tbl := lw_at lw_m9 140 rfl
theorem q2126 : (Jvm.Cond.instanceMethod ({ cls := "DialectdepotModel", name := "nameHere", desc := "()I" } : Jvm.MethodName)) ∈ lw_all := lw_g (lw_at lw_m9 141 rfl) rfl
theorem q2127 : (Jvm.Cond.code ({ cls := "DialectdepotModel", name := "nameHere", desc := "()I" } : Jvm.MethodName) prog_23_method_14_code (2 : Nat) (Option.some Jvm.ClassFile.FieldType.int)) ∈ lw_all := lw_g (lw_at lw_m9 142 rfl) rfl
theorem q2128 : (Jvm.Cond.methodLink "DialectdepotModel" (153 : Nat) ({ cls := "DialectdepotModel", name := "isName", desc := "(I)Z" } : Jvm.MethodName)) ∈ lw_all := lw_g (lw_at lw_m9 143 rfl) rfl
theorem q2129 : (Jvm.Cond.privateMethod ({ cls := "DialectdepotModel", name := "isName", desc := "(I)Z" } : Jvm.MethodName)) ∈ lw_tbl := lw_at lw_m9 144 rfl
theorem q2130 : (Jvm.Cond.instanceMethod ({ cls := "DialectdepotModel", name := "isName", desc := "(I)Z" } : Jvm.MethodName)) ∈ lw_all := lw_g (lw_at lw_m9 145 rfl) rfl
theorem q2131 : (Jvm.Cond.code ({ cls := "DialectdepotModel", name := "isName", desc := "(I)Z" } : Jvm.MethodName) prog_23_method_13_code (3 : Nat) (Option.some Jvm.ClassFile.FieldType.boolean)) ∈ lw_all := lw_g (lw_at lw_m9 146 rfl) rfl
theorem q2133 : (Jvm.Cond.instanceMethod ({ cls := "DialectdepotModel", name := "addUsage", desc := "(IIIII)I" } : Jvm.MethodName)) ∈ lw_all := lw_g (lw_at lw_m9 148 rfl) rfl
theorem q2134 : (Jvm.Cond.selects "DialectdepotModel" ({ cls := "DialectdepotModel", name := "addUsage", desc := "(IIIII)I" } : Jvm.MethodName) ({ cls := "DialectdepotModel", name := "addUsage", desc := "(IIIII)I" } : Jvm.MethodName)) ∈ lw_all := lw_g (lw_at lw_m9 149 rfl) rfl
theorem q2135 : (Jvm.Cond.code ({ cls := "DialectdepotModel", name := "addUsage", desc := "(IIIII)I" } : Jvm.MethodName) prog_23_method_17_code (6 : Nat) (Option.some Jvm.ClassFile.FieldType.int)) ∈ lw_all := lw_g (lw_at lw_m9 150 rfl) rfl
theorem q2136 : (Jvm.Cond.methodLink "DialectdepotModel" (171 : Nat) ({ cls := "DialectdepotModel", name := "noName", desc := "(I)Z" } : Jvm.MethodName)) ∈ lw_all := lw_g (lw_at lw_m9 151 rfl) rfl
theorem q2137 : (Jvm.Cond.privateMethod ({ cls := "DialectdepotModel", name := "noName", desc := "(I)Z" } : Jvm.MethodName)) ∈ lw_tbl := lw_at lw_m9 152 rfl
theorem q2138 : (Jvm.Cond.instanceMethod ({ cls := "DialectdepotModel", name := "noName", desc := "(I)Z" } : Jvm.MethodName)) ∈ lw_all := lw_g (lw_at lw_m9 153 rfl) rfl
theorem q2139 : (Jvm.Cond.code ({ cls := "DialectdepotModel", name := "noName", desc := "(I)Z" } : Jvm.MethodName) prog_23_method_7_code (2 : Nat) (Option.some Jvm.ClassFile.FieldType.boolean)) ∈ lw_all := lw_g (lw_at lw_m9 154 rfl) rfl
theorem q2140 : (Jvm.Cond.methodLink "DialectdepotModel" (174 : Nat) ({ cls := "DialectdepotModel", name := "noStreet", desc := "(I)Z" } : Jvm.MethodName)) ∈ lw_all := lw_g (lw_at lw_m9 155 rfl) rfl
theorem q2141 : (Jvm.Cond.privateMethod ({ cls := "DialectdepotModel", name := "noStreet", desc := "(I)Z" } : Jvm.MethodName)) ∈ lw_tbl := lw_at lw_m9 156 rfl
theorem q2142 : (Jvm.Cond.instanceMethod ({ cls := "DialectdepotModel", name := "noStreet", desc := "(I)Z" } : Jvm.MethodName)) ∈ lw_all := lw_g (lw_at lw_m9 157 rfl) rfl
theorem q2143 : (Jvm.Cond.code ({ cls := "DialectdepotModel", name := "noStreet", desc := "(I)Z" } : Jvm.MethodName) prog_23_method_6_code (2 : Nat) (Option.some Jvm.ClassFile.FieldType.boolean)) ∈ lw_all := lw_g (lw_at lw_m9 158 rfl) rfl
theorem q2144 : (Jvm.Cond.methodLink "DialectdepotModel" (177 : Nat) ({ cls := "DialectdepotModel", name := "isGroup", desc := "(I)Z" } : Jvm.MethodName)) ∈ lw_all := lw_g (lw_at lw_m9 159 rfl) rfl
theorem q2145 : (Jvm.Cond.static ({ cls := "DialectdepotModel", name := "isGroup", desc := "(I)Z" } : Jvm.MethodName)) ∈ lw_all := lw_g (lw_at lw_m9 160 rfl) rfl
theorem q2146 : (Jvm.Cond.code ({ cls := "DialectdepotModel", name := "isGroup", desc := "(I)Z" } : Jvm.MethodName) prog_23_method_10_code (1 : Nat) (Option.some Jvm.ClassFile.FieldType.boolean)) ∈ lw_all := lw_g (lw_at lw_m9 161 rfl) rfl
theorem q2147 : (Jvm.Cond.methodLink "DialectdepotModel" (180 : Nat) ({ cls := "DialectdepotModel", name := "isFree", desc := "(IIII)Z" } : Jvm.MethodName)) ∈ lw_all := lw_g (lw_at lw_m9 162 rfl) rfl
theorem q2148 : (Jvm.Cond.privateMethod ({ cls := "DialectdepotModel", name := "isFree", desc := "(IIII)Z" } : Jvm.MethodName)) ∈ lw_tbl := lw_at lw_m9 163 rfl
theorem q2149 : (Jvm.Cond.instanceMethod ({ cls := "DialectdepotModel", name := "isFree", desc := "(IIII)Z" } : Jvm.MethodName)) ∈ lw_all := lw_g (lw_at lw_m9 164 rfl) rfl
theorem q2150 : (Jvm.Cond.code ({ cls := "DialectdepotModel", name := "isFree", desc := "(IIII)Z" } : Jvm.MethodName) prog_23_method_16_code (6 : Nat) (Option.some Jvm.ClassFile.FieldType.boolean)) ∈ lw_all := lw_g (lw_at lw_m9 165 rfl) rfl
theorem q2152 : (Jvm.Cond.instanceMethod ({ cls := "DialectdepotModel", name := "streetFor", desc := "(III)I" } : Jvm.MethodName)) ∈ lw_all := lw_g (lw_at lw_m9 167 rfl) rfl
theorem q2153 : (Jvm.Cond.selects "DialectdepotModel" ({ cls := "DialectdepotModel", name := "streetFor", desc := "(III)I" } : Jvm.MethodName) ({ cls := "DialectdepotModel", name := "streetFor", desc := "(III)I" } : Jvm.MethodName)) ∈ lw_all := lw_g (lw_at lw_m9 168 rfl) rfl
theorem q2154 : (Jvm.Cond.code ({ cls := "DialectdepotModel", name := "streetFor", desc := "(III)I" } : Jvm.MethodName) prog_23_method_18_code (5 : Nat) (Option.some Jvm.ClassFile.FieldType.int)) ∈ lw_all := lw_g (lw_at lw_m9 169 rfl) rfl
theorem q2156 : (Jvm.Cond.instanceMethod ({ cls := "DialectdepotModel", name := "addCarrier", desc := "(II)I" } : Jvm.MethodName)) ∈ lw_all := lw_g (lw_at lw_m9 171 rfl) rfl
theorem q2157 : (Jvm.Cond.selects "DialectdepotModel" ({ cls := "DialectdepotModel", name := "addCarrier", desc := "(II)I" } : Jvm.MethodName) ({ cls := "DialectdepotModel", name := "addCarrier", desc := "(II)I" } : Jvm.MethodName)) ∈ lw_all := lw_g (lw_at lw_m9 172 rfl) rfl
theorem q2158 : (Jvm.Cond.code ({ cls := "DialectdepotModel", name := "addCarrier", desc := "(II)I" } : Jvm.MethodName) prog_23_method_24_code (3 : Nat) (Option.some Jvm.ClassFile.FieldType.int)) ∈ lw_all := lw_g (lw_at lw_m9 173 rfl) rfl
theorem q2159 : (Jvm.Cond.methodLink "DialectdepotModel" (188 : Nat) ({ cls := "DialectdepotModel", name := "isRound", desc := "(I)Z" } : Jvm.MethodName)) ∈ lw_all := lw_g (lw_at lw_m9 174 rfl) rfl
theorem q2160 : (Jvm.Cond.privateMethod ({ cls := "DialectdepotModel", name := "isRound", desc := "(I)Z" } : Jvm.MethodName)) ∈ lw_tbl := lw_at lw_m9 175 rfl
theorem q2161 : (Jvm.Cond.instanceMethod ({ cls := "DialectdepotModel", name := "isRound", desc := "(I)Z" } : Jvm.MethodName)) ∈ lw_all := lw_g (lw_at lw_m9 176 rfl) rfl
theorem q2162 : (Jvm.Cond.code ({ cls := "DialectdepotModel", name := "isRound", desc := "(I)Z" } : Jvm.MethodName) prog_23_method_23_code (2 : Nat) (Option.some Jvm.ClassFile.FieldType.boolean)) ∈ lw_all := lw_g (lw_at lw_m9 177 rfl) rfl
theorem q2164 : (Jvm.Cond.instanceMethod ({ cls := "DialectdepotModel", name := "setRound", desc := "(II)I" } : Jvm.MethodName)) ∈ lw_all := lw_g (lw_at lw_m9 179 rfl) rfl
theorem q2165 : (Jvm.Cond.selects "DialectdepotModel" ({ cls := "DialectdepotModel", name := "setRound", desc := "(II)I" } : Jvm.MethodName) ({ cls := "DialectdepotModel", name := "setRound", desc := "(II)I" } : Jvm.MethodName)) ∈ lw_all := lw_g (lw_at lw_m9 180 rfl) rfl
theorem q2166 : (Jvm.Cond.code ({ cls := "DialectdepotModel", name := "setRound", desc := "(II)I" } : Jvm.MethodName) prog_23_method_25_code (4 : Nat) (Option.some Jvm.ClassFile.FieldType.int)) ∈ lw_all := lw_g (lw_at lw_m9 181 rfl) rfl
theorem q2167 : (Jvm.Cond.methodLink "DialectdepotModel" (191 : Nat) ({ cls := "DialectdepotModel", name := "noCarrier", desc := "(I)Z" } : Jvm.MethodName)) ∈ lw_all := lw_g (lw_at lw_m9 182 rfl) rfl
theorem q2168 : (Jvm.Cond.privateMethod ({ cls := "DialectdepotModel", name := "noCarrier", desc := "(I)Z" } : Jvm.MethodName)) ∈ lw_tbl := lw_at lw_m9 183 rfl
theorem q2169 : (Jvm.Cond.instanceMethod ({ cls := "DialectdepotModel", name := "noCarrier", desc := "(I)Z" } : Jvm.MethodName)) ∈ lw_all := lw_g (lw_at lw_m9 184 rfl) rfl
theorem q2170 : (Jvm.Cond.code ({ cls := "DialectdepotModel", name := "noCarrier", desc := "(I)Z" } : Jvm.MethodName) prog_23_method_8_code (2 : Nat) (Option.some Jvm.ClassFile.FieldType.boolean)) ∈ lw_all := lw_g (lw_at lw_m9 185 rfl) rfl
theorem q2172 : (Jvm.Cond.instanceMethod ({ cls := "DialectdepotModel", name := "setRoom", desc := "(II)I" } : Jvm.MethodName)) ∈ lw_all := lw_g (lw_at lw_m9 187 rfl) rfl
theorem q2173 : (Jvm.Cond.selects "DialectdepotModel" ({ cls := "DialectdepotModel", name := "setRoom", desc := "(II)I" } : Jvm.MethodName) ({ cls := "DialectdepotModel", name := "setRoom", desc := "(II)I" } : Jvm.MethodName)) ∈ lw_all := lw_g (lw_at lw_m9 188 rfl) rfl
theorem q2174 : (Jvm.Cond.code ({ cls := "DialectdepotModel", name := "setRoom", desc := "(II)I" } : Jvm.MethodName) prog_23_method_26_code (4 : Nat) (Option.some Jvm.ClassFile.FieldType.int)) ∈ lw_all := lw_g (lw_at lw_m9 189 rfl) rfl
theorem q2176 : (Jvm.Cond.instanceMethod ({ cls := "DialectdepotModel", name := "lesson", desc := "(IIII)I" } : Jvm.MethodName)) ∈ lw_all := lw_g (lw_at lw_m9 191 rfl) rfl
theorem q2177 : (Jvm.Cond.selects "DialectdepotModel" ({ cls := "DialectdepotModel", name := "lesson", desc := "(IIII)I" } : Jvm.MethodName) ({ cls := "DialectdepotModel", name := "lesson", desc := "(IIII)I" } : Jvm.MethodName)) ∈ lw_all := lw_g (lw_at lw_m9 192 rfl) rfl
theorem q2178 : (Jvm.Cond.code ({ cls := "DialectdepotModel", name := "lesson", desc := "(IIII)I" } : Jvm.MethodName) prog_23_method_27_code (5 : Nat) (Option.some Jvm.ClassFile.FieldType.int)) ∈ lw_all := lw_g (lw_at lw_m9 193 rfl) rfl
theorem q2179 : (Jvm.Cond.methodLink "DialectdepotModel" (184 : Nat) ({ cls := "DialectdepotModel", name := "place", desc := "(IIII)I" } : Jvm.MethodName)) ∈ lw_all := lw_g (lw_at lw_m9 194 rfl) rfl
theorem q2180 : (Jvm.Cond.static ({ cls := "DialectdepotModel", name := "place", desc := "(IIII)I" } : Jvm.MethodName)) ∈ lw_all := lw_g (lw_at lw_m9 195 rfl) rfl
theorem q2181 : (Jvm.Cond.code ({ cls := "DialectdepotModel", name := "place", desc := "(IIII)I" } : Jvm.MethodName) prog_23_method_21_code (4 : Nat) (Option.some Jvm.ClassFile.FieldType.int)) ∈ lw_all := lw_g (lw_at lw_m9 196 rfl) rfl
theorem q2183 : (Jvm.Cond.instanceMethod ({ cls := "DialectdepotModel", name := "tell", desc := "(IIII)I" } : Jvm.MethodName)) ∈ lw_all := lw_g (lw_at lw_m9 198 rfl) rfl
theorem q2184 : (Jvm.Cond.selects "DialectdepotModel" ({ cls := "DialectdepotModel", name := "tell", desc := "(IIII)I" } : Jvm.MethodName) ({ cls := "DialectdepotModel", name := "tell", desc := "(IIII)I" } : Jvm.MethodName)) ∈ lw_all := lw_g (lw_at lw_m9 199 rfl) rfl
theorem q2185 : (Jvm.Cond.code ({ cls := "DialectdepotModel", name := "tell", desc := "(IIII)I" } : Jvm.MethodName) prog_23_method_28_code (5 : Nat) (Option.some Jvm.ClassFile.FieldType.int)) ∈ lw_all := lw_g (lw_at lw_m9 200 rfl) rfl
theorem q2186 : (Jvm.Cond.methodLink "DialectdepotModel" (194 : Nat) ({ cls := "DialectdepotModel", name := "learns", desc := "(IIIII)V" } : Jvm.MethodName)) ∈ lw_all := lw_g (lw_at lw_m9 201 rfl) rfl
theorem q2187 : (Jvm.Cond.privateMethod ({ cls := "DialectdepotModel", name := "learns", desc := "(IIIII)V" } : Jvm.MethodName)) ∈ lw_tbl := lw_at lw_m9 202 rfl
theorem q2188 : (Jvm.Cond.instanceMethod ({ cls := "DialectdepotModel", name := "learns", desc := "(IIIII)V" } : Jvm.MethodName)) ∈ lw_all := lw_g (lw_at lw_m9 203 rfl) rfl
theorem q2189 : (Jvm.Cond.code ({ cls := "DialectdepotModel", name := "learns", desc := "(IIIII)V" } : Jvm.MethodName) prog_23_method_22_code (7 : Nat) (Option.none : Option Jvm.ClassFile.FieldType)) ∈ lw_all := lw_g (lw_at lw_m9 204 rfl) rfl
theorem q2191 : (Jvm.Cond.instanceMethod ({ cls := "DialectdepotModel", name := "feed", desc := "(II)I" } : Jvm.MethodName)) ∈ lw_all := lw_g (lw_at lw_m9 206 rfl) rfl
theorem q2192 : (Jvm.Cond.selects "DialectdepotModel" ({ cls := "DialectdepotModel", name := "feed", desc := "(II)I" } : Jvm.MethodName) ({ cls := "DialectdepotModel", name := "feed", desc := "(II)I" } : Jvm.MethodName)) ∈ lw_all := lw_g (lw_at lw_m9 207 rfl) rfl
theorem q2193 : (Jvm.Cond.code ({ cls := "DialectdepotModel", name := "feed", desc := "(II)I" } : Jvm.MethodName) prog_23_method_29_code (7 : Nat) (Option.some Jvm.ClassFile.FieldType.int)) ∈ lw_all := lw_g (lw_at lw_m9 208 rfl) rfl
theorem q2195 : (Jvm.Cond.instanceMethod ({ cls := "DialectdepotModel", name := "post", desc := "(IIII)I" } : Jvm.MethodName)) ∈ lw_all := lw_g (lw_at lw_m9 210 rfl) rfl
theorem q2196 : (Jvm.Cond.selects "DialectdepotModel" ({ cls := "DialectdepotModel", name := "post", desc := "(IIII)I" } : Jvm.MethodName) ({ cls := "DialectdepotModel", name := "post", desc := "(IIII)I" } : Jvm.MethodName)) ∈ lw_all := lw_g (lw_at lw_m9 211 rfl) rfl
theorem q2197 : (Jvm.Cond.code ({ cls := "DialectdepotModel", name := "post", desc := "(IIII)I" } : Jvm.MethodName) prog_23_method_35_code (6 : Nat) (Option.some Jvm.ClassFile.FieldType.int)) ∈ lw_all := lw_g (lw_at lw_m9 212 rfl) rfl
theorem q2198 : (Jvm.Cond.methodLink "DialectdepotModel" (227 : Nat) ({ cls := "DialectdepotModel", name := "reads", desc := "()Z" } : Jvm.MethodName)) ∈ lw_all := lw_g (lw_at lw_m9 213 rfl) rfl
theorem q2199 : (Jvm.Cond.privateMethod ({ cls := "DialectdepotModel", name := "reads", desc := "()Z" } : Jvm.MethodName)) ∈ lw_tbl := lw_at lw_m9 214 rfl
theorem q2200 : (Jvm.Cond.instanceMethod ({ cls := "DialectdepotModel", name := "reads", desc := "()Z" } : Jvm.MethodName)) ∈ lw_all := lw_g (lw_at lw_m9 215 rfl) rfl
theorem q2201 : (Jvm.Cond.code ({ cls := "DialectdepotModel", name := "reads", desc := "()Z" } : Jvm.MethodName) prog_23_method_34_code (3 : Nat) (Option.some Jvm.ClassFile.FieldType.boolean)) ∈ lw_all := lw_g (lw_at lw_m9 216 rfl) rfl
theorem q2202 : (Jvm.Cond.methodLink "DialectdepotModel" (224 : Nat) ({ cls := "DialectdepotModel", name := "readsWanted", desc := "()Z" } : Jvm.MethodName)) ∈ lw_all := lw_g (lw_at lw_m9 217 rfl) rfl
theorem q2203 : (Jvm.Cond.privateMethod ({ cls := "DialectdepotModel", name := "readsWanted", desc := "()Z" } : Jvm.MethodName)) ∈ lw_tbl := lw_at lw_m9 218 rfl
theorem q2204 : (Jvm.Cond.instanceMethod ({ cls := "DialectdepotModel", name := "readsWanted", desc := "()Z" } : Jvm.MethodName)) ∈ lw_all := lw_g (lw_at lw_m9 219 rfl) rfl
theorem q2205 : (Jvm.Cond.code ({ cls := "DialectdepotModel", name := "readsWanted", desc := "()Z" } : Jvm.MethodName) prog_23_method_33_code (2 : Nat) (Option.some Jvm.ClassFile.FieldType.boolean)) ∈ lw_all := lw_g (lw_at lw_m9 220 rfl) rfl
theorem q2206 : (Jvm.Cond.methodLink "DialectdepotModel" (218 : Nat) ({ cls := "DialectdepotModel", name := "readsName", desc := "()I" } : Jvm.MethodName)) ∈ lw_all := lw_g (lw_at lw_m9 221 rfl) rfl
theorem q2207 : (Jvm.Cond.privateMethod ({ cls := "DialectdepotModel", name := "readsName", desc := "()I" } : Jvm.MethodName)) ∈ lw_tbl := lw_at lw_m9 222 rfl
theorem q2208 : (Jvm.Cond.instanceMethod ({ cls := "DialectdepotModel", name := "readsName", desc := "()I" } : Jvm.MethodName)) ∈ lw_all := lw_g (lw_at lw_m9 223 rfl) rfl
theorem q2209 : (Jvm.Cond.code ({ cls := "DialectdepotModel", name := "readsName", desc := "()I" } : Jvm.MethodName) prog_23_method_32_code (2 : Nat) (Option.some Jvm.ClassFile.FieldType.int)) ∈ lw_all := lw_g (lw_at lw_m9 224 rfl) rfl
theorem q2210 : (Jvm.Cond.methodLink "DialectdepotModel" (204 : Nat) ({ cls := "DialectdepotModel", name := "word", desc := "()Z" } : Jvm.MethodName)) ∈ lw_all := lw_g (lw_at lw_m9 225 rfl) rfl
theorem q2211 : (Jvm.Cond.privateMethod ({ cls := "DialectdepotModel", name := "word", desc := "()Z" } : Jvm.MethodName)) ∈ lw_tbl := lw_at lw_m9 226 rfl
theorem q2212 : (Jvm.Cond.instanceMethod ({ cls := "DialectdepotModel", name := "word", desc := "()Z" } : Jvm.MethodName)) ∈ lw_all := lw_g (lw_at lw_m9 227 rfl) rfl
theorem q2213 : (Jvm.Cond.code ({ cls := "DialectdepotModel", name := "word", desc := "()Z" } : Jvm.MethodName) prog_23_method_30_code (1 : Nat) (Option.some Jvm.ClassFile.FieldType.boolean)) ∈ lw_all := lw_g (lw_at lw_m9 228 rfl) rfl
theorem q2214 : (Jvm.Cond.methodLink "DialectdepotModel" (208 : Nat) ({ cls := "DialectdepotModel", name := "faulty", desc := "(II)Z" } : Jvm.MethodName)) ∈ lw_all := lw_g (lw_at lw_m9 229 rfl) rfl
theorem q2215 : (Jvm.Cond.privateMethod ({ cls := "DialectdepotModel", name := "faulty", desc := "(II)Z" } : Jvm.MethodName)) ∈ lw_tbl := lw_at lw_m9 230 rfl
theorem q2216 : (Jvm.Cond.instanceMethod ({ cls := "DialectdepotModel", name := "faulty", desc := "(II)Z" } : Jvm.MethodName)) ∈ lw_all := lw_g (lw_at lw_m9 231 rfl) rfl
theorem q2217 : (Jvm.Cond.code ({ cls := "DialectdepotModel", name := "faulty", desc := "(II)Z" } : Jvm.MethodName) prog_23_method_31_code (3 : Nat) (Option.some Jvm.ClassFile.FieldType.boolean)) ∈ lw_all := lw_g (lw_at lw_m9 232 rfl) rfl
theorem q2218 : (Jvm.Cond.methodLink "DialectdepotModel" (215 : Nat) ({ cls := "DialectdepotModel", name := "has", desc := "(II)Z" } : Jvm.MethodName)) ∈ lw_all := lw_g (lw_at lw_m9 233 rfl) rfl
theorem q2219 : (Jvm.Cond.static ({ cls := "DialectdepotModel", name := "has", desc := "(II)Z" } : Jvm.MethodName)) ∈ lw_all := lw_g (lw_at lw_m9 234 rfl) rfl
theorem q2220 : (Jvm.Cond.code ({ cls := "DialectdepotModel", name := "has", desc := "(II)Z" } : Jvm.MethodName) prog_23_method_3_code (2 : Nat) (Option.some Jvm.ClassFile.FieldType.boolean)) ∈ lw_all := lw_g (lw_at lw_m9 235 rfl) rfl
theorem q2222 : (Jvm.Cond.instanceMethod ({ cls := "DialectdepotModel", name := "parcels", desc := "()I" } : Jvm.MethodName)) ∈ lw_all := lw_g (lw_at lw_m9 237 rfl) rfl
theorem q2223 : (Jvm.Cond.selects "DialectdepotModel" ({ cls := "DialectdepotModel", name := "parcels", desc := "()I" } : Jvm.MethodName) ({ cls := "DialectdepotModel", name := "parcels", desc := "()I" } : Jvm.MethodName)) ∈ lw_all := lw_g (lw_at lw_m9 238 rfl) rfl
theorem q2224 : (Jvm.Cond.code ({ cls := "DialectdepotModel", name := "parcels", desc := "()I" } : Jvm.MethodName) prog_23_method_36_code (1 : Nat) (Option.some Jvm.ClassFile.FieldType.int)) ∈ lw_all := lw_g (lw_at lw_m9 239 rfl) rfl
theorem q2226 : (Jvm.Cond.instanceMethod ({ cls := "DialectdepotModel", name := "stateOf", desc := "(I)I" } : Jvm.MethodName)) ∈ lw_all := lw_g (lw_at lw_m10 1 rfl) rfl
theorem q2227 : (Jvm.Cond.selects "DialectdepotModel" ({ cls := "DialectdepotModel", name := "stateOf", desc := "(I)I" } : Jvm.MethodName) ({ cls := "DialectdepotModel", name := "stateOf", desc := "(I)I" } : Jvm.MethodName)) ∈ lw_all := lw_g (lw_at lw_m10 2 rfl) rfl
theorem q2228 : (Jvm.Cond.code ({ cls := "DialectdepotModel", name := "stateOf", desc := "(I)I" } : Jvm.MethodName) prog_23_method_37_code (2 : Nat) (Option.some Jvm.ClassFile.FieldType.int)) ∈ lw_all := lw_g (lw_at lw_m10 3 rfl) rfl
theorem q2229 : (Jvm.Cond.methodLink "DialectdepotModel" (230 : Nat) ({ cls := "DialectdepotModel", name := "noParcel", desc := "(I)Z" } : Jvm.MethodName)) ∈ lw_all := lw_g (lw_at lw_m10 4 rfl) rfl
theorem q2230 : (Jvm.Cond.privateMethod ({ cls := "DialectdepotModel", name := "noParcel", desc := "(I)Z" } : Jvm.MethodName)) ∈ lw_tbl := lw_at lw_m10 5 rfl
theorem q2231 : (Jvm.Cond.instanceMethod ({ cls := "DialectdepotModel", name := "noParcel", desc := "(I)Z" } : Jvm.MethodName)) ∈ lw_all := lw_g (lw_at lw_m10 6 rfl) rfl
theorem q2232 : (Jvm.Cond.code ({ cls := "DialectdepotModel", name := "noParcel", desc := "(I)Z" } : Jvm.MethodName) prog_23_method_9_code (2 : Nat) (Option.some Jvm.ClassFile.FieldType.boolean)) ∈ lw_all := lw_g (lw_at lw_m10 7 rfl) rfl
theorem q2234 : (Jvm.Cond.instanceMethod ({ cls := "DialectdepotModel", name := "timesBack", desc := "(I)I" } : Jvm.MethodName)) ∈ lw_all := lw_g (lw_at lw_m10 9 rfl) rfl
theorem q2235 : (Jvm.Cond.selects "DialectdepotModel" ({ cls := "DialectdepotModel", name := "timesBack", desc := "(I)I" } : Jvm.MethodName) ({ cls := "DialectdepotModel", name := "timesBack", desc := "(I)I" } : Jvm.MethodName)) ∈ lw_all := lw_g (lw_at lw_m10 10 rfl) rfl
theorem q2236 : (Jvm.Cond.code ({ cls := "DialectdepotModel", name := "timesBack", desc := "(I)I" } : Jvm.MethodName) prog_23_method_38_code (2 : Nat) (Option.some Jvm.ClassFile.FieldType.int)) ∈ lw_all := lw_g (lw_at lw_m10 11 rfl) rfl
theorem q2238 : (Jvm.Cond.instanceMethod ({ cls := "DialectdepotModel", name := "whyBack", desc := "(I)I" } : Jvm.MethodName)) ∈ lw_all := lw_g (lw_at lw_m10 13 rfl) rfl
theorem q2239 : (Jvm.Cond.selects "DialectdepotModel" ({ cls := "DialectdepotModel", name := "whyBack", desc := "(I)I" } : Jvm.MethodName) ({ cls := "DialectdepotModel", name := "whyBack", desc := "(I)I" } : Jvm.MethodName)) ∈ lw_all := lw_g (lw_at lw_m10 14 rfl) rfl
theorem q2240 : (Jvm.Cond.code ({ cls := "DialectdepotModel", name := "whyBack", desc := "(I)I" } : Jvm.MethodName) prog_23_method_39_code (2 : Nat) (Option.some Jvm.ClassFile.FieldType.int)) ∈ lw_all := lw_g (lw_at lw_m10 15 rfl) rfl
theorem q2242 : (Jvm.Cond.instanceMethod ({ cls := "DialectdepotModel", name := "daysWaited", desc := "(I)I" } : Jvm.MethodName)) ∈ lw_all := lw_g (lw_at lw_m10 17 rfl) rfl
theorem q2243 : (Jvm.Cond.selects "DialectdepotModel" ({ cls := "DialectdepotModel", name := "daysWaited", desc := "(I)I" } : Jvm.MethodName) ({ cls := "DialectdepotModel", name := "daysWaited", desc := "(I)I" } : Jvm.MethodName)) ∈ lw_all := lw_g (lw_at lw_m10 18 rfl) rfl
theorem q2244 : (Jvm.Cond.code ({ cls := "DialectdepotModel", name := "daysWaited", desc := "(I)I" } : Jvm.MethodName) prog_23_method_40_code (2 : Nat) (Option.some Jvm.ClassFile.FieldType.int)) ∈ lw_all := lw_g (lw_at lw_m10 19 rfl) rfl
theorem q2246 : (Jvm.Cond.instanceMethod ({ cls := "DialectdepotModel", name := "isWanted", desc := "(II)Z" } : Jvm.MethodName)) ∈ lw_all := lw_g (lw_at lw_m10 21 rfl) rfl
theorem q2247 : (Jvm.Cond.selects "DialectdepotModel" ({ cls := "DialectdepotModel", name := "isWanted", desc := "(II)Z" } : Jvm.MethodName) ({ cls := "DialectdepotModel", name := "isWanted", desc := "(II)Z" } : Jvm.MethodName)) ∈ lw_all := lw_g (lw_at lw_m10 22 rfl) rfl
theorem q2248 : (Jvm.Cond.code ({ cls := "DialectdepotModel", name := "isWanted", desc := "(II)Z" } : Jvm.MethodName) prog_23_method_41_code (3 : Nat) (Option.some Jvm.ClassFile.FieldType.boolean)) ∈ lw_all := lw_g (lw_at lw_m10 23 rfl) rfl
theorem q2250 : (Jvm.Cond.instanceMethod ({ cls := "DialectdepotModel", name := "unwantedName", desc := "(I)I" } : Jvm.MethodName)) ∈ lw_all := lw_g (lw_at lw_m10 25 rfl) rfl
theorem q2251 : (Jvm.Cond.selects "DialectdepotModel" ({ cls := "DialectdepotModel", name := "unwantedName", desc := "(I)I" } : Jvm.MethodName) ({ cls := "DialectdepotModel", name := "unwantedName", desc := "(I)I" } : Jvm.MethodName)) ∈ lw_all := lw_g (lw_at lw_m10 26 rfl) rfl
theorem q2252 : (Jvm.Cond.code ({ cls := "DialectdepotModel", name := "unwantedName", desc := "(I)I" } : Jvm.MethodName) prog_23_method_42_code (2 : Nat) (Option.some Jvm.ClassFile.FieldType.int)) ∈ lw_all := lw_g (lw_at lw_m10 27 rfl) rfl
theorem q2254 : (Jvm.Cond.instanceMethod ({ cls := "DialectdepotModel", name := "isHeld", desc := "(I)Z" } : Jvm.MethodName)) ∈ lw_all := lw_g (lw_at lw_m10 29 rfl) rfl
theorem q2255 : (Jvm.Cond.selects "DialectdepotModel" ({ cls := "DialectdepotModel", name := "isHeld", desc := "(I)Z" } : Jvm.MethodName) ({ cls := "DialectdepotModel", name := "isHeld", desc := "(I)Z" } : Jvm.MethodName)) ∈ lw_all := lw_g (lw_at lw_m10 30 rfl) rfl
theorem q2256 : (Jvm.Cond.code ({ cls := "DialectdepotModel", name := "isHeld", desc := "(I)Z" } : Jvm.MethodName) prog_23_method_44_code (2 : Nat) (Option.some Jvm.ClassFile.FieldType.boolean)) ∈ lw_all := lw_g (lw_at lw_m10 31 rfl) rfl
theorem q2257 : (Jvm.Cond.methodLink "DialectdepotModel" (233 : Nat) ({ cls := "DialectdepotModel", name := "held", desc := "(I)Z" } : Jvm.MethodName)) ∈ lw_all := lw_g (lw_at lw_m10 32 rfl) rfl
theorem q2258 : (Jvm.Cond.privateMethod ({ cls := "DialectdepotModel", name := "held", desc := "(I)Z" } : Jvm.MethodName)) ∈ lw_tbl := lw_at lw_m10 33 rfl
theorem q2259 : (Jvm.Cond.instanceMethod ({ cls := "DialectdepotModel", name := "held", desc := "(I)Z" } : Jvm.MethodName)) ∈ lw_all := lw_g (lw_at lw_m10 34 rfl) rfl
theorem q2260 : (Jvm.Cond.code ({ cls := "DialectdepotModel", name := "held", desc := "(I)Z" } : Jvm.MethodName) prog_23_method_43_code (3 : Nat) (Option.some Jvm.ClassFile.FieldType.boolean)) ∈ lw_all := lw_g (lw_at lw_m10 35 rfl) rfl
theorem q2262 : (Jvm.Cond.instanceMethod ({ cls := "DialectdepotModel", name := "score", desc := "(III)I" } : Jvm.MethodName)) ∈ lw_all := lw_g (lw_at lw_m10 37 rfl) rfl
theorem q2263 : (Jvm.Cond.selects "DialectdepotModel" ({ cls := "DialectdepotModel", name := "score", desc := "(III)I" } : Jvm.MethodName) ({ cls := "DialectdepotModel", name := "score", desc := "(III)I" } : Jvm.MethodName)) ∈ lw_all := lw_g (lw_at lw_m10 38 rfl) rfl
theorem q2264 : (Jvm.Cond.code ({ cls := "DialectdepotModel", name := "score", desc := "(III)I" } : Jvm.MethodName) prog_23_method_48_code (4 : Nat) (Option.some Jvm.ClassFile.FieldType.int)) ∈ lw_all := lw_g (lw_at lw_m10 39 rfl) rfl
theorem q2265 : (Jvm.Cond.methodLink "DialectdepotModel" (249 : Nat) ({ cls := "DialectdepotModel", name := "scoreOf", desc := "(III)I" } : Jvm.MethodName)) ∈ lw_all := lw_g (lw_at lw_m10 40 rfl) rfl
theorem q2266 : (Jvm.Cond.privateMethod ({ cls := "DialectdepotModel", name := "scoreOf", desc := "(III)I" } : Jvm.MethodName)) ∈ lw_tbl := lw_at lw_m10 41 rfl
theorem q2267 : (Jvm.Cond.instanceMethod ({ cls := "DialectdepotModel", name := "scoreOf", desc := "(III)I" } : Jvm.MethodName)) ∈ lw_all := lw_g (lw_at lw_m10 42 rfl) rfl
theorem q2268 : (Jvm.Cond.code ({ cls := "DialectdepotModel", name := "scoreOf", desc := "(III)I" } : Jvm.MethodName) prog_23_method_47_code (6 : Nat) (Option.some Jvm.ClassFile.FieldType.int)) ∈ lw_all := lw_g (lw_at lw_m10 43 rfl) rfl
theorem q2269 : (Jvm.Cond.methodLink "DialectdepotModel" (242 : Nat) ({ cls := "DialectdepotModel", name := "isAgainst", desc := "(II)Z" } : Jvm.MethodName)) ∈ lw_all := lw_g (lw_at lw_m10 44 rfl) rfl
theorem q2270 : (Jvm.Cond.privateMethod ({ cls := "DialectdepotModel", name := "isAgainst", desc := "(II)Z" } : Jvm.MethodName)) ∈ lw_tbl := lw_at lw_m10 45 rfl
theorem q2271 : (Jvm.Cond.instanceMethod ({ cls := "DialectdepotModel", name := "isAgainst", desc := "(II)Z" } : Jvm.MethodName)) ∈ lw_all := lw_g (lw_at lw_m10 46 rfl) rfl
theorem q2272 : (Jvm.Cond.code ({ cls := "DialectdepotModel", name := "isAgainst", desc := "(II)Z" } : Jvm.MethodName) prog_23_method_46_code (4 : Nat) (Option.some Jvm.ClassFile.FieldType.boolean)) ∈ lw_all := lw_g (lw_at lw_m10 47 rfl) rfl
theorem q2273 : (Jvm.Cond.methodLink "DialectdepotModel" (236 : Nat) ({ cls := "DialectdepotModel", name := "hasUsageAt", desc := "(IIII)Z" } : Jvm.MethodName)) ∈ lw_all := lw_g (lw_at lw_m10 48 rfl) rfl
theorem q2274 : (Jvm.Cond.privateMethod ({ cls := "DialectdepotModel", name := "hasUsageAt", desc := "(IIII)Z" } : Jvm.MethodName)) ∈ lw_tbl := lw_at lw_m10 49 rfl
theorem q2275 : (Jvm.Cond.instanceMethod ({ cls := "DialectdepotModel", name := "hasUsageAt", desc := "(IIII)Z" } : Jvm.MethodName)) ∈ lw_all := lw_g (lw_at lw_m10 50 rfl) rfl
theorem q2276 : (Jvm.Cond.code ({ cls := "DialectdepotModel", name := "hasUsageAt", desc := "(IIII)Z" } : Jvm.MethodName) prog_23_method_20_code (6 : Nat) (Option.some Jvm.ClassFile.FieldType.boolean)) ∈ lw_all := lw_g (lw_at lw_m10 51 rfl) rfl
theorem q2277 : (Jvm.Cond.methodLink "DialectdepotModel" (245 : Nat) ({ cls := "DialectdepotModel", name := "byName", desc := "(III)I" } : Jvm.MethodName)) ∈ lw_all := lw_g (lw_at lw_m10 52 rfl) rfl
theorem q2278 : (Jvm.Cond.privateMethod ({ cls := "DialectdepotModel", name := "byName", desc := "(III)I" } : Jvm.MethodName)) ∈ lw_tbl := lw_at lw_m10 53 rfl
theorem q2279 : (Jvm.Cond.instanceMethod ({ cls := "DialectdepotModel", name := "byName", desc := "(III)I" } : Jvm.MethodName)) ∈ lw_all := lw_g (lw_at lw_m10 54 rfl) rfl
theorem q2280 : (Jvm.Cond.code ({ cls := "DialectdepotModel", name := "byName", desc := "(III)I" } : Jvm.MethodName) prog_23_method_45_code (7 : Nat) (Option.some Jvm.ClassFile.FieldType.int)) ∈ lw_all := lw_g (lw_at lw_m10 55 rfl) rfl
theorem q2281 : (Jvm.Cond.methodLink "DialectdepotModel" (239 : Nat) ({ cls := "DialectdepotModel", name := "hasUsage", desc := "(III)Z" } : Jvm.MethodName)) ∈ lw_all := lw_g (lw_at lw_m10 56 rfl) rfl
theorem q2282 : (Jvm.Cond.privateMethod ({ cls := "DialectdepotModel", name := "hasUsage", desc := "(III)Z" } : Jvm.MethodName)) ∈ lw_tbl := lw_at lw_m10 57 rfl
theorem q2283 : (Jvm.Cond.instanceMethod ({ cls := "DialectdepotModel", name := "hasUsage", desc := "(III)Z" } : Jvm.MethodName)) ∈ lw_all := lw_g (lw_at lw_m10 58 rfl) rfl
theorem q2284 : (Jvm.Cond.code ({ cls := "DialectdepotModel", name := "hasUsage", desc := "(III)Z" } : Jvm.MethodName) prog_23_method_19_code (5 : Nat) (Option.some Jvm.ClassFile.FieldType.boolean)) ∈ lw_all := lw_g (lw_at lw_m10 59 rfl) rfl
theorem q2286 : (Jvm.Cond.instanceMethod ({ cls := "DialectdepotModel", name := "choiceFor", desc := "(I)I" } : Jvm.MethodName)) ∈ lw_all := lw_g (lw_at lw_m10 61 rfl) rfl
theorem q2287 : (Jvm.Cond.selects "DialectdepotModel" ({ cls := "DialectdepotModel", name := "choiceFor", desc := "(I)I" } : Jvm.MethodName) ({ cls := "DialectdepotModel", name := "choiceFor", desc := "(I)I" } : Jvm.MethodName)) ∈ lw_all := lw_g (lw_at lw_m10 62 rfl) rfl
theorem q2288 : (Jvm.Cond.code ({ cls := "DialectdepotModel", name := "choiceFor", desc := "(I)I" } : Jvm.MethodName) prog_23_method_50_code (3 : Nat) (Option.some Jvm.ClassFile.FieldType.int)) ∈ lw_all := lw_g (lw_at lw_m10 63 rfl) rfl
theorem q2289 : (Jvm.Cond.methodLink "DialectdepotModel" (252 : Nat) ({ cls := "DialectdepotModel", name := "choice", desc := "(I)I" } : Jvm.MethodName)) ∈ lw_all := lw_g (lw_at lw_m10 64 rfl) rfl
theorem q2290 : (Jvm.Cond.privateMethod ({ cls := "DialectdepotModel", name := "choice", desc := "(I)I" } : Jvm.MethodName)) ∈ lw_tbl := lw_at lw_m10 65 rfl
theorem q2291 : (Jvm.Cond.instanceMethod ({ cls := "DialectdepotModel", name := "choice", desc := "(I)I" } : Jvm.MethodName)) ∈ lw_all := lw_g (lw_at lw_m10 66 rfl) rfl
theorem q2292 : (Jvm.Cond.code ({ cls := "DialectdepotModel", name := "choice", desc := "(I)I" } : Jvm.MethodName) prog_23_method_49_code (7 : Nat) (Option.some Jvm.ClassFile.FieldType.int)) ∈ lw_all := lw_g (lw_at lw_m10 67 rfl) rfl
theorem q2294 : (Jvm.Cond.instanceMethod ({ cls := "DialectdepotModel", name := "nextDay", desc := "()I" } : Jvm.MethodName)) ∈ lw_all := lw_g (lw_at lw_m10 69 rfl) rfl
theorem q2295 : (Jvm.Cond.selects "DialectdepotModel" ({ cls := "DialectdepotModel", name := "nextDay", desc := "()I" } : Jvm.MethodName) ({ cls := "DialectdepotModel", name := "nextDay", desc := "()I" } : Jvm.MethodName)) ∈ lw_all := lw_g (lw_at lw_m10 70 rfl) rfl
theorem q2296 : (Jvm.Cond.code ({ cls := "DialectdepotModel", name := "nextDay", desc := "()I" } : Jvm.MethodName) prog_23_method_56_code (4 : Nat) (Option.some Jvm.ClassFile.FieldType.int)) ∈ lw_all := lw_g (lw_at lw_m10 71 rfl) rfl
theorem q2297 : (Jvm.Cond.methodLink "DialectdepotModel" (285 : Nat) ({ cls := "DialectdepotModel", name := "tries", desc := "(III)I" } : Jvm.MethodName)) ∈ lw_all := lw_g (lw_at lw_m10 72 rfl) rfl
theorem q2298 : (Jvm.Cond.privateMethod ({ cls := "DialectdepotModel", name := "tries", desc := "(III)I" } : Jvm.MethodName)) ∈ lw_tbl := lw_at lw_m10 73 rfl
theorem q2299 : (Jvm.Cond.instanceMethod ({ cls := "DialectdepotModel", name := "tries", desc := "(III)I" } : Jvm.MethodName)) ∈ lw_all := lw_g (lw_at lw_m10 74 rfl) rfl
theorem q2300 : (Jvm.Cond.code ({ cls := "DialectdepotModel", name := "tries", desc := "(III)I" } : Jvm.MethodName) prog_23_method_54_code (5 : Nat) (Option.some Jvm.ClassFile.FieldType.int)) ∈ lw_all := lw_g (lw_at lw_m10 75 rfl) rfl
theorem q2301 : (Jvm.Cond.methodLink "DialectdepotModel" (278 : Nat) ({ cls := "DialectdepotModel", name := "arrives", desc := "(III)V" } : Jvm.MethodName)) ∈ lw_all := lw_g (lw_at lw_m10 76 rfl) rfl
theorem q2302 : (Jvm.Cond.privateMethod ({ cls := "DialectdepotModel", name := "arrives", desc := "(III)V" } : Jvm.MethodName)) ∈ lw_tbl := lw_at lw_m10 77 rfl
theorem q2303 : (Jvm.Cond.instanceMethod ({ cls := "DialectdepotModel", name := "arrives", desc := "(III)V" } : Jvm.MethodName)) ∈ lw_all := lw_g (lw_at lw_m10 78 rfl) rfl
theorem q2304 : (Jvm.Cond.code ({ cls := "DialectdepotModel", name := "arrives", desc := "(III)V" } : Jvm.MethodName) prog_23_method_52_code (6 : Nat) (Option.none : Option Jvm.ClassFile.FieldType)) ∈ lw_all := lw_g (lw_at lw_m10 79 rfl) rfl
theorem q2305 : (Jvm.Cond.methodLink "DialectdepotModel" (282 : Nat) ({ cls := "DialectdepotModel", name := "comesBack", desc := "(III)V" } : Jvm.MethodName)) ∈ lw_all := lw_g (lw_at lw_m10 80 rfl) rfl
theorem q2306 : (Jvm.Cond.privateMethod ({ cls := "DialectdepotModel", name := "comesBack", desc := "(III)V" } : Jvm.MethodName)) ∈ lw_tbl := lw_at lw_m10 81 rfl
theorem q2307 : (Jvm.Cond.instanceMethod ({ cls := "DialectdepotModel", name := "comesBack", desc := "(III)V" } : Jvm.MethodName)) ∈ lw_all := lw_g (lw_at lw_m10 82 rfl) rfl
theorem q2308 : (Jvm.Cond.code ({ cls := "DialectdepotModel", name := "comesBack", desc := "(III)V" } : Jvm.MethodName) prog_23_method_53_code (5 : Nat) (Option.none : Option Jvm.ClassFile.FieldType)) ∈ lw_all := lw_g (lw_at lw_m10 83 rfl) rfl
theorem q2309 : (Jvm.Cond.methodLink "DialectdepotModel" (268 : Nat) ({ cls := "DialectdepotModel", name := "givesUp", desc := "(I)V" } : Jvm.MethodName)) ∈ lw_all := lw_g (lw_at lw_m10 84 rfl) rfl
theorem q2310 : (Jvm.Cond.privateMethod ({ cls := "DialectdepotModel", name := "givesUp", desc := "(I)V" } : Jvm.MethodName)) ∈ lw_tbl := lw_at lw_m10 85 rfl
theorem q2311 : (Jvm.Cond.instanceMethod ({ cls := "DialectdepotModel", name := "givesUp", desc := "(I)V" } : Jvm.MethodName)) ∈ lw_all := lw_g (lw_at lw_m10 86 rfl) rfl
theorem q2312 : (Jvm.Cond.code ({ cls := "DialectdepotModel", name := "givesUp", desc := "(I)V" } : Jvm.MethodName) prog_23_method_51_code (5 : Nat) (Option.none : Option Jvm.ClassFile.FieldType)) ∈ lw_all := lw_g (lw_at lw_m10 87 rfl) rfl
theorem q2313 : (Jvm.Cond.methodLink "DialectdepotModel" (288 : Nat) ({ cls := "DialectdepotModel", name := "rules", desc := "(I)V" } : Jvm.MethodName)) ∈ lw_all := lw_g (lw_at lw_m10 88 rfl) rfl
theorem q2314 : (Jvm.Cond.privateMethod ({ cls := "DialectdepotModel", name := "rules", desc := "(I)V" } : Jvm.MethodName)) ∈ lw_tbl := lw_at lw_m10 89 rfl
theorem q2315 : (Jvm.Cond.instanceMethod ({ cls := "DialectdepotModel", name := "rules", desc := "(I)V" } : Jvm.MethodName)) ∈ lw_all := lw_g (lw_at lw_m10 90 rfl) rfl
theorem q2316 : (Jvm.Cond.code ({ cls := "DialectdepotModel", name := "rules", desc := "(I)V" } : Jvm.MethodName) prog_23_method_73_code (7 : Nat) (Option.none : Option Jvm.ClassFile.FieldType)) ∈ lw_all := lw_g (lw_at lw_m10 91 rfl) rfl
theorem q2317 : (Jvm.Cond.methodLink "DialectdepotModel" (303 : Nat) ({ cls := "DialectdepotModel", name := "evidenceOf", desc := "(II)I" } : Jvm.MethodName)) ∈ lw_all := lw_g (lw_at lw_m10 92 rfl) rfl
theorem q2318 : (Jvm.Cond.privateMethod ({ cls := "DialectdepotModel", name := "evidenceOf", desc := "(II)I" } : Jvm.MethodName)) ∈ lw_tbl := lw_at lw_m10 93 rfl
theorem q2319 : (Jvm.Cond.instanceMethod ({ cls := "DialectdepotModel", name := "evidenceOf", desc := "(II)I" } : Jvm.MethodName)) ∈ lw_all := lw_g (lw_at lw_m10 94 rfl) rfl
theorem q2320 : (Jvm.Cond.code ({ cls := "DialectdepotModel", name := "evidenceOf", desc := "(II)I" } : Jvm.MethodName) prog_23_method_71_code (5 : Nat) (Option.some Jvm.ClassFile.FieldType.int)) ∈ lw_all := lw_g (lw_at lw_m10 95 rfl) rfl
theorem q2321 : (Jvm.Cond.methodLink "DialectdepotModel" (291 : Nat) ({ cls := "DialectdepotModel", name := "fades", desc := "()V" } : Jvm.MethodName)) ∈ lw_all := lw_g (lw_at lw_m10 96 rfl) rfl
theorem q2322 : (Jvm.Cond.privateMethod ({ cls := "DialectdepotModel", name := "fades", desc := "()V" } : Jvm.MethodName)) ∈ lw_tbl := lw_at lw_m10 97 rfl
theorem q2323 : (Jvm.Cond.instanceMethod ({ cls := "DialectdepotModel", name := "fades", desc := "()V" } : Jvm.MethodName)) ∈ lw_all := lw_g (lw_at lw_m10 98 rfl) rfl
theorem q2324 : (Jvm.Cond.code ({ cls := "DialectdepotModel", name := "fades", desc := "()V" } : Jvm.MethodName) prog_23_method_55_code (2 : Nat) (Option.none : Option Jvm.ClassFile.FieldType)) ∈ lw_all := lw_g (lw_at lw_m10 99 rfl) rfl
theorem q2326 : (Jvm.Cond.instanceMethod ({ cls := "DialectdepotModel", name := "day", desc := "()I" } : Jvm.MethodName)) ∈ lw_all := lw_g (lw_at lw_m10 101 rfl) rfl
theorem q2327 : (Jvm.Cond.selects "DialectdepotModel" ({ cls := "DialectdepotModel", name := "day", desc := "()I" } : Jvm.MethodName) ({ cls := "DialectdepotModel", name := "day", desc := "()I" } : Jvm.MethodName)) ∈ lw_all := lw_g (lw_at lw_m10 102 rfl) rfl
theorem q2328 : (Jvm.Cond.code ({ cls := "DialectdepotModel", name := "day", desc := "()I" } : Jvm.MethodName) prog_23_method_57_code (1 : Nat) (Option.some Jvm.ClassFile.FieldType.int)) ∈ lw_all := lw_g (lw_at lw_m10 103 rfl) rfl
theorem q2330 : (Jvm.Cond.instanceMethod ({ cls := "DialectdepotModel", name := "attempts", desc := "()I" } : Jvm.MethodName)) ∈ lw_all := lw_g (lw_at lw_m10 105 rfl) rfl
theorem q2331 : (Jvm.Cond.selects "DialectdepotModel" ({ cls := "DialectdepotModel", name := "attempts", desc := "()I" } : Jvm.MethodName) ({ cls := "DialectdepotModel", name := "attempts", desc := "()I" } : Jvm.MethodName)) ∈ lw_all := lw_g (lw_at lw_m10 106 rfl) rfl
theorem q2332 : (Jvm.Cond.code ({ cls := "DialectdepotModel", name := "attempts", desc := "()I" } : Jvm.MethodName) prog_23_method_59_code (1 : Nat) (Option.some Jvm.ClassFile.FieldType.int)) ∈ lw_all := lw_g (lw_at lw_m10 107 rfl) rfl
theorem q2334 : (Jvm.Cond.instanceMethod ({ cls := "DialectdepotModel", name := "attemptParcel", desc := "(I)I" } : Jvm.MethodName)) ∈ lw_all := lw_g (lw_at lw_m10 109 rfl) rfl
theorem q2335 : (Jvm.Cond.selects "DialectdepotModel" ({ cls := "DialectdepotModel", name := "attemptParcel", desc := "(I)I" } : Jvm.MethodName) ({ cls := "DialectdepotModel", name := "attemptParcel", desc := "(I)I" } : Jvm.MethodName)) ∈ lw_all := lw_g (lw_at lw_m10 110 rfl) rfl
theorem q2336 : (Jvm.Cond.code ({ cls := "DialectdepotModel", name := "attemptParcel", desc := "(I)I" } : Jvm.MethodName) prog_23_method_60_code (2 : Nat) (Option.some Jvm.ClassFile.FieldType.int)) ∈ lw_all := lw_g (lw_at lw_m10 111 rfl) rfl
theorem q2337 : (Jvm.Cond.methodLink "DialectdepotModel" (294 : Nat) ({ cls := "DialectdepotModel", name := "noAttempt", desc := "(I)Z" } : Jvm.MethodName)) ∈ lw_all := lw_g (lw_at lw_m10 112 rfl) rfl
theorem q2338 : (Jvm.Cond.privateMethod ({ cls := "DialectdepotModel", name := "noAttempt", desc := "(I)Z" } : Jvm.MethodName)) ∈ lw_tbl := lw_at lw_m10 113 rfl
theorem q2339 : (Jvm.Cond.instanceMethod ({ cls := "DialectdepotModel", name := "noAttempt", desc := "(I)Z" } : Jvm.MethodName)) ∈ lw_all := lw_g (lw_at lw_m10 114 rfl) rfl
theorem q2340 : (Jvm.Cond.code ({ cls := "DialectdepotModel", name := "noAttempt", desc := "(I)Z" } : Jvm.MethodName) prog_23_method_58_code (2 : Nat) (Option.some Jvm.ClassFile.FieldType.boolean)) ∈ lw_all := lw_g (lw_at lw_m10 115 rfl) rfl
theorem q2342 : (Jvm.Cond.instanceMethod ({ cls := "DialectdepotModel", name := "attemptCarrier", desc := "(I)I" } : Jvm.MethodName)) ∈ lw_all := lw_g (lw_at lw_m10 117 rfl) rfl
theorem q2343 : (Jvm.Cond.selects "DialectdepotModel" ({ cls := "DialectdepotModel", name := "attemptCarrier", desc := "(I)I" } : Jvm.MethodName) ({ cls := "DialectdepotModel", name := "attemptCarrier", desc := "(I)I" } : Jvm.MethodName)) ∈ lw_all := lw_g (lw_at lw_m10 118 rfl) rfl
theorem q2344 : (Jvm.Cond.code ({ cls := "DialectdepotModel", name := "attemptCarrier", desc := "(I)I" } : Jvm.MethodName) prog_23_method_61_code (2 : Nat) (Option.some Jvm.ClassFile.FieldType.int)) ∈ lw_all := lw_g (lw_at lw_m10 119 rfl) rfl
theorem q2346 : (Jvm.Cond.instanceMethod ({ cls := "DialectdepotModel", name := "attemptStreet", desc := "(I)I" } : Jvm.MethodName)) ∈ lw_all := lw_g (lw_at lw_m10 121 rfl) rfl
theorem q2347 : (Jvm.Cond.selects "DialectdepotModel" ({ cls := "DialectdepotModel", name := "attemptStreet", desc := "(I)I" } : Jvm.MethodName) ({ cls := "DialectdepotModel", name := "attemptStreet", desc := "(I)I" } : Jvm.MethodName)) ∈ lw_all := lw_g (lw_at lw_m10 122 rfl) rfl
theorem q2348 : (Jvm.Cond.code ({ cls := "DialectdepotModel", name := "attemptStreet", desc := "(I)I" } : Jvm.MethodName) prog_23_method_62_code (2 : Nat) (Option.some Jvm.ClassFile.FieldType.int)) ∈ lw_all := lw_g (lw_at lw_m10 123 rfl) rfl
theorem q2350 : (Jvm.Cond.instanceMethod ({ cls := "DialectdepotModel", name := "attemptDay", desc := "(I)I" } : Jvm.MethodName)) ∈ lw_all := lw_g (lw_at lw_m10 125 rfl) rfl
theorem q2351 : (Jvm.Cond.selects "DialectdepotModel" ({ cls := "DialectdepotModel", name := "attemptDay", desc := "(I)I" } : Jvm.MethodName) ({ cls := "DialectdepotModel", name := "attemptDay", desc := "(I)I" } : Jvm.MethodName)) ∈ lw_all := lw_g (lw_at lw_m10 126 rfl) rfl
theorem q2352 : (Jvm.Cond.code ({ cls := "DialectdepotModel", name := "attemptDay", desc := "(I)I" } : Jvm.MethodName) prog_23_method_63_code (2 : Nat) (Option.some Jvm.ClassFile.FieldType.int)) ∈ lw_all := lw_g (lw_at lw_m10 127 rfl) rfl
theorem q2354 : (Jvm.Cond.instanceMethod ({ cls := "DialectdepotModel", name := "wasDelivered", desc := "(I)Z" } : Jvm.MethodName)) ∈ lw_all := lw_g (lw_at lw_m10 129 rfl) rfl
theorem q2355 : (Jvm.Cond.selects "DialectdepotModel" ({ cls := "DialectdepotModel", name := "wasDelivered", desc := "(I)Z" } : Jvm.MethodName) ({ cls := "DialectdepotModel", name := "wasDelivered", desc := "(I)Z" } : Jvm.MethodName)) ∈ lw_all := lw_g (lw_at lw_m10 130 rfl) rfl
theorem q2356 : (Jvm.Cond.code ({ cls := "DialectdepotModel", name := "wasDelivered", desc := "(I)Z" } : Jvm.MethodName) prog_23_method_64_code (2 : Nat) (Option.some Jvm.ClassFile.FieldType.boolean)) ∈ lw_all := lw_g (lw_at lw_m10 131 rfl) rfl
theorem q2358 : (Jvm.Cond.instanceMethod ({ cls := "DialectdepotModel", name := "claim", desc := "(III)I" } : Jvm.MethodName)) ∈ lw_all := lw_g (lw_at lw_m10 133 rfl) rfl
theorem q2359 : (Jvm.Cond.selects "DialectdepotModel" ({ cls := "DialectdepotModel", name := "claim", desc := "(III)I" } : Jvm.MethodName) ({ cls := "DialectdepotModel", name := "claim", desc := "(III)I" } : Jvm.MethodName)) ∈ lw_all := lw_g (lw_at lw_m10 134 rfl) rfl
theorem q2360 : (Jvm.Cond.code ({ cls := "DialectdepotModel", name := "claim", desc := "(III)I" } : Jvm.MethodName) prog_23_method_66_code (6 : Nat) (Option.some Jvm.ClassFile.FieldType.int)) ∈ lw_all := lw_g (lw_at lw_m10 135 rfl) rfl
theorem q2361 : (Jvm.Cond.methodLink "DialectdepotModel" (300 : Nat) ({ cls := "DialectdepotModel", name := "disputes", desc := "(I)V" } : Jvm.MethodName)) ∈ lw_all := lw_g (lw_at lw_m10 136 rfl) rfl
theorem q2362 : (Jvm.Cond.privateMethod ({ cls := "DialectdepotModel", name := "disputes", desc := "(I)V" } : Jvm.MethodName)) ∈ lw_tbl := lw_at lw_m10 137 rfl
theorem q2363 : (Jvm.Cond.instanceMethod ({ cls := "DialectdepotModel", name := "disputes", desc := "(I)V" } : Jvm.MethodName)) ∈ lw_all := lw_g (lw_at lw_m10 138 rfl) rfl
theorem q2364 : (Jvm.Cond.code ({ cls := "DialectdepotModel", name := "disputes", desc := "(I)V" } : Jvm.MethodName) prog_23_method_65_code (6 : Nat) (Option.none : Option Jvm.ClassFile.FieldType)) ∈ lw_all := lw_g (lw_at lw_m10 139 rfl) rfl
theorem q2366 : (Jvm.Cond.instanceMethod ({ cls := "DialectdepotModel", name := "withdraw", desc := "(II)I" } : Jvm.MethodName)) ∈ lw_all := lw_g (lw_at lw_m10 141 rfl) rfl
theorem q2367 : (Jvm.Cond.selects "DialectdepotModel" ({ cls := "DialectdepotModel", name := "withdraw", desc := "(II)I" } : Jvm.MethodName) ({ cls := "DialectdepotModel", name := "withdraw", desc := "(II)I" } : Jvm.MethodName)) ∈ lw_all := lw_g (lw_at lw_m10 142 rfl) rfl
theorem q2368 : (Jvm.Cond.code ({ cls := "DialectdepotModel", name := "withdraw", desc := "(II)I" } : Jvm.MethodName) prog_23_method_67_code (4 : Nat) (Option.some Jvm.ClassFile.FieldType.int)) ∈ lw_all := lw_g (lw_at lw_m10 143 rfl) rfl
theorem q2370 : (Jvm.Cond.instanceMethod ({ cls := "DialectdepotModel", name := "claimOf", desc := "(II)I" } : Jvm.MethodName)) ∈ lw_all := lw_g (lw_at lw_m10 145 rfl) rfl
theorem q2371 : (Jvm.Cond.selects "DialectdepotModel" ({ cls := "DialectdepotModel", name := "claimOf", desc := "(II)I" } : Jvm.MethodName) ({ cls := "DialectdepotModel", name := "claimOf", desc := "(II)I" } : Jvm.MethodName)) ∈ lw_all := lw_g (lw_at lw_m10 146 rfl) rfl
theorem q2372 : (Jvm.Cond.code ({ cls := "DialectdepotModel", name := "claimOf", desc := "(II)I" } : Jvm.MethodName) prog_23_method_68_code (3 : Nat) (Option.some Jvm.ClassFile.FieldType.int)) ∈ lw_all := lw_g (lw_at lw_m10 147 rfl) rfl
theorem q2374 : (Jvm.Cond.instanceMethod ({ cls := "DialectdepotModel", name := "disputeDay", desc := "(I)I" } : Jvm.MethodName)) ∈ lw_all := lw_g (lw_at lw_m10 149 rfl) rfl
theorem q2375 : (Jvm.Cond.selects "DialectdepotModel" ({ cls := "DialectdepotModel", name := "disputeDay", desc := "(I)I" } : Jvm.MethodName) ({ cls := "DialectdepotModel", name := "disputeDay", desc := "(I)I" } : Jvm.MethodName)) ∈ lw_all := lw_g (lw_at lw_m10 150 rfl) rfl
theorem q2376 : (Jvm.Cond.code ({ cls := "DialectdepotModel", name := "disputeDay", desc := "(I)I" } : Jvm.MethodName) prog_23_method_69_code (2 : Nat) (Option.some Jvm.ClassFile.FieldType.int)) ∈ lw_all := lw_g (lw_at lw_m10 151 rfl) rfl
theorem q2378 : (Jvm.Cond.instanceMethod ({ cls := "DialectdepotModel", name := "ruledStreet", desc := "(I)I" } : Jvm.MethodName)) ∈ lw_all := lw_g (lw_at lw_m10 153 rfl) rfl
theorem q2379 : (Jvm.Cond.selects "DialectdepotModel" ({ cls := "DialectdepotModel", name := "ruledStreet", desc := "(I)I" } : Jvm.MethodName) ({ cls := "DialectdepotModel", name := "ruledStreet", desc := "(I)I" } : Jvm.MethodName)) ∈ lw_all := lw_g (lw_at lw_m10 154 rfl) rfl
theorem q2380 : (Jvm.Cond.code ({ cls := "DialectdepotModel", name := "ruledStreet", desc := "(I)I" } : Jvm.MethodName) prog_23_method_70_code (2 : Nat) (Option.some Jvm.ClassFile.FieldType.int)) ∈ lw_all := lw_g (lw_at lw_m10 155 rfl) rfl
theorem q2382 : (Jvm.Cond.instanceMethod ({ cls := "DialectdepotModel", name := "evidence", desc := "(II)I" } : Jvm.MethodName)) ∈ lw_all := lw_g (lw_at lw_m10 157 rfl) rfl
theorem q2383 : (Jvm.Cond.selects "DialectdepotModel" ({ cls := "DialectdepotModel", name := "evidence", desc := "(II)I" } : Jvm.MethodName) ({ cls := "DialectdepotModel", name := "evidence", desc := "(II)I" } : Jvm.MethodName)) ∈ lw_all := lw_g (lw_at lw_m10 158 rfl) rfl
theorem q2384 : (Jvm.Cond.code ({ cls := "DialectdepotModel", name := "evidence", desc := "(II)I" } : Jvm.MethodName) prog_23_method_72_code (3 : Nat) (Option.some Jvm.ClassFile.FieldType.int)) ∈ lw_all := lw_g (lw_at lw_m10 159 rfl) rfl
theorem q2386 : (Jvm.Cond.instanceMethod ({ cls := "DialectdepotModel", name := "appeal", desc := "(II)Z" } : Jvm.MethodName)) ∈ lw_all := lw_g (lw_at lw_m10 161 rfl) rfl
theorem q2387 : (Jvm.Cond.selects "DialectdepotModel" ({ cls := "DialectdepotModel", name := "appeal", desc := "(II)Z" } : Jvm.MethodName) ({ cls := "DialectdepotModel", name := "appeal", desc := "(II)Z" } : Jvm.MethodName)) ∈ lw_all := lw_g (lw_at lw_m10 162 rfl) rfl
theorem q2388 : (Jvm.Cond.code ({ cls := "DialectdepotModel", name := "appeal", desc := "(II)Z" } : Jvm.MethodName) prog_23_method_75_code (3 : Nat) (Option.some Jvm.ClassFile.FieldType.boolean)) ∈ lw_all := lw_g (lw_at lw_m10 163 rfl) rfl
theorem q2389 : (Jvm.Cond.methodLink "DialectdepotModel" (307 : Nat) ({ cls := "DialectdepotModel", name := "otherStreet", desc := "(II)I" } : Jvm.MethodName)) ∈ lw_all := lw_g (lw_at lw_m10 164 rfl) rfl
theorem q2390 : (Jvm.Cond.privateMethod ({ cls := "DialectdepotModel", name := "otherStreet", desc := "(II)I" } : Jvm.MethodName)) ∈ lw_tbl := lw_at lw_m10 165 rfl
theorem q2391 : (Jvm.Cond.instanceMethod ({ cls := "DialectdepotModel", name := "otherStreet", desc := "(II)I" } : Jvm.MethodName)) ∈ lw_all := lw_g (lw_at lw_m10 166 rfl) rfl
theorem q2392 : (Jvm.Cond.code ({ cls := "DialectdepotModel", name := "otherStreet", desc := "(II)I" } : Jvm.MethodName) prog_23_method_74_code (4 : Nat) (Option.some Jvm.ClassFile.FieldType.int)) ∈ lw_all := lw_g (lw_at lw_m10 167 rfl) rfl
theorem q2394 : (Jvm.Cond.instanceMethod ({ cls := "DialectdepotModel", name := "givenUp", desc := "()I" } : Jvm.MethodName)) ∈ lw_all := lw_g (lw_at lw_m10 169 rfl) rfl
theorem q2395 : (Jvm.Cond.selects "DialectdepotModel" ({ cls := "DialectdepotModel", name := "givenUp", desc := "()I" } : Jvm.MethodName) ({ cls := "DialectdepotModel", name := "givenUp", desc := "()I" } : Jvm.MethodName)) ∈ lw_all := lw_g (lw_at lw_m10 170 rfl) rfl
theorem q2396 : (Jvm.Cond.code ({ cls := "DialectdepotModel", name := "givenUp", desc := "()I" } : Jvm.MethodName) prog_23_method_76_code (1 : Nat) (Option.some Jvm.ClassFile.FieldType.int)) ∈ lw_all := lw_g (lw_at lw_m10 171 rfl) rfl
theorem q2398 : (Jvm.Cond.instanceMethod ({ cls := "DialectdepotModel", name := "givenUpThoughKnown", desc := "()I" } : Jvm.MethodName)) ∈ lw_all := lw_g (lw_at lw_m10 173 rfl) rfl
theorem q2399 : (Jvm.Cond.selects "DialectdepotModel" ({ cls := "DialectdepotModel", name := "givenUpThoughKnown", desc := "()I" } : Jvm.MethodName) ({ cls := "DialectdepotModel", name := "givenUpThoughKnown", desc := "()I" } : Jvm.MethodName)) ∈ lw_all := lw_g (lw_at lw_m10 174 rfl) rfl
theorem q2400 : (Jvm.Cond.code ({ cls := "DialectdepotModel", name := "givenUpThoughKnown", desc := "()I" } : Jvm.MethodName) prog_23_method_77_code (1 : Nat) (Option.some Jvm.ClassFile.FieldType.int)) ∈ lw_all := lw_g (lw_at lw_m10 175 rfl) rfl
theorem q2402 : (Jvm.Cond.instanceMethod ({ cls := "DialectdepotModel", name := "errors", desc := "()I" } : Jvm.MethodName)) ∈ lw_all := lw_g (lw_at lw_m10 177 rfl) rfl
theorem q2403 : (Jvm.Cond.selects "DialectdepotModel" ({ cls := "DialectdepotModel", name := "errors", desc := "()I" } : Jvm.MethodName) ({ cls := "DialectdepotModel", name := "errors", desc := "()I" } : Jvm.MethodName)) ∈ lw_all := lw_g (lw_at lw_m10 178 rfl) rfl
theorem q2404 : (Jvm.Cond.code ({ cls := "DialectdepotModel", name := "errors", desc := "()I" } : Jvm.MethodName) prog_23_method_78_code (1 : Nat) (Option.some Jvm.ClassFile.FieldType.int)) ∈ lw_all := lw_g (lw_at lw_m10 179 rfl) rfl
theorem q2406 : (Jvm.Cond.instanceMethod ({ cls := "DialectdepotModel", name := "meanAttempts", desc := "()D" } : Jvm.MethodName)) ∈ lw_all := lw_g (lw_at lw_m10 181 rfl) rfl
theorem q2407 : (Jvm.Cond.selects "DialectdepotModel" ({ cls := "DialectdepotModel", name := "meanAttempts", desc := "()D" } : Jvm.MethodName) ({ cls := "DialectdepotModel", name := "meanAttempts", desc := "()D" } : Jvm.MethodName)) ∈ lw_all := lw_g (lw_at lw_m10 182 rfl) rfl
theorem q2408 : (Jvm.Cond.code ({ cls := "DialectdepotModel", name := "meanAttempts", desc := "()D" } : Jvm.MethodName) prog_23_method_79_code (1 : Nat) (Option.some Jvm.ClassFile.FieldType.double)) ∈ lw_all := lw_g (lw_at lw_m10 183 rfl) rfl
theorem q2410 : (Jvm.Cond.instanceMethod ({ cls := "DialectdepotModel", name := "deliveredShare", desc := "()F" } : Jvm.MethodName)) ∈ lw_all := lw_g (lw_at lw_m10 185 rfl) rfl
theorem q2411 : (Jvm.Cond.selects "DialectdepotModel" ({ cls := "DialectdepotModel", name := "deliveredShare", desc := "()F" } : Jvm.MethodName) ({ cls := "DialectdepotModel", name := "deliveredShare", desc := "()F" } : Jvm.MethodName)) ∈ lw_all := lw_g (lw_at lw_m10 186 rfl) rfl
theorem q2412 : (Jvm.Cond.code ({ cls := "DialectdepotModel", name := "deliveredShare", desc := "()F" } : Jvm.MethodName) prog_23_method_80_code (1 : Nat) (Option.some Jvm.ClassFile.FieldType.float)) ∈ lw_all := lw_g (lw_at lw_m10 187 rfl) rfl
theorem q2445 : (Jvm.Cond.castable "DialectdepotModel" "java/lang/Object") ∈ lw_tbl := lw_at lw_m10 220 rfl
theorem in_X3 : ∀ w ∈ wsX30, w ∈ lw_all := lw_in wsX30 [1988, 1990, 1992, 1994, 1996, 1998, 2000, 2002, 2004, 2006, 2008, 2010, 2012, 2014, 2016, 2018, 2020, 2022, 2024, 2026, 2028, 2030, 2032, 2034, 2036, 2038, 2040, 2042, 2044, 2046, 2048, 2050, 2052, 2054, 2056, 2058, 2060, 2062, 2064, 2066, 2068, 2070, 2072, 2074, 2076, 2078, 2080, 2082, 2084, 2086, 2088, 2090, 2092, 2094, 2096, 2098, 2100] (by decide +kernel) (by decide +kernel)
