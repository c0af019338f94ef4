set_option maxRecDepth 100000
def RX1 : String := "WhistlePosts"
def TX1 : u_T := fun k => match k with
  | 0 => ("WhistlePosts", "buffer", "[B", true)
  | 1 => ("WhistlePosts", "buffered", "I", false)
  | 2 => ("WhistlePosts", "errorCode", "I", false)
  | 3 => ("WhistlePosts", "errorOffset", "I", false)
  | 4 => ("WhistlePosts", "now", "LWhistlePosts$World;", false)
  | 5 => ("WhistlePosts", "saved", "LWhistlePosts$World;", false)
  | 6 => ("WhistlePosts", "past", "Ljava/util/ArrayDeque;", true)
  | _ => ("WhistlePosts", "output", "Ljava/lang/StringBuilder;", true)
def tyX1 : Nat → FieldType := fun k => match k with
  | 0 => .array .byte
  | 1 => .int
  | 2 => .int
  | 3 => .int
  | 4 => .object "WhistlePosts$World"
  | 5 => .object "WhistlePosts$World"
  | 6 => .object "java/util/ArrayDeque"
  | _ => .object "java/lang/StringBuilder"
abbrev wsX10 : List Cond := u_ws RX1 TX1 8
theorem nmX1 : ∀ a, a < 8 → ∀ b, b < 8 → a ≠ b → (TX1 a).2.1 ≠ (TX1 b).2.1 := by decide +kernel
theorem tyX1_ok : ∀ k, k < 8 → parseFieldDescriptor (TX1 k).2.2.1 = some (tyX1 k) := by decide +kernel
abbrev cX1_init : ByteArray := prog_1_method_7_code
def yX1_init : MethodName := ⟨RX1, "<init>", "()V"⟩
def dkwX1_init_2 : List UInt8 := [181, 0, 49, 177]
abbrev dktX1_init_2 : List UInt8 := dkwX1_init_2 ++ []
def dkwX1_init_1 : List UInt8 := [181, 0, 33, 42, 187, 0, 37, 89, 16, 9, 183, 0, 39, 181, 0, 42, 42, 187, 0, 46, 89, 183, 0, 48]
abbrev dktX1_init_1 : List UInt8 := dkwX1_init_1 ++ dktX1_init_2
def dkwX1_init_0 : List UInt8 := [42, 183, 0, 16, 42, 17, 3, 32, 188, 8, 181, 0, 21, 42, 2, 181, 0, 25, 42, 184, 0, 29]
abbrev dktX1_init_0 : List UInt8 := dkwX1_init_0 ++ dktX1_init_1
theorem dksX1_init_0 : cX1_init.data.toList.drop 0 = dktX1_init_0 := by decide +kernel
theorem dksX1_init_1 : cX1_init.data.toList.drop 22 = dktX1_init_1 := dk_seg dksX1_init_0 22 rfl rfl
theorem dksX1_init_2 : cX1_init.data.toList.drop 46 = dktX1_init_2 := dk_seg dksX1_init_1 24 rfl rfl
theorem dX1_init_0 : decode cX1_init 0 = .ok (.aload_n 0, 1) := dk_42 (dk_at dksX1_init_0 0 rfl rfl)
theorem dX1_init_1 : decode cX1_init 1 = .ok (.invokespecial 16, 3) := dk_183 0 16 (dk_at dksX1_init_0 1 rfl rfl)
theorem dX1_init_4 : decode cX1_init 4 = .ok (.aload_n 0, 1) := dk_42 (dk_at dksX1_init_0 4 rfl rfl)
theorem dX1_init_5 : decode cX1_init 5 = .ok (.sipush 800, 3) := dk_17 3 32 (dk_at dksX1_init_0 5 rfl rfl)
theorem dX1_init_8 : decode cX1_init 8 = .ok (.newarray .byte, 2) := dk_188_8 (dk_at dksX1_init_0 8 rfl rfl)
theorem dX1_init_10 : decode cX1_init 10 = .ok (.putfield 21, 3) := dk_181 0 21 (dk_at dksX1_init_0 10 rfl rfl)
theorem dX1_init_13 : decode cX1_init 13 = .ok (.aload_n 0, 1) := dk_42 (dk_at dksX1_init_0 13 rfl rfl)
theorem dX1_init_14 : decode cX1_init 14 = .ok (.iconst (-1), 1) := dk_2 (dk_at dksX1_init_0 14 rfl rfl)
theorem dX1_init_15 : decode cX1_init 15 = .ok (.putfield 25, 3) := dk_181 0 25 (dk_at dksX1_init_0 15 rfl rfl)
theorem dX1_init_18 : decode cX1_init 18 = .ok (.aload_n 0, 1) := dk_42 (dk_at dksX1_init_0 18 rfl rfl)
theorem dX1_init_19 : decode cX1_init 19 = .ok (.invokestatic 29, 3) := dk_184 0 29 (dk_at dksX1_init_0 19 rfl rfl)
theorem dX1_init_22 : decode cX1_init 22 = .ok (.putfield 33, 3) := dk_181 0 33 (dk_at dksX1_init_1 0 rfl rfl)
theorem dX1_init_25 : decode cX1_init 25 = .ok (.aload_n 0, 1) := dk_42 (dk_at dksX1_init_1 3 rfl rfl)
theorem dX1_init_26 : decode cX1_init 26 = .ok (.new 37, 3) := dk_187 0 37 (dk_at dksX1_init_1 4 rfl rfl)
theorem dX1_init_29 : decode cX1_init 29 = .ok (.dup, 1) := dk_89 (dk_at dksX1_init_1 7 rfl rfl)
theorem dX1_init_30 : decode cX1_init 30 = .ok (.bipush 9, 2) := dk_16 9 (dk_at dksX1_init_1 8 rfl rfl)
theorem dX1_init_32 : decode cX1_init 32 = .ok (.invokespecial 39, 3) := dk_183 0 39 (dk_at dksX1_init_1 10 rfl rfl)
theorem dX1_init_35 : decode cX1_init 35 = .ok (.putfield 42, 3) := dk_181 0 42 (dk_at dksX1_init_1 13 rfl rfl)
theorem dX1_init_38 : decode cX1_init 38 = .ok (.aload_n 0, 1) := dk_42 (dk_at dksX1_init_1 16 rfl rfl)
theorem dX1_init_39 : decode cX1_init 39 = .ok (.new 46, 3) := dk_187 0 46 (dk_at dksX1_init_1 17 rfl rfl)
theorem dX1_init_42 : decode cX1_init 42 = .ok (.dup, 1) := dk_89 (dk_at dksX1_init_1 20 rfl rfl)
theorem dX1_init_43 : decode cX1_init 43 = .ok (.invokespecial 48, 3) := dk_183 0 48 (dk_at dksX1_init_1 21 rfl rfl)
theorem dX1_init_46 : decode cX1_init 46 = .ok (.putfield 49, 3) := dk_181 0 49 (dk_at dksX1_init_2 0 rfl rfl)
theorem dX1_init_49 : decode cX1_init 49 = .ok (.return_, 1) := dk_177 (dk_at dksX1_init_2 3 rfl rfl)
abbrev cX1_plain : ByteArray := prog_1_method_8_code
def yX1_plain : MethodName := ⟨RX1, "plain", "()LWhistlePosts$World;"⟩
def dkwX1_plain_6 : List UInt8 := [187, 0, 77, 89, 5, 6, 6, 183, 0, 79, 182, 0, 82, 42, 176]
abbrev dktX1_plain_6 : List UInt8 := dkwX1_plain_6 ++ []
def dkwX1_plain_5 : List UInt8 := [42, 180, 0, 73, 187, 0, 77, 89, 3, 5, 16, 9, 183, 0, 79, 182, 0, 82, 42, 180, 0, 73]
abbrev dktX1_plain_5 : List UInt8 := dkwX1_plain_5 ++ dktX1_plain_6
def dkwX1_plain_4 : List UInt8 := [183, 0, 79, 182, 0, 82, 42, 180, 0, 73, 187, 0, 77, 89, 4, 5, 16, 6, 183, 0, 79, 182, 0, 82]
abbrev dktX1_plain_4 : List UInt8 := dkwX1_plain_4 ++ dktX1_plain_5
def dkwX1_plain_3 : List UInt8 := [16, 8, 4, 6, 16, 40, 183, 0, 60, 182, 0, 63, 42, 180, 0, 73, 187, 0, 77, 89, 3, 4, 7]
abbrev dktX1_plain_3 : List UInt8 := dkwX1_plain_3 ++ dktX1_plain_4
def dkwX1_plain_2 : List UInt8 := [187, 0, 56, 89, 18, 69, 6, 8, 3, 16, 9, 183, 0, 60, 182, 0, 63, 42, 187, 0, 56, 89, 18, 71]
abbrev dktX1_plain_2 : List UInt8 := dkwX1_plain_2 ++ dktX1_plain_3
def dkwX1_plain_1 : List UInt8 := [182, 0, 63, 42, 187, 0, 56, 89, 18, 67, 5, 3, 5, 16, 20, 183, 0, 60, 182, 0, 63, 42]
abbrev dktX1_plain_1 : List UInt8 := dkwX1_plain_1 ++ dktX1_plain_2
def dkwX1_plain_0 : List UInt8 := [187, 0, 53, 89, 183, 0, 55, 75, 42, 187, 0, 56, 89, 18, 58, 7, 5, 4, 16, 30, 183, 0, 60]
abbrev dktX1_plain_0 : List UInt8 := dkwX1_plain_0 ++ dktX1_plain_1
theorem dksX1_plain_0 : cX1_plain.data.toList.drop 0 = dktX1_plain_0 := by decide +kernel
theorem dksX1_plain_1 : cX1_plain.data.toList.drop 23 = dktX1_plain_1 := dk_seg dksX1_plain_0 23 rfl rfl
theorem dksX1_plain_2 : cX1_plain.data.toList.drop 45 = dktX1_plain_2 := dk_seg dksX1_plain_1 22 rfl rfl
theorem dksX1_plain_3 : cX1_plain.data.toList.drop 69 = dktX1_plain_3 := dk_seg dksX1_plain_2 24 rfl rfl
theorem dksX1_plain_4 : cX1_plain.data.toList.drop 92 = dktX1_plain_4 := dk_seg dksX1_plain_3 23 rfl rfl
theorem dksX1_plain_5 : cX1_plain.data.toList.drop 116 = dktX1_plain_5 := dk_seg dksX1_plain_4 24 rfl rfl
theorem dksX1_plain_6 : cX1_plain.data.toList.drop 138 = dktX1_plain_6 := dk_seg dksX1_plain_5 22 rfl rfl
theorem dX1_plain_0 : decode cX1_plain 0 = .ok (.new 53, 3) := dk_187 0 53 (dk_at dksX1_plain_0 0 rfl rfl)
theorem dX1_plain_3 : decode cX1_plain 3 = .ok (.dup, 1) := dk_89 (dk_at dksX1_plain_0 3 rfl rfl)
theorem dX1_plain_4 : decode cX1_plain 4 = .ok (.invokespecial 55, 3) := dk_183 0 55 (dk_at dksX1_plain_0 4 rfl rfl)
theorem dX1_plain_7 : decode cX1_plain 7 = .ok (.astore_n 0, 1) := dk_75 (dk_at dksX1_plain_0 7 rfl rfl)
theorem dX1_plain_8 : decode cX1_plain 8 = .ok (.aload_n 0, 1) := dk_42 (dk_at dksX1_plain_0 8 rfl rfl)
theorem dX1_plain_9 : decode cX1_plain 9 = .ok (.new 56, 3) := dk_187 0 56 (dk_at dksX1_plain_0 9 rfl rfl)
theorem dX1_plain_12 : decode cX1_plain 12 = .ok (.dup, 1) := dk_89 (dk_at dksX1_plain_0 12 rfl rfl)
theorem dX1_plain_13 : decode cX1_plain 13 = .ok (.ldc 58, 2) := dk_18 58 (dk_at dksX1_plain_0 13 rfl rfl)
theorem dX1_plain_15 : decode cX1_plain 15 = .ok (.iconst 4, 1) := dk_7 (dk_at dksX1_plain_0 15 rfl rfl)
theorem dX1_plain_16 : decode cX1_plain 16 = .ok (.iconst 2, 1) := dk_5 (dk_at dksX1_plain_0 16 rfl rfl)
theorem dX1_plain_17 : decode cX1_plain 17 = .ok (.iconst 1, 1) := dk_4 (dk_at dksX1_plain_0 17 rfl rfl)
theorem dX1_plain_18 : decode cX1_plain 18 = .ok (.bipush 30, 2) := dk_16 30 (dk_at dksX1_plain_0 18 rfl rfl)
theorem dX1_plain_20 : decode cX1_plain 20 = .ok (.invokespecial 60, 3) := dk_183 0 60 (dk_at dksX1_plain_0 20 rfl rfl)
theorem dX1_plain_23 : decode cX1_plain 23 = .ok (.invokevirtual 63, 3) := dk_182 0 63 (dk_at dksX1_plain_1 0 rfl rfl)
theorem dX1_plain_26 : decode cX1_plain 26 = .ok (.aload_n 0, 1) := dk_42 (dk_at dksX1_plain_1 3 rfl rfl)
theorem dX1_plain_27 : decode cX1_plain 27 = .ok (.new 56, 3) := dk_187 0 56 (dk_at dksX1_plain_1 4 rfl rfl)
theorem dX1_plain_30 : decode cX1_plain 30 = .ok (.dup, 1) := dk_89 (dk_at dksX1_plain_1 7 rfl rfl)
theorem dX1_plain_31 : decode cX1_plain 31 = .ok (.ldc 67, 2) := dk_18 67 (dk_at dksX1_plain_1 8 rfl rfl)
theorem dX1_plain_33 : decode cX1_plain 33 = .ok (.iconst 2, 1) := dk_5 (dk_at dksX1_plain_1 10 rfl rfl)
theorem dX1_plain_34 : decode cX1_plain 34 = .ok (.iconst 0, 1) := dk_3 (dk_at dksX1_plain_1 11 rfl rfl)
theorem dX1_plain_35 : decode cX1_plain 35 = .ok (.iconst 2, 1) := dk_5 (dk_at dksX1_plain_1 12 rfl rfl)
theorem dX1_plain_36 : decode cX1_plain 36 = .ok (.bipush 20, 2) := dk_16 20 (dk_at dksX1_plain_1 13 rfl rfl)
theorem dX1_plain_38 : decode cX1_plain 38 = .ok (.invokespecial 60, 3) := dk_183 0 60 (dk_at dksX1_plain_1 15 rfl rfl)
theorem dX1_plain_41 : decode cX1_plain 41 = .ok (.invokevirtual 63, 3) := dk_182 0 63 (dk_at dksX1_plain_1 18 rfl rfl)
theorem dX1_plain_44 : decode cX1_plain 44 = .ok (.aload_n 0, 1) := dk_42 (dk_at dksX1_plain_1 21 rfl rfl)
theorem dX1_plain_45 : decode cX1_plain 45 = .ok (.new 56, 3) := dk_187 0 56 (dk_at dksX1_plain_2 0 rfl rfl)
theorem dX1_plain_48 : decode cX1_plain 48 = .ok (.dup, 1) := dk_89 (dk_at dksX1_plain_2 3 rfl rfl)
theorem dX1_plain_49 : decode cX1_plain 49 = .ok (.ldc 69, 2) := dk_18 69 (dk_at dksX1_plain_2 4 rfl rfl)
theorem dX1_plain_51 : decode cX1_plain 51 = .ok (.iconst 3, 1) := dk_6 (dk_at dksX1_plain_2 6 rfl rfl)
theorem dX1_plain_52 : decode cX1_plain 52 = .ok (.iconst 5, 1) := dk_8 (dk_at dksX1_plain_2 7 rfl rfl)
theorem dX1_plain_53 : decode cX1_plain 53 = .ok (.iconst 0, 1) := dk_3 (dk_at dksX1_plain_2 8 rfl rfl)
theorem dX1_plain_54 : decode cX1_plain 54 = .ok (.bipush 9, 2) := dk_16 9 (dk_at dksX1_plain_2 9 rfl rfl)
theorem dX1_plain_56 : decode cX1_plain 56 = .ok (.invokespecial 60, 3) := dk_183 0 60 (dk_at dksX1_plain_2 11 rfl rfl)
theorem dX1_plain_59 : decode cX1_plain 59 = .ok (.invokevirtual 63, 3) := dk_182 0 63 (dk_at dksX1_plain_2 14 rfl rfl)
theorem dX1_plain_62 : decode cX1_plain 62 = .ok (.aload_n 0, 1) := dk_42 (dk_at dksX1_plain_2 17 rfl rfl)
theorem dX1_plain_63 : decode cX1_plain 63 = .ok (.new 56, 3) := dk_187 0 56 (dk_at dksX1_plain_2 18 rfl rfl)
theorem dX1_plain_66 : decode cX1_plain 66 = .ok (.dup, 1) := dk_89 (dk_at dksX1_plain_2 21 rfl rfl)
theorem dX1_plain_67 : decode cX1_plain 67 = .ok (.ldc 71, 2) := dk_18 71 (dk_at dksX1_plain_2 22 rfl rfl)
theorem dX1_plain_69 : decode cX1_plain 69 = .ok (.bipush 8, 2) := dk_16 8 (dk_at dksX1_plain_3 0 rfl rfl)
theorem dX1_plain_71 : decode cX1_plain 71 = .ok (.iconst 1, 1) := dk_4 (dk_at dksX1_plain_3 2 rfl rfl)
theorem dX1_plain_72 : decode cX1_plain 72 = .ok (.iconst 3, 1) := dk_6 (dk_at dksX1_plain_3 3 rfl rfl)
theorem dX1_plain_73 : decode cX1_plain 73 = .ok (.bipush 40, 2) := dk_16 40 (dk_at dksX1_plain_3 4 rfl rfl)
theorem dX1_plain_75 : decode cX1_plain 75 = .ok (.invokespecial 60, 3) := dk_183 0 60 (dk_at dksX1_plain_3 6 rfl rfl)
theorem dX1_plain_78 : decode cX1_plain 78 = .ok (.invokevirtual 63, 3) := dk_182 0 63 (dk_at dksX1_plain_3 9 rfl rfl)
theorem dX1_plain_81 : decode cX1_plain 81 = .ok (.aload_n 0, 1) := dk_42 (dk_at dksX1_plain_3 12 rfl rfl)
theorem dX1_plain_82 : decode cX1_plain 82 = .ok (.getfield 73, 3) := dk_180 0 73 (dk_at dksX1_plain_3 13 rfl rfl)
theorem dX1_plain_85 : decode cX1_plain 85 = .ok (.new 77, 3) := dk_187 0 77 (dk_at dksX1_plain_3 16 rfl rfl)
theorem dX1_plain_88 : decode cX1_plain 88 = .ok (.dup, 1) := dk_89 (dk_at dksX1_plain_3 19 rfl rfl)
theorem dX1_plain_89 : decode cX1_plain 89 = .ok (.iconst 0, 1) := dk_3 (dk_at dksX1_plain_3 20 rfl rfl)
theorem dX1_plain_90 : decode cX1_plain 90 = .ok (.iconst 1, 1) := dk_4 (dk_at dksX1_plain_3 21 rfl rfl)
theorem dX1_plain_91 : decode cX1_plain 91 = .ok (.iconst 4, 1) := dk_7 (dk_at dksX1_plain_3 22 rfl rfl)
theorem dX1_plain_92 : decode cX1_plain 92 = .ok (.invokespecial 79, 3) := dk_183 0 79 (dk_at dksX1_plain_4 0 rfl rfl)
theorem dX1_plain_95 : decode cX1_plain 95 = .ok (.invokevirtual 82, 3) := dk_182 0 82 (dk_at dksX1_plain_4 3 rfl rfl)
theorem dX1_plain_98 : decode cX1_plain 98 = .ok (.aload_n 0, 1) := dk_42 (dk_at dksX1_plain_4 6 rfl rfl)
theorem dX1_plain_99 : decode cX1_plain 99 = .ok (.getfield 73, 3) := dk_180 0 73 (dk_at dksX1_plain_4 7 rfl rfl)
theorem dX1_plain_102 : decode cX1_plain 102 = .ok (.new 77, 3) := dk_187 0 77 (dk_at dksX1_plain_4 10 rfl rfl)
theorem dX1_plain_105 : decode cX1_plain 105 = .ok (.dup, 1) := dk_89 (dk_at dksX1_plain_4 13 rfl rfl)
theorem dX1_plain_106 : decode cX1_plain 106 = .ok (.iconst 1, 1) := dk_4 (dk_at dksX1_plain_4 14 rfl rfl)
theorem dX1_plain_107 : decode cX1_plain 107 = .ok (.iconst 2, 1) := dk_5 (dk_at dksX1_plain_4 15 rfl rfl)
theorem dX1_plain_108 : decode cX1_plain 108 = .ok (.bipush 6, 2) := dk_16 6 (dk_at dksX1_plain_4 16 rfl rfl)
theorem dX1_plain_110 : decode cX1_plain 110 = .ok (.invokespecial 79, 3) := dk_183 0 79 (dk_at dksX1_plain_4 18 rfl rfl)
theorem dX1_plain_113 : decode cX1_plain 113 = .ok (.invokevirtual 82, 3) := dk_182 0 82 (dk_at dksX1_plain_4 21 rfl rfl)
theorem dX1_plain_116 : decode cX1_plain 116 = .ok (.aload_n 0, 1) := dk_42 (dk_at dksX1_plain_5 0 rfl rfl)
theorem dX1_plain_117 : decode cX1_plain 117 = .ok (.getfield 73, 3) := dk_180 0 73 (dk_at dksX1_plain_5 1 rfl rfl)
theorem dX1_plain_120 : decode cX1_plain 120 = .ok (.new 77, 3) := dk_187 0 77 (dk_at dksX1_plain_5 4 rfl rfl)
theorem dX1_plain_123 : decode cX1_plain 123 = .ok (.dup, 1) := dk_89 (dk_at dksX1_plain_5 7 rfl rfl)
theorem dX1_plain_124 : decode cX1_plain 124 = .ok (.iconst 0, 1) := dk_3 (dk_at dksX1_plain_5 8 rfl rfl)
theorem dX1_plain_125 : decode cX1_plain 125 = .ok (.iconst 2, 1) := dk_5 (dk_at dksX1_plain_5 9 rfl rfl)
theorem dX1_plain_126 : decode cX1_plain 126 = .ok (.bipush 9, 2) := dk_16 9 (dk_at dksX1_plain_5 10 rfl rfl)
theorem dX1_plain_128 : decode cX1_plain 128 = .ok (.invokespecial 79, 3) := dk_183 0 79 (dk_at dksX1_plain_5 12 rfl rfl)
theorem dX1_plain_131 : decode cX1_plain 131 = .ok (.invokevirtual 82, 3) := dk_182 0 82 (dk_at dksX1_plain_5 15 rfl rfl)
theorem dX1_plain_134 : decode cX1_plain 134 = .ok (.aload_n 0, 1) := dk_42 (dk_at dksX1_plain_5 18 rfl rfl)
theorem dX1_plain_135 : decode cX1_plain 135 = .ok (.getfield 73, 3) := dk_180 0 73 (dk_at dksX1_plain_5 19 rfl rfl)
theorem dX1_plain_138 : decode cX1_plain 138 = .ok (.new 77, 3) := dk_187 0 77 (dk_at dksX1_plain_6 0 rfl rfl)
theorem dX1_plain_141 : decode cX1_plain 141 = .ok (.dup, 1) := dk_89 (dk_at dksX1_plain_6 3 rfl rfl)
theorem dX1_plain_142 : decode cX1_plain 142 = .ok (.iconst 2, 1) := dk_5 (dk_at dksX1_plain_6 4 rfl rfl)
theorem dX1_plain_143 : decode cX1_plain 143 = .ok (.iconst 3, 1) := dk_6 (dk_at dksX1_plain_6 5 rfl rfl)
theorem dX1_plain_144 : decode cX1_plain 144 = .ok (.iconst 3, 1) := dk_6 (dk_at dksX1_plain_6 6 rfl rfl)
theorem dX1_plain_145 : decode cX1_plain 145 = .ok (.invokespecial 79, 3) := dk_183 0 79 (dk_at dksX1_plain_6 7 rfl rfl)
theorem dX1_plain_148 : decode cX1_plain 148 = .ok (.invokevirtual 82, 3) := dk_182 0 82 (dk_at dksX1_plain_6 10 rfl rfl)
theorem dX1_plain_151 : decode cX1_plain 151 = .ok (.aload_n 0, 1) := dk_42 (dk_at dksX1_plain_6 13 rfl rfl)
theorem dX1_plain_152 : decode cX1_plain 152 = .ok (.areturn, 1) := dk_176 (dk_at dksX1_plain_6 14 rfl rfl)
abbrev cX1_appendInput : ByteArray := prog_1_method_10_code
def yX1_appendInput : MethodName := ⟨RX1, "appendInput", "(IIIII)I"⟩
def dkwX1_appendInput_2 : List UInt8 := [172]
abbrev dktX1_appendInput_2 : List UInt8 := dkwX1_appendInput_2 ++ []
def dkwX1_appendInput_1 : List UInt8 := [182, 0, 91, 42, 29, 182, 0, 91, 42, 21, 4, 182, 0, 91, 42, 21, 5, 182, 0, 91, 42, 180, 0, 88]
abbrev dktX1_appendInput_1 : List UInt8 := dkwX1_appendInput_1 ++ dktX1_appendInput_2
def dkwX1_appendInput_0 : List UInt8 := [42, 180, 0, 88, 16, 20, 96, 17, 3, 32, 164, 0, 5, 2, 172, 42, 27, 182, 0, 91, 42, 28]
abbrev dktX1_appendInput_0 : List UInt8 := dkwX1_appendInput_0 ++ dktX1_appendInput_1
theorem dksX1_appendInput_0 : cX1_appendInput.data.toList.drop 0 = dktX1_appendInput_0 := by decide +kernel
theorem dksX1_appendInput_1 : cX1_appendInput.data.toList.drop 22 = dktX1_appendInput_1 := dk_seg dksX1_appendInput_0 22 rfl rfl
theorem dksX1_appendInput_2 : cX1_appendInput.data.toList.drop 46 = dktX1_appendInput_2 := dk_seg dksX1_appendInput_1 24 rfl rfl
theorem dX1_appendInput_0 : decode cX1_appendInput 0 = .ok (.aload_n 0, 1) := dk_42 (dk_at dksX1_appendInput_0 0 rfl rfl)
theorem dX1_appendInput_1 : decode cX1_appendInput 1 = .ok (.getfield 88, 3) := dk_180 0 88 (dk_at dksX1_appendInput_0 1 rfl rfl)
theorem dX1_appendInput_4 : decode cX1_appendInput 4 = .ok (.bipush 20, 2) := dk_16 20 (dk_at dksX1_appendInput_0 4 rfl rfl)
theorem dX1_appendInput_6 : decode cX1_appendInput 6 = .ok (.iadd, 1) := dk_96 (dk_at dksX1_appendInput_0 6 rfl rfl)
theorem dX1_appendInput_7 : decode cX1_appendInput 7 = .ok (.sipush 800, 3) := dk_17 3 32 (dk_at dksX1_appendInput_0 7 rfl rfl)
theorem dX1_appendInput_10 : decode cX1_appendInput 10 = .ok (.if_icmp .le 5, 3) := dk_164 0 5 (dk_at dksX1_appendInput_0 10 rfl rfl)
theorem dX1_appendInput_13 : decode cX1_appendInput 13 = .ok (.iconst (-1), 1) := dk_2 (dk_at dksX1_appendInput_0 13 rfl rfl)
theorem dX1_appendInput_14 : decode cX1_appendInput 14 = .ok (.ireturn, 1) := dk_172 (dk_at dksX1_appendInput_0 14 rfl rfl)
theorem dX1_appendInput_15 : decode cX1_appendInput 15 = .ok (.aload_n 0, 1) := dk_42 (dk_at dksX1_appendInput_0 15 rfl rfl)
theorem dX1_appendInput_16 : decode cX1_appendInput 16 = .ok (.iload_n 1, 1) := dk_27 (dk_at dksX1_appendInput_0 16 rfl rfl)
theorem dX1_appendInput_17 : decode cX1_appendInput 17 = .ok (.invokevirtual 91, 3) := dk_182 0 91 (dk_at dksX1_appendInput_0 17 rfl rfl)
theorem dX1_appendInput_20 : decode cX1_appendInput 20 = .ok (.aload_n 0, 1) := dk_42 (dk_at dksX1_appendInput_0 20 rfl rfl)
theorem dX1_appendInput_21 : decode cX1_appendInput 21 = .ok (.iload_n 2, 1) := dk_28 (dk_at dksX1_appendInput_0 21 rfl rfl)
theorem dX1_appendInput_22 : decode cX1_appendInput 22 = .ok (.invokevirtual 91, 3) := dk_182 0 91 (dk_at dksX1_appendInput_1 0 rfl rfl)
theorem dX1_appendInput_25 : decode cX1_appendInput 25 = .ok (.aload_n 0, 1) := dk_42 (dk_at dksX1_appendInput_1 3 rfl rfl)
theorem dX1_appendInput_26 : decode cX1_appendInput 26 = .ok (.iload_n 3, 1) := dk_29 (dk_at dksX1_appendInput_1 4 rfl rfl)
theorem dX1_appendInput_27 : decode cX1_appendInput 27 = .ok (.invokevirtual 91, 3) := dk_182 0 91 (dk_at dksX1_appendInput_1 5 rfl rfl)
theorem dX1_appendInput_30 : decode cX1_appendInput 30 = .ok (.aload_n 0, 1) := dk_42 (dk_at dksX1_appendInput_1 8 rfl rfl)
theorem dX1_appendInput_31 : decode cX1_appendInput 31 = .ok (.iload 4, 2) := dk_21 4 (dk_at dksX1_appendInput_1 9 rfl rfl)
theorem dX1_appendInput_33 : decode cX1_appendInput 33 = .ok (.invokevirtual 91, 3) := dk_182 0 91 (dk_at dksX1_appendInput_1 11 rfl rfl)
theorem dX1_appendInput_36 : decode cX1_appendInput 36 = .ok (.aload_n 0, 1) := dk_42 (dk_at dksX1_appendInput_1 14 rfl rfl)
theorem dX1_appendInput_37 : decode cX1_appendInput 37 = .ok (.iload 5, 2) := dk_21 5 (dk_at dksX1_appendInput_1 15 rfl rfl)
theorem dX1_appendInput_39 : decode cX1_appendInput 39 = .ok (.invokevirtual 91, 3) := dk_182 0 91 (dk_at dksX1_appendInput_1 17 rfl rfl)
theorem dX1_appendInput_42 : decode cX1_appendInput 42 = .ok (.aload_n 0, 1) := dk_42 (dk_at dksX1_appendInput_1 20 rfl rfl)
theorem dX1_appendInput_43 : decode cX1_appendInput 43 = .ok (.getfield 88, 3) := dk_180 0 88 (dk_at dksX1_appendInput_1 21 rfl rfl)
theorem dX1_appendInput_46 : decode cX1_appendInput 46 = .ok (.ireturn, 1) := dk_172 (dk_at dksX1_appendInput_2 0 rfl rfl)
abbrev cX1_puts : ByteArray := prog_1_method_9_code
def yX1_puts : MethodName := ⟨RX1, "puts", "(I)V"⟩
def dkwX1_puts_1 : List UInt8 := [180, 0, 88, 4, 96, 181, 0, 88, 132, 2, 248, 167, 255, 226, 177]
abbrev dktX1_puts_1 : List UInt8 := dkwX1_puts_1 ++ []
def dkwX1_puts_0 : List UInt8 := [16, 24, 61, 28, 155, 0, 32, 42, 180, 0, 21, 42, 180, 0, 88, 27, 28, 122, 145, 84, 42, 89]
abbrev dktX1_puts_0 : List UInt8 := dkwX1_puts_0 ++ dktX1_puts_1
theorem dksX1_puts_0 : cX1_puts.data.toList.drop 0 = dktX1_puts_0 := by decide +kernel
theorem dksX1_puts_1 : cX1_puts.data.toList.drop 22 = dktX1_puts_1 := dk_seg dksX1_puts_0 22 rfl rfl
theorem dX1_puts_0 : decode cX1_puts 0 = .ok (.bipush 24, 2) := dk_16 24 (dk_at dksX1_puts_0 0 rfl rfl)
theorem dX1_puts_2 : decode cX1_puts 2 = .ok (.istore_n 2, 1) := dk_61 (dk_at dksX1_puts_0 2 rfl rfl)
theorem dX1_puts_3 : decode cX1_puts 3 = .ok (.iload_n 2, 1) := dk_28 (dk_at dksX1_puts_0 3 rfl rfl)
theorem dX1_puts_4 : decode cX1_puts 4 = .ok (.ifCond .lt 32, 3) := dk_155 0 32 (dk_at dksX1_puts_0 4 rfl rfl)
theorem dX1_puts_7 : decode cX1_puts 7 = .ok (.aload_n 0, 1) := dk_42 (dk_at dksX1_puts_0 7 rfl rfl)
theorem dX1_puts_8 : decode cX1_puts 8 = .ok (.getfield 21, 3) := dk_180 0 21 (dk_at dksX1_puts_0 8 rfl rfl)
theorem dX1_puts_11 : decode cX1_puts 11 = .ok (.aload_n 0, 1) := dk_42 (dk_at dksX1_puts_0 11 rfl rfl)
theorem dX1_puts_12 : decode cX1_puts 12 = .ok (.getfield 88, 3) := dk_180 0 88 (dk_at dksX1_puts_0 12 rfl rfl)
theorem dX1_puts_15 : decode cX1_puts 15 = .ok (.iload_n 1, 1) := dk_27 (dk_at dksX1_puts_0 15 rfl rfl)
theorem dX1_puts_16 : decode cX1_puts 16 = .ok (.iload_n 2, 1) := dk_28 (dk_at dksX1_puts_0 16 rfl rfl)
theorem dX1_puts_17 : decode cX1_puts 17 = .ok (.ishr, 1) := dk_122 (dk_at dksX1_puts_0 17 rfl rfl)
theorem dX1_puts_18 : decode cX1_puts 18 = .ok (.i2b, 1) := dk_145 (dk_at dksX1_puts_0 18 rfl rfl)
theorem dX1_puts_19 : decode cX1_puts 19 = .ok (.bastore, 1) := dk_84 (dk_at dksX1_puts_0 19 rfl rfl)
theorem dX1_puts_20 : decode cX1_puts 20 = .ok (.aload_n 0, 1) := dk_42 (dk_at dksX1_puts_0 20 rfl rfl)
theorem dX1_puts_21 : decode cX1_puts 21 = .ok (.dup, 1) := dk_89 (dk_at dksX1_puts_0 21 rfl rfl)
theorem dX1_puts_22 : decode cX1_puts 22 = .ok (.getfield 88, 3) := dk_180 0 88 (dk_at dksX1_puts_1 0 rfl rfl)
theorem dX1_puts_25 : decode cX1_puts 25 = .ok (.iconst 1, 1) := dk_4 (dk_at dksX1_puts_1 3 rfl rfl)
theorem dX1_puts_26 : decode cX1_puts 26 = .ok (.iadd, 1) := dk_96 (dk_at dksX1_puts_1 4 rfl rfl)
theorem dX1_puts_27 : decode cX1_puts 27 = .ok (.putfield 88, 3) := dk_181 0 88 (dk_at dksX1_puts_1 5 rfl rfl)
theorem dX1_puts_30 : decode cX1_puts 30 = .ok (.iinc 2 (-8), 3) := dk_132 2 248 (dk_at dksX1_puts_1 8 rfl rfl)
theorem dX1_puts_33 : decode cX1_puts 33 = .ok (.goto (-30), 3) := dk_167 255 226 (dk_at dksX1_puts_1 11 rfl rfl)
theorem dX1_puts_36 : decode cX1_puts 36 = .ok (.return_, 1) := dk_177 (dk_at dksX1_puts_1 14 rfl rfl)
abbrev cX1_truncateInput : ByteArray := prog_1_method_11_code
def yX1_truncateInput : MethodName := ⟨RX1, "truncateInput", "(I)Z"⟩
def dkwX1_truncateInput_0 : List UInt8 := [27, 133, 9, 42, 180, 0, 88, 133, 184, 0, 94, 154, 0, 5, 3, 172, 42, 27, 181, 0, 88, 4, 172]
abbrev dktX1_truncateInput_0 : List UInt8 := dkwX1_truncateInput_0 ++ []
theorem dksX1_truncateInput_0 : cX1_truncateInput.data.toList.drop 0 = dktX1_truncateInput_0 := by decide +kernel
theorem dX1_truncateInput_0 : decode cX1_truncateInput 0 = .ok (.iload_n 1, 1) := dk_27 (dk_at dksX1_truncateInput_0 0 rfl rfl)
theorem dX1_truncateInput_1 : decode cX1_truncateInput 1 = .ok (.i2l, 1) := dk_133 (dk_at dksX1_truncateInput_0 1 rfl rfl)
theorem dX1_truncateInput_2 : decode cX1_truncateInput 2 = .ok (.lconst 0, 1) := dk_9 (dk_at dksX1_truncateInput_0 2 rfl rfl)
theorem dX1_truncateInput_3 : decode cX1_truncateInput 3 = .ok (.aload_n 0, 1) := dk_42 (dk_at dksX1_truncateInput_0 3 rfl rfl)
theorem dX1_truncateInput_4 : decode cX1_truncateInput 4 = .ok (.getfield 88, 3) := dk_180 0 88 (dk_at dksX1_truncateInput_0 4 rfl rfl)
theorem dX1_truncateInput_7 : decode cX1_truncateInput 7 = .ok (.i2l, 1) := dk_133 (dk_at dksX1_truncateInput_0 7 rfl rfl)
theorem dX1_truncateInput_8 : decode cX1_truncateInput 8 = .ok (.invokestatic 94, 3) := dk_184 0 94 (dk_at dksX1_truncateInput_0 8 rfl rfl)
theorem dX1_truncateInput_11 : decode cX1_truncateInput 11 = .ok (.ifCond .ne 5, 3) := dk_154 0 5 (dk_at dksX1_truncateInput_0 11 rfl rfl)
theorem dX1_truncateInput_14 : decode cX1_truncateInput 14 = .ok (.iconst 0, 1) := dk_3 (dk_at dksX1_truncateInput_0 14 rfl rfl)
theorem dX1_truncateInput_15 : decode cX1_truncateInput 15 = .ok (.ireturn, 1) := dk_172 (dk_at dksX1_truncateInput_0 15 rfl rfl)
theorem dX1_truncateInput_16 : decode cX1_truncateInput 16 = .ok (.aload_n 0, 1) := dk_42 (dk_at dksX1_truncateInput_0 16 rfl rfl)
theorem dX1_truncateInput_17 : decode cX1_truncateInput 17 = .ok (.iload_n 1, 1) := dk_27 (dk_at dksX1_truncateInput_0 17 rfl rfl)
theorem dX1_truncateInput_18 : decode cX1_truncateInput 18 = .ok (.putfield 88, 3) := dk_181 0 88 (dk_at dksX1_truncateInput_0 18 rfl rfl)
theorem dX1_truncateInput_21 : decode cX1_truncateInput 21 = .ok (.iconst 1, 1) := dk_4 (dk_at dksX1_truncateInput_0 21 rfl rfl)
theorem dX1_truncateInput_22 : decode cX1_truncateInput 22 = .ok (.ireturn, 1) := dk_172 (dk_at dksX1_truncateInput_0 22 rfl rfl)
abbrev cX1_in : ByteArray := prog_1_method_1_code
def yX1_in : MethodName := ⟨RX1, "in", "(JJJ)Z"⟩
def dkwX1_in_0 : List UInt8 := [30, 32, 148, 155, 0, 14, 30, 22, 4, 148, 157, 0, 7, 4, 167, 0, 4, 3, 172]
abbrev dktX1_in_0 : List UInt8 := dkwX1_in_0 ++ []
theorem dksX1_in_0 : cX1_in.data.toList.drop 0 = dktX1_in_0 := by decide +kernel
theorem dX1_in_0 : decode cX1_in 0 = .ok (.lload_n 0, 1) := dk_30 (dk_at dksX1_in_0 0 rfl rfl)
theorem dX1_in_1 : decode cX1_in 1 = .ok (.lload_n 2, 1) := dk_32 (dk_at dksX1_in_0 1 rfl rfl)
theorem dX1_in_2 : decode cX1_in 2 = .ok (.lcmp, 1) := dk_148 (dk_at dksX1_in_0 2 rfl rfl)
theorem dX1_in_3 : decode cX1_in 3 = .ok (.ifCond .lt 14, 3) := dk_155 0 14 (dk_at dksX1_in_0 3 rfl rfl)
theorem dX1_in_6 : decode cX1_in 6 = .ok (.lload_n 0, 1) := dk_30 (dk_at dksX1_in_0 6 rfl rfl)
theorem dX1_in_7 : decode cX1_in 7 = .ok (.lload 4, 2) := dk_22 4 (dk_at dksX1_in_0 7 rfl rfl)
theorem dX1_in_9 : decode cX1_in 9 = .ok (.lcmp, 1) := dk_148 (dk_at dksX1_in_0 9 rfl rfl)
theorem dX1_in_10 : decode cX1_in 10 = .ok (.ifCond .gt 7, 3) := dk_157 0 7 (dk_at dksX1_in_0 10 rfl rfl)
theorem dX1_in_13 : decode cX1_in 13 = .ok (.iconst 1, 1) := dk_4 (dk_at dksX1_in_0 13 rfl rfl)
theorem dX1_in_14 : decode cX1_in 14 = .ok (.goto 4, 3) := dk_167 0 4 (dk_at dksX1_in_0 14 rfl rfl)
theorem dX1_in_17 : decode cX1_in 17 = .ok (.iconst 0, 1) := dk_3 (dk_at dksX1_in_0 17 rfl rfl)
theorem dX1_in_18 : decode cX1_in 18 = .ok (.ireturn, 1) := dk_172 (dk_at dksX1_in_0 18 rfl rfl)
abbrev cX1_loadPost : ByteArray := prog_1_method_14_code
def yX1_loadPost : MethodName := ⟨RX1, "loadPost", "()I"⟩
def dkwX1_loadPost_2 : List UInt8 := [181, 0, 127, 42, 180, 0, 33, 180, 0, 73, 182, 0, 130, 172]
abbrev dktX1_loadPost_2 : List UInt8 := dkwX1_loadPost_2 ++ []
def dkwX1_loadPost_1 : List UInt8 := [181, 0, 33, 167, 0, 10, 76, 42, 43, 182, 0, 120, 172, 42, 180, 0, 42, 182, 0, 124, 42, 1]
abbrev dktX1_loadPost_1 : List UInt8 := dkwX1_loadPost_1 ++ dktX1_loadPost_2
def dkwX1_loadPost_0 : List UInt8 := [42, 182, 0, 109, 42, 187, 0, 112, 89, 42, 187, 0, 53, 89, 183, 0, 55, 183, 0, 114, 182, 0, 117]
abbrev dktX1_loadPost_0 : List UInt8 := dkwX1_loadPost_0 ++ dktX1_loadPost_1
theorem dksX1_loadPost_0 : cX1_loadPost.data.toList.drop 0 = dktX1_loadPost_0 := by decide +kernel
theorem dksX1_loadPost_1 : cX1_loadPost.data.toList.drop 23 = dktX1_loadPost_1 := dk_seg dksX1_loadPost_0 23 rfl rfl
theorem dksX1_loadPost_2 : cX1_loadPost.data.toList.drop 45 = dktX1_loadPost_2 := dk_seg dksX1_loadPost_1 22 rfl rfl
theorem dX1_loadPost_0 : decode cX1_loadPost 0 = .ok (.aload_n 0, 1) := dk_42 (dk_at dksX1_loadPost_0 0 rfl rfl)
theorem dX1_loadPost_1 : decode cX1_loadPost 1 = .ok (.invokevirtual 109, 3) := dk_182 0 109 (dk_at dksX1_loadPost_0 1 rfl rfl)
theorem dX1_loadPost_4 : decode cX1_loadPost 4 = .ok (.aload_n 0, 1) := dk_42 (dk_at dksX1_loadPost_0 4 rfl rfl)
theorem dX1_loadPost_5 : decode cX1_loadPost 5 = .ok (.new 112, 3) := dk_187 0 112 (dk_at dksX1_loadPost_0 5 rfl rfl)
theorem dX1_loadPost_8 : decode cX1_loadPost 8 = .ok (.dup, 1) := dk_89 (dk_at dksX1_loadPost_0 8 rfl rfl)
theorem dX1_loadPost_9 : decode cX1_loadPost 9 = .ok (.aload_n 0, 1) := dk_42 (dk_at dksX1_loadPost_0 9 rfl rfl)
theorem dX1_loadPost_10 : decode cX1_loadPost 10 = .ok (.new 53, 3) := dk_187 0 53 (dk_at dksX1_loadPost_0 10 rfl rfl)
theorem dX1_loadPost_13 : decode cX1_loadPost 13 = .ok (.dup, 1) := dk_89 (dk_at dksX1_loadPost_0 13 rfl rfl)
theorem dX1_loadPost_14 : decode cX1_loadPost 14 = .ok (.invokespecial 55, 3) := dk_183 0 55 (dk_at dksX1_loadPost_0 14 rfl rfl)
theorem dX1_loadPost_17 : decode cX1_loadPost 17 = .ok (.invokespecial 114, 3) := dk_183 0 114 (dk_at dksX1_loadPost_0 17 rfl rfl)
theorem dX1_loadPost_20 : decode cX1_loadPost 20 = .ok (.invokevirtual 117, 3) := dk_182 0 117 (dk_at dksX1_loadPost_0 20 rfl rfl)
theorem dX1_loadPost_23 : decode cX1_loadPost 23 = .ok (.putfield 33, 3) := dk_181 0 33 (dk_at dksX1_loadPost_1 0 rfl rfl)
theorem dX1_loadPost_26 : decode cX1_loadPost 26 = .ok (.goto 10, 3) := dk_167 0 10 (dk_at dksX1_loadPost_1 3 rfl rfl)
theorem dX1_loadPost_29 : decode cX1_loadPost 29 = .ok (.astore_n 1, 1) := dk_76 (dk_at dksX1_loadPost_1 6 rfl rfl)
theorem dX1_loadPost_30 : decode cX1_loadPost 30 = .ok (.aload_n 0, 1) := dk_42 (dk_at dksX1_loadPost_1 7 rfl rfl)
theorem dX1_loadPost_31 : decode cX1_loadPost 31 = .ok (.aload_n 1, 1) := dk_43 (dk_at dksX1_loadPost_1 8 rfl rfl)
theorem dX1_loadPost_32 : decode cX1_loadPost 32 = .ok (.invokevirtual 120, 3) := dk_182 0 120 (dk_at dksX1_loadPost_1 9 rfl rfl)
theorem dX1_loadPost_35 : decode cX1_loadPost 35 = .ok (.ireturn, 1) := dk_172 (dk_at dksX1_loadPost_1 12 rfl rfl)
theorem dX1_loadPost_36 : decode cX1_loadPost 36 = .ok (.aload_n 0, 1) := dk_42 (dk_at dksX1_loadPost_1 13 rfl rfl)
theorem dX1_loadPost_37 : decode cX1_loadPost 37 = .ok (.getfield 42, 3) := dk_180 0 42 (dk_at dksX1_loadPost_1 14 rfl rfl)
theorem dX1_loadPost_40 : decode cX1_loadPost 40 = .ok (.invokevirtual 124, 3) := dk_182 0 124 (dk_at dksX1_loadPost_1 17 rfl rfl)
theorem dX1_loadPost_43 : decode cX1_loadPost 43 = .ok (.aload_n 0, 1) := dk_42 (dk_at dksX1_loadPost_1 20 rfl rfl)
theorem dX1_loadPost_44 : decode cX1_loadPost 44 = .ok (.aconst_null, 1) := dk_1 (dk_at dksX1_loadPost_1 21 rfl rfl)
theorem dX1_loadPost_45 : decode cX1_loadPost 45 = .ok (.putfield 127, 3) := dk_181 0 127 (dk_at dksX1_loadPost_2 0 rfl rfl)
theorem dX1_loadPost_48 : decode cX1_loadPost 48 = .ok (.aload_n 0, 1) := dk_42 (dk_at dksX1_loadPost_2 3 rfl rfl)
theorem dX1_loadPost_49 : decode cX1_loadPost 49 = .ok (.getfield 33, 3) := dk_180 0 33 (dk_at dksX1_loadPost_2 4 rfl rfl)
theorem dX1_loadPost_52 : decode cX1_loadPost 52 = .ok (.getfield 73, 3) := dk_180 0 73 (dk_at dksX1_loadPost_2 7 rfl rfl)
theorem dX1_loadPost_55 : decode cX1_loadPost 55 = .ok (.invokevirtual 130, 3) := dk_182 0 130 (dk_at dksX1_loadPost_2 10 rfl rfl)
theorem dX1_loadPost_58 : decode cX1_loadPost 58 = .ok (.ireturn, 1) := dk_172 (dk_at dksX1_loadPost_2 13 rfl rfl)
abbrev cX1_noError : ByteArray := prog_1_method_12_code
def yX1_noError : MethodName := ⟨RX1, "noError", "()V"⟩
def dkwX1_noError_0 : List UInt8 := [42, 3, 181, 0, 98, 42, 2, 181, 0, 25, 177]
abbrev dktX1_noError_0 : List UInt8 := dkwX1_noError_0 ++ []
theorem dksX1_noError_0 : cX1_noError.data.toList.drop 0 = dktX1_noError_0 := by decide +kernel
theorem dX1_noError_0 : decode cX1_noError 0 = .ok (.aload_n 0, 1) := dk_42 (dk_at dksX1_noError_0 0 rfl rfl)
theorem dX1_noError_1 : decode cX1_noError 1 = .ok (.iconst 0, 1) := dk_3 (dk_at dksX1_noError_0 1 rfl rfl)
theorem dX1_noError_2 : decode cX1_noError 2 = .ok (.putfield 98, 3) := dk_181 0 98 (dk_at dksX1_noError_0 2 rfl rfl)
theorem dX1_noError_5 : decode cX1_noError 5 = .ok (.aload_n 0, 1) := dk_42 (dk_at dksX1_noError_0 5 rfl rfl)
theorem dX1_noError_6 : decode cX1_noError 6 = .ok (.iconst (-1), 1) := dk_2 (dk_at dksX1_noError_0 6 rfl rfl)
theorem dX1_noError_7 : decode cX1_noError 7 = .ok (.putfield 25, 3) := dk_181 0 25 (dk_at dksX1_noError_0 7 rfl rfl)
theorem dX1_noError_10 : decode cX1_noError 10 = .ok (.return_, 1) := dk_177 (dk_at dksX1_noError_0 10 rfl rfl)
abbrev cX1_failed : ByteArray := prog_1_method_13_code
def yX1_failed : MethodName := ⟨RX1, "failed", "(LWhistlePosts$TextError;)I"⟩
def dkwX1_failed_0 : List UInt8 := [42, 43, 180, 0, 101, 181, 0, 98, 42, 43, 180, 0, 106, 181, 0, 25, 2, 172]
abbrev dktX1_failed_0 : List UInt8 := dkwX1_failed_0 ++ []
theorem dksX1_failed_0 : cX1_failed.data.toList.drop 0 = dktX1_failed_0 := by decide +kernel
theorem dX1_failed_0 : decode cX1_failed 0 = .ok (.aload_n 0, 1) := dk_42 (dk_at dksX1_failed_0 0 rfl rfl)
theorem dX1_failed_1 : decode cX1_failed 1 = .ok (.aload_n 1, 1) := dk_43 (dk_at dksX1_failed_0 1 rfl rfl)
theorem dX1_failed_2 : decode cX1_failed 2 = .ok (.getfield 101, 3) := dk_180 0 101 (dk_at dksX1_failed_0 2 rfl rfl)
theorem dX1_failed_5 : decode cX1_failed 5 = .ok (.putfield 98, 3) := dk_181 0 98 (dk_at dksX1_failed_0 5 rfl rfl)
theorem dX1_failed_8 : decode cX1_failed 8 = .ok (.aload_n 0, 1) := dk_42 (dk_at dksX1_failed_0 8 rfl rfl)
theorem dX1_failed_9 : decode cX1_failed 9 = .ok (.aload_n 1, 1) := dk_43 (dk_at dksX1_failed_0 9 rfl rfl)
theorem dX1_failed_10 : decode cX1_failed 10 = .ok (.getfield 106, 3) := dk_180 0 106 (dk_at dksX1_failed_0 10 rfl rfl)
theorem dX1_failed_13 : decode cX1_failed 13 = .ok (.putfield 25, 3) := dk_181 0 25 (dk_at dksX1_failed_0 13 rfl rfl)
theorem dX1_failed_16 : decode cX1_failed 16 = .ok (.iconst (-1), 1) := dk_2 (dk_at dksX1_failed_0 16 rfl rfl)
theorem dX1_failed_17 : decode cX1_failed 17 = .ok (.ireturn, 1) := dk_172 (dk_at dksX1_failed_0 17 rfl rfl)
abbrev cX1_playScript : ByteArray := prog_1_method_17_code
def yX1_playScript : MethodName := ⟨RX1, "playScript", "()I"⟩
def dkwX1_playScript_2 : List UInt8 := [184, 0, 157, 172]
abbrev dktX1_playScript_2 : List UInt8 := dkwX1_playScript_2 ++ []
def dkwX1_playScript_1 : List UInt8 := [42, 44, 182, 0, 120, 172, 42, 42, 180, 0, 33, 182, 0, 150, 182, 0, 153, 43, 42, 180, 0, 33]
abbrev dktX1_playScript_1 : List UInt8 := dkwX1_playScript_1 ++ dktX1_playScript_2
def dkwX1_playScript_0 : List UInt8 := [42, 182, 0, 109, 187, 0, 112, 89, 42, 42, 180, 0, 33, 183, 0, 114, 182, 0, 146, 76, 167, 0, 10, 77]
abbrev dktX1_playScript_0 : List UInt8 := dkwX1_playScript_0 ++ dktX1_playScript_1
theorem dksX1_playScript_0 : cX1_playScript.data.toList.drop 0 = dktX1_playScript_0 := by decide +kernel
theorem dksX1_playScript_1 : cX1_playScript.data.toList.drop 24 = dktX1_playScript_1 := dk_seg dksX1_playScript_0 24 rfl rfl
theorem dksX1_playScript_2 : cX1_playScript.data.toList.drop 46 = dktX1_playScript_2 := dk_seg dksX1_playScript_1 22 rfl rfl
theorem dX1_playScript_0 : decode cX1_playScript 0 = .ok (.aload_n 0, 1) := dk_42 (dk_at dksX1_playScript_0 0 rfl rfl)
theorem dX1_playScript_1 : decode cX1_playScript 1 = .ok (.invokevirtual 109, 3) := dk_182 0 109 (dk_at dksX1_playScript_0 1 rfl rfl)
theorem dX1_playScript_4 : decode cX1_playScript 4 = .ok (.new 112, 3) := dk_187 0 112 (dk_at dksX1_playScript_0 4 rfl rfl)
theorem dX1_playScript_7 : decode cX1_playScript 7 = .ok (.dup, 1) := dk_89 (dk_at dksX1_playScript_0 7 rfl rfl)
theorem dX1_playScript_8 : decode cX1_playScript 8 = .ok (.aload_n 0, 1) := dk_42 (dk_at dksX1_playScript_0 8 rfl rfl)
theorem dX1_playScript_9 : decode cX1_playScript 9 = .ok (.aload_n 0, 1) := dk_42 (dk_at dksX1_playScript_0 9 rfl rfl)
theorem dX1_playScript_10 : decode cX1_playScript 10 = .ok (.getfield 33, 3) := dk_180 0 33 (dk_at dksX1_playScript_0 10 rfl rfl)
theorem dX1_playScript_13 : decode cX1_playScript 13 = .ok (.invokespecial 114, 3) := dk_183 0 114 (dk_at dksX1_playScript_0 13 rfl rfl)
theorem dX1_playScript_16 : decode cX1_playScript 16 = .ok (.invokevirtual 146, 3) := dk_182 0 146 (dk_at dksX1_playScript_0 16 rfl rfl)
theorem dX1_playScript_19 : decode cX1_playScript 19 = .ok (.astore_n 1, 1) := dk_76 (dk_at dksX1_playScript_0 19 rfl rfl)
theorem dX1_playScript_20 : decode cX1_playScript 20 = .ok (.goto 10, 3) := dk_167 0 10 (dk_at dksX1_playScript_0 20 rfl rfl)
theorem dX1_playScript_23 : decode cX1_playScript 23 = .ok (.astore_n 2, 1) := dk_77 (dk_at dksX1_playScript_0 23 rfl rfl)
theorem dX1_playScript_24 : decode cX1_playScript 24 = .ok (.aload_n 0, 1) := dk_42 (dk_at dksX1_playScript_1 0 rfl rfl)
theorem dX1_playScript_25 : decode cX1_playScript 25 = .ok (.aload_n 2, 1) := dk_44 (dk_at dksX1_playScript_1 1 rfl rfl)
theorem dX1_playScript_26 : decode cX1_playScript 26 = .ok (.invokevirtual 120, 3) := dk_182 0 120 (dk_at dksX1_playScript_1 2 rfl rfl)
theorem dX1_playScript_29 : decode cX1_playScript 29 = .ok (.ireturn, 1) := dk_172 (dk_at dksX1_playScript_1 5 rfl rfl)
theorem dX1_playScript_30 : decode cX1_playScript 30 = .ok (.aload_n 0, 1) := dk_42 (dk_at dksX1_playScript_1 6 rfl rfl)
theorem dX1_playScript_31 : decode cX1_playScript 31 = .ok (.aload_n 0, 1) := dk_42 (dk_at dksX1_playScript_1 7 rfl rfl)
theorem dX1_playScript_32 : decode cX1_playScript 32 = .ok (.getfield 33, 3) := dk_180 0 33 (dk_at dksX1_playScript_1 8 rfl rfl)
theorem dX1_playScript_35 : decode cX1_playScript 35 = .ok (.invokevirtual 150, 3) := dk_182 0 150 (dk_at dksX1_playScript_1 11 rfl rfl)
theorem dX1_playScript_38 : decode cX1_playScript 38 = .ok (.invokevirtual 153, 3) := dk_182 0 153 (dk_at dksX1_playScript_1 14 rfl rfl)
theorem dX1_playScript_41 : decode cX1_playScript 41 = .ok (.aload_n 1, 1) := dk_43 (dk_at dksX1_playScript_1 17 rfl rfl)
theorem dX1_playScript_42 : decode cX1_playScript 42 = .ok (.aload_n 0, 1) := dk_42 (dk_at dksX1_playScript_1 18 rfl rfl)
theorem dX1_playScript_43 : decode cX1_playScript 43 = .ok (.getfield 33, 3) := dk_180 0 33 (dk_at dksX1_playScript_1 19 rfl rfl)
theorem dX1_playScript_46 : decode cX1_playScript 46 = .ok (.invokestatic 157, 3) := dk_184 0 157 (dk_at dksX1_playScript_2 0 rfl rfl)
theorem dX1_playScript_49 : decode cX1_playScript 49 = .ok (.ireturn, 1) := dk_172 (dk_at dksX1_playScript_2 3 rfl rfl)
abbrev cX1_needState : ByteArray := prog_1_method_5_code
def yX1_needState : MethodName := ⟨RX1, "needState", "(Z)V"⟩
def dkwX1_needState_0 : List UInt8 := [26, 154, 0, 11, 187, 0, 10, 89, 183, 0, 12, 191, 177]
abbrev dktX1_needState_0 : List UInt8 := dkwX1_needState_0 ++ []
theorem dksX1_needState_0 : cX1_needState.data.toList.drop 0 = dktX1_needState_0 := by decide +kernel
theorem dX1_needState_0 : decode cX1_needState 0 = .ok (.iload_n 0, 1) := dk_26 (dk_at dksX1_needState_0 0 rfl rfl)
theorem dX1_needState_1 : decode cX1_needState 1 = .ok (.ifCond .ne 11, 3) := dk_154 0 11 (dk_at dksX1_needState_0 1 rfl rfl)
theorem dX1_needState_4 : decode cX1_needState 4 = .ok (.new 10, 3) := dk_187 0 10 (dk_at dksX1_needState_0 4 rfl rfl)
theorem dX1_needState_7 : decode cX1_needState 7 = .ok (.dup, 1) := dk_89 (dk_at dksX1_needState_0 7 rfl rfl)
theorem dX1_needState_8 : decode cX1_needState 8 = .ok (.invokespecial 12, 3) := dk_183 0 12 (dk_at dksX1_needState_0 8 rfl rfl)
theorem dX1_needState_11 : decode cX1_needState 11 = .ok (.athrow, 1) := dk_191 (dk_at dksX1_needState_0 11 rfl rfl)
theorem dX1_needState_12 : decode cX1_needState 12 = .ok (.return_, 1) := dk_177 (dk_at dksX1_needState_0 12 rfl rfl)
abbrev cX1_one : ByteArray := prog_1_method_2_code
def yX1_one : MethodName := ⟨RX1, "one", "(Z)I"⟩
def dkwX1_one_0 : List UInt8 := [26, 153, 0, 7, 4, 167, 0, 4, 3, 172]
abbrev dktX1_one_0 : List UInt8 := dkwX1_one_0 ++ []
theorem dksX1_one_0 : cX1_one.data.toList.drop 0 = dktX1_one_0 := by decide +kernel
theorem dX1_one_0 : decode cX1_one 0 = .ok (.iload_n 0, 1) := dk_26 (dk_at dksX1_one_0 0 rfl rfl)
theorem dX1_one_1 : decode cX1_one 1 = .ok (.ifCond .eq 7, 3) := dk_153 0 7 (dk_at dksX1_one_0 1 rfl rfl)
theorem dX1_one_4 : decode cX1_one 4 = .ok (.iconst 1, 1) := dk_4 (dk_at dksX1_one_0 4 rfl rfl)
theorem dX1_one_5 : decode cX1_one 5 = .ok (.goto 4, 3) := dk_167 0 4 (dk_at dksX1_one_0 5 rfl rfl)
theorem dX1_one_8 : decode cX1_one 8 = .ok (.iconst 0, 1) := dk_3 (dk_at dksX1_one_0 8 rfl rfl)
theorem dX1_one_9 : decode cX1_one 9 = .ok (.ireturn, 1) := dk_172 (dk_at dksX1_one_0 9 rfl rfl)
abbrev cX1_keeps : ByteArray := prog_1_method_15_code
def yX1_keeps : MethodName := ⟨RX1, "keeps", "(LWhistlePosts$World;)V"⟩
def dkwX1_keeps_1 : List UInt8 := [180, 0, 42, 42, 180, 0, 33, 182, 0, 139, 42, 43, 181, 0, 33, 177]
abbrev dktX1_keeps_1 : List UInt8 := dkwX1_keeps_1 ++ []
def dkwX1_keeps_0 : List UInt8 := [42, 180, 0, 42, 182, 0, 134, 16, 8, 160, 0, 14, 42, 180, 0, 42, 182, 0, 135, 192, 0, 53, 77, 42]
abbrev dktX1_keeps_0 : List UInt8 := dkwX1_keeps_0 ++ dktX1_keeps_1
theorem dksX1_keeps_0 : cX1_keeps.data.toList.drop 0 = dktX1_keeps_0 := by decide +kernel
theorem dksX1_keeps_1 : cX1_keeps.data.toList.drop 24 = dktX1_keeps_1 := dk_seg dksX1_keeps_0 24 rfl rfl
theorem dX1_keeps_0 : decode cX1_keeps 0 = .ok (.aload_n 0, 1) := dk_42 (dk_at dksX1_keeps_0 0 rfl rfl)
theorem dX1_keeps_1 : decode cX1_keeps 1 = .ok (.getfield 42, 3) := dk_180 0 42 (dk_at dksX1_keeps_0 1 rfl rfl)
theorem dX1_keeps_4 : decode cX1_keeps 4 = .ok (.invokevirtual 134, 3) := dk_182 0 134 (dk_at dksX1_keeps_0 4 rfl rfl)
theorem dX1_keeps_7 : decode cX1_keeps 7 = .ok (.bipush 8, 2) := dk_16 8 (dk_at dksX1_keeps_0 7 rfl rfl)
theorem dX1_keeps_9 : decode cX1_keeps 9 = .ok (.if_icmp .ne 14, 3) := dk_160 0 14 (dk_at dksX1_keeps_0 9 rfl rfl)
theorem dX1_keeps_12 : decode cX1_keeps 12 = .ok (.aload_n 0, 1) := dk_42 (dk_at dksX1_keeps_0 12 rfl rfl)
theorem dX1_keeps_13 : decode cX1_keeps 13 = .ok (.getfield 42, 3) := dk_180 0 42 (dk_at dksX1_keeps_0 13 rfl rfl)
theorem dX1_keeps_16 : decode cX1_keeps 16 = .ok (.invokevirtual 135, 3) := dk_182 0 135 (dk_at dksX1_keeps_0 16 rfl rfl)
theorem dX1_keeps_19 : decode cX1_keeps 19 = .ok (.checkcast 53, 3) := dk_192 0 53 (dk_at dksX1_keeps_0 19 rfl rfl)
theorem dX1_keeps_22 : decode cX1_keeps 22 = .ok (.astore_n 2, 1) := dk_77 (dk_at dksX1_keeps_0 22 rfl rfl)
theorem dX1_keeps_23 : decode cX1_keeps 23 = .ok (.aload_n 0, 1) := dk_42 (dk_at dksX1_keeps_0 23 rfl rfl)
theorem dX1_keeps_24 : decode cX1_keeps 24 = .ok (.getfield 42, 3) := dk_180 0 42 (dk_at dksX1_keeps_1 0 rfl rfl)
theorem dX1_keeps_27 : decode cX1_keeps 27 = .ok (.aload_n 0, 1) := dk_42 (dk_at dksX1_keeps_1 3 rfl rfl)
theorem dX1_keeps_28 : decode cX1_keeps 28 = .ok (.getfield 33, 3) := dk_180 0 33 (dk_at dksX1_keeps_1 4 rfl rfl)
theorem dX1_keeps_31 : decode cX1_keeps 31 = .ok (.invokevirtual 139, 3) := dk_182 0 139 (dk_at dksX1_keeps_1 7 rfl rfl)
theorem dX1_keeps_34 : decode cX1_keeps 34 = .ok (.aload_n 0, 1) := dk_42 (dk_at dksX1_keeps_1 10 rfl rfl)
theorem dX1_keeps_35 : decode cX1_keeps 35 = .ok (.aload_n 1, 1) := dk_43 (dk_at dksX1_keeps_1 11 rfl rfl)
theorem dX1_keeps_36 : decode cX1_keeps 36 = .ok (.putfield 33, 3) := dk_181 0 33 (dk_at dksX1_keeps_1 12 rfl rfl)
theorem dX1_keeps_39 : decode cX1_keeps 39 = .ok (.return_, 1) := dk_177 (dk_at dksX1_keeps_1 15 rfl rfl)
abbrev cX1_doesAll : ByteArray := prog_1_method_16_code
def yX1_doesAll : MethodName := ⟨RX1, "doesAll", "([LWhistlePosts$Deed;LWhistlePosts$World;)I"⟩
def dkwX1_doesAll_1 : List UInt8 := [167, 0, 6, 78, 28, 172, 28, 172]
abbrev dktX1_doesAll_1 : List UInt8 := dkwX1_doesAll_1 ++ []
def dkwX1_doesAll_0 : List UInt8 := [3, 61, 42, 28, 50, 198, 0, 19, 42, 28, 50, 43, 185, 0, 140, 2, 0, 62, 132, 2, 1, 167, 255, 237]
abbrev dktX1_doesAll_0 : List UInt8 := dkwX1_doesAll_0 ++ dktX1_doesAll_1
theorem dksX1_doesAll_0 : cX1_doesAll.data.toList.drop 0 = dktX1_doesAll_0 := by decide +kernel
theorem dksX1_doesAll_1 : cX1_doesAll.data.toList.drop 24 = dktX1_doesAll_1 := dk_seg dksX1_doesAll_0 24 rfl rfl
theorem dX1_doesAll_0 : decode cX1_doesAll 0 = .ok (.iconst 0, 1) := dk_3 (dk_at dksX1_doesAll_0 0 rfl rfl)
theorem dX1_doesAll_1 : decode cX1_doesAll 1 = .ok (.istore_n 2, 1) := dk_61 (dk_at dksX1_doesAll_0 1 rfl rfl)
theorem dX1_doesAll_2 : decode cX1_doesAll 2 = .ok (.aload_n 0, 1) := dk_42 (dk_at dksX1_doesAll_0 2 rfl rfl)
theorem dX1_doesAll_3 : decode cX1_doesAll 3 = .ok (.iload_n 2, 1) := dk_28 (dk_at dksX1_doesAll_0 3 rfl rfl)
theorem dX1_doesAll_4 : decode cX1_doesAll 4 = .ok (.aaload, 1) := dk_50 (dk_at dksX1_doesAll_0 4 rfl rfl)
theorem dX1_doesAll_5 : decode cX1_doesAll 5 = .ok (.ifnull 19, 3) := dk_198 0 19 (dk_at dksX1_doesAll_0 5 rfl rfl)
theorem dX1_doesAll_8 : decode cX1_doesAll 8 = .ok (.aload_n 0, 1) := dk_42 (dk_at dksX1_doesAll_0 8 rfl rfl)
theorem dX1_doesAll_9 : decode cX1_doesAll 9 = .ok (.iload_n 2, 1) := dk_28 (dk_at dksX1_doesAll_0 9 rfl rfl)
theorem dX1_doesAll_10 : decode cX1_doesAll 10 = .ok (.aaload, 1) := dk_50 (dk_at dksX1_doesAll_0 10 rfl rfl)
theorem dX1_doesAll_11 : decode cX1_doesAll 11 = .ok (.aload_n 1, 1) := dk_43 (dk_at dksX1_doesAll_0 11 rfl rfl)
theorem dX1_doesAll_12 : decode cX1_doesAll 12 = .ok (.invokeinterface 140 2, 5) := by decide +kernel
theorem dX1_doesAll_17 : decode cX1_doesAll 17 = .ok (.istore_n 3, 1) := dk_62 (dk_at dksX1_doesAll_0 17 rfl rfl)
theorem dX1_doesAll_18 : decode cX1_doesAll 18 = .ok (.iinc 2 1, 3) := dk_132 2 1 (dk_at dksX1_doesAll_0 18 rfl rfl)
theorem dX1_doesAll_21 : decode cX1_doesAll 21 = .ok (.goto (-19), 3) := dk_167 255 237 (dk_at dksX1_doesAll_0 21 rfl rfl)
theorem dX1_doesAll_24 : decode cX1_doesAll 24 = .ok (.goto 6, 3) := dk_167 0 6 (dk_at dksX1_doesAll_1 0 rfl rfl)
theorem dX1_doesAll_27 : decode cX1_doesAll 27 = .ok (.astore_n 3, 1) := dk_78 (dk_at dksX1_doesAll_1 3 rfl rfl)
theorem dX1_doesAll_28 : decode cX1_doesAll 28 = .ok (.iload_n 2, 1) := dk_28 (dk_at dksX1_doesAll_1 4 rfl rfl)
theorem dX1_doesAll_29 : decode cX1_doesAll 29 = .ok (.ireturn, 1) := dk_172 (dk_at dksX1_doesAll_1 5 rfl rfl)
theorem dX1_doesAll_30 : decode cX1_doesAll 30 = .ok (.iload_n 2, 1) := dk_28 (dk_at dksX1_doesAll_1 6 rfl rfl)
theorem dX1_doesAll_31 : decode cX1_doesAll 31 = .ok (.ireturn, 1) := dk_172 (dk_at dksX1_doesAll_1 7 rfl rfl)
abbrev cX1_errorCode : ByteArray := prog_1_method_18_code
def yX1_errorCode : MethodName := ⟨RX1, "errorCode", "()I"⟩
theorem dX1_errorCode_0 : decode cX1_errorCode 0 = .ok (.aload_n 0, 1) := by decide +kernel
theorem dX1_errorCode_1 : decode cX1_errorCode 1 = .ok (.getfield 98, 3) := by decide +kernel
theorem dX1_errorCode_4 : decode cX1_errorCode 4 = .ok (.ireturn, 1) := by decide +kernel
abbrev cX1_errorOffset : ByteArray := prog_1_method_19_code
def yX1_errorOffset : MethodName := ⟨RX1, "errorOffset", "()I"⟩
theorem dX1_errorOffset_0 : decode cX1_errorOffset 0 = .ok (.aload_n 0, 1) := by decide +kernel
theorem dX1_errorOffset_1 : decode cX1_errorOffset 1 = .ok (.getfield 25, 3) := by decide +kernel
theorem dX1_errorOffset_4 : decode cX1_errorOffset 4 = .ok (.ireturn, 1) := by decide +kernel
abbrev cX1_dearestWay : ByteArray := prog_1_method_46_code
def yX1_dearestWay : MethodName := ⟨RX1, "dearestWay", "()I"⟩
def dkwX1_dearestWay_3 : List UInt8 := [132, 3, 1, 167, 255, 205, 27, 172]
abbrev dktX1_dearestWay_3 : List UInt8 := dkwX1_dearestWay_3 ++ []
def dkwX1_dearestWay_2 : List UInt8 := [25, 5, 182, 1, 165, 54, 6, 21, 6, 28, 164, 0, 5, 29, 60, 28, 21, 6, 184, 1, 14, 61]
abbrev dktX1_dearestWay_2 : List UInt8 := dkwX1_dearestWay_2 ++ dktX1_dearestWay_3
def dkwX1_dearestWay_1 : List UInt8 := [185, 0, 189, 1, 0, 153, 0, 47, 25, 4, 185, 0, 195, 1, 0, 192, 0, 77, 58, 5, 42, 180, 0, 33]
abbrev dktX1_dearestWay_1 : List UInt8 := dkwX1_dearestWay_1 ++ dktX1_dearestWay_2
def dkwX1_dearestWay_0 : List UInt8 := [2, 60, 2, 61, 3, 62, 42, 180, 0, 33, 180, 0, 73, 182, 1, 0, 58, 4, 25, 4]
abbrev dktX1_dearestWay_0 : List UInt8 := dkwX1_dearestWay_0 ++ dktX1_dearestWay_1
theorem dksX1_dearestWay_0 : cX1_dearestWay.data.toList.drop 0 = dktX1_dearestWay_0 := by decide +kernel
theorem dksX1_dearestWay_1 : cX1_dearestWay.data.toList.drop 20 = dktX1_dearestWay_1 := dk_seg dksX1_dearestWay_0 20 rfl rfl
theorem dksX1_dearestWay_2 : cX1_dearestWay.data.toList.drop 44 = dktX1_dearestWay_2 := dk_seg dksX1_dearestWay_1 24 rfl rfl
theorem dksX1_dearestWay_3 : cX1_dearestWay.data.toList.drop 66 = dktX1_dearestWay_3 := dk_seg dksX1_dearestWay_2 22 rfl rfl
theorem dX1_dearestWay_0 : decode cX1_dearestWay 0 = .ok (.iconst (-1), 1) := dk_2 (dk_at dksX1_dearestWay_0 0 rfl rfl)
theorem dX1_dearestWay_1 : decode cX1_dearestWay 1 = .ok (.istore_n 1, 1) := dk_60 (dk_at dksX1_dearestWay_0 1 rfl rfl)
theorem dX1_dearestWay_2 : decode cX1_dearestWay 2 = .ok (.iconst (-1), 1) := dk_2 (dk_at dksX1_dearestWay_0 2 rfl rfl)
theorem dX1_dearestWay_3 : decode cX1_dearestWay 3 = .ok (.istore_n 2, 1) := dk_61 (dk_at dksX1_dearestWay_0 3 rfl rfl)
theorem dX1_dearestWay_4 : decode cX1_dearestWay 4 = .ok (.iconst 0, 1) := dk_3 (dk_at dksX1_dearestWay_0 4 rfl rfl)
theorem dX1_dearestWay_5 : decode cX1_dearestWay 5 = .ok (.istore_n 3, 1) := dk_62 (dk_at dksX1_dearestWay_0 5 rfl rfl)
theorem dX1_dearestWay_6 : decode cX1_dearestWay 6 = .ok (.aload_n 0, 1) := dk_42 (dk_at dksX1_dearestWay_0 6 rfl rfl)
theorem dX1_dearestWay_7 : decode cX1_dearestWay 7 = .ok (.getfield 33, 3) := dk_180 0 33 (dk_at dksX1_dearestWay_0 7 rfl rfl)
theorem dX1_dearestWay_10 : decode cX1_dearestWay 10 = .ok (.getfield 73, 3) := dk_180 0 73 (dk_at dksX1_dearestWay_0 10 rfl rfl)
theorem dX1_dearestWay_13 : decode cX1_dearestWay 13 = .ok (.invokevirtual 256, 3) := dk_182 1 0 (dk_at dksX1_dearestWay_0 13 rfl rfl)
theorem dX1_dearestWay_16 : decode cX1_dearestWay 16 = .ok (.astore 4, 2) := dk_58 4 (dk_at dksX1_dearestWay_0 16 rfl rfl)
theorem dX1_dearestWay_18 : decode cX1_dearestWay 18 = .ok (.aload 4, 2) := dk_25 4 (dk_at dksX1_dearestWay_0 18 rfl rfl)
theorem dX1_dearestWay_20 : decode cX1_dearestWay 20 = .ok (.invokeinterface 189 1, 5) := by decide +kernel
theorem dX1_dearestWay_25 : decode cX1_dearestWay 25 = .ok (.ifCond .eq 47, 3) := dk_153 0 47 (dk_at dksX1_dearestWay_1 5 rfl rfl)
theorem dX1_dearestWay_28 : decode cX1_dearestWay 28 = .ok (.aload 4, 2) := dk_25 4 (dk_at dksX1_dearestWay_1 8 rfl rfl)
theorem dX1_dearestWay_30 : decode cX1_dearestWay 30 = .ok (.invokeinterface 195 1, 5) := by decide +kernel
theorem dX1_dearestWay_35 : decode cX1_dearestWay 35 = .ok (.checkcast 77, 3) := dk_192 0 77 (dk_at dksX1_dearestWay_1 15 rfl rfl)
theorem dX1_dearestWay_38 : decode cX1_dearestWay 38 = .ok (.astore 5, 2) := dk_58 5 (dk_at dksX1_dearestWay_1 18 rfl rfl)
theorem dX1_dearestWay_40 : decode cX1_dearestWay 40 = .ok (.aload_n 0, 1) := dk_42 (dk_at dksX1_dearestWay_1 20 rfl rfl)
theorem dX1_dearestWay_41 : decode cX1_dearestWay 41 = .ok (.getfield 33, 3) := dk_180 0 33 (dk_at dksX1_dearestWay_1 21 rfl rfl)
theorem dX1_dearestWay_44 : decode cX1_dearestWay 44 = .ok (.aload 5, 2) := dk_25 5 (dk_at dksX1_dearestWay_2 0 rfl rfl)
theorem dX1_dearestWay_46 : decode cX1_dearestWay 46 = .ok (.invokevirtual 421, 3) := dk_182 1 165 (dk_at dksX1_dearestWay_2 2 rfl rfl)
theorem dX1_dearestWay_49 : decode cX1_dearestWay 49 = .ok (.istore 6, 2) := dk_54 6 (dk_at dksX1_dearestWay_2 5 rfl rfl)
theorem dX1_dearestWay_51 : decode cX1_dearestWay 51 = .ok (.iload 6, 2) := dk_21 6 (dk_at dksX1_dearestWay_2 7 rfl rfl)
theorem dX1_dearestWay_53 : decode cX1_dearestWay 53 = .ok (.iload_n 2, 1) := dk_28 (dk_at dksX1_dearestWay_2 9 rfl rfl)
theorem dX1_dearestWay_54 : decode cX1_dearestWay 54 = .ok (.if_icmp .le 5, 3) := dk_164 0 5 (dk_at dksX1_dearestWay_2 10 rfl rfl)
theorem dX1_dearestWay_57 : decode cX1_dearestWay 57 = .ok (.iload_n 3, 1) := dk_29 (dk_at dksX1_dearestWay_2 13 rfl rfl)
theorem dX1_dearestWay_58 : decode cX1_dearestWay 58 = .ok (.istore_n 1, 1) := dk_60 (dk_at dksX1_dearestWay_2 14 rfl rfl)
theorem dX1_dearestWay_59 : decode cX1_dearestWay 59 = .ok (.iload_n 2, 1) := dk_28 (dk_at dksX1_dearestWay_2 15 rfl rfl)
theorem dX1_dearestWay_60 : decode cX1_dearestWay 60 = .ok (.iload 6, 2) := dk_21 6 (dk_at dksX1_dearestWay_2 16 rfl rfl)
theorem dX1_dearestWay_62 : decode cX1_dearestWay 62 = .ok (.invokestatic 270, 3) := dk_184 1 14 (dk_at dksX1_dearestWay_2 18 rfl rfl)
theorem dX1_dearestWay_65 : decode cX1_dearestWay 65 = .ok (.istore_n 2, 1) := dk_61 (dk_at dksX1_dearestWay_2 21 rfl rfl)
theorem dX1_dearestWay_66 : decode cX1_dearestWay 66 = .ok (.iinc 3 1, 3) := dk_132 3 1 (dk_at dksX1_dearestWay_3 0 rfl rfl)
theorem dX1_dearestWay_69 : decode cX1_dearestWay 69 = .ok (.goto (-51), 3) := dk_167 255 205 (dk_at dksX1_dearestWay_3 3 rfl rfl)
theorem dX1_dearestWay_72 : decode cX1_dearestWay 72 = .ok (.iload_n 1, 1) := dk_27 (dk_at dksX1_dearestWay_3 6 rfl rfl)
theorem dX1_dearestWay_73 : decode cX1_dearestWay 73 = .ok (.ireturn, 1) := dk_172 (dk_at dksX1_dearestWay_3 7 rfl rfl)
abbrev cX1_agree : ByteArray := prog_1_method_47_code
def yX1_agree : MethodName := ⟨RX1, "agree", "()Z"⟩
def dkwX1_agree_0 : List UInt8 := [42, 180, 0, 33, 182, 1, 169, 172]
abbrev dktX1_agree_0 : List UInt8 := dkwX1_agree_0 ++ []
theorem dksX1_agree_0 : cX1_agree.data.toList.drop 0 = dktX1_agree_0 := by decide +kernel
theorem dX1_agree_0 : decode cX1_agree 0 = .ok (.aload_n 0, 1) := dk_42 (dk_at dksX1_agree_0 0 rfl rfl)
theorem dX1_agree_1 : decode cX1_agree 1 = .ok (.getfield 33, 3) := dk_180 0 33 (dk_at dksX1_agree_0 1 rfl rfl)
theorem dX1_agree_4 : decode cX1_agree 4 = .ok (.invokevirtual 425, 3) := dk_182 1 169 (dk_at dksX1_agree_0 4 rfl rfl)
theorem dX1_agree_7 : decode cX1_agree 7 = .ok (.ireturn, 1) := dk_172 (dk_at dksX1_agree_0 7 rfl rfl)
abbrev cX1_meanPurse : ByteArray := prog_1_method_48_code
def yX1_meanPurse : MethodName := ⟨RX1, "meanPurse", "()D"⟩
def dkwX1_meanPurse_0 : List UInt8 := [42, 182, 0, 221, 135, 42, 180, 0, 33, 180, 0, 182, 185, 0, 165, 1, 0, 135, 111, 175]
abbrev dktX1_meanPurse_0 : List UInt8 := dkwX1_meanPurse_0 ++ []
theorem dksX1_meanPurse_0 : cX1_meanPurse.data.toList.drop 0 = dktX1_meanPurse_0 := by decide +kernel
theorem dX1_meanPurse_0 : decode cX1_meanPurse 0 = .ok (.aload_n 0, 1) := dk_42 (dk_at dksX1_meanPurse_0 0 rfl rfl)
theorem dX1_meanPurse_1 : decode cX1_meanPurse 1 = .ok (.invokevirtual 221, 3) := dk_182 0 221 (dk_at dksX1_meanPurse_0 1 rfl rfl)
theorem dX1_meanPurse_4 : decode cX1_meanPurse 4 = .ok (.i2d, 1) := dk_135 (dk_at dksX1_meanPurse_0 4 rfl rfl)
theorem dX1_meanPurse_5 : decode cX1_meanPurse 5 = .ok (.aload_n 0, 1) := dk_42 (dk_at dksX1_meanPurse_0 5 rfl rfl)
theorem dX1_meanPurse_6 : decode cX1_meanPurse 6 = .ok (.getfield 33, 3) := dk_180 0 33 (dk_at dksX1_meanPurse_0 6 rfl rfl)
theorem dX1_meanPurse_9 : decode cX1_meanPurse 9 = .ok (.getfield 182, 3) := dk_180 0 182 (dk_at dksX1_meanPurse_0 9 rfl rfl)
theorem dX1_meanPurse_12 : decode cX1_meanPurse 12 = .ok (.invokeinterface 165 1, 5) := by decide +kernel
theorem dX1_meanPurse_17 : decode cX1_meanPurse 17 = .ok (.i2d, 1) := dk_135 (dk_at dksX1_meanPurse_0 17 rfl rfl)
theorem dX1_meanPurse_18 : decode cX1_meanPurse 18 = .ok (.ddiv, 1) := dk_111 (dk_at dksX1_meanPurse_0 18 rfl rfl)
theorem dX1_meanPurse_19 : decode cX1_meanPurse 19 = .ok (.dreturn, 1) := dk_175 (dk_at dksX1_meanPurse_0 19 rfl rfl)
abbrev cX1_purses : ByteArray := prog_1_method_22_code
def yX1_purses : MethodName := ⟨RX1, "purses", "()I"⟩
def dkwX1_purses_1 : List UInt8 := [44, 185, 0, 195, 1, 0, 192, 0, 56, 78, 27, 45, 180, 0, 204, 96, 60, 167, 255, 230, 27, 172]
abbrev dktX1_purses_1 : List UInt8 := dkwX1_purses_1 ++ []
def dkwX1_purses_0 : List UInt8 := [3, 60, 42, 180, 0, 33, 180, 0, 182, 185, 0, 185, 1, 0, 77, 44, 185, 0, 189, 1, 0, 153, 0, 23]
abbrev dktX1_purses_0 : List UInt8 := dkwX1_purses_0 ++ dktX1_purses_1
theorem dksX1_purses_0 : cX1_purses.data.toList.drop 0 = dktX1_purses_0 := by decide +kernel
theorem dksX1_purses_1 : cX1_purses.data.toList.drop 24 = dktX1_purses_1 := dk_seg dksX1_purses_0 24 rfl rfl
theorem dX1_purses_0 : decode cX1_purses 0 = .ok (.iconst 0, 1) := dk_3 (dk_at dksX1_purses_0 0 rfl rfl)
theorem dX1_purses_1 : decode cX1_purses 1 = .ok (.istore_n 1, 1) := dk_60 (dk_at dksX1_purses_0 1 rfl rfl)
theorem dX1_purses_2 : decode cX1_purses 2 = .ok (.aload_n 0, 1) := dk_42 (dk_at dksX1_purses_0 2 rfl rfl)
theorem dX1_purses_3 : decode cX1_purses 3 = .ok (.getfield 33, 3) := dk_180 0 33 (dk_at dksX1_purses_0 3 rfl rfl)
theorem dX1_purses_6 : decode cX1_purses 6 = .ok (.getfield 182, 3) := dk_180 0 182 (dk_at dksX1_purses_0 6 rfl rfl)
theorem dX1_purses_9 : decode cX1_purses 9 = .ok (.invokeinterface 185 1, 5) := by decide +kernel
theorem dX1_purses_14 : decode cX1_purses 14 = .ok (.astore_n 2, 1) := dk_77 (dk_at dksX1_purses_0 14 rfl rfl)
theorem dX1_purses_15 : decode cX1_purses 15 = .ok (.aload_n 2, 1) := dk_44 (dk_at dksX1_purses_0 15 rfl rfl)
theorem dX1_purses_16 : decode cX1_purses 16 = .ok (.invokeinterface 189 1, 5) := by decide +kernel
theorem dX1_purses_21 : decode cX1_purses 21 = .ok (.ifCond .eq 23, 3) := dk_153 0 23 (dk_at dksX1_purses_0 21 rfl rfl)
theorem dX1_purses_24 : decode cX1_purses 24 = .ok (.aload_n 2, 1) := dk_44 (dk_at dksX1_purses_1 0 rfl rfl)
theorem dX1_purses_25 : decode cX1_purses 25 = .ok (.invokeinterface 195 1, 5) := by decide +kernel
theorem dX1_purses_30 : decode cX1_purses 30 = .ok (.checkcast 56, 3) := dk_192 0 56 (dk_at dksX1_purses_1 6 rfl rfl)
theorem dX1_purses_33 : decode cX1_purses 33 = .ok (.astore_n 3, 1) := dk_78 (dk_at dksX1_purses_1 9 rfl rfl)
theorem dX1_purses_34 : decode cX1_purses 34 = .ok (.iload_n 1, 1) := dk_27 (dk_at dksX1_purses_1 10 rfl rfl)
theorem dX1_purses_35 : decode cX1_purses 35 = .ok (.aload_n 3, 1) := dk_45 (dk_at dksX1_purses_1 11 rfl rfl)
theorem dX1_purses_36 : decode cX1_purses 36 = .ok (.getfield 204, 3) := dk_180 0 204 (dk_at dksX1_purses_1 12 rfl rfl)
theorem dX1_purses_39 : decode cX1_purses 39 = .ok (.iadd, 1) := dk_96 (dk_at dksX1_purses_1 15 rfl rfl)
theorem dX1_purses_40 : decode cX1_purses 40 = .ok (.istore_n 1, 1) := dk_60 (dk_at dksX1_purses_1 16 rfl rfl)
theorem dX1_purses_41 : decode cX1_purses 41 = .ok (.goto (-26), 3) := dk_167 255 230 (dk_at dksX1_purses_1 17 rfl rfl)
theorem dX1_purses_44 : decode cX1_purses 44 = .ok (.iload_n 1, 1) := dk_27 (dk_at dksX1_purses_1 20 rfl rfl)
theorem dX1_purses_45 : decode cX1_purses 45 = .ok (.ireturn, 1) := dk_172 (dk_at dksX1_purses_1 21 rfl rfl)
abbrev cX1_rightPart : ByteArray := prog_1_method_49_code
def yX1_rightPart : MethodName := ⟨RX1, "rightPart", "()F"⟩
def dkwX1_rightPart_1 : List UInt8 := [180, 0, 230, 16, 6, 46, 134, 27, 134, 110, 174]
abbrev dktX1_rightPart_1 : List UInt8 := dkwX1_rightPart_1 ++ []
def dkwX1_rightPart_0 : List UInt8 := [42, 180, 0, 33, 180, 0, 230, 8, 46, 60, 27, 154, 0, 7, 11, 167, 0, 17, 42, 180, 0, 33]
abbrev dktX1_rightPart_0 : List UInt8 := dkwX1_rightPart_0 ++ dktX1_rightPart_1
theorem dksX1_rightPart_0 : cX1_rightPart.data.toList.drop 0 = dktX1_rightPart_0 := by decide +kernel
theorem dksX1_rightPart_1 : cX1_rightPart.data.toList.drop 22 = dktX1_rightPart_1 := dk_seg dksX1_rightPart_0 22 rfl rfl
theorem dX1_rightPart_0 : decode cX1_rightPart 0 = .ok (.aload_n 0, 1) := dk_42 (dk_at dksX1_rightPart_0 0 rfl rfl)
theorem dX1_rightPart_1 : decode cX1_rightPart 1 = .ok (.getfield 33, 3) := dk_180 0 33 (dk_at dksX1_rightPart_0 1 rfl rfl)
theorem dX1_rightPart_4 : decode cX1_rightPart 4 = .ok (.getfield 230, 3) := dk_180 0 230 (dk_at dksX1_rightPart_0 4 rfl rfl)
theorem dX1_rightPart_7 : decode cX1_rightPart 7 = .ok (.iconst 5, 1) := dk_8 (dk_at dksX1_rightPart_0 7 rfl rfl)
theorem dX1_rightPart_8 : decode cX1_rightPart 8 = .ok (.iaload, 1) := dk_46 (dk_at dksX1_rightPart_0 8 rfl rfl)
theorem dX1_rightPart_9 : decode cX1_rightPart 9 = .ok (.istore_n 1, 1) := dk_60 (dk_at dksX1_rightPart_0 9 rfl rfl)
theorem dX1_rightPart_10 : decode cX1_rightPart 10 = .ok (.iload_n 1, 1) := dk_27 (dk_at dksX1_rightPart_0 10 rfl rfl)
theorem dX1_rightPart_11 : decode cX1_rightPart 11 = .ok (.ifCond .ne 7, 3) := dk_154 0 7 (dk_at dksX1_rightPart_0 11 rfl rfl)
theorem dX1_rightPart_14 : decode cX1_rightPart 14 = .ok (.fconst 0, 1) := dk_11 (dk_at dksX1_rightPart_0 14 rfl rfl)
theorem dX1_rightPart_15 : decode cX1_rightPart 15 = .ok (.goto 17, 3) := dk_167 0 17 (dk_at dksX1_rightPart_0 15 rfl rfl)
theorem dX1_rightPart_18 : decode cX1_rightPart 18 = .ok (.aload_n 0, 1) := dk_42 (dk_at dksX1_rightPart_0 18 rfl rfl)
theorem dX1_rightPart_19 : decode cX1_rightPart 19 = .ok (.getfield 33, 3) := dk_180 0 33 (dk_at dksX1_rightPart_0 19 rfl rfl)
theorem dX1_rightPart_22 : decode cX1_rightPart 22 = .ok (.getfield 230, 3) := dk_180 0 230 (dk_at dksX1_rightPart_1 0 rfl rfl)
theorem dX1_rightPart_25 : decode cX1_rightPart 25 = .ok (.bipush 6, 2) := dk_16 6 (dk_at dksX1_rightPart_1 3 rfl rfl)
theorem dX1_rightPart_27 : decode cX1_rightPart 27 = .ok (.iaload, 1) := dk_46 (dk_at dksX1_rightPart_1 5 rfl rfl)
theorem dX1_rightPart_28 : decode cX1_rightPart 28 = .ok (.i2f, 1) := dk_134 (dk_at dksX1_rightPart_1 6 rfl rfl)
theorem dX1_rightPart_29 : decode cX1_rightPart 29 = .ok (.iload_n 1, 1) := dk_27 (dk_at dksX1_rightPart_1 7 rfl rfl)
theorem dX1_rightPart_30 : decode cX1_rightPart 30 = .ok (.i2f, 1) := dk_134 (dk_at dksX1_rightPart_1 8 rfl rfl)
theorem dX1_rightPart_31 : decode cX1_rightPart 31 = .ok (.fdiv, 1) := dk_110 (dk_at dksX1_rightPart_1 9 rfl rfl)
theorem dX1_rightPart_32 : decode cX1_rightPart 32 = .ok (.freturn, 1) := dk_174 (dk_at dksX1_rightPart_1 10 rfl rfl)
abbrev cX1_printRoofs : ByteArray := prog_1_method_59_code
def yX1_printRoofs : MethodName := ⟨RX1, "printRoofs", "()I"⟩
def dkwX1_printRoofs_5 : List UInt8 := [8, 182, 1, 226, 182, 1, 223, 87, 132, 1, 1, 167, 255, 138, 42, 180, 0, 49, 182, 1, 228, 172]
abbrev dktX1_printRoofs_5 : List UInt8 := dkwX1_printRoofs_5 ++ []
def dkwX1_printRoofs_4 : List UInt8 := [182, 1, 216, 87, 42, 27, 8, 182, 1, 226, 158, 0, 22, 42, 180, 0, 49, 16, 47, 182, 1, 216, 42, 27]
abbrev dktX1_printRoofs_4 : List UInt8 := dkwX1_printRoofs_4 ++ dktX1_printRoofs_5
def dkwX1_printRoofs_3 : List UInt8 := [182, 1, 223, 87, 44, 180, 0, 198, 42, 180, 0, 33, 180, 0, 201, 164, 0, 13, 42, 180, 0, 49, 16, 33]
abbrev dktX1_printRoofs_3 : List UInt8 := dkwX1_printRoofs_3 ++ dktX1_printRoofs_4
def dkwX1_printRoofs_2 : List UInt8 := [182, 1, 216, 87, 42, 180, 0, 49, 44, 180, 0, 243, 182, 1, 220, 16, 58, 182, 1, 216, 44, 180, 0, 204]
abbrev dktX1_printRoofs_2 : List UInt8 := dkwX1_printRoofs_2 ++ dktX1_printRoofs_3
def dkwX1_printRoofs_1 : List UInt8 := [162, 0, 108, 42, 180, 0, 33, 27, 182, 0, 236, 77, 27, 158, 0, 13, 42, 180, 0, 49, 16, 32]
abbrev dktX1_printRoofs_1 : List UInt8 := dkwX1_printRoofs_1 ++ dktX1_printRoofs_2
def dkwX1_printRoofs_0 : List UInt8 := [42, 180, 0, 49, 3, 182, 1, 213, 3, 60, 27, 42, 180, 0, 33, 180, 0, 182, 185, 0, 165, 1, 0]
abbrev dktX1_printRoofs_0 : List UInt8 := dkwX1_printRoofs_0 ++ dktX1_printRoofs_1
theorem dksX1_printRoofs_0 : cX1_printRoofs.data.toList.drop 0 = dktX1_printRoofs_0 := by decide +kernel
theorem dksX1_printRoofs_1 : cX1_printRoofs.data.toList.drop 23 = dktX1_printRoofs_1 := dk_seg dksX1_printRoofs_0 23 rfl rfl
theorem dksX1_printRoofs_2 : cX1_printRoofs.data.toList.drop 45 = dktX1_printRoofs_2 := dk_seg dksX1_printRoofs_1 22 rfl rfl
theorem dksX1_printRoofs_3 : cX1_printRoofs.data.toList.drop 69 = dktX1_printRoofs_3 := dk_seg dksX1_printRoofs_2 24 rfl rfl
theorem dksX1_printRoofs_4 : cX1_printRoofs.data.toList.drop 93 = dktX1_printRoofs_4 := dk_seg dksX1_printRoofs_3 24 rfl rfl
theorem dksX1_printRoofs_5 : cX1_printRoofs.data.toList.drop 117 = dktX1_printRoofs_5 := dk_seg dksX1_printRoofs_4 24 rfl rfl
theorem dX1_printRoofs_0 : decode cX1_printRoofs 0 = .ok (.aload_n 0, 1) := dk_42 (dk_at dksX1_printRoofs_0 0 rfl rfl)
theorem dX1_printRoofs_1 : decode cX1_printRoofs 1 = .ok (.getfield 49, 3) := dk_180 0 49 (dk_at dksX1_printRoofs_0 1 rfl rfl)
theorem dX1_printRoofs_4 : decode cX1_printRoofs 4 = .ok (.iconst 0, 1) := dk_3 (dk_at dksX1_printRoofs_0 4 rfl rfl)
theorem dX1_printRoofs_5 : decode cX1_printRoofs 5 = .ok (.invokevirtual 469, 3) := dk_182 1 213 (dk_at dksX1_printRoofs_0 5 rfl rfl)
theorem dX1_printRoofs_8 : decode cX1_printRoofs 8 = .ok (.iconst 0, 1) := dk_3 (dk_at dksX1_printRoofs_0 8 rfl rfl)
theorem dX1_printRoofs_9 : decode cX1_printRoofs 9 = .ok (.istore_n 1, 1) := dk_60 (dk_at dksX1_printRoofs_0 9 rfl rfl)
theorem dX1_printRoofs_10 : decode cX1_printRoofs 10 = .ok (.iload_n 1, 1) := dk_27 (dk_at dksX1_printRoofs_0 10 rfl rfl)
theorem dX1_printRoofs_11 : decode cX1_printRoofs 11 = .ok (.aload_n 0, 1) := dk_42 (dk_at dksX1_printRoofs_0 11 rfl rfl)
theorem dX1_printRoofs_12 : decode cX1_printRoofs 12 = .ok (.getfield 33, 3) := dk_180 0 33 (dk_at dksX1_printRoofs_0 12 rfl rfl)
theorem dX1_printRoofs_15 : decode cX1_printRoofs 15 = .ok (.getfield 182, 3) := dk_180 0 182 (dk_at dksX1_printRoofs_0 15 rfl rfl)
theorem dX1_printRoofs_18 : decode cX1_printRoofs 18 = .ok (.invokeinterface 165 1, 5) := by decide +kernel
theorem dX1_printRoofs_23 : decode cX1_printRoofs 23 = .ok (.if_icmp .ge 108, 3) := dk_162 0 108 (dk_at dksX1_printRoofs_1 0 rfl rfl)
theorem dX1_printRoofs_26 : decode cX1_printRoofs 26 = .ok (.aload_n 0, 1) := dk_42 (dk_at dksX1_printRoofs_1 3 rfl rfl)
theorem dX1_printRoofs_27 : decode cX1_printRoofs 27 = .ok (.getfield 33, 3) := dk_180 0 33 (dk_at dksX1_printRoofs_1 4 rfl rfl)
theorem dX1_printRoofs_30 : decode cX1_printRoofs 30 = .ok (.iload_n 1, 1) := dk_27 (dk_at dksX1_printRoofs_1 7 rfl rfl)
theorem dX1_printRoofs_31 : decode cX1_printRoofs 31 = .ok (.invokevirtual 236, 3) := dk_182 0 236 (dk_at dksX1_printRoofs_1 8 rfl rfl)
theorem dX1_printRoofs_34 : decode cX1_printRoofs 34 = .ok (.astore_n 2, 1) := dk_77 (dk_at dksX1_printRoofs_1 11 rfl rfl)
theorem dX1_printRoofs_35 : decode cX1_printRoofs 35 = .ok (.iload_n 1, 1) := dk_27 (dk_at dksX1_printRoofs_1 12 rfl rfl)
theorem dX1_printRoofs_36 : decode cX1_printRoofs 36 = .ok (.ifCond .le 13, 3) := dk_158 0 13 (dk_at dksX1_printRoofs_1 13 rfl rfl)
theorem dX1_printRoofs_39 : decode cX1_printRoofs 39 = .ok (.aload_n 0, 1) := dk_42 (dk_at dksX1_printRoofs_1 16 rfl rfl)
theorem dX1_printRoofs_40 : decode cX1_printRoofs 40 = .ok (.getfield 49, 3) := dk_180 0 49 (dk_at dksX1_printRoofs_1 17 rfl rfl)
theorem dX1_printRoofs_43 : decode cX1_printRoofs 43 = .ok (.bipush 32, 2) := dk_16 32 (dk_at dksX1_printRoofs_1 20 rfl rfl)
theorem dX1_printRoofs_45 : decode cX1_printRoofs 45 = .ok (.invokevirtual 472, 3) := dk_182 1 216 (dk_at dksX1_printRoofs_2 0 rfl rfl)
theorem dX1_printRoofs_48 : decode cX1_printRoofs 48 = .ok (.pop, 1) := dk_87 (dk_at dksX1_printRoofs_2 3 rfl rfl)
theorem dX1_printRoofs_49 : decode cX1_printRoofs 49 = .ok (.aload_n 0, 1) := dk_42 (dk_at dksX1_printRoofs_2 4 rfl rfl)
theorem dX1_printRoofs_50 : decode cX1_printRoofs 50 = .ok (.getfield 49, 3) := dk_180 0 49 (dk_at dksX1_printRoofs_2 5 rfl rfl)
theorem dX1_printRoofs_53 : decode cX1_printRoofs 53 = .ok (.aload_n 2, 1) := dk_44 (dk_at dksX1_printRoofs_2 8 rfl rfl)
theorem dX1_printRoofs_54 : decode cX1_printRoofs 54 = .ok (.getfield 243, 3) := dk_180 0 243 (dk_at dksX1_printRoofs_2 9 rfl rfl)
theorem dX1_printRoofs_57 : decode cX1_printRoofs 57 = .ok (.invokevirtual 476, 3) := dk_182 1 220 (dk_at dksX1_printRoofs_2 12 rfl rfl)
theorem dX1_printRoofs_60 : decode cX1_printRoofs 60 = .ok (.bipush 58, 2) := dk_16 58 (dk_at dksX1_printRoofs_2 15 rfl rfl)
theorem dX1_printRoofs_62 : decode cX1_printRoofs 62 = .ok (.invokevirtual 472, 3) := dk_182 1 216 (dk_at dksX1_printRoofs_2 17 rfl rfl)
theorem dX1_printRoofs_65 : decode cX1_printRoofs 65 = .ok (.aload_n 2, 1) := dk_44 (dk_at dksX1_printRoofs_2 20 rfl rfl)
theorem dX1_printRoofs_66 : decode cX1_printRoofs 66 = .ok (.getfield 204, 3) := dk_180 0 204 (dk_at dksX1_printRoofs_2 21 rfl rfl)
theorem dX1_printRoofs_69 : decode cX1_printRoofs 69 = .ok (.invokevirtual 479, 3) := dk_182 1 223 (dk_at dksX1_printRoofs_3 0 rfl rfl)
theorem dX1_printRoofs_72 : decode cX1_printRoofs 72 = .ok (.pop, 1) := dk_87 (dk_at dksX1_printRoofs_3 3 rfl rfl)
theorem dX1_printRoofs_73 : decode cX1_printRoofs 73 = .ok (.aload_n 2, 1) := dk_44 (dk_at dksX1_printRoofs_3 4 rfl rfl)
theorem dX1_printRoofs_74 : decode cX1_printRoofs 74 = .ok (.getfield 198, 3) := dk_180 0 198 (dk_at dksX1_printRoofs_3 5 rfl rfl)
theorem dX1_printRoofs_77 : decode cX1_printRoofs 77 = .ok (.aload_n 0, 1) := dk_42 (dk_at dksX1_printRoofs_3 8 rfl rfl)
theorem dX1_printRoofs_78 : decode cX1_printRoofs 78 = .ok (.getfield 33, 3) := dk_180 0 33 (dk_at dksX1_printRoofs_3 9 rfl rfl)
theorem dX1_printRoofs_81 : decode cX1_printRoofs 81 = .ok (.getfield 201, 3) := dk_180 0 201 (dk_at dksX1_printRoofs_3 12 rfl rfl)
theorem dX1_printRoofs_84 : decode cX1_printRoofs 84 = .ok (.if_icmp .le 13, 3) := dk_164 0 13 (dk_at dksX1_printRoofs_3 15 rfl rfl)
theorem dX1_printRoofs_87 : decode cX1_printRoofs 87 = .ok (.aload_n 0, 1) := dk_42 (dk_at dksX1_printRoofs_3 18 rfl rfl)
theorem dX1_printRoofs_88 : decode cX1_printRoofs 88 = .ok (.getfield 49, 3) := dk_180 0 49 (dk_at dksX1_printRoofs_3 19 rfl rfl)
theorem dX1_printRoofs_91 : decode cX1_printRoofs 91 = .ok (.bipush 33, 2) := dk_16 33 (dk_at dksX1_printRoofs_3 22 rfl rfl)
theorem dX1_printRoofs_93 : decode cX1_printRoofs 93 = .ok (.invokevirtual 472, 3) := dk_182 1 216 (dk_at dksX1_printRoofs_4 0 rfl rfl)
theorem dX1_printRoofs_96 : decode cX1_printRoofs 96 = .ok (.pop, 1) := dk_87 (dk_at dksX1_printRoofs_4 3 rfl rfl)
theorem dX1_printRoofs_97 : decode cX1_printRoofs 97 = .ok (.aload_n 0, 1) := dk_42 (dk_at dksX1_printRoofs_4 4 rfl rfl)
theorem dX1_printRoofs_98 : decode cX1_printRoofs 98 = .ok (.iload_n 1, 1) := dk_27 (dk_at dksX1_printRoofs_4 5 rfl rfl)
theorem dX1_printRoofs_99 : decode cX1_printRoofs 99 = .ok (.iconst 5, 1) := dk_8 (dk_at dksX1_printRoofs_4 6 rfl rfl)
theorem dX1_printRoofs_100 : decode cX1_printRoofs 100 = .ok (.invokevirtual 482, 3) := dk_182 1 226 (dk_at dksX1_printRoofs_4 7 rfl rfl)
theorem dX1_printRoofs_103 : decode cX1_printRoofs 103 = .ok (.ifCond .le 22, 3) := dk_158 0 22 (dk_at dksX1_printRoofs_4 10 rfl rfl)
theorem dX1_printRoofs_106 : decode cX1_printRoofs 106 = .ok (.aload_n 0, 1) := dk_42 (dk_at dksX1_printRoofs_4 13 rfl rfl)
theorem dX1_printRoofs_107 : decode cX1_printRoofs 107 = .ok (.getfield 49, 3) := dk_180 0 49 (dk_at dksX1_printRoofs_4 14 rfl rfl)
theorem dX1_printRoofs_110 : decode cX1_printRoofs 110 = .ok (.bipush 47, 2) := dk_16 47 (dk_at dksX1_printRoofs_4 17 rfl rfl)
theorem dX1_printRoofs_112 : decode cX1_printRoofs 112 = .ok (.invokevirtual 472, 3) := dk_182 1 216 (dk_at dksX1_printRoofs_4 19 rfl rfl)
theorem dX1_printRoofs_115 : decode cX1_printRoofs 115 = .ok (.aload_n 0, 1) := dk_42 (dk_at dksX1_printRoofs_4 22 rfl rfl)
theorem dX1_printRoofs_116 : decode cX1_printRoofs 116 = .ok (.iload_n 1, 1) := dk_27 (dk_at dksX1_printRoofs_4 23 rfl rfl)
theorem dX1_printRoofs_117 : decode cX1_printRoofs 117 = .ok (.iconst 5, 1) := dk_8 (dk_at dksX1_printRoofs_5 0 rfl rfl)
theorem dX1_printRoofs_118 : decode cX1_printRoofs 118 = .ok (.invokevirtual 482, 3) := dk_182 1 226 (dk_at dksX1_printRoofs_5 1 rfl rfl)
theorem dX1_printRoofs_121 : decode cX1_printRoofs 121 = .ok (.invokevirtual 479, 3) := dk_182 1 223 (dk_at dksX1_printRoofs_5 4 rfl rfl)
theorem dX1_printRoofs_124 : decode cX1_printRoofs 124 = .ok (.pop, 1) := dk_87 (dk_at dksX1_printRoofs_5 7 rfl rfl)
theorem dX1_printRoofs_125 : decode cX1_printRoofs 125 = .ok (.iinc 1 1, 3) := dk_132 1 1 (dk_at dksX1_printRoofs_5 8 rfl rfl)
theorem dX1_printRoofs_128 : decode cX1_printRoofs 128 = .ok (.goto (-118), 3) := dk_167 255 138 (dk_at dksX1_printRoofs_5 11 rfl rfl)
theorem dX1_printRoofs_131 : decode cX1_printRoofs 131 = .ok (.aload_n 0, 1) := dk_42 (dk_at dksX1_printRoofs_5 14 rfl rfl)
theorem dX1_printRoofs_132 : decode cX1_printRoofs 132 = .ok (.getfield 49, 3) := dk_180 0 49 (dk_at dksX1_printRoofs_5 15 rfl rfl)
theorem dX1_printRoofs_135 : decode cX1_printRoofs 135 = .ok (.invokevirtual 484, 3) := dk_182 1 228 (dk_at dksX1_printRoofs_5 18 rfl rfl)
theorem dX1_printRoofs_138 : decode cX1_printRoofs 138 = .ok (.ireturn, 1) := dk_172 (dk_at dksX1_printRoofs_5 21 rfl rfl)
abbrev cX1_roof : ByteArray := prog_1_method_29_code
def yX1_roof : MethodName := ⟨RX1, "roof", "(II)I"⟩
def dkwX1_roof_5 : List UInt8 := [45, 180, 1, 25, 167, 0, 11, 187, 0, 1, 89, 183, 0, 3, 191, 172]
abbrev dktX1_roof_5 : List UInt8 := dkwX1_roof_5 ++ []
def dkwX1_roof_4 : List UInt8 := [167, 0, 39, 42, 27, 186, 1, 20, 0, 0, 182, 0, 210, 167, 0, 26, 42, 27, 182, 1, 21, 167, 0, 18]
abbrev dktX1_roof_4 : List UInt8 := dkwX1_roof_4 ++ dktX1_roof_5
def dkwX1_roof_3 : List UInt8 := [180, 0, 204, 167, 0, 58, 3, 45, 180, 0, 198, 42, 180, 0, 33, 180, 0, 201, 100, 184, 1, 14]
abbrev dktX1_roof_3 : List UInt8 := dkwX1_roof_3 ++ dktX1_roof_4
def dkwX1_roof_2 : List UInt8 := [45, 180, 1, 5, 167, 0, 79, 45, 180, 1, 8, 167, 0, 72, 45, 180, 1, 11, 167, 0, 65, 45]
abbrev dktX1_roof_2 : List UInt8 := dkwX1_roof_2 ++ dktX1_roof_3
def dkwX1_roof_1 : List UInt8 := [170, 0, 0, 0, 120, 0, 0, 0, 0, 0, 0, 0, 7, 0, 0, 0, 45, 0, 0, 0, 52, 0, 0, 0, 59, 0, 0, 0, 66, 0, 0, 0, 73, 0, 0, 0, 92, 0, 0, 0, 105, 0, 0, 0, 113]
abbrev dktX1_roof_1 : List UInt8 := dkwX1_roof_1 ++ dktX1_roof_2
def dkwX1_roof_0 : List UInt8 := [42, 27, 182, 0, 240, 78, 28]
abbrev dktX1_roof_0 : List UInt8 := dkwX1_roof_0 ++ dktX1_roof_1
theorem dksX1_roof_0 : cX1_roof.data.toList.drop 0 = dktX1_roof_0 := by decide +kernel
theorem dksX1_roof_1 : cX1_roof.data.toList.drop 7 = dktX1_roof_1 := dk_seg dksX1_roof_0 7 rfl rfl
theorem dksX1_roof_2 : cX1_roof.data.toList.drop 52 = dktX1_roof_2 := dk_seg dksX1_roof_1 45 rfl rfl
theorem dksX1_roof_3 : cX1_roof.data.toList.drop 74 = dktX1_roof_3 := dk_seg dksX1_roof_2 22 rfl rfl
theorem dksX1_roof_4 : cX1_roof.data.toList.drop 96 = dktX1_roof_4 := dk_seg dksX1_roof_3 22 rfl rfl
theorem dksX1_roof_5 : cX1_roof.data.toList.drop 120 = dktX1_roof_5 := dk_seg dksX1_roof_4 24 rfl rfl
theorem dX1_roof_0 : decode cX1_roof 0 = .ok (.aload_n 0, 1) := dk_42 (dk_at dksX1_roof_0 0 rfl rfl)
theorem dX1_roof_1 : decode cX1_roof 1 = .ok (.iload_n 1, 1) := dk_27 (dk_at dksX1_roof_0 1 rfl rfl)
theorem dX1_roof_2 : decode cX1_roof 2 = .ok (.invokevirtual 240, 3) := dk_182 0 240 (dk_at dksX1_roof_0 2 rfl rfl)
theorem dX1_roof_5 : decode cX1_roof 5 = .ok (.astore_n 3, 1) := dk_78 (dk_at dksX1_roof_0 5 rfl rfl)
theorem dX1_roof_6 : decode cX1_roof 6 = .ok (.iload_n 2, 1) := dk_28 (dk_at dksX1_roof_0 6 rfl rfl)
theorem dX1_roof_7 : decode cX1_roof 7 = .ok (.tableswitch 120 0 7 #[45, 52, 59, 66, 73, 92, 105, 113], 45) := by decide +kernel
theorem dX1_roof_52 : decode cX1_roof 52 = .ok (.aload_n 3, 1) := dk_45 (dk_at dksX1_roof_2 0 rfl rfl)
theorem dX1_roof_53 : decode cX1_roof 53 = .ok (.getfield 261, 3) := dk_180 1 5 (dk_at dksX1_roof_2 1 rfl rfl)
theorem dX1_roof_56 : decode cX1_roof 56 = .ok (.goto 79, 3) := dk_167 0 79 (dk_at dksX1_roof_2 4 rfl rfl)
theorem dX1_roof_59 : decode cX1_roof 59 = .ok (.aload_n 3, 1) := dk_45 (dk_at dksX1_roof_2 7 rfl rfl)
theorem dX1_roof_60 : decode cX1_roof 60 = .ok (.getfield 264, 3) := dk_180 1 8 (dk_at dksX1_roof_2 8 rfl rfl)
theorem dX1_roof_63 : decode cX1_roof 63 = .ok (.goto 72, 3) := dk_167 0 72 (dk_at dksX1_roof_2 11 rfl rfl)
theorem dX1_roof_66 : decode cX1_roof 66 = .ok (.aload_n 3, 1) := dk_45 (dk_at dksX1_roof_2 14 rfl rfl)
theorem dX1_roof_67 : decode cX1_roof 67 = .ok (.getfield 267, 3) := dk_180 1 11 (dk_at dksX1_roof_2 15 rfl rfl)
theorem dX1_roof_70 : decode cX1_roof 70 = .ok (.goto 65, 3) := dk_167 0 65 (dk_at dksX1_roof_2 18 rfl rfl)
theorem dX1_roof_73 : decode cX1_roof 73 = .ok (.aload_n 3, 1) := dk_45 (dk_at dksX1_roof_2 21 rfl rfl)
theorem dX1_roof_74 : decode cX1_roof 74 = .ok (.getfield 204, 3) := dk_180 0 204 (dk_at dksX1_roof_3 0 rfl rfl)
theorem dX1_roof_77 : decode cX1_roof 77 = .ok (.goto 58, 3) := dk_167 0 58 (dk_at dksX1_roof_3 3 rfl rfl)
theorem dX1_roof_80 : decode cX1_roof 80 = .ok (.iconst 0, 1) := dk_3 (dk_at dksX1_roof_3 6 rfl rfl)
theorem dX1_roof_81 : decode cX1_roof 81 = .ok (.aload_n 3, 1) := dk_45 (dk_at dksX1_roof_3 7 rfl rfl)
theorem dX1_roof_82 : decode cX1_roof 82 = .ok (.getfield 198, 3) := dk_180 0 198 (dk_at dksX1_roof_3 8 rfl rfl)
theorem dX1_roof_85 : decode cX1_roof 85 = .ok (.aload_n 0, 1) := dk_42 (dk_at dksX1_roof_3 11 rfl rfl)
theorem dX1_roof_86 : decode cX1_roof 86 = .ok (.getfield 33, 3) := dk_180 0 33 (dk_at dksX1_roof_3 12 rfl rfl)
theorem dX1_roof_89 : decode cX1_roof 89 = .ok (.getfield 201, 3) := dk_180 0 201 (dk_at dksX1_roof_3 15 rfl rfl)
theorem dX1_roof_92 : decode cX1_roof 92 = .ok (.isub, 1) := dk_100 (dk_at dksX1_roof_3 18 rfl rfl)
theorem dX1_roof_93 : decode cX1_roof 93 = .ok (.invokestatic 270, 3) := dk_184 1 14 (dk_at dksX1_roof_3 19 rfl rfl)
theorem dX1_roof_96 : decode cX1_roof 96 = .ok (.goto 39, 3) := dk_167 0 39 (dk_at dksX1_roof_4 0 rfl rfl)
theorem dX1_roof_99 : decode cX1_roof 99 = .ok (.aload_n 0, 1) := dk_42 (dk_at dksX1_roof_4 3 rfl rfl)
theorem dX1_roof_100 : decode cX1_roof 100 = .ok (.iload_n 1, 1) := dk_27 (dk_at dksX1_roof_4 4 rfl rfl)
theorem dX1_roof_101 : decode cX1_roof 101 = .ok (.invokedynamic 276, 5) := by decide +kernel
theorem dX1_roof_106 : decode cX1_roof 106 = .ok (.invokevirtual 210, 3) := dk_182 0 210 (dk_at dksX1_roof_4 10 rfl rfl)
theorem dX1_roof_109 : decode cX1_roof 109 = .ok (.goto 26, 3) := dk_167 0 26 (dk_at dksX1_roof_4 13 rfl rfl)
theorem dX1_roof_112 : decode cX1_roof 112 = .ok (.aload_n 0, 1) := dk_42 (dk_at dksX1_roof_4 16 rfl rfl)
theorem dX1_roof_113 : decode cX1_roof 113 = .ok (.iload_n 1, 1) := dk_27 (dk_at dksX1_roof_4 17 rfl rfl)
theorem dX1_roof_114 : decode cX1_roof 114 = .ok (.invokevirtual 277, 3) := dk_182 1 21 (dk_at dksX1_roof_4 18 rfl rfl)
theorem dX1_roof_117 : decode cX1_roof 117 = .ok (.goto 18, 3) := dk_167 0 18 (dk_at dksX1_roof_4 21 rfl rfl)
theorem dX1_roof_120 : decode cX1_roof 120 = .ok (.aload_n 3, 1) := dk_45 (dk_at dksX1_roof_5 0 rfl rfl)
theorem dX1_roof_121 : decode cX1_roof 121 = .ok (.getfield 281, 3) := dk_180 1 25 (dk_at dksX1_roof_5 1 rfl rfl)
theorem dX1_roof_124 : decode cX1_roof 124 = .ok (.goto 11, 3) := dk_167 0 11 (dk_at dksX1_roof_5 4 rfl rfl)
theorem dX1_roof_127 : decode cX1_roof 127 = .ok (.new 1, 3) := dk_187 0 1 (dk_at dksX1_roof_5 7 rfl rfl)
theorem dX1_roof_130 : decode cX1_roof 130 = .ok (.dup, 1) := dk_89 (dk_at dksX1_roof_5 10 rfl rfl)
theorem dX1_roof_131 : decode cX1_roof 131 = .ok (.invokespecial 3, 3) := dk_183 0 3 (dk_at dksX1_roof_5 11 rfl rfl)
theorem dX1_roof_134 : decode cX1_roof 134 = .ok (.athrow, 1) := dk_191 (dk_at dksX1_roof_5 14 rfl rfl)
theorem dX1_roof_135 : decode cX1_roof 135 = .ok (.ireturn, 1) := dk_172 (dk_at dksX1_roof_5 15 rfl rfl)
abbrev cX1_roofAt : ByteArray := prog_1_method_25_code
def yX1_roofAt : MethodName := ⟨RX1, "roofAt", "(I)LWhistlePosts$Roof;"⟩
def dkwX1_roofAt_1 : List UInt8 := [42, 180, 0, 33, 27, 182, 0, 236, 176]
abbrev dktX1_roofAt_1 : List UInt8 := dkwX1_roofAt_1 ++ []
def dkwX1_roofAt_0 : List UInt8 := [27, 133, 9, 42, 180, 0, 33, 180, 0, 182, 185, 0, 165, 1, 0, 4, 100, 133, 184, 0, 94, 184, 0, 233]
abbrev dktX1_roofAt_0 : List UInt8 := dkwX1_roofAt_0 ++ dktX1_roofAt_1
theorem dksX1_roofAt_0 : cX1_roofAt.data.toList.drop 0 = dktX1_roofAt_0 := by decide +kernel
theorem dksX1_roofAt_1 : cX1_roofAt.data.toList.drop 24 = dktX1_roofAt_1 := dk_seg dksX1_roofAt_0 24 rfl rfl
theorem dX1_roofAt_0 : decode cX1_roofAt 0 = .ok (.iload_n 1, 1) := dk_27 (dk_at dksX1_roofAt_0 0 rfl rfl)
theorem dX1_roofAt_1 : decode cX1_roofAt 1 = .ok (.i2l, 1) := dk_133 (dk_at dksX1_roofAt_0 1 rfl rfl)
theorem dX1_roofAt_2 : decode cX1_roofAt 2 = .ok (.lconst 0, 1) := dk_9 (dk_at dksX1_roofAt_0 2 rfl rfl)
theorem dX1_roofAt_3 : decode cX1_roofAt 3 = .ok (.aload_n 0, 1) := dk_42 (dk_at dksX1_roofAt_0 3 rfl rfl)
theorem dX1_roofAt_4 : decode cX1_roofAt 4 = .ok (.getfield 33, 3) := dk_180 0 33 (dk_at dksX1_roofAt_0 4 rfl rfl)
theorem dX1_roofAt_7 : decode cX1_roofAt 7 = .ok (.getfield 182, 3) := dk_180 0 182 (dk_at dksX1_roofAt_0 7 rfl rfl)
theorem dX1_roofAt_10 : decode cX1_roofAt 10 = .ok (.invokeinterface 165 1, 5) := by decide +kernel
theorem dX1_roofAt_15 : decode cX1_roofAt 15 = .ok (.iconst 1, 1) := dk_4 (dk_at dksX1_roofAt_0 15 rfl rfl)
theorem dX1_roofAt_16 : decode cX1_roofAt 16 = .ok (.isub, 1) := dk_100 (dk_at dksX1_roofAt_0 16 rfl rfl)
theorem dX1_roofAt_17 : decode cX1_roofAt 17 = .ok (.i2l, 1) := dk_133 (dk_at dksX1_roofAt_0 17 rfl rfl)
theorem dX1_roofAt_18 : decode cX1_roofAt 18 = .ok (.invokestatic 94, 3) := dk_184 0 94 (dk_at dksX1_roofAt_0 18 rfl rfl)
theorem dX1_roofAt_21 : decode cX1_roofAt 21 = .ok (.invokestatic 233, 3) := dk_184 0 233 (dk_at dksX1_roofAt_0 21 rfl rfl)
theorem dX1_roofAt_24 : decode cX1_roofAt 24 = .ok (.aload_n 0, 1) := dk_42 (dk_at dksX1_roofAt_1 0 rfl rfl)
theorem dX1_roofAt_25 : decode cX1_roofAt 25 = .ok (.getfield 33, 3) := dk_180 0 33 (dk_at dksX1_roofAt_1 1 rfl rfl)
theorem dX1_roofAt_28 : decode cX1_roofAt 28 = .ok (.iload_n 1, 1) := dk_27 (dk_at dksX1_roofAt_1 4 rfl rfl)
theorem dX1_roofAt_29 : decode cX1_roofAt 29 = .ok (.invokevirtual 236, 3) := dk_182 0 236 (dk_at dksX1_roofAt_1 5 rfl rfl)
theorem dX1_roofAt_32 : decode cX1_roofAt 32 = .ok (.areturn, 1) := dk_176 (dk_at dksX1_roofAt_1 8 rfl rfl)
abbrev cX1_needIndex : ByteArray := prog_1_method_4_code
def yX1_needIndex : MethodName := ⟨RX1, "needIndex", "(Z)V"⟩
def dkwX1_needIndex_0 : List UInt8 := [26, 154, 0, 11, 187, 0, 7, 89, 183, 0, 9, 191, 177]
abbrev dktX1_needIndex_0 : List UInt8 := dkwX1_needIndex_0 ++ []
theorem dksX1_needIndex_0 : cX1_needIndex.data.toList.drop 0 = dktX1_needIndex_0 := by decide +kernel
theorem dX1_needIndex_0 : decode cX1_needIndex 0 = .ok (.iload_n 0, 1) := dk_26 (dk_at dksX1_needIndex_0 0 rfl rfl)
theorem dX1_needIndex_1 : decode cX1_needIndex 1 = .ok (.ifCond .ne 11, 3) := dk_154 0 11 (dk_at dksX1_needIndex_0 1 rfl rfl)
theorem dX1_needIndex_4 : decode cX1_needIndex 4 = .ok (.new 7, 3) := dk_187 0 7 (dk_at dksX1_needIndex_0 4 rfl rfl)
theorem dX1_needIndex_7 : decode cX1_needIndex 7 = .ok (.dup, 1) := dk_89 (dk_at dksX1_needIndex_0 7 rfl rfl)
theorem dX1_needIndex_8 : decode cX1_needIndex 8 = .ok (.invokespecial 9, 3) := dk_183 0 9 (dk_at dksX1_needIndex_0 8 rfl rfl)
theorem dX1_needIndex_11 : decode cX1_needIndex 11 = .ok (.athrow, 1) := dk_191 (dk_at dksX1_needIndex_0 11 rfl rfl)
theorem dX1_needIndex_12 : decode cX1_needIndex 12 = .ok (.return_, 1) := dk_177 (dk_at dksX1_needIndex_0 12 rfl rfl)
abbrev cX1_lambda_roof_1 : ByteArray := prog_1_method_71_code
def yX1_lambda_roof_1 : MethodName := ⟨RX1, "lambda$roof$1", "(ILWhistlePosts$Tune;)Z"⟩
def dkwX1_lambda_roof_1_0 : List UInt8 := [43, 26, 182, 1, 102, 172]
abbrev dktX1_lambda_roof_1_0 : List UInt8 := dkwX1_lambda_roof_1_0 ++ []
theorem dksX1_lambda_roof_1_0 : cX1_lambda_roof_1.data.toList.drop 0 = dktX1_lambda_roof_1_0 := by decide +kernel
theorem dX1_lambda_roof_1_0 : decode cX1_lambda_roof_1 0 = .ok (.aload_n 1, 1) := dk_43 (dk_at dksX1_lambda_roof_1_0 0 rfl rfl)
theorem dX1_lambda_roof_1_1 : decode cX1_lambda_roof_1 1 = .ok (.iload_n 0, 1) := dk_26 (dk_at dksX1_lambda_roof_1_0 1 rfl rfl)
theorem dX1_lambda_roof_1_2 : decode cX1_lambda_roof_1 2 = .ok (.invokevirtual 358, 3) := dk_182 1 102 (dk_at dksX1_lambda_roof_1_0 2 rfl rfl)
theorem dX1_lambda_roof_1_5 : decode cX1_lambda_roof_1 5 = .ok (.ireturn, 1) := dk_172 (dk_at dksX1_lambda_roof_1_0 5 rfl rfl)
abbrev cX1_tunesThat : ByteArray := prog_1_method_20_code
def yX1_tunesThat : MethodName := ⟨RX1, "tunesThat", "(LWhistlePosts$Test;)I"⟩
def dkwX1_tunesThat_2 : List UInt8 := [172]
abbrev dktX1_tunesThat_2 : List UInt8 := dkwX1_tunesThat_2 ++ []
def dkwX1_tunesThat_1 : List UInt8 := [180, 0, 33, 29, 182, 0, 168, 185, 0, 172, 2, 0, 184, 0, 178, 96, 61, 132, 3, 1, 167, 255, 217, 28]
abbrev dktX1_tunesThat_1 : List UInt8 := dkwX1_tunesThat_1 ++ dktX1_tunesThat_2
def dkwX1_tunesThat_0 : List UInt8 := [3, 61, 3, 62, 29, 42, 180, 0, 33, 180, 0, 161, 185, 0, 165, 1, 0, 162, 0, 29, 28, 43, 42]
abbrev dktX1_tunesThat_0 : List UInt8 := dkwX1_tunesThat_0 ++ dktX1_tunesThat_1
theorem dksX1_tunesThat_0 : cX1_tunesThat.data.toList.drop 0 = dktX1_tunesThat_0 := by decide +kernel
theorem dksX1_tunesThat_1 : cX1_tunesThat.data.toList.drop 23 = dktX1_tunesThat_1 := dk_seg dksX1_tunesThat_0 23 rfl rfl
theorem dksX1_tunesThat_2 : cX1_tunesThat.data.toList.drop 47 = dktX1_tunesThat_2 := dk_seg dksX1_tunesThat_1 24 rfl rfl
theorem dX1_tunesThat_0 : decode cX1_tunesThat 0 = .ok (.iconst 0, 1) := dk_3 (dk_at dksX1_tunesThat_0 0 rfl rfl)
theorem dX1_tunesThat_1 : decode cX1_tunesThat 1 = .ok (.istore_n 2, 1) := dk_61 (dk_at dksX1_tunesThat_0 1 rfl rfl)
theorem dX1_tunesThat_2 : decode cX1_tunesThat 2 = .ok (.iconst 0, 1) := dk_3 (dk_at dksX1_tunesThat_0 2 rfl rfl)
theorem dX1_tunesThat_3 : decode cX1_tunesThat 3 = .ok (.istore_n 3, 1) := dk_62 (dk_at dksX1_tunesThat_0 3 rfl rfl)
theorem dX1_tunesThat_4 : decode cX1_tunesThat 4 = .ok (.iload_n 3, 1) := dk_29 (dk_at dksX1_tunesThat_0 4 rfl rfl)
theorem dX1_tunesThat_5 : decode cX1_tunesThat 5 = .ok (.aload_n 0, 1) := dk_42 (dk_at dksX1_tunesThat_0 5 rfl rfl)
theorem dX1_tunesThat_6 : decode cX1_tunesThat 6 = .ok (.getfield 33, 3) := dk_180 0 33 (dk_at dksX1_tunesThat_0 6 rfl rfl)
theorem dX1_tunesThat_9 : decode cX1_tunesThat 9 = .ok (.getfield 161, 3) := dk_180 0 161 (dk_at dksX1_tunesThat_0 9 rfl rfl)
theorem dX1_tunesThat_12 : decode cX1_tunesThat 12 = .ok (.invokeinterface 165 1, 5) := by decide +kernel
theorem dX1_tunesThat_17 : decode cX1_tunesThat 17 = .ok (.if_icmp .ge 29, 3) := dk_162 0 29 (dk_at dksX1_tunesThat_0 17 rfl rfl)
theorem dX1_tunesThat_20 : decode cX1_tunesThat 20 = .ok (.iload_n 2, 1) := dk_28 (dk_at dksX1_tunesThat_0 20 rfl rfl)
theorem dX1_tunesThat_21 : decode cX1_tunesThat 21 = .ok (.aload_n 1, 1) := dk_43 (dk_at dksX1_tunesThat_0 21 rfl rfl)
theorem dX1_tunesThat_22 : decode cX1_tunesThat 22 = .ok (.aload_n 0, 1) := dk_42 (dk_at dksX1_tunesThat_0 22 rfl rfl)
theorem dX1_tunesThat_23 : decode cX1_tunesThat 23 = .ok (.getfield 33, 3) := dk_180 0 33 (dk_at dksX1_tunesThat_1 0 rfl rfl)
theorem dX1_tunesThat_26 : decode cX1_tunesThat 26 = .ok (.iload_n 3, 1) := dk_29 (dk_at dksX1_tunesThat_1 3 rfl rfl)
theorem dX1_tunesThat_27 : decode cX1_tunesThat 27 = .ok (.invokevirtual 168, 3) := dk_182 0 168 (dk_at dksX1_tunesThat_1 4 rfl rfl)
theorem dX1_tunesThat_30 : decode cX1_tunesThat 30 = .ok (.invokeinterface 172 2, 5) := by decide +kernel
theorem dX1_tunesThat_35 : decode cX1_tunesThat 35 = .ok (.invokestatic 178, 3) := dk_184 0 178 (dk_at dksX1_tunesThat_1 12 rfl rfl)
theorem dX1_tunesThat_38 : decode cX1_tunesThat 38 = .ok (.iadd, 1) := dk_96 (dk_at dksX1_tunesThat_1 15 rfl rfl)
theorem dX1_tunesThat_39 : decode cX1_tunesThat 39 = .ok (.istore_n 2, 1) := dk_61 (dk_at dksX1_tunesThat_1 16 rfl rfl)
theorem dX1_tunesThat_40 : decode cX1_tunesThat 40 = .ok (.iinc 3 1, 3) := dk_132 3 1 (dk_at dksX1_tunesThat_1 17 rfl rfl)
theorem dX1_tunesThat_43 : decode cX1_tunesThat 43 = .ok (.goto (-39), 3) := dk_167 255 217 (dk_at dksX1_tunesThat_1 20 rfl rfl)
theorem dX1_tunesThat_46 : decode cX1_tunesThat 46 = .ok (.iload_n 2, 1) := dk_28 (dk_at dksX1_tunesThat_1 23 rfl rfl)
theorem dX1_tunesThat_47 : decode cX1_tunesThat 47 = .ok (.ireturn, 1) := dk_172 (dk_at dksX1_tunesThat_2 0 rfl rfl)
abbrev cX1_waysAt : ByteArray := prog_1_method_28_code
def yX1_waysAt : MethodName := ⟨RX1, "waysAt", "(I)I"⟩
def dkwX1_waysAt_2 : List UInt8 := [167, 255, 224, 28, 172]
abbrev dktX1_waysAt_2 : List UInt8 := dkwX1_waysAt_2 ++ []
def dkwX1_waysAt_1 : List UInt8 := [185, 0, 195, 1, 0, 192, 0, 77, 58, 4, 28, 25, 4, 27, 182, 1, 1, 184, 0, 178, 96, 61]
abbrev dktX1_waysAt_1 : List UInt8 := dkwX1_waysAt_1 ++ dktX1_waysAt_2
def dkwX1_waysAt_0 : List UInt8 := [3, 61, 42, 180, 0, 33, 180, 0, 73, 182, 1, 0, 78, 45, 185, 0, 189, 1, 0, 153, 0, 29, 45]
abbrev dktX1_waysAt_0 : List UInt8 := dkwX1_waysAt_0 ++ dktX1_waysAt_1
theorem dksX1_waysAt_0 : cX1_waysAt.data.toList.drop 0 = dktX1_waysAt_0 := by decide +kernel
theorem dksX1_waysAt_1 : cX1_waysAt.data.toList.drop 23 = dktX1_waysAt_1 := dk_seg dksX1_waysAt_0 23 rfl rfl
theorem dksX1_waysAt_2 : cX1_waysAt.data.toList.drop 45 = dktX1_waysAt_2 := dk_seg dksX1_waysAt_1 22 rfl rfl
theorem dX1_waysAt_0 : decode cX1_waysAt 0 = .ok (.iconst 0, 1) := dk_3 (dk_at dksX1_waysAt_0 0 rfl rfl)
theorem dX1_waysAt_1 : decode cX1_waysAt 1 = .ok (.istore_n 2, 1) := dk_61 (dk_at dksX1_waysAt_0 1 rfl rfl)
theorem dX1_waysAt_2 : decode cX1_waysAt 2 = .ok (.aload_n 0, 1) := dk_42 (dk_at dksX1_waysAt_0 2 rfl rfl)
theorem dX1_waysAt_3 : decode cX1_waysAt 3 = .ok (.getfield 33, 3) := dk_180 0 33 (dk_at dksX1_waysAt_0 3 rfl rfl)
theorem dX1_waysAt_6 : decode cX1_waysAt 6 = .ok (.getfield 73, 3) := dk_180 0 73 (dk_at dksX1_waysAt_0 6 rfl rfl)
theorem dX1_waysAt_9 : decode cX1_waysAt 9 = .ok (.invokevirtual 256, 3) := dk_182 1 0 (dk_at dksX1_waysAt_0 9 rfl rfl)
theorem dX1_waysAt_12 : decode cX1_waysAt 12 = .ok (.astore_n 3, 1) := dk_78 (dk_at dksX1_waysAt_0 12 rfl rfl)
theorem dX1_waysAt_13 : decode cX1_waysAt 13 = .ok (.aload_n 3, 1) := dk_45 (dk_at dksX1_waysAt_0 13 rfl rfl)
theorem dX1_waysAt_14 : decode cX1_waysAt 14 = .ok (.invokeinterface 189 1, 5) := by decide +kernel
theorem dX1_waysAt_19 : decode cX1_waysAt 19 = .ok (.ifCond .eq 29, 3) := dk_153 0 29 (dk_at dksX1_waysAt_0 19 rfl rfl)
theorem dX1_waysAt_22 : decode cX1_waysAt 22 = .ok (.aload_n 3, 1) := dk_45 (dk_at dksX1_waysAt_0 22 rfl rfl)
theorem dX1_waysAt_23 : decode cX1_waysAt 23 = .ok (.invokeinterface 195 1, 5) := by decide +kernel
theorem dX1_waysAt_28 : decode cX1_waysAt 28 = .ok (.checkcast 77, 3) := dk_192 0 77 (dk_at dksX1_waysAt_1 5 rfl rfl)
theorem dX1_waysAt_31 : decode cX1_waysAt 31 = .ok (.astore 4, 2) := dk_58 4 (dk_at dksX1_waysAt_1 8 rfl rfl)
theorem dX1_waysAt_33 : decode cX1_waysAt 33 = .ok (.iload_n 2, 1) := dk_28 (dk_at dksX1_waysAt_1 10 rfl rfl)
theorem dX1_waysAt_34 : decode cX1_waysAt 34 = .ok (.aload 4, 2) := dk_25 4 (dk_at dksX1_waysAt_1 11 rfl rfl)
theorem dX1_waysAt_36 : decode cX1_waysAt 36 = .ok (.iload_n 1, 1) := dk_27 (dk_at dksX1_waysAt_1 13 rfl rfl)
theorem dX1_waysAt_37 : decode cX1_waysAt 37 = .ok (.invokevirtual 257, 3) := dk_182 1 1 (dk_at dksX1_waysAt_1 14 rfl rfl)
theorem dX1_waysAt_40 : decode cX1_waysAt 40 = .ok (.invokestatic 178, 3) := dk_184 0 178 (dk_at dksX1_waysAt_1 17 rfl rfl)
theorem dX1_waysAt_43 : decode cX1_waysAt 43 = .ok (.iadd, 1) := dk_96 (dk_at dksX1_waysAt_1 20 rfl rfl)
theorem dX1_waysAt_44 : decode cX1_waysAt 44 = .ok (.istore_n 2, 1) := dk_61 (dk_at dksX1_waysAt_1 21 rfl rfl)
theorem dX1_waysAt_45 : decode cX1_waysAt 45 = .ok (.goto (-32), 3) := dk_167 255 224 (dk_at dksX1_waysAt_2 0 rfl rfl)
theorem dX1_waysAt_48 : decode cX1_waysAt 48 = .ok (.iload_n 2, 1) := dk_28 (dk_at dksX1_waysAt_2 3 rfl rfl)
theorem dX1_waysAt_49 : decode cX1_waysAt 49 = .ok (.ireturn, 1) := dk_172 (dk_at dksX1_waysAt_2 4 rfl rfl)
abbrev cX1_outputByte : ByteArray := prog_1_method_61_code
def yX1_outputByte : MethodName := ⟨RX1, "outputByte", "(I)I"⟩
def dkwX1_outputByte_1 : List UInt8 := [182, 1, 229, 167, 0, 4, 2, 172]
abbrev dktX1_outputByte_1 : List UInt8 := dkwX1_outputByte_1 ++ []
def dkwX1_outputByte_0 : List UInt8 := [27, 133, 9, 42, 180, 0, 49, 182, 1, 228, 4, 100, 133, 184, 0, 94, 153, 0, 14, 42, 180, 0, 49, 27]
abbrev dktX1_outputByte_0 : List UInt8 := dkwX1_outputByte_0 ++ dktX1_outputByte_1
theorem dksX1_outputByte_0 : cX1_outputByte.data.toList.drop 0 = dktX1_outputByte_0 := by decide +kernel
theorem dksX1_outputByte_1 : cX1_outputByte.data.toList.drop 24 = dktX1_outputByte_1 := dk_seg dksX1_outputByte_0 24 rfl rfl
theorem dX1_outputByte_0 : decode cX1_outputByte 0 = .ok (.iload_n 1, 1) := dk_27 (dk_at dksX1_outputByte_0 0 rfl rfl)
theorem dX1_outputByte_1 : decode cX1_outputByte 1 = .ok (.i2l, 1) := dk_133 (dk_at dksX1_outputByte_0 1 rfl rfl)
theorem dX1_outputByte_2 : decode cX1_outputByte 2 = .ok (.lconst 0, 1) := dk_9 (dk_at dksX1_outputByte_0 2 rfl rfl)
theorem dX1_outputByte_3 : decode cX1_outputByte 3 = .ok (.aload_n 0, 1) := dk_42 (dk_at dksX1_outputByte_0 3 rfl rfl)
theorem dX1_outputByte_4 : decode cX1_outputByte 4 = .ok (.getfield 49, 3) := dk_180 0 49 (dk_at dksX1_outputByte_0 4 rfl rfl)
theorem dX1_outputByte_7 : decode cX1_outputByte 7 = .ok (.invokevirtual 484, 3) := dk_182 1 228 (dk_at dksX1_outputByte_0 7 rfl rfl)
theorem dX1_outputByte_10 : decode cX1_outputByte 10 = .ok (.iconst 1, 1) := dk_4 (dk_at dksX1_outputByte_0 10 rfl rfl)
theorem dX1_outputByte_11 : decode cX1_outputByte 11 = .ok (.isub, 1) := dk_100 (dk_at dksX1_outputByte_0 11 rfl rfl)
theorem dX1_outputByte_12 : decode cX1_outputByte 12 = .ok (.i2l, 1) := dk_133 (dk_at dksX1_outputByte_0 12 rfl rfl)
theorem dX1_outputByte_13 : decode cX1_outputByte 13 = .ok (.invokestatic 94, 3) := dk_184 0 94 (dk_at dksX1_outputByte_0 13 rfl rfl)
theorem dX1_outputByte_16 : decode cX1_outputByte 16 = .ok (.ifCond .eq 14, 3) := dk_153 0 14 (dk_at dksX1_outputByte_0 16 rfl rfl)
theorem dX1_outputByte_19 : decode cX1_outputByte 19 = .ok (.aload_n 0, 1) := dk_42 (dk_at dksX1_outputByte_0 19 rfl rfl)
theorem dX1_outputByte_20 : decode cX1_outputByte 20 = .ok (.getfield 49, 3) := dk_180 0 49 (dk_at dksX1_outputByte_0 20 rfl rfl)
theorem dX1_outputByte_23 : decode cX1_outputByte 23 = .ok (.iload_n 1, 1) := dk_27 (dk_at dksX1_outputByte_0 23 rfl rfl)
theorem dX1_outputByte_24 : decode cX1_outputByte 24 = .ok (.invokevirtual 485, 3) := dk_182 1 229 (dk_at dksX1_outputByte_1 0 rfl rfl)
theorem dX1_outputByte_27 : decode cX1_outputByte 27 = .ok (.goto 4, 3) := dk_167 0 4 (dk_at dksX1_outputByte_1 3 rfl rfl)
theorem dX1_outputByte_30 : decode cX1_outputByte 30 = .ok (.iconst (-1), 1) := dk_2 (dk_at dksX1_outputByte_1 6 rfl rfl)
theorem dX1_outputByte_31 : decode cX1_outputByte 31 = .ok (.ireturn, 1) := dk_172 (dk_at dksX1_outputByte_1 7 rfl rfl)
abbrev cX1_saveState : ByteArray := prog_1_method_62_code
def yX1_saveState : MethodName := ⟨RX1, "saveState", "()I"⟩
def dkwX1_saveState_0 : List UInt8 := [42, 42, 180, 0, 33, 182, 0, 150, 181, 0, 127, 42, 180, 0, 33, 180, 0, 161, 185, 0, 165, 1, 0, 172]
abbrev dktX1_saveState_0 : List UInt8 := dkwX1_saveState_0 ++ []
theorem dksX1_saveState_0 : cX1_saveState.data.toList.drop 0 = dktX1_saveState_0 := by decide +kernel
theorem dX1_saveState_0 : decode cX1_saveState 0 = .ok (.aload_n 0, 1) := dk_42 (dk_at dksX1_saveState_0 0 rfl rfl)
theorem dX1_saveState_1 : decode cX1_saveState 1 = .ok (.aload_n 0, 1) := dk_42 (dk_at dksX1_saveState_0 1 rfl rfl)
theorem dX1_saveState_2 : decode cX1_saveState 2 = .ok (.getfield 33, 3) := dk_180 0 33 (dk_at dksX1_saveState_0 2 rfl rfl)
theorem dX1_saveState_5 : decode cX1_saveState 5 = .ok (.invokevirtual 150, 3) := dk_182 0 150 (dk_at dksX1_saveState_0 5 rfl rfl)
theorem dX1_saveState_8 : decode cX1_saveState 8 = .ok (.putfield 127, 3) := dk_181 0 127 (dk_at dksX1_saveState_0 8 rfl rfl)
theorem dX1_saveState_11 : decode cX1_saveState 11 = .ok (.aload_n 0, 1) := dk_42 (dk_at dksX1_saveState_0 11 rfl rfl)
theorem dX1_saveState_12 : decode cX1_saveState 12 = .ok (.getfield 33, 3) := dk_180 0 33 (dk_at dksX1_saveState_0 12 rfl rfl)
theorem dX1_saveState_15 : decode cX1_saveState 15 = .ok (.getfield 161, 3) := dk_180 0 161 (dk_at dksX1_saveState_0 15 rfl rfl)
theorem dX1_saveState_18 : decode cX1_saveState 18 = .ok (.invokeinterface 165 1, 5) := by decide +kernel
theorem dX1_saveState_23 : decode cX1_saveState 23 = .ok (.ireturn, 1) := dk_172 (dk_at dksX1_saveState_0 23 rfl rfl)
abbrev cX1_count : ByteArray := prog_1_method_23_code
def yX1_count : MethodName := ⟨RX1, "count", "(I)I"⟩
def dkwX1_count_7 : List UInt8 := [172]
abbrev dktX1_count_7 : List UInt8 := dkwX1_count_7 ++ []
def dkwX1_count_6 : List UInt8 := [182, 0, 221, 167, 0, 21, 42, 180, 0, 42, 182, 0, 134, 167, 0, 11, 187, 0, 1, 89, 183, 0, 3, 191]
abbrev dktX1_count_6 : List UInt8 := dkwX1_count_6 ++ dktX1_count_7
def dkwX1_count_5 : List UInt8 := [180, 0, 33, 180, 0, 214, 27, 16, 8, 100, 46, 167, 0, 35, 42, 182, 0, 218, 167, 0, 28, 42]
abbrev dktX1_count_5 : List UInt8 := dkwX1_count_5 ++ dktX1_count_6
def dkwX1_count_4 : List UInt8 := [186, 0, 207, 0, 0, 182, 0, 210, 167, 0, 60, 42, 180, 0, 33, 180, 0, 201, 167, 0, 50, 42]
abbrev dktX1_count_4 : List UInt8 := dkwX1_count_4 ++ dktX1_count_5
def dkwX1_count_3 : List UInt8 := [182, 0, 130, 167, 0, 88, 42, 180, 0, 33, 180, 0, 161, 185, 0, 165, 1, 0, 167, 0, 73, 42, 27]
abbrev dktX1_count_3 : List UInt8 := dkwX1_count_3 ++ dktX1_count_4
def dkwX1_count_2 : List UInt8 := [42, 180, 0, 33, 180, 0, 182, 185, 0, 165, 1, 0, 167, 0, 101, 42, 180, 0, 33, 180, 0, 73]
abbrev dktX1_count_2 : List UInt8 := dkwX1_count_2 ++ dktX1_count_3
def dkwX1_count_1 : List UInt8 := [170, 0, 0, 0, 0, 0, 176, 0, 0, 0, 0, 0, 0, 0, 13, 0, 0, 0, 71, 0, 0, 0, 86, 0, 0, 0, 99, 0, 0, 0, 114, 0, 0, 0, 114, 0, 0, 0, 114, 0, 0, 0, 114, 0, 0, 0, 127, 0, 0, 0, 137, 0, 0, 0, 137, 0, 0, 0, 137, 0, 0, 0, 152, 0, 0, 0, 159, 0, 0, 0, 166]
abbrev dktX1_count_1 : List UInt8 := dkwX1_count_1 ++ dktX1_count_2
def dkwX1_count_0 : List UInt8 := [27]
abbrev dktX1_count_0 : List UInt8 := dkwX1_count_0 ++ dktX1_count_1
theorem dksX1_count_0 : cX1_count.data.toList.drop 0 = dktX1_count_0 := by decide +kernel
theorem dksX1_count_1 : cX1_count.data.toList.drop 1 = dktX1_count_1 := dk_seg dksX1_count_0 1 rfl rfl
theorem dksX1_count_2 : cX1_count.data.toList.drop 72 = dktX1_count_2 := dk_seg dksX1_count_1 71 rfl rfl
theorem dksX1_count_3 : cX1_count.data.toList.drop 94 = dktX1_count_3 := dk_seg dksX1_count_2 22 rfl rfl
theorem dksX1_count_4 : cX1_count.data.toList.drop 117 = dktX1_count_4 := dk_seg dksX1_count_3 23 rfl rfl
theorem dksX1_count_5 : cX1_count.data.toList.drop 139 = dktX1_count_5 := dk_seg dksX1_count_4 22 rfl rfl
theorem dksX1_count_6 : cX1_count.data.toList.drop 161 = dktX1_count_6 := dk_seg dksX1_count_5 22 rfl rfl
theorem dksX1_count_7 : cX1_count.data.toList.drop 185 = dktX1_count_7 := dk_seg dksX1_count_6 24 rfl rfl
theorem dX1_count_0 : decode cX1_count 0 = .ok (.iload_n 1, 1) := dk_27 (dk_at dksX1_count_0 0 rfl rfl)
theorem dX1_count_1 : decode cX1_count 1 = .ok (.tableswitch 176 0 13 #[71, 86, 99, 114, 114, 114, 114, 127, 137, 137, 137, 152, 159, 166], 71) := by decide +kernel
theorem dX1_count_72 : decode cX1_count 72 = .ok (.aload_n 0, 1) := dk_42 (dk_at dksX1_count_2 0 rfl rfl)
theorem dX1_count_73 : decode cX1_count 73 = .ok (.getfield 33, 3) := dk_180 0 33 (dk_at dksX1_count_2 1 rfl rfl)
theorem dX1_count_76 : decode cX1_count 76 = .ok (.getfield 182, 3) := dk_180 0 182 (dk_at dksX1_count_2 4 rfl rfl)
theorem dX1_count_79 : decode cX1_count 79 = .ok (.invokeinterface 165 1, 5) := by decide +kernel
theorem dX1_count_84 : decode cX1_count 84 = .ok (.goto 101, 3) := dk_167 0 101 (dk_at dksX1_count_2 12 rfl rfl)
theorem dX1_count_87 : decode cX1_count 87 = .ok (.aload_n 0, 1) := dk_42 (dk_at dksX1_count_2 15 rfl rfl)
theorem dX1_count_88 : decode cX1_count 88 = .ok (.getfield 33, 3) := dk_180 0 33 (dk_at dksX1_count_2 16 rfl rfl)
theorem dX1_count_91 : decode cX1_count 91 = .ok (.getfield 73, 3) := dk_180 0 73 (dk_at dksX1_count_2 19 rfl rfl)
theorem dX1_count_94 : decode cX1_count 94 = .ok (.invokevirtual 130, 3) := dk_182 0 130 (dk_at dksX1_count_3 0 rfl rfl)
theorem dX1_count_97 : decode cX1_count 97 = .ok (.goto 88, 3) := dk_167 0 88 (dk_at dksX1_count_3 3 rfl rfl)
theorem dX1_count_100 : decode cX1_count 100 = .ok (.aload_n 0, 1) := dk_42 (dk_at dksX1_count_3 6 rfl rfl)
theorem dX1_count_101 : decode cX1_count 101 = .ok (.getfield 33, 3) := dk_180 0 33 (dk_at dksX1_count_3 7 rfl rfl)
theorem dX1_count_104 : decode cX1_count 104 = .ok (.getfield 161, 3) := dk_180 0 161 (dk_at dksX1_count_3 10 rfl rfl)
theorem dX1_count_107 : decode cX1_count 107 = .ok (.invokeinterface 165 1, 5) := by decide +kernel
theorem dX1_count_112 : decode cX1_count 112 = .ok (.goto 73, 3) := dk_167 0 73 (dk_at dksX1_count_3 18 rfl rfl)
theorem dX1_count_115 : decode cX1_count 115 = .ok (.aload_n 0, 1) := dk_42 (dk_at dksX1_count_3 21 rfl rfl)
theorem dX1_count_116 : decode cX1_count 116 = .ok (.iload_n 1, 1) := dk_27 (dk_at dksX1_count_3 22 rfl rfl)
theorem dX1_count_117 : decode cX1_count 117 = .ok (.invokedynamic 207, 5) := by decide +kernel
theorem dX1_count_122 : decode cX1_count 122 = .ok (.invokevirtual 210, 3) := dk_182 0 210 (dk_at dksX1_count_4 5 rfl rfl)
theorem dX1_count_125 : decode cX1_count 125 = .ok (.goto 60, 3) := dk_167 0 60 (dk_at dksX1_count_4 8 rfl rfl)
theorem dX1_count_128 : decode cX1_count 128 = .ok (.aload_n 0, 1) := dk_42 (dk_at dksX1_count_4 11 rfl rfl)
theorem dX1_count_129 : decode cX1_count 129 = .ok (.getfield 33, 3) := dk_180 0 33 (dk_at dksX1_count_4 12 rfl rfl)
theorem dX1_count_132 : decode cX1_count 132 = .ok (.getfield 201, 3) := dk_180 0 201 (dk_at dksX1_count_4 15 rfl rfl)
theorem dX1_count_135 : decode cX1_count 135 = .ok (.goto 50, 3) := dk_167 0 50 (dk_at dksX1_count_4 18 rfl rfl)
theorem dX1_count_138 : decode cX1_count 138 = .ok (.aload_n 0, 1) := dk_42 (dk_at dksX1_count_4 21 rfl rfl)
theorem dX1_count_139 : decode cX1_count 139 = .ok (.getfield 33, 3) := dk_180 0 33 (dk_at dksX1_count_5 0 rfl rfl)
theorem dX1_count_142 : decode cX1_count 142 = .ok (.getfield 214, 3) := dk_180 0 214 (dk_at dksX1_count_5 3 rfl rfl)
theorem dX1_count_145 : decode cX1_count 145 = .ok (.iload_n 1, 1) := dk_27 (dk_at dksX1_count_5 6 rfl rfl)
theorem dX1_count_146 : decode cX1_count 146 = .ok (.bipush 8, 2) := dk_16 8 (dk_at dksX1_count_5 7 rfl rfl)
theorem dX1_count_148 : decode cX1_count 148 = .ok (.isub, 1) := dk_100 (dk_at dksX1_count_5 9 rfl rfl)
theorem dX1_count_149 : decode cX1_count 149 = .ok (.iaload, 1) := dk_46 (dk_at dksX1_count_5 10 rfl rfl)
theorem dX1_count_150 : decode cX1_count 150 = .ok (.goto 35, 3) := dk_167 0 35 (dk_at dksX1_count_5 11 rfl rfl)
theorem dX1_count_153 : decode cX1_count 153 = .ok (.aload_n 0, 1) := dk_42 (dk_at dksX1_count_5 14 rfl rfl)
theorem dX1_count_154 : decode cX1_count 154 = .ok (.invokevirtual 218, 3) := dk_182 0 218 (dk_at dksX1_count_5 15 rfl rfl)
theorem dX1_count_157 : decode cX1_count 157 = .ok (.goto 28, 3) := dk_167 0 28 (dk_at dksX1_count_5 18 rfl rfl)
theorem dX1_count_160 : decode cX1_count 160 = .ok (.aload_n 0, 1) := dk_42 (dk_at dksX1_count_5 21 rfl rfl)
theorem dX1_count_161 : decode cX1_count 161 = .ok (.invokevirtual 221, 3) := dk_182 0 221 (dk_at dksX1_count_6 0 rfl rfl)
theorem dX1_count_164 : decode cX1_count 164 = .ok (.goto 21, 3) := dk_167 0 21 (dk_at dksX1_count_6 3 rfl rfl)
theorem dX1_count_167 : decode cX1_count 167 = .ok (.aload_n 0, 1) := dk_42 (dk_at dksX1_count_6 6 rfl rfl)
theorem dX1_count_168 : decode cX1_count 168 = .ok (.getfield 42, 3) := dk_180 0 42 (dk_at dksX1_count_6 7 rfl rfl)
theorem dX1_count_171 : decode cX1_count 171 = .ok (.invokevirtual 134, 3) := dk_182 0 134 (dk_at dksX1_count_6 10 rfl rfl)
theorem dX1_count_174 : decode cX1_count 174 = .ok (.goto 11, 3) := dk_167 0 11 (dk_at dksX1_count_6 13 rfl rfl)
theorem dX1_count_177 : decode cX1_count 177 = .ok (.new 1, 3) := dk_187 0 1 (dk_at dksX1_count_6 16 rfl rfl)
theorem dX1_count_180 : decode cX1_count 180 = .ok (.dup, 1) := dk_89 (dk_at dksX1_count_6 19 rfl rfl)
theorem dX1_count_181 : decode cX1_count 181 = .ok (.invokespecial 3, 3) := dk_183 0 3 (dk_at dksX1_count_6 20 rfl rfl)
theorem dX1_count_184 : decode cX1_count 184 = .ok (.athrow, 1) := dk_191 (dk_at dksX1_count_6 23 rfl rfl)
theorem dX1_count_185 : decode cX1_count 185 = .ok (.ireturn, 1) := dk_172 (dk_at dksX1_count_7 0 rfl rfl)
abbrev cX1_lambda_count_0 : ByteArray := prog_1_method_72_code
def yX1_lambda_count_0 : MethodName := ⟨RX1, "lambda$count$0", "(ILWhistlePosts$Tune;)Z"⟩
def dkwX1_lambda_count_0_0 : List UInt8 := [43, 180, 1, 60, 26, 6, 100, 160, 0, 7, 4, 167, 0, 4, 3, 172]
abbrev dktX1_lambda_count_0_0 : List UInt8 := dkwX1_lambda_count_0_0 ++ []
theorem dksX1_lambda_count_0_0 : cX1_lambda_count_0.data.toList.drop 0 = dktX1_lambda_count_0_0 := by decide +kernel
theorem dX1_lambda_count_0_0 : decode cX1_lambda_count_0 0 = .ok (.aload_n 1, 1) := dk_43 (dk_at dksX1_lambda_count_0_0 0 rfl rfl)
theorem dX1_lambda_count_0_1 : decode cX1_lambda_count_0 1 = .ok (.getfield 316, 3) := dk_180 1 60 (dk_at dksX1_lambda_count_0_0 1 rfl rfl)
theorem dX1_lambda_count_0_4 : decode cX1_lambda_count_0 4 = .ok (.iload_n 0, 1) := dk_26 (dk_at dksX1_lambda_count_0_0 4 rfl rfl)
theorem dX1_lambda_count_0_5 : decode cX1_lambda_count_0 5 = .ok (.iconst 3, 1) := dk_6 (dk_at dksX1_lambda_count_0_0 5 rfl rfl)
theorem dX1_lambda_count_0_6 : decode cX1_lambda_count_0 6 = .ok (.isub, 1) := dk_100 (dk_at dksX1_lambda_count_0_0 6 rfl rfl)
theorem dX1_lambda_count_0_7 : decode cX1_lambda_count_0 7 = .ok (.if_icmp .ne 7, 3) := dk_160 0 7 (dk_at dksX1_lambda_count_0_0 7 rfl rfl)
theorem dX1_lambda_count_0_10 : decode cX1_lambda_count_0 10 = .ok (.iconst 1, 1) := dk_4 (dk_at dksX1_lambda_count_0_0 10 rfl rfl)
theorem dX1_lambda_count_0_11 : decode cX1_lambda_count_0 11 = .ok (.goto 4, 3) := dk_167 0 4 (dk_at dksX1_lambda_count_0_0 11 rfl rfl)
theorem dX1_lambda_count_0_14 : decode cX1_lambda_count_0 14 = .ok (.iconst 0, 1) := dk_3 (dk_at dksX1_lambda_count_0_0 14 rfl rfl)
theorem dX1_lambda_count_0_15 : decode cX1_lambda_count_0 15 = .ok (.ireturn, 1) := dk_172 (dk_at dksX1_lambda_count_0_0 15 rfl rfl)
abbrev cX1_busyMany : ByteArray := prog_1_method_21_code
def yX1_busyMany : MethodName := ⟨RX1, "busyMany", "()I"⟩
def dkwX1_busyMany_2 : List UInt8 := [164, 0, 7, 4, 167, 0, 4, 3, 184, 0, 178, 96, 60, 167, 255, 212, 27, 172]
abbrev dktX1_busyMany_2 : List UInt8 := dkwX1_busyMany_2 ++ []
def dkwX1_busyMany_1 : List UInt8 := [44, 185, 0, 195, 1, 0, 192, 0, 56, 78, 27, 45, 180, 0, 198, 42, 180, 0, 33, 180, 0, 201]
abbrev dktX1_busyMany_1 : List UInt8 := dkwX1_busyMany_1 ++ dktX1_busyMany_2
def dkwX1_busyMany_0 : List UInt8 := [3, 60, 42, 180, 0, 33, 180, 0, 182, 185, 0, 185, 1, 0, 77, 44, 185, 0, 189, 1, 0, 153, 0, 41]
abbrev dktX1_busyMany_0 : List UInt8 := dkwX1_busyMany_0 ++ dktX1_busyMany_1
theorem dksX1_busyMany_0 : cX1_busyMany.data.toList.drop 0 = dktX1_busyMany_0 := by decide +kernel
theorem dksX1_busyMany_1 : cX1_busyMany.data.toList.drop 24 = dktX1_busyMany_1 := dk_seg dksX1_busyMany_0 24 rfl rfl
theorem dksX1_busyMany_2 : cX1_busyMany.data.toList.drop 46 = dktX1_busyMany_2 := dk_seg dksX1_busyMany_1 22 rfl rfl
theorem dX1_busyMany_0 : decode cX1_busyMany 0 = .ok (.iconst 0, 1) := dk_3 (dk_at dksX1_busyMany_0 0 rfl rfl)
theorem dX1_busyMany_1 : decode cX1_busyMany 1 = .ok (.istore_n 1, 1) := dk_60 (dk_at dksX1_busyMany_0 1 rfl rfl)
theorem dX1_busyMany_2 : decode cX1_busyMany 2 = .ok (.aload_n 0, 1) := dk_42 (dk_at dksX1_busyMany_0 2 rfl rfl)
theorem dX1_busyMany_3 : decode cX1_busyMany 3 = .ok (.getfield 33, 3) := dk_180 0 33 (dk_at dksX1_busyMany_0 3 rfl rfl)
theorem dX1_busyMany_6 : decode cX1_busyMany 6 = .ok (.getfield 182, 3) := dk_180 0 182 (dk_at dksX1_busyMany_0 6 rfl rfl)
theorem dX1_busyMany_9 : decode cX1_busyMany 9 = .ok (.invokeinterface 185 1, 5) := by decide +kernel
theorem dX1_busyMany_14 : decode cX1_busyMany 14 = .ok (.astore_n 2, 1) := dk_77 (dk_at dksX1_busyMany_0 14 rfl rfl)
theorem dX1_busyMany_15 : decode cX1_busyMany 15 = .ok (.aload_n 2, 1) := dk_44 (dk_at dksX1_busyMany_0 15 rfl rfl)
theorem dX1_busyMany_16 : decode cX1_busyMany 16 = .ok (.invokeinterface 189 1, 5) := by decide +kernel
theorem dX1_busyMany_21 : decode cX1_busyMany 21 = .ok (.ifCond .eq 41, 3) := dk_153 0 41 (dk_at dksX1_busyMany_0 21 rfl rfl)
theorem dX1_busyMany_24 : decode cX1_busyMany 24 = .ok (.aload_n 2, 1) := dk_44 (dk_at dksX1_busyMany_1 0 rfl rfl)
theorem dX1_busyMany_25 : decode cX1_busyMany 25 = .ok (.invokeinterface 195 1, 5) := by decide +kernel
theorem dX1_busyMany_30 : decode cX1_busyMany 30 = .ok (.checkcast 56, 3) := dk_192 0 56 (dk_at dksX1_busyMany_1 6 rfl rfl)
theorem dX1_busyMany_33 : decode cX1_busyMany 33 = .ok (.astore_n 3, 1) := dk_78 (dk_at dksX1_busyMany_1 9 rfl rfl)
theorem dX1_busyMany_34 : decode cX1_busyMany 34 = .ok (.iload_n 1, 1) := dk_27 (dk_at dksX1_busyMany_1 10 rfl rfl)
theorem dX1_busyMany_35 : decode cX1_busyMany 35 = .ok (.aload_n 3, 1) := dk_45 (dk_at dksX1_busyMany_1 11 rfl rfl)
theorem dX1_busyMany_36 : decode cX1_busyMany 36 = .ok (.getfield 198, 3) := dk_180 0 198 (dk_at dksX1_busyMany_1 12 rfl rfl)
theorem dX1_busyMany_39 : decode cX1_busyMany 39 = .ok (.aload_n 0, 1) := dk_42 (dk_at dksX1_busyMany_1 15 rfl rfl)
theorem dX1_busyMany_40 : decode cX1_busyMany 40 = .ok (.getfield 33, 3) := dk_180 0 33 (dk_at dksX1_busyMany_1 16 rfl rfl)
theorem dX1_busyMany_43 : decode cX1_busyMany 43 = .ok (.getfield 201, 3) := dk_180 0 201 (dk_at dksX1_busyMany_1 19 rfl rfl)
theorem dX1_busyMany_46 : decode cX1_busyMany 46 = .ok (.if_icmp .le 7, 3) := dk_164 0 7 (dk_at dksX1_busyMany_2 0 rfl rfl)
theorem dX1_busyMany_49 : decode cX1_busyMany 49 = .ok (.iconst 1, 1) := dk_4 (dk_at dksX1_busyMany_2 3 rfl rfl)
theorem dX1_busyMany_50 : decode cX1_busyMany 50 = .ok (.goto 4, 3) := dk_167 0 4 (dk_at dksX1_busyMany_2 4 rfl rfl)
theorem dX1_busyMany_53 : decode cX1_busyMany 53 = .ok (.iconst 0, 1) := dk_3 (dk_at dksX1_busyMany_2 7 rfl rfl)
theorem dX1_busyMany_54 : decode cX1_busyMany 54 = .ok (.invokestatic 178, 3) := dk_184 0 178 (dk_at dksX1_busyMany_2 8 rfl rfl)
theorem dX1_busyMany_57 : decode cX1_busyMany 57 = .ok (.iadd, 1) := dk_96 (dk_at dksX1_busyMany_2 11 rfl rfl)
theorem dX1_busyMany_58 : decode cX1_busyMany 58 = .ok (.istore_n 1, 1) := dk_60 (dk_at dksX1_busyMany_2 12 rfl rfl)
theorem dX1_busyMany_59 : decode cX1_busyMany 59 = .ok (.goto (-44), 3) := dk_167 255 212 (dk_at dksX1_busyMany_2 13 rfl rfl)
theorem dX1_busyMany_62 : decode cX1_busyMany 62 = .ok (.iload_n 1, 1) := dk_27 (dk_at dksX1_busyMany_2 16 rfl rfl)
theorem dX1_busyMany_63 : decode cX1_busyMany 63 = .ok (.ireturn, 1) := dk_172 (dk_at dksX1_busyMany_2 17 rfl rfl)
abbrev cX1_account : ByteArray := prog_1_method_24_code
def yX1_account : MethodName := ⟨RX1, "account", "(I)I"⟩
def dkwX1_account_0 : List UInt8 := [27, 133, 9, 20, 0, 224, 184, 0, 94, 184, 0, 226, 42, 180, 0, 33, 180, 0, 230, 27, 46, 172]
abbrev dktX1_account_0 : List UInt8 := dkwX1_account_0 ++ []
theorem dksX1_account_0 : cX1_account.data.toList.drop 0 = dktX1_account_0 := by decide +kernel
theorem dX1_account_0 : decode cX1_account 0 = .ok (.iload_n 1, 1) := dk_27 (dk_at dksX1_account_0 0 rfl rfl)
theorem dX1_account_1 : decode cX1_account 1 = .ok (.i2l, 1) := dk_133 (dk_at dksX1_account_0 1 rfl rfl)
theorem dX1_account_2 : decode cX1_account 2 = .ok (.lconst 0, 1) := dk_9 (dk_at dksX1_account_0 2 rfl rfl)
theorem dX1_account_3 : decode cX1_account 3 = .ok (.ldc2_w 224, 3) := dk_20 0 224 (dk_at dksX1_account_0 3 rfl rfl)
theorem dX1_account_6 : decode cX1_account 6 = .ok (.invokestatic 94, 3) := dk_184 0 94 (dk_at dksX1_account_0 6 rfl rfl)
theorem dX1_account_9 : decode cX1_account 9 = .ok (.invokestatic 226, 3) := dk_184 0 226 (dk_at dksX1_account_0 9 rfl rfl)
theorem dX1_account_12 : decode cX1_account 12 = .ok (.aload_n 0, 1) := dk_42 (dk_at dksX1_account_0 12 rfl rfl)
theorem dX1_account_13 : decode cX1_account 13 = .ok (.getfield 33, 3) := dk_180 0 33 (dk_at dksX1_account_0 13 rfl rfl)
theorem dX1_account_16 : decode cX1_account 16 = .ok (.getfield 230, 3) := dk_180 0 230 (dk_at dksX1_account_0 16 rfl rfl)
theorem dX1_account_19 : decode cX1_account 19 = .ok (.iload_n 1, 1) := dk_27 (dk_at dksX1_account_0 19 rfl rfl)
theorem dX1_account_20 : decode cX1_account 20 = .ok (.iaload, 1) := dk_46 (dk_at dksX1_account_0 20 rfl rfl)
theorem dX1_account_21 : decode cX1_account 21 = .ok (.ireturn, 1) := dk_172 (dk_at dksX1_account_0 21 rfl rfl)
abbrev cX1_needRange : ByteArray := prog_1_method_3_code
def yX1_needRange : MethodName := ⟨RX1, "needRange", "(Z)V"⟩
def dkwX1_needRange_0 : List UInt8 := [26, 154, 0, 11, 187, 0, 1, 89, 183, 0, 3, 191, 177]
abbrev dktX1_needRange_0 : List UInt8 := dkwX1_needRange_0 ++ []
theorem dksX1_needRange_0 : cX1_needRange.data.toList.drop 0 = dktX1_needRange_0 := by decide +kernel
theorem dX1_needRange_0 : decode cX1_needRange 0 = .ok (.iload_n 0, 1) := dk_26 (dk_at dksX1_needRange_0 0 rfl rfl)
theorem dX1_needRange_1 : decode cX1_needRange 1 = .ok (.ifCond .ne 11, 3) := dk_154 0 11 (dk_at dksX1_needRange_0 1 rfl rfl)
theorem dX1_needRange_4 : decode cX1_needRange 4 = .ok (.new 1, 3) := dk_187 0 1 (dk_at dksX1_needRange_0 4 rfl rfl)
theorem dX1_needRange_7 : decode cX1_needRange 7 = .ok (.dup, 1) := dk_89 (dk_at dksX1_needRange_0 7 rfl rfl)
theorem dX1_needRange_8 : decode cX1_needRange 8 = .ok (.invokespecial 3, 3) := dk_183 0 3 (dk_at dksX1_needRange_0 8 rfl rfl)
theorem dX1_needRange_11 : decode cX1_needRange 11 = .ok (.athrow, 1) := dk_191 (dk_at dksX1_needRange_0 11 rfl rfl)
theorem dX1_needRange_12 : decode cX1_needRange 12 = .ok (.return_, 1) := dk_177 (dk_at dksX1_needRange_0 12 rfl rfl)
abbrev cX1_nameByte : ByteArray := prog_1_method_27_code
def yX1_nameByte : MethodName := ⟨RX1, "nameByte", "(II)I"⟩
def dkwX1_nameByte_1 : List UInt8 := [153, 0, 11, 45, 28, 182, 0, 252, 167, 0, 4, 2, 172]
abbrev dktX1_nameByte_1 : List UInt8 := dkwX1_nameByte_1 ++ []
def dkwX1_nameByte_0 : List UInt8 := [42, 27, 182, 0, 240, 180, 0, 243, 78, 28, 133, 9, 45, 182, 0, 247, 4, 100, 133, 184, 0, 94]
abbrev dktX1_nameByte_0 : List UInt8 := dkwX1_nameByte_0 ++ dktX1_nameByte_1
theorem dksX1_nameByte_0 : cX1_nameByte.data.toList.drop 0 = dktX1_nameByte_0 := by decide +kernel
theorem dksX1_nameByte_1 : cX1_nameByte.data.toList.drop 22 = dktX1_nameByte_1 := dk_seg dksX1_nameByte_0 22 rfl rfl
theorem dX1_nameByte_0 : decode cX1_nameByte 0 = .ok (.aload_n 0, 1) := dk_42 (dk_at dksX1_nameByte_0 0 rfl rfl)
theorem dX1_nameByte_1 : decode cX1_nameByte 1 = .ok (.iload_n 1, 1) := dk_27 (dk_at dksX1_nameByte_0 1 rfl rfl)
theorem dX1_nameByte_2 : decode cX1_nameByte 2 = .ok (.invokevirtual 240, 3) := dk_182 0 240 (dk_at dksX1_nameByte_0 2 rfl rfl)
theorem dX1_nameByte_5 : decode cX1_nameByte 5 = .ok (.getfield 243, 3) := dk_180 0 243 (dk_at dksX1_nameByte_0 5 rfl rfl)
theorem dX1_nameByte_8 : decode cX1_nameByte 8 = .ok (.astore_n 3, 1) := dk_78 (dk_at dksX1_nameByte_0 8 rfl rfl)
theorem dX1_nameByte_9 : decode cX1_nameByte 9 = .ok (.iload_n 2, 1) := dk_28 (dk_at dksX1_nameByte_0 9 rfl rfl)
theorem dX1_nameByte_10 : decode cX1_nameByte 10 = .ok (.i2l, 1) := dk_133 (dk_at dksX1_nameByte_0 10 rfl rfl)
theorem dX1_nameByte_11 : decode cX1_nameByte 11 = .ok (.lconst 0, 1) := dk_9 (dk_at dksX1_nameByte_0 11 rfl rfl)
theorem dX1_nameByte_12 : decode cX1_nameByte 12 = .ok (.aload_n 3, 1) := dk_45 (dk_at dksX1_nameByte_0 12 rfl rfl)
theorem dX1_nameByte_13 : decode cX1_nameByte 13 = .ok (.invokevirtual 247, 3) := dk_182 0 247 (dk_at dksX1_nameByte_0 13 rfl rfl)
theorem dX1_nameByte_16 : decode cX1_nameByte 16 = .ok (.iconst 1, 1) := dk_4 (dk_at dksX1_nameByte_0 16 rfl rfl)
theorem dX1_nameByte_17 : decode cX1_nameByte 17 = .ok (.isub, 1) := dk_100 (dk_at dksX1_nameByte_0 17 rfl rfl)
theorem dX1_nameByte_18 : decode cX1_nameByte 18 = .ok (.i2l, 1) := dk_133 (dk_at dksX1_nameByte_0 18 rfl rfl)
theorem dX1_nameByte_19 : decode cX1_nameByte 19 = .ok (.invokestatic 94, 3) := dk_184 0 94 (dk_at dksX1_nameByte_0 19 rfl rfl)
theorem dX1_nameByte_22 : decode cX1_nameByte 22 = .ok (.ifCond .eq 11, 3) := dk_153 0 11 (dk_at dksX1_nameByte_1 0 rfl rfl)
theorem dX1_nameByte_25 : decode cX1_nameByte 25 = .ok (.aload_n 3, 1) := dk_45 (dk_at dksX1_nameByte_1 3 rfl rfl)
theorem dX1_nameByte_26 : decode cX1_nameByte 26 = .ok (.iload_n 2, 1) := dk_28 (dk_at dksX1_nameByte_1 4 rfl rfl)
theorem dX1_nameByte_27 : decode cX1_nameByte 27 = .ok (.invokevirtual 252, 3) := dk_182 0 252 (dk_at dksX1_nameByte_1 5 rfl rfl)
theorem dX1_nameByte_30 : decode cX1_nameByte 30 = .ok (.goto 4, 3) := dk_167 0 4 (dk_at dksX1_nameByte_1 8 rfl rfl)
theorem dX1_nameByte_33 : decode cX1_nameByte 33 = .ok (.iconst (-1), 1) := dk_2 (dk_at dksX1_nameByte_1 11 rfl rfl)
theorem dX1_nameByte_34 : decode cX1_nameByte 34 = .ok (.ireturn, 1) := dk_172 (dk_at dksX1_nameByte_1 12 rfl rfl)
abbrev cX1_way : ByteArray := prog_1_method_30_code
def yX1_way : MethodName := ⟨RX1, "way", "(II)I"⟩
def dkwX1_way_4 : List UInt8 := [89, 183, 0, 3, 191, 172]
abbrev dktX1_way_4 : List UInt8 := dkwX1_way_4 ++ []
def dkwX1_way_3 : List UInt8 := [45, 182, 1, 32, 167, 0, 25, 45, 182, 1, 35, 167, 0, 18, 45, 182, 1, 38, 167, 0, 11, 187, 0, 1]
abbrev dktX1_way_3 : List UInt8 := dkwX1_way_3 ++ dktX1_way_4
def dkwX1_way_2 : List UInt8 := [170, 0, 0, 0, 0, 47, 0, 0, 0, 0, 0, 0, 0, 2, 0, 0, 0, 26, 0, 0, 0, 33, 0, 0, 0, 40]
abbrev dktX1_way_2 : List UInt8 := dkwX1_way_2 ++ dktX1_way_3
def dkwX1_way_1 : List UInt8 := [180, 0, 33, 180, 0, 73, 27, 182, 1, 28, 192, 0, 77, 78, 28]
abbrev dktX1_way_1 : List UInt8 := dkwX1_way_1 ++ dktX1_way_2
def dkwX1_way_0 : List UInt8 := [27, 133, 9, 42, 180, 0, 33, 180, 0, 73, 182, 0, 130, 4, 100, 133, 184, 0, 94, 184, 0, 233, 42]
abbrev dktX1_way_0 : List UInt8 := dkwX1_way_0 ++ dktX1_way_1
theorem dksX1_way_0 : cX1_way.data.toList.drop 0 = dktX1_way_0 := by decide +kernel
theorem dksX1_way_1 : cX1_way.data.toList.drop 23 = dktX1_way_1 := dk_seg dksX1_way_0 23 rfl rfl
theorem dksX1_way_2 : cX1_way.data.toList.drop 38 = dktX1_way_2 := dk_seg dksX1_way_1 15 rfl rfl
theorem dksX1_way_3 : cX1_way.data.toList.drop 64 = dktX1_way_3 := dk_seg dksX1_way_2 26 rfl rfl
theorem dksX1_way_4 : cX1_way.data.toList.drop 88 = dktX1_way_4 := dk_seg dksX1_way_3 24 rfl rfl
theorem dX1_way_0 : decode cX1_way 0 = .ok (.iload_n 1, 1) := dk_27 (dk_at dksX1_way_0 0 rfl rfl)
theorem dX1_way_1 : decode cX1_way 1 = .ok (.i2l, 1) := dk_133 (dk_at dksX1_way_0 1 rfl rfl)
theorem dX1_way_2 : decode cX1_way 2 = .ok (.lconst 0, 1) := dk_9 (dk_at dksX1_way_0 2 rfl rfl)
theorem dX1_way_3 : decode cX1_way 3 = .ok (.aload_n 0, 1) := dk_42 (dk_at dksX1_way_0 3 rfl rfl)
theorem dX1_way_4 : decode cX1_way 4 = .ok (.getfield 33, 3) := dk_180 0 33 (dk_at dksX1_way_0 4 rfl rfl)
theorem dX1_way_7 : decode cX1_way 7 = .ok (.getfield 73, 3) := dk_180 0 73 (dk_at dksX1_way_0 7 rfl rfl)
theorem dX1_way_10 : decode cX1_way 10 = .ok (.invokevirtual 130, 3) := dk_182 0 130 (dk_at dksX1_way_0 10 rfl rfl)
theorem dX1_way_13 : decode cX1_way 13 = .ok (.iconst 1, 1) := dk_4 (dk_at dksX1_way_0 13 rfl rfl)
theorem dX1_way_14 : decode cX1_way 14 = .ok (.isub, 1) := dk_100 (dk_at dksX1_way_0 14 rfl rfl)
theorem dX1_way_15 : decode cX1_way 15 = .ok (.i2l, 1) := dk_133 (dk_at dksX1_way_0 15 rfl rfl)
theorem dX1_way_16 : decode cX1_way 16 = .ok (.invokestatic 94, 3) := dk_184 0 94 (dk_at dksX1_way_0 16 rfl rfl)
theorem dX1_way_19 : decode cX1_way 19 = .ok (.invokestatic 233, 3) := dk_184 0 233 (dk_at dksX1_way_0 19 rfl rfl)
theorem dX1_way_22 : decode cX1_way 22 = .ok (.aload_n 0, 1) := dk_42 (dk_at dksX1_way_0 22 rfl rfl)
theorem dX1_way_23 : decode cX1_way 23 = .ok (.getfield 33, 3) := dk_180 0 33 (dk_at dksX1_way_1 0 rfl rfl)
theorem dX1_way_26 : decode cX1_way 26 = .ok (.getfield 73, 3) := dk_180 0 73 (dk_at dksX1_way_1 3 rfl rfl)
theorem dX1_way_29 : decode cX1_way 29 = .ok (.iload_n 1, 1) := dk_27 (dk_at dksX1_way_1 6 rfl rfl)
theorem dX1_way_30 : decode cX1_way 30 = .ok (.invokevirtual 284, 3) := dk_182 1 28 (dk_at dksX1_way_1 7 rfl rfl)
theorem dX1_way_33 : decode cX1_way 33 = .ok (.checkcast 77, 3) := dk_192 0 77 (dk_at dksX1_way_1 10 rfl rfl)
theorem dX1_way_36 : decode cX1_way 36 = .ok (.astore_n 3, 1) := dk_78 (dk_at dksX1_way_1 13 rfl rfl)
theorem dX1_way_37 : decode cX1_way 37 = .ok (.iload_n 2, 1) := dk_28 (dk_at dksX1_way_1 14 rfl rfl)
theorem dX1_way_38 : decode cX1_way 38 = .ok (.tableswitch 47 0 2 #[26, 33, 40], 26) := by decide +kernel
theorem dX1_way_64 : decode cX1_way 64 = .ok (.aload_n 3, 1) := dk_45 (dk_at dksX1_way_3 0 rfl rfl)
theorem dX1_way_65 : decode cX1_way 65 = .ok (.invokevirtual 288, 3) := dk_182 1 32 (dk_at dksX1_way_3 1 rfl rfl)
theorem dX1_way_68 : decode cX1_way 68 = .ok (.goto 25, 3) := dk_167 0 25 (dk_at dksX1_way_3 4 rfl rfl)
theorem dX1_way_71 : decode cX1_way 71 = .ok (.aload_n 3, 1) := dk_45 (dk_at dksX1_way_3 7 rfl rfl)
theorem dX1_way_72 : decode cX1_way 72 = .ok (.invokevirtual 291, 3) := dk_182 1 35 (dk_at dksX1_way_3 8 rfl rfl)
theorem dX1_way_75 : decode cX1_way 75 = .ok (.goto 18, 3) := dk_167 0 18 (dk_at dksX1_way_3 11 rfl rfl)
theorem dX1_way_78 : decode cX1_way 78 = .ok (.aload_n 3, 1) := dk_45 (dk_at dksX1_way_3 14 rfl rfl)
theorem dX1_way_79 : decode cX1_way 79 = .ok (.invokevirtual 294, 3) := dk_182 1 38 (dk_at dksX1_way_3 15 rfl rfl)
theorem dX1_way_82 : decode cX1_way 82 = .ok (.goto 11, 3) := dk_167 0 11 (dk_at dksX1_way_3 18 rfl rfl)
theorem dX1_way_85 : decode cX1_way 85 = .ok (.new 1, 3) := dk_187 0 1 (dk_at dksX1_way_3 21 rfl rfl)
theorem dX1_way_88 : decode cX1_way 88 = .ok (.dup, 1) := dk_89 (dk_at dksX1_way_4 0 rfl rfl)
theorem dX1_way_89 : decode cX1_way 89 = .ok (.invokespecial 3, 3) := dk_183 0 3 (dk_at dksX1_way_4 1 rfl rfl)
theorem dX1_way_92 : decode cX1_way 92 = .ok (.athrow, 1) := dk_191 (dk_at dksX1_way_4 4 rfl rfl)
theorem dX1_way_93 : decode cX1_way 93 = .ok (.ireturn, 1) := dk_172 (dk_at dksX1_way_4 5 rfl rfl)
abbrev cX1_route : ByteArray := prog_1_method_31_code
def yX1_route : MethodName := ⟨RX1, "route", "(II)I"⟩
def dkwX1_route_0 : List UInt8 := [42, 27, 182, 0, 240, 78, 42, 28, 182, 0, 240, 58, 4, 42, 180, 0, 33, 27, 28, 182, 1, 41, 172]
abbrev dktX1_route_0 : List UInt8 := dkwX1_route_0 ++ []
theorem dksX1_route_0 : cX1_route.data.toList.drop 0 = dktX1_route_0 := by decide +kernel
theorem dX1_route_0 : decode cX1_route 0 = .ok (.aload_n 0, 1) := dk_42 (dk_at dksX1_route_0 0 rfl rfl)
theorem dX1_route_1 : decode cX1_route 1 = .ok (.iload_n 1, 1) := dk_27 (dk_at dksX1_route_0 1 rfl rfl)
theorem dX1_route_2 : decode cX1_route 2 = .ok (.invokevirtual 240, 3) := dk_182 0 240 (dk_at dksX1_route_0 2 rfl rfl)
theorem dX1_route_5 : decode cX1_route 5 = .ok (.astore_n 3, 1) := dk_78 (dk_at dksX1_route_0 5 rfl rfl)
theorem dX1_route_6 : decode cX1_route 6 = .ok (.aload_n 0, 1) := dk_42 (dk_at dksX1_route_0 6 rfl rfl)
theorem dX1_route_7 : decode cX1_route 7 = .ok (.iload_n 2, 1) := dk_28 (dk_at dksX1_route_0 7 rfl rfl)
theorem dX1_route_8 : decode cX1_route 8 = .ok (.invokevirtual 240, 3) := dk_182 0 240 (dk_at dksX1_route_0 8 rfl rfl)
theorem dX1_route_11 : decode cX1_route 11 = .ok (.astore 4, 2) := dk_58 4 (dk_at dksX1_route_0 11 rfl rfl)
theorem dX1_route_13 : decode cX1_route 13 = .ok (.aload_n 0, 1) := dk_42 (dk_at dksX1_route_0 13 rfl rfl)
theorem dX1_route_14 : decode cX1_route 14 = .ok (.getfield 33, 3) := dk_180 0 33 (dk_at dksX1_route_0 14 rfl rfl)
theorem dX1_route_17 : decode cX1_route 17 = .ok (.iload_n 1, 1) := dk_27 (dk_at dksX1_route_0 17 rfl rfl)
theorem dX1_route_18 : decode cX1_route 18 = .ok (.iload_n 2, 1) := dk_28 (dk_at dksX1_route_0 18 rfl rfl)
theorem dX1_route_19 : decode cX1_route 19 = .ok (.invokevirtual 297, 3) := dk_182 1 41 (dk_at dksX1_route_0 19 rfl rfl)
theorem dX1_route_22 : decode cX1_route 22 = .ok (.ireturn, 1) := dk_172 (dk_at dksX1_route_0 22 rfl rfl)
abbrev cX1_next : ByteArray := prog_1_method_32_code
def yX1_next : MethodName := ⟨RX1, "next", "(II)I"⟩
def dkwX1_next_0 : List UInt8 := [42, 27, 182, 0, 240, 78, 42, 28, 182, 0, 240, 58, 4, 42, 180, 0, 33, 27, 28, 182, 1, 44, 172]
abbrev dktX1_next_0 : List UInt8 := dkwX1_next_0 ++ []
theorem dksX1_next_0 : cX1_next.data.toList.drop 0 = dktX1_next_0 := by decide +kernel
theorem dX1_next_0 : decode cX1_next 0 = .ok (.aload_n 0, 1) := dk_42 (dk_at dksX1_next_0 0 rfl rfl)
theorem dX1_next_1 : decode cX1_next 1 = .ok (.iload_n 1, 1) := dk_27 (dk_at dksX1_next_0 1 rfl rfl)
theorem dX1_next_2 : decode cX1_next 2 = .ok (.invokevirtual 240, 3) := dk_182 0 240 (dk_at dksX1_next_0 2 rfl rfl)
theorem dX1_next_5 : decode cX1_next 5 = .ok (.astore_n 3, 1) := dk_78 (dk_at dksX1_next_0 5 rfl rfl)
theorem dX1_next_6 : decode cX1_next 6 = .ok (.aload_n 0, 1) := dk_42 (dk_at dksX1_next_0 6 rfl rfl)
theorem dX1_next_7 : decode cX1_next 7 = .ok (.iload_n 2, 1) := dk_28 (dk_at dksX1_next_0 7 rfl rfl)
theorem dX1_next_8 : decode cX1_next 8 = .ok (.invokevirtual 240, 3) := dk_182 0 240 (dk_at dksX1_next_0 8 rfl rfl)
theorem dX1_next_11 : decode cX1_next 11 = .ok (.astore 4, 2) := dk_58 4 (dk_at dksX1_next_0 11 rfl rfl)
theorem dX1_next_13 : decode cX1_next 13 = .ok (.aload_n 0, 1) := dk_42 (dk_at dksX1_next_0 13 rfl rfl)
theorem dX1_next_14 : decode cX1_next 14 = .ok (.getfield 33, 3) := dk_180 0 33 (dk_at dksX1_next_0 14 rfl rfl)
theorem dX1_next_17 : decode cX1_next 17 = .ok (.iload_n 1, 1) := dk_27 (dk_at dksX1_next_0 17 rfl rfl)
theorem dX1_next_18 : decode cX1_next 18 = .ok (.iload_n 2, 1) := dk_28 (dk_at dksX1_next_0 18 rfl rfl)
theorem dX1_next_19 : decode cX1_next 19 = .ok (.invokevirtual 300, 3) := dk_182 1 44 (dk_at dksX1_next_0 19 rfl rfl)
theorem dX1_next_22 : decode cX1_next 22 = .ok (.ireturn, 1) := dk_172 (dk_at dksX1_next_0 22 rfl rfl)
abbrev cX1_tune : ByteArray := prog_1_method_33_code
def yX1_tune : MethodName := ⟨RX1, "tune", "(II)I"⟩
def dkwX1_tune_6 : List UInt8 := [183, 0, 3, 191, 172]
abbrev dktX1_tune_6 : List UInt8 := dkwX1_tune_6 ++ []
def dkwX1_tune_5 : List UInt8 := [182, 1, 79, 167, 0, 25, 45, 182, 1, 82, 167, 0, 18, 45, 180, 1, 85, 167, 0, 11, 187, 0, 1, 89]
abbrev dktX1_tune_5 : List UInt8 := dkwX1_tune_5 ++ dktX1_tune_6
def dkwX1_tune_4 : List UInt8 := [184, 0, 178, 167, 0, 49, 45, 180, 1, 73, 184, 0, 178, 167, 0, 39, 45, 180, 1, 76, 167, 0, 32, 45]
abbrev dktX1_tune_4 : List UInt8 := dkwX1_tune_4 ++ dktX1_tune_5
def dkwX1_tune_3 : List UInt8 := [180, 1, 60, 167, 0, 73, 45, 180, 1, 63, 167, 0, 66, 45, 180, 1, 66, 167, 0, 59, 45, 180, 1, 69]
abbrev dktX1_tune_3 : List UInt8 := dkwX1_tune_3 ++ dktX1_tune_4
def dkwX1_tune_2 : List UInt8 := [45, 180, 1, 49, 167, 0, 94, 45, 180, 1, 54, 167, 0, 87, 45, 182, 1, 57, 167, 0, 80, 45]
abbrev dktX1_tune_2 : List UInt8 := dkwX1_tune_2 ++ dktX1_tune_3
def dkwX1_tune_1 : List UInt8 := [170, 0, 0, 0, 151, 0, 0, 0, 0, 0, 0, 0, 11, 0, 0, 0, 61, 0, 0, 0, 68, 0, 0, 0, 75, 0, 0, 0, 82, 0, 0, 0, 89, 0, 0, 0, 96, 0, 0, 0, 103, 0, 0, 0, 113, 0, 0, 0, 123, 0, 0, 0, 130, 0, 0, 0, 137, 0, 0, 0, 144]
abbrev dktX1_tune_1 : List UInt8 := dkwX1_tune_1 ++ dktX1_tune_2
def dkwX1_tune_0 : List UInt8 := [42, 27, 182, 1, 46, 78, 28]
abbrev dktX1_tune_0 : List UInt8 := dkwX1_tune_0 ++ dktX1_tune_1
theorem dksX1_tune_0 : cX1_tune.data.toList.drop 0 = dktX1_tune_0 := by decide +kernel
theorem dksX1_tune_1 : cX1_tune.data.toList.drop 7 = dktX1_tune_1 := dk_seg dksX1_tune_0 7 rfl rfl
theorem dksX1_tune_2 : cX1_tune.data.toList.drop 68 = dktX1_tune_2 := dk_seg dksX1_tune_1 61 rfl rfl
theorem dksX1_tune_3 : cX1_tune.data.toList.drop 90 = dktX1_tune_3 := dk_seg dksX1_tune_2 22 rfl rfl
theorem dksX1_tune_4 : cX1_tune.data.toList.drop 114 = dktX1_tune_4 := dk_seg dksX1_tune_3 24 rfl rfl
theorem dksX1_tune_5 : cX1_tune.data.toList.drop 138 = dktX1_tune_5 := dk_seg dksX1_tune_4 24 rfl rfl
theorem dksX1_tune_6 : cX1_tune.data.toList.drop 162 = dktX1_tune_6 := dk_seg dksX1_tune_5 24 rfl rfl
theorem dX1_tune_0 : decode cX1_tune 0 = .ok (.aload_n 0, 1) := dk_42 (dk_at dksX1_tune_0 0 rfl rfl)
theorem dX1_tune_1 : decode cX1_tune 1 = .ok (.iload_n 1, 1) := dk_27 (dk_at dksX1_tune_0 1 rfl rfl)
theorem dX1_tune_2 : decode cX1_tune 2 = .ok (.invokevirtual 302, 3) := dk_182 1 46 (dk_at dksX1_tune_0 2 rfl rfl)
theorem dX1_tune_5 : decode cX1_tune 5 = .ok (.astore_n 3, 1) := dk_78 (dk_at dksX1_tune_0 5 rfl rfl)
theorem dX1_tune_6 : decode cX1_tune 6 = .ok (.iload_n 2, 1) := dk_28 (dk_at dksX1_tune_0 6 rfl rfl)
theorem dX1_tune_7 : decode cX1_tune 7 = .ok (.tableswitch 151 0 11 #[61, 68, 75, 82, 89, 96, 103, 113, 123, 130, 137, 144], 61) := by decide +kernel
theorem dX1_tune_68 : decode cX1_tune 68 = .ok (.aload_n 3, 1) := dk_45 (dk_at dksX1_tune_2 0 rfl rfl)
theorem dX1_tune_69 : decode cX1_tune 69 = .ok (.getfield 305, 3) := dk_180 1 49 (dk_at dksX1_tune_2 1 rfl rfl)
theorem dX1_tune_72 : decode cX1_tune 72 = .ok (.goto 94, 3) := dk_167 0 94 (dk_at dksX1_tune_2 4 rfl rfl)
theorem dX1_tune_75 : decode cX1_tune 75 = .ok (.aload_n 3, 1) := dk_45 (dk_at dksX1_tune_2 7 rfl rfl)
theorem dX1_tune_76 : decode cX1_tune 76 = .ok (.getfield 310, 3) := dk_180 1 54 (dk_at dksX1_tune_2 8 rfl rfl)
theorem dX1_tune_79 : decode cX1_tune 79 = .ok (.goto 87, 3) := dk_167 0 87 (dk_at dksX1_tune_2 11 rfl rfl)
theorem dX1_tune_82 : decode cX1_tune 82 = .ok (.aload_n 3, 1) := dk_45 (dk_at dksX1_tune_2 14 rfl rfl)
theorem dX1_tune_83 : decode cX1_tune 83 = .ok (.invokevirtual 313, 3) := dk_182 1 57 (dk_at dksX1_tune_2 15 rfl rfl)
theorem dX1_tune_86 : decode cX1_tune 86 = .ok (.goto 80, 3) := dk_167 0 80 (dk_at dksX1_tune_2 18 rfl rfl)
theorem dX1_tune_89 : decode cX1_tune 89 = .ok (.aload_n 3, 1) := dk_45 (dk_at dksX1_tune_2 21 rfl rfl)
theorem dX1_tune_90 : decode cX1_tune 90 = .ok (.getfield 316, 3) := dk_180 1 60 (dk_at dksX1_tune_3 0 rfl rfl)
theorem dX1_tune_93 : decode cX1_tune 93 = .ok (.goto 73, 3) := dk_167 0 73 (dk_at dksX1_tune_3 3 rfl rfl)
theorem dX1_tune_96 : decode cX1_tune 96 = .ok (.aload_n 3, 1) := dk_45 (dk_at dksX1_tune_3 6 rfl rfl)
theorem dX1_tune_97 : decode cX1_tune 97 = .ok (.getfield 319, 3) := dk_180 1 63 (dk_at dksX1_tune_3 7 rfl rfl)
theorem dX1_tune_100 : decode cX1_tune 100 = .ok (.goto 66, 3) := dk_167 0 66 (dk_at dksX1_tune_3 10 rfl rfl)
theorem dX1_tune_103 : decode cX1_tune 103 = .ok (.aload_n 3, 1) := dk_45 (dk_at dksX1_tune_3 13 rfl rfl)
theorem dX1_tune_104 : decode cX1_tune 104 = .ok (.getfield 322, 3) := dk_180 1 66 (dk_at dksX1_tune_3 14 rfl rfl)
theorem dX1_tune_107 : decode cX1_tune 107 = .ok (.goto 59, 3) := dk_167 0 59 (dk_at dksX1_tune_3 17 rfl rfl)
theorem dX1_tune_110 : decode cX1_tune 110 = .ok (.aload_n 3, 1) := dk_45 (dk_at dksX1_tune_3 20 rfl rfl)
theorem dX1_tune_111 : decode cX1_tune 111 = .ok (.getfield 325, 3) := dk_180 1 69 (dk_at dksX1_tune_3 21 rfl rfl)
theorem dX1_tune_114 : decode cX1_tune 114 = .ok (.invokestatic 178, 3) := dk_184 0 178 (dk_at dksX1_tune_4 0 rfl rfl)
theorem dX1_tune_117 : decode cX1_tune 117 = .ok (.goto 49, 3) := dk_167 0 49 (dk_at dksX1_tune_4 3 rfl rfl)
theorem dX1_tune_120 : decode cX1_tune 120 = .ok (.aload_n 3, 1) := dk_45 (dk_at dksX1_tune_4 6 rfl rfl)
theorem dX1_tune_121 : decode cX1_tune 121 = .ok (.getfield 329, 3) := dk_180 1 73 (dk_at dksX1_tune_4 7 rfl rfl)
theorem dX1_tune_124 : decode cX1_tune 124 = .ok (.invokestatic 178, 3) := dk_184 0 178 (dk_at dksX1_tune_4 10 rfl rfl)
theorem dX1_tune_127 : decode cX1_tune 127 = .ok (.goto 39, 3) := dk_167 0 39 (dk_at dksX1_tune_4 13 rfl rfl)
theorem dX1_tune_130 : decode cX1_tune 130 = .ok (.aload_n 3, 1) := dk_45 (dk_at dksX1_tune_4 16 rfl rfl)
theorem dX1_tune_131 : decode cX1_tune 131 = .ok (.getfield 332, 3) := dk_180 1 76 (dk_at dksX1_tune_4 17 rfl rfl)
theorem dX1_tune_134 : decode cX1_tune 134 = .ok (.goto 32, 3) := dk_167 0 32 (dk_at dksX1_tune_4 20 rfl rfl)
theorem dX1_tune_137 : decode cX1_tune 137 = .ok (.aload_n 3, 1) := dk_45 (dk_at dksX1_tune_4 23 rfl rfl)
theorem dX1_tune_138 : decode cX1_tune 138 = .ok (.invokevirtual 335, 3) := dk_182 1 79 (dk_at dksX1_tune_5 0 rfl rfl)
theorem dX1_tune_141 : decode cX1_tune 141 = .ok (.goto 25, 3) := dk_167 0 25 (dk_at dksX1_tune_5 3 rfl rfl)
theorem dX1_tune_144 : decode cX1_tune 144 = .ok (.aload_n 3, 1) := dk_45 (dk_at dksX1_tune_5 6 rfl rfl)
theorem dX1_tune_145 : decode cX1_tune 145 = .ok (.invokevirtual 338, 3) := dk_182 1 82 (dk_at dksX1_tune_5 7 rfl rfl)
theorem dX1_tune_148 : decode cX1_tune 148 = .ok (.goto 18, 3) := dk_167 0 18 (dk_at dksX1_tune_5 10 rfl rfl)
theorem dX1_tune_151 : decode cX1_tune 151 = .ok (.aload_n 3, 1) := dk_45 (dk_at dksX1_tune_5 13 rfl rfl)
theorem dX1_tune_152 : decode cX1_tune 152 = .ok (.getfield 341, 3) := dk_180 1 85 (dk_at dksX1_tune_5 14 rfl rfl)
theorem dX1_tune_155 : decode cX1_tune 155 = .ok (.goto 11, 3) := dk_167 0 11 (dk_at dksX1_tune_5 17 rfl rfl)
theorem dX1_tune_158 : decode cX1_tune 158 = .ok (.new 1, 3) := dk_187 0 1 (dk_at dksX1_tune_5 20 rfl rfl)
theorem dX1_tune_161 : decode cX1_tune 161 = .ok (.dup, 1) := dk_89 (dk_at dksX1_tune_5 23 rfl rfl)
theorem dX1_tune_162 : decode cX1_tune 162 = .ok (.invokespecial 3, 3) := dk_183 0 3 (dk_at dksX1_tune_6 0 rfl rfl)
theorem dX1_tune_165 : decode cX1_tune 165 = .ok (.athrow, 1) := dk_191 (dk_at dksX1_tune_6 3 rfl rfl)
theorem dX1_tune_166 : decode cX1_tune 166 = .ok (.ireturn, 1) := dk_172 (dk_at dksX1_tune_6 4 rfl rfl)
abbrev cX1_tuneAt : ByteArray := prog_1_method_26_code
def yX1_tuneAt : MethodName := ⟨RX1, "tuneAt", "(I)LWhistlePosts$Tune;"⟩
def dkwX1_tuneAt_1 : List UInt8 := [42, 180, 0, 33, 27, 182, 0, 168, 176]
abbrev dktX1_tuneAt_1 : List UInt8 := dkwX1_tuneAt_1 ++ []
def dkwX1_tuneAt_0 : List UInt8 := [27, 133, 9, 42, 180, 0, 33, 180, 0, 161, 185, 0, 165, 1, 0, 4, 100, 133, 184, 0, 94, 184, 0, 233]
abbrev dktX1_tuneAt_0 : List UInt8 := dkwX1_tuneAt_0 ++ dktX1_tuneAt_1
theorem dksX1_tuneAt_0 : cX1_tuneAt.data.toList.drop 0 = dktX1_tuneAt_0 := by decide +kernel
theorem dksX1_tuneAt_1 : cX1_tuneAt.data.toList.drop 24 = dktX1_tuneAt_1 := dk_seg dksX1_tuneAt_0 24 rfl rfl
theorem dX1_tuneAt_0 : decode cX1_tuneAt 0 = .ok (.iload_n 1, 1) := dk_27 (dk_at dksX1_tuneAt_0 0 rfl rfl)
theorem dX1_tuneAt_1 : decode cX1_tuneAt 1 = .ok (.i2l, 1) := dk_133 (dk_at dksX1_tuneAt_0 1 rfl rfl)
theorem dX1_tuneAt_2 : decode cX1_tuneAt 2 = .ok (.lconst 0, 1) := dk_9 (dk_at dksX1_tuneAt_0 2 rfl rfl)
theorem dX1_tuneAt_3 : decode cX1_tuneAt 3 = .ok (.aload_n 0, 1) := dk_42 (dk_at dksX1_tuneAt_0 3 rfl rfl)
theorem dX1_tuneAt_4 : decode cX1_tuneAt 4 = .ok (.getfield 33, 3) := dk_180 0 33 (dk_at dksX1_tuneAt_0 4 rfl rfl)
theorem dX1_tuneAt_7 : decode cX1_tuneAt 7 = .ok (.getfield 161, 3) := dk_180 0 161 (dk_at dksX1_tuneAt_0 7 rfl rfl)
theorem dX1_tuneAt_10 : decode cX1_tuneAt 10 = .ok (.invokeinterface 165 1, 5) := by decide +kernel
theorem dX1_tuneAt_15 : decode cX1_tuneAt 15 = .ok (.iconst 1, 1) := dk_4 (dk_at dksX1_tuneAt_0 15 rfl rfl)
theorem dX1_tuneAt_16 : decode cX1_tuneAt 16 = .ok (.isub, 1) := dk_100 (dk_at dksX1_tuneAt_0 16 rfl rfl)
theorem dX1_tuneAt_17 : decode cX1_tuneAt 17 = .ok (.i2l, 1) := dk_133 (dk_at dksX1_tuneAt_0 17 rfl rfl)
theorem dX1_tuneAt_18 : decode cX1_tuneAt 18 = .ok (.invokestatic 94, 3) := dk_184 0 94 (dk_at dksX1_tuneAt_0 18 rfl rfl)
theorem dX1_tuneAt_21 : decode cX1_tuneAt 21 = .ok (.invokestatic 233, 3) := dk_184 0 233 (dk_at dksX1_tuneAt_0 21 rfl rfl)
theorem dX1_tuneAt_24 : decode cX1_tuneAt 24 = .ok (.aload_n 0, 1) := dk_42 (dk_at dksX1_tuneAt_1 0 rfl rfl)
theorem dX1_tuneAt_25 : decode cX1_tuneAt 25 = .ok (.getfield 33, 3) := dk_180 0 33 (dk_at dksX1_tuneAt_1 1 rfl rfl)
theorem dX1_tuneAt_28 : decode cX1_tuneAt 28 = .ok (.iload_n 1, 1) := dk_27 (dk_at dksX1_tuneAt_1 4 rfl rfl)
theorem dX1_tuneAt_29 : decode cX1_tuneAt 29 = .ok (.invokevirtual 168, 3) := dk_182 0 168 (dk_at dksX1_tuneAt_1 5 rfl rfl)
theorem dX1_tuneAt_32 : decode cX1_tuneAt 32 = .ok (.areturn, 1) := dk_176 (dk_at dksX1_tuneAt_1 8 rfl rfl)
abbrev cX1_note : ByteArray := prog_1_method_34_code
def yX1_note : MethodName := ⟨RX1, "note", "(IIZ)I"⟩
def dkwX1_note_1 : List UInt8 := [2, 172, 29, 153, 0, 13, 25, 4, 180, 1, 88, 28, 46, 167, 0, 10, 25, 4, 180, 1, 91, 28, 46, 172]
abbrev dktX1_note_1 : List UInt8 := dkwX1_note_1 ++ []
def dkwX1_note_0 : List UInt8 := [42, 27, 182, 1, 46, 58, 4, 28, 133, 9, 25, 4, 182, 1, 57, 4, 100, 133, 184, 0, 94, 154, 0, 5]
abbrev dktX1_note_0 : List UInt8 := dkwX1_note_0 ++ dktX1_note_1
theorem dksX1_note_0 : cX1_note.data.toList.drop 0 = dktX1_note_0 := by decide +kernel
theorem dksX1_note_1 : cX1_note.data.toList.drop 24 = dktX1_note_1 := dk_seg dksX1_note_0 24 rfl rfl
theorem dX1_note_0 : decode cX1_note 0 = .ok (.aload_n 0, 1) := dk_42 (dk_at dksX1_note_0 0 rfl rfl)
theorem dX1_note_1 : decode cX1_note 1 = .ok (.iload_n 1, 1) := dk_27 (dk_at dksX1_note_0 1 rfl rfl)
theorem dX1_note_2 : decode cX1_note 2 = .ok (.invokevirtual 302, 3) := dk_182 1 46 (dk_at dksX1_note_0 2 rfl rfl)
theorem dX1_note_5 : decode cX1_note 5 = .ok (.astore 4, 2) := dk_58 4 (dk_at dksX1_note_0 5 rfl rfl)
theorem dX1_note_7 : decode cX1_note 7 = .ok (.iload_n 2, 1) := dk_28 (dk_at dksX1_note_0 7 rfl rfl)
theorem dX1_note_8 : decode cX1_note 8 = .ok (.i2l, 1) := dk_133 (dk_at dksX1_note_0 8 rfl rfl)
theorem dX1_note_9 : decode cX1_note 9 = .ok (.lconst 0, 1) := dk_9 (dk_at dksX1_note_0 9 rfl rfl)
theorem dX1_note_10 : decode cX1_note 10 = .ok (.aload 4, 2) := dk_25 4 (dk_at dksX1_note_0 10 rfl rfl)
theorem dX1_note_12 : decode cX1_note 12 = .ok (.invokevirtual 313, 3) := dk_182 1 57 (dk_at dksX1_note_0 12 rfl rfl)
theorem dX1_note_15 : decode cX1_note 15 = .ok (.iconst 1, 1) := dk_4 (dk_at dksX1_note_0 15 rfl rfl)
theorem dX1_note_16 : decode cX1_note 16 = .ok (.isub, 1) := dk_100 (dk_at dksX1_note_0 16 rfl rfl)
theorem dX1_note_17 : decode cX1_note 17 = .ok (.i2l, 1) := dk_133 (dk_at dksX1_note_0 17 rfl rfl)
theorem dX1_note_18 : decode cX1_note 18 = .ok (.invokestatic 94, 3) := dk_184 0 94 (dk_at dksX1_note_0 18 rfl rfl)
theorem dX1_note_21 : decode cX1_note 21 = .ok (.ifCond .ne 5, 3) := dk_154 0 5 (dk_at dksX1_note_0 21 rfl rfl)
theorem dX1_note_24 : decode cX1_note 24 = .ok (.iconst (-1), 1) := dk_2 (dk_at dksX1_note_1 0 rfl rfl)
theorem dX1_note_25 : decode cX1_note 25 = .ok (.ireturn, 1) := dk_172 (dk_at dksX1_note_1 1 rfl rfl)
theorem dX1_note_26 : decode cX1_note 26 = .ok (.iload_n 3, 1) := dk_29 (dk_at dksX1_note_1 2 rfl rfl)
theorem dX1_note_27 : decode cX1_note 27 = .ok (.ifCond .eq 13, 3) := dk_153 0 13 (dk_at dksX1_note_1 3 rfl rfl)
theorem dX1_note_30 : decode cX1_note 30 = .ok (.aload 4, 2) := dk_25 4 (dk_at dksX1_note_1 6 rfl rfl)
theorem dX1_note_32 : decode cX1_note 32 = .ok (.getfield 344, 3) := dk_180 1 88 (dk_at dksX1_note_1 8 rfl rfl)
theorem dX1_note_35 : decode cX1_note 35 = .ok (.iload_n 2, 1) := dk_28 (dk_at dksX1_note_1 11 rfl rfl)
theorem dX1_note_36 : decode cX1_note 36 = .ok (.iaload, 1) := dk_46 (dk_at dksX1_note_1 12 rfl rfl)
theorem dX1_note_37 : decode cX1_note 37 = .ok (.goto 10, 3) := dk_167 0 10 (dk_at dksX1_note_1 13 rfl rfl)
theorem dX1_note_40 : decode cX1_note 40 = .ok (.aload 4, 2) := dk_25 4 (dk_at dksX1_note_1 16 rfl rfl)
theorem dX1_note_42 : decode cX1_note 42 = .ok (.getfield 347, 3) := dk_180 1 91 (dk_at dksX1_note_1 18 rfl rfl)
theorem dX1_note_45 : decode cX1_note 45 = .ok (.iload_n 2, 1) := dk_28 (dk_at dksX1_note_1 21 rfl rfl)
theorem dX1_note_46 : decode cX1_note 46 = .ok (.iaload, 1) := dk_46 (dk_at dksX1_note_1 22 rfl rfl)
theorem dX1_note_47 : decode cX1_note 47 = .ok (.ireturn, 1) := dk_172 (dk_at dksX1_note_1 23 rfl rfl)
abbrev cX1_waiting : ByteArray := prog_1_method_35_code
def yX1_waiting : MethodName := ⟨RX1, "waiting", "(II)I"⟩
def dkwX1_waiting_6 : List UInt8 := [180, 1, 116, 172]
abbrev dktX1_waiting_6 : List UInt8 := dkwX1_waiting_6 ++ []
def dkwX1_waiting_5 : List UInt8 := [25, 4, 182, 1, 110, 192, 1, 50, 58, 6, 132, 5, 1, 167, 255, 237, 25, 4, 182, 1, 113, 192, 1, 50]
abbrev dktX1_waiting_5 : List UInt8 := dkwX1_waiting_5 ++ dktX1_waiting_6
def dkwX1_waiting_4 : List UInt8 := [182, 1, 109, 4, 100, 133, 184, 0, 94, 154, 0, 5, 2, 172, 3, 54, 5, 21, 5, 28, 162, 0, 19]
abbrev dktX1_waiting_4 : List UInt8 := dkwX1_waiting_4 ++ dktX1_waiting_5
def dkwX1_waiting_3 : List UInt8 := [25, 6, 182, 1, 105, 153, 0, 7, 4, 167, 0, 4, 3, 54, 7, 167, 255, 208, 28, 133, 9, 25, 4]
abbrev dktX1_waiting_3 : List UInt8 := dkwX1_waiting_3 ++ dktX1_waiting_4
def dkwX1_waiting_2 : List UInt8 := [25, 5, 185, 0, 195, 1, 0, 192, 1, 50, 58, 6, 25, 6, 27, 182, 1, 102, 153, 0, 17, 25, 4]
abbrev dktX1_waiting_2 : List UInt8 := dkwX1_waiting_2 ++ dktX1_waiting_3
def dkwX1_waiting_1 : List UInt8 := [180, 0, 33, 180, 0, 161, 185, 0, 185, 1, 0, 58, 5, 25, 5, 185, 0, 189, 1, 0, 153, 0, 44]
abbrev dktX1_waiting_1 : List UInt8 := dkwX1_waiting_1 ++ dktX1_waiting_2
def dkwX1_waiting_0 : List UInt8 := [42, 27, 182, 0, 240, 78, 187, 1, 94, 89, 187, 1, 96, 89, 183, 1, 98, 183, 1, 99, 58, 4, 42]
abbrev dktX1_waiting_0 : List UInt8 := dkwX1_waiting_0 ++ dktX1_waiting_1
theorem dksX1_waiting_0 : cX1_waiting.data.toList.drop 0 = dktX1_waiting_0 := by decide +kernel
theorem dksX1_waiting_1 : cX1_waiting.data.toList.drop 23 = dktX1_waiting_1 := dk_seg dksX1_waiting_0 23 rfl rfl
theorem dksX1_waiting_2 : cX1_waiting.data.toList.drop 46 = dktX1_waiting_2 := dk_seg dksX1_waiting_1 23 rfl rfl
theorem dksX1_waiting_3 : cX1_waiting.data.toList.drop 69 = dktX1_waiting_3 := dk_seg dksX1_waiting_2 23 rfl rfl
theorem dksX1_waiting_4 : cX1_waiting.data.toList.drop 92 = dktX1_waiting_4 := dk_seg dksX1_waiting_3 23 rfl rfl
theorem dksX1_waiting_5 : cX1_waiting.data.toList.drop 115 = dktX1_waiting_5 := dk_seg dksX1_waiting_4 23 rfl rfl
theorem dksX1_waiting_6 : cX1_waiting.data.toList.drop 139 = dktX1_waiting_6 := dk_seg dksX1_waiting_5 24 rfl rfl
theorem dX1_waiting_0 : decode cX1_waiting 0 = .ok (.aload_n 0, 1) := dk_42 (dk_at dksX1_waiting_0 0 rfl rfl)
theorem dX1_waiting_1 : decode cX1_waiting 1 = .ok (.iload_n 1, 1) := dk_27 (dk_at dksX1_waiting_0 1 rfl rfl)
theorem dX1_waiting_2 : decode cX1_waiting 2 = .ok (.invokevirtual 240, 3) := dk_182 0 240 (dk_at dksX1_waiting_0 2 rfl rfl)
theorem dX1_waiting_5 : decode cX1_waiting 5 = .ok (.astore_n 3, 1) := dk_78 (dk_at dksX1_waiting_0 5 rfl rfl)
theorem dX1_waiting_6 : decode cX1_waiting 6 = .ok (.new 350, 3) := dk_187 1 94 (dk_at dksX1_waiting_0 6 rfl rfl)
theorem dX1_waiting_9 : decode cX1_waiting 9 = .ok (.dup, 1) := dk_89 (dk_at dksX1_waiting_0 9 rfl rfl)
theorem dX1_waiting_10 : decode cX1_waiting 10 = .ok (.new 352, 3) := dk_187 1 96 (dk_at dksX1_waiting_0 10 rfl rfl)
theorem dX1_waiting_13 : decode cX1_waiting 13 = .ok (.dup, 1) := dk_89 (dk_at dksX1_waiting_0 13 rfl rfl)
theorem dX1_waiting_14 : decode cX1_waiting 14 = .ok (.invokespecial 354, 3) := dk_183 1 98 (dk_at dksX1_waiting_0 14 rfl rfl)
theorem dX1_waiting_17 : decode cX1_waiting 17 = .ok (.invokespecial 355, 3) := dk_183 1 99 (dk_at dksX1_waiting_0 17 rfl rfl)
theorem dX1_waiting_20 : decode cX1_waiting 20 = .ok (.astore 4, 2) := dk_58 4 (dk_at dksX1_waiting_0 20 rfl rfl)
theorem dX1_waiting_22 : decode cX1_waiting 22 = .ok (.aload_n 0, 1) := dk_42 (dk_at dksX1_waiting_0 22 rfl rfl)
theorem dX1_waiting_23 : decode cX1_waiting 23 = .ok (.getfield 33, 3) := dk_180 0 33 (dk_at dksX1_waiting_1 0 rfl rfl)
theorem dX1_waiting_26 : decode cX1_waiting 26 = .ok (.getfield 161, 3) := dk_180 0 161 (dk_at dksX1_waiting_1 3 rfl rfl)
theorem dX1_waiting_29 : decode cX1_waiting 29 = .ok (.invokeinterface 185 1, 5) := by decide +kernel
theorem dX1_waiting_34 : decode cX1_waiting 34 = .ok (.astore 5, 2) := dk_58 5 (dk_at dksX1_waiting_1 11 rfl rfl)
theorem dX1_waiting_36 : decode cX1_waiting 36 = .ok (.aload 5, 2) := dk_25 5 (dk_at dksX1_waiting_1 13 rfl rfl)
theorem dX1_waiting_38 : decode cX1_waiting 38 = .ok (.invokeinterface 189 1, 5) := by decide +kernel
theorem dX1_waiting_43 : decode cX1_waiting 43 = .ok (.ifCond .eq 44, 3) := dk_153 0 44 (dk_at dksX1_waiting_1 20 rfl rfl)
theorem dX1_waiting_46 : decode cX1_waiting 46 = .ok (.aload 5, 2) := dk_25 5 (dk_at dksX1_waiting_2 0 rfl rfl)
theorem dX1_waiting_48 : decode cX1_waiting 48 = .ok (.invokeinterface 195 1, 5) := by decide +kernel
theorem dX1_waiting_53 : decode cX1_waiting 53 = .ok (.checkcast 306, 3) := dk_192 1 50 (dk_at dksX1_waiting_2 7 rfl rfl)
theorem dX1_waiting_56 : decode cX1_waiting 56 = .ok (.astore 6, 2) := dk_58 6 (dk_at dksX1_waiting_2 10 rfl rfl)
theorem dX1_waiting_58 : decode cX1_waiting 58 = .ok (.aload 6, 2) := dk_25 6 (dk_at dksX1_waiting_2 12 rfl rfl)
theorem dX1_waiting_60 : decode cX1_waiting 60 = .ok (.iload_n 1, 1) := dk_27 (dk_at dksX1_waiting_2 14 rfl rfl)
theorem dX1_waiting_61 : decode cX1_waiting 61 = .ok (.invokevirtual 358, 3) := dk_182 1 102 (dk_at dksX1_waiting_2 15 rfl rfl)
theorem dX1_waiting_64 : decode cX1_waiting 64 = .ok (.ifCond .eq 17, 3) := dk_153 0 17 (dk_at dksX1_waiting_2 18 rfl rfl)
theorem dX1_waiting_67 : decode cX1_waiting 67 = .ok (.aload 4, 2) := dk_25 4 (dk_at dksX1_waiting_2 21 rfl rfl)
theorem dX1_waiting_69 : decode cX1_waiting 69 = .ok (.aload 6, 2) := dk_25 6 (dk_at dksX1_waiting_3 0 rfl rfl)
theorem dX1_waiting_71 : decode cX1_waiting 71 = .ok (.invokevirtual 361, 3) := dk_182 1 105 (dk_at dksX1_waiting_3 2 rfl rfl)
theorem dX1_waiting_74 : decode cX1_waiting 74 = .ok (.ifCond .eq 7, 3) := dk_153 0 7 (dk_at dksX1_waiting_3 5 rfl rfl)
theorem dX1_waiting_77 : decode cX1_waiting 77 = .ok (.iconst 1, 1) := dk_4 (dk_at dksX1_waiting_3 8 rfl rfl)
theorem dX1_waiting_78 : decode cX1_waiting 78 = .ok (.goto 4, 3) := dk_167 0 4 (dk_at dksX1_waiting_3 9 rfl rfl)
theorem dX1_waiting_81 : decode cX1_waiting 81 = .ok (.iconst 0, 1) := dk_3 (dk_at dksX1_waiting_3 12 rfl rfl)
theorem dX1_waiting_82 : decode cX1_waiting 82 = .ok (.istore 7, 2) := dk_54 7 (dk_at dksX1_waiting_3 13 rfl rfl)
theorem dX1_waiting_84 : decode cX1_waiting 84 = .ok (.goto (-48), 3) := dk_167 255 208 (dk_at dksX1_waiting_3 15 rfl rfl)
theorem dX1_waiting_87 : decode cX1_waiting 87 = .ok (.iload_n 2, 1) := dk_28 (dk_at dksX1_waiting_3 18 rfl rfl)
theorem dX1_waiting_88 : decode cX1_waiting 88 = .ok (.i2l, 1) := dk_133 (dk_at dksX1_waiting_3 19 rfl rfl)
theorem dX1_waiting_89 : decode cX1_waiting 89 = .ok (.lconst 0, 1) := dk_9 (dk_at dksX1_waiting_3 20 rfl rfl)
theorem dX1_waiting_90 : decode cX1_waiting 90 = .ok (.aload 4, 2) := dk_25 4 (dk_at dksX1_waiting_3 21 rfl rfl)
theorem dX1_waiting_92 : decode cX1_waiting 92 = .ok (.invokevirtual 365, 3) := dk_182 1 109 (dk_at dksX1_waiting_4 0 rfl rfl)
theorem dX1_waiting_95 : decode cX1_waiting 95 = .ok (.iconst 1, 1) := dk_4 (dk_at dksX1_waiting_4 3 rfl rfl)
theorem dX1_waiting_96 : decode cX1_waiting 96 = .ok (.isub, 1) := dk_100 (dk_at dksX1_waiting_4 4 rfl rfl)
theorem dX1_waiting_97 : decode cX1_waiting 97 = .ok (.i2l, 1) := dk_133 (dk_at dksX1_waiting_4 5 rfl rfl)
theorem dX1_waiting_98 : decode cX1_waiting 98 = .ok (.invokestatic 94, 3) := dk_184 0 94 (dk_at dksX1_waiting_4 6 rfl rfl)
theorem dX1_waiting_101 : decode cX1_waiting 101 = .ok (.ifCond .ne 5, 3) := dk_154 0 5 (dk_at dksX1_waiting_4 9 rfl rfl)
theorem dX1_waiting_104 : decode cX1_waiting 104 = .ok (.iconst (-1), 1) := dk_2 (dk_at dksX1_waiting_4 12 rfl rfl)
theorem dX1_waiting_105 : decode cX1_waiting 105 = .ok (.ireturn, 1) := dk_172 (dk_at dksX1_waiting_4 13 rfl rfl)
theorem dX1_waiting_106 : decode cX1_waiting 106 = .ok (.iconst 0, 1) := dk_3 (dk_at dksX1_waiting_4 14 rfl rfl)
theorem dX1_waiting_107 : decode cX1_waiting 107 = .ok (.istore 5, 2) := dk_54 5 (dk_at dksX1_waiting_4 15 rfl rfl)
theorem dX1_waiting_109 : decode cX1_waiting 109 = .ok (.iload 5, 2) := dk_21 5 (dk_at dksX1_waiting_4 17 rfl rfl)
theorem dX1_waiting_111 : decode cX1_waiting 111 = .ok (.iload_n 2, 1) := dk_28 (dk_at dksX1_waiting_4 19 rfl rfl)
theorem dX1_waiting_112 : decode cX1_waiting 112 = .ok (.if_icmp .ge 19, 3) := dk_162 0 19 (dk_at dksX1_waiting_4 20 rfl rfl)
theorem dX1_waiting_115 : decode cX1_waiting 115 = .ok (.aload 4, 2) := dk_25 4 (dk_at dksX1_waiting_5 0 rfl rfl)
theorem dX1_waiting_117 : decode cX1_waiting 117 = .ok (.invokevirtual 366, 3) := dk_182 1 110 (dk_at dksX1_waiting_5 2 rfl rfl)
theorem dX1_waiting_120 : decode cX1_waiting 120 = .ok (.checkcast 306, 3) := dk_192 1 50 (dk_at dksX1_waiting_5 5 rfl rfl)
theorem dX1_waiting_123 : decode cX1_waiting 123 = .ok (.astore 6, 2) := dk_58 6 (dk_at dksX1_waiting_5 8 rfl rfl)
theorem dX1_waiting_125 : decode cX1_waiting 125 = .ok (.iinc 5 1, 3) := dk_132 5 1 (dk_at dksX1_waiting_5 10 rfl rfl)
theorem dX1_waiting_128 : decode cX1_waiting 128 = .ok (.goto (-19), 3) := dk_167 255 237 (dk_at dksX1_waiting_5 13 rfl rfl)
theorem dX1_waiting_131 : decode cX1_waiting 131 = .ok (.aload 4, 2) := dk_25 4 (dk_at dksX1_waiting_5 16 rfl rfl)
theorem dX1_waiting_133 : decode cX1_waiting 133 = .ok (.invokevirtual 369, 3) := dk_182 1 113 (dk_at dksX1_waiting_5 18 rfl rfl)
theorem dX1_waiting_136 : decode cX1_waiting 136 = .ok (.checkcast 306, 3) := dk_192 1 50 (dk_at dksX1_waiting_5 21 rfl rfl)
theorem dX1_waiting_139 : decode cX1_waiting 139 = .ok (.getfield 372, 3) := dk_180 1 116 (dk_at dksX1_waiting_6 0 rfl rfl)
theorem dX1_waiting_142 : decode cX1_waiting 142 = .ok (.ireturn, 1) := dk_172 (dk_at dksX1_waiting_6 3 rfl rfl)
abbrev cX1_why : ByteArray := prog_1_method_38_code
def yX1_why : MethodName := ⟨RX1, "why", "(II)I"⟩
def dkwX1_why_1 : List UInt8 := [182, 1, 126, 167, 0, 8, 42, 45, 182, 1, 133, 172]
abbrev dktX1_why_1 : List UInt8 := dkwX1_why_1 ++ []
def dkwX1_why_0 : List UInt8 := [42, 27, 182, 1, 46, 78, 28, 133, 9, 10, 184, 0, 94, 184, 0, 226, 28, 154, 0, 11, 42, 45]
abbrev dktX1_why_0 : List UInt8 := dkwX1_why_0 ++ dktX1_why_1
theorem dksX1_why_0 : cX1_why.data.toList.drop 0 = dktX1_why_0 := by decide +kernel
theorem dksX1_why_1 : cX1_why.data.toList.drop 22 = dktX1_why_1 := dk_seg dksX1_why_0 22 rfl rfl
theorem dX1_why_0 : decode cX1_why 0 = .ok (.aload_n 0, 1) := dk_42 (dk_at dksX1_why_0 0 rfl rfl)
theorem dX1_why_1 : decode cX1_why 1 = .ok (.iload_n 1, 1) := dk_27 (dk_at dksX1_why_0 1 rfl rfl)
theorem dX1_why_2 : decode cX1_why 2 = .ok (.invokevirtual 302, 3) := dk_182 1 46 (dk_at dksX1_why_0 2 rfl rfl)
theorem dX1_why_5 : decode cX1_why 5 = .ok (.astore_n 3, 1) := dk_78 (dk_at dksX1_why_0 5 rfl rfl)
theorem dX1_why_6 : decode cX1_why 6 = .ok (.iload_n 2, 1) := dk_28 (dk_at dksX1_why_0 6 rfl rfl)
theorem dX1_why_7 : decode cX1_why 7 = .ok (.i2l, 1) := dk_133 (dk_at dksX1_why_0 7 rfl rfl)
theorem dX1_why_8 : decode cX1_why 8 = .ok (.lconst 0, 1) := dk_9 (dk_at dksX1_why_0 8 rfl rfl)
theorem dX1_why_9 : decode cX1_why 9 = .ok (.lconst 1, 1) := dk_10 (dk_at dksX1_why_0 9 rfl rfl)
theorem dX1_why_10 : decode cX1_why 10 = .ok (.invokestatic 94, 3) := dk_184 0 94 (dk_at dksX1_why_0 10 rfl rfl)
theorem dX1_why_13 : decode cX1_why 13 = .ok (.invokestatic 226, 3) := dk_184 0 226 (dk_at dksX1_why_0 13 rfl rfl)
theorem dX1_why_16 : decode cX1_why 16 = .ok (.iload_n 2, 1) := dk_28 (dk_at dksX1_why_0 16 rfl rfl)
theorem dX1_why_17 : decode cX1_why 17 = .ok (.ifCond .ne 11, 3) := dk_154 0 11 (dk_at dksX1_why_0 17 rfl rfl)
theorem dX1_why_20 : decode cX1_why 20 = .ok (.aload_n 0, 1) := dk_42 (dk_at dksX1_why_0 20 rfl rfl)
theorem dX1_why_21 : decode cX1_why 21 = .ok (.aload_n 3, 1) := dk_45 (dk_at dksX1_why_0 21 rfl rfl)
theorem dX1_why_22 : decode cX1_why 22 = .ok (.invokevirtual 382, 3) := dk_182 1 126 (dk_at dksX1_why_1 0 rfl rfl)
theorem dX1_why_25 : decode cX1_why 25 = .ok (.goto 8, 3) := dk_167 0 8 (dk_at dksX1_why_1 3 rfl rfl)
theorem dX1_why_28 : decode cX1_why 28 = .ok (.aload_n 0, 1) := dk_42 (dk_at dksX1_why_1 6 rfl rfl)
theorem dX1_why_29 : decode cX1_why 29 = .ok (.aload_n 3, 1) := dk_45 (dk_at dksX1_why_1 7 rfl rfl)
theorem dX1_why_30 : decode cX1_why 30 = .ok (.invokevirtual 389, 3) := dk_182 1 133 (dk_at dksX1_why_1 8 rfl rfl)
theorem dX1_why_33 : decode cX1_why 33 = .ok (.ireturn, 1) := dk_172 (dk_at dksX1_why_1 11 rfl rfl)
abbrev cX1_reasonOf : ByteArray := prog_1_method_36_code
def yX1_reasonOf : MethodName := ⟨RX1, "reasonOf", "(LWhistlePosts$Tune;)I"⟩
def dkwX1_reasonOf_4 : List UInt8 := [180, 0, 33, 43, 180, 1, 63, 182, 1, 123, 43, 166, 0, 7, 3, 167, 0, 5, 16, 6, 172]
abbrev dktX1_reasonOf_4 : List UInt8 := dkwX1_reasonOf_4 ++ []
def dkwX1_reasonOf_3 : List UInt8 := [28, 164, 0, 5, 7, 172, 42, 180, 0, 33, 43, 180, 1, 63, 43, 182, 1, 119, 154, 0, 5, 8, 172, 42]
abbrev dktX1_reasonOf_3 : List UInt8 := dkwX1_reasonOf_3 ++ dktX1_reasonOf_4
def dkwX1_reasonOf_2 : List UInt8 := [180, 0, 214, 4, 46, 161, 0, 5, 6, 172, 42, 180, 0, 33, 43, 180, 1, 63, 182, 0, 236, 180, 0, 198]
abbrev dktX1_reasonOf_2 : List UInt8 := dkwX1_reasonOf_2 ++ dktX1_reasonOf_3
def dkwX1_reasonOf_1 : List UInt8 := [180, 1, 63, 43, 180, 1, 54, 182, 1, 41, 2, 160, 0, 5, 5, 172, 28, 16, 60, 112, 42, 180, 0, 33]
abbrev dktX1_reasonOf_1 : List UInt8 := dkwX1_reasonOf_1 ++ dktX1_reasonOf_2
def dkwX1_reasonOf_0 : List UInt8 := [42, 180, 0, 33, 180, 0, 201, 4, 96, 61, 43, 180, 1, 60, 153, 0, 5, 4, 172, 42, 180, 0, 33, 43]
abbrev dktX1_reasonOf_0 : List UInt8 := dkwX1_reasonOf_0 ++ dktX1_reasonOf_1
theorem dksX1_reasonOf_0 : cX1_reasonOf.data.toList.drop 0 = dktX1_reasonOf_0 := by decide +kernel
theorem dksX1_reasonOf_1 : cX1_reasonOf.data.toList.drop 24 = dktX1_reasonOf_1 := dk_seg dksX1_reasonOf_0 24 rfl rfl
theorem dksX1_reasonOf_2 : cX1_reasonOf.data.toList.drop 48 = dktX1_reasonOf_2 := dk_seg dksX1_reasonOf_1 24 rfl rfl
theorem dksX1_reasonOf_3 : cX1_reasonOf.data.toList.drop 72 = dktX1_reasonOf_3 := dk_seg dksX1_reasonOf_2 24 rfl rfl
theorem dksX1_reasonOf_4 : cX1_reasonOf.data.toList.drop 96 = dktX1_reasonOf_4 := dk_seg dksX1_reasonOf_3 24 rfl rfl
theorem dX1_reasonOf_0 : decode cX1_reasonOf 0 = .ok (.aload_n 0, 1) := dk_42 (dk_at dksX1_reasonOf_0 0 rfl rfl)
theorem dX1_reasonOf_1 : decode cX1_reasonOf 1 = .ok (.getfield 33, 3) := dk_180 0 33 (dk_at dksX1_reasonOf_0 1 rfl rfl)
theorem dX1_reasonOf_4 : decode cX1_reasonOf 4 = .ok (.getfield 201, 3) := dk_180 0 201 (dk_at dksX1_reasonOf_0 4 rfl rfl)
theorem dX1_reasonOf_7 : decode cX1_reasonOf 7 = .ok (.iconst 1, 1) := dk_4 (dk_at dksX1_reasonOf_0 7 rfl rfl)
theorem dX1_reasonOf_8 : decode cX1_reasonOf 8 = .ok (.iadd, 1) := dk_96 (dk_at dksX1_reasonOf_0 8 rfl rfl)
theorem dX1_reasonOf_9 : decode cX1_reasonOf 9 = .ok (.istore_n 2, 1) := dk_61 (dk_at dksX1_reasonOf_0 9 rfl rfl)
theorem dX1_reasonOf_10 : decode cX1_reasonOf 10 = .ok (.aload_n 1, 1) := dk_43 (dk_at dksX1_reasonOf_0 10 rfl rfl)
theorem dX1_reasonOf_11 : decode cX1_reasonOf 11 = .ok (.getfield 316, 3) := dk_180 1 60 (dk_at dksX1_reasonOf_0 11 rfl rfl)
theorem dX1_reasonOf_14 : decode cX1_reasonOf 14 = .ok (.ifCond .eq 5, 3) := dk_153 0 5 (dk_at dksX1_reasonOf_0 14 rfl rfl)
theorem dX1_reasonOf_17 : decode cX1_reasonOf 17 = .ok (.iconst 1, 1) := dk_4 (dk_at dksX1_reasonOf_0 17 rfl rfl)
theorem dX1_reasonOf_18 : decode cX1_reasonOf 18 = .ok (.ireturn, 1) := dk_172 (dk_at dksX1_reasonOf_0 18 rfl rfl)
theorem dX1_reasonOf_19 : decode cX1_reasonOf 19 = .ok (.aload_n 0, 1) := dk_42 (dk_at dksX1_reasonOf_0 19 rfl rfl)
theorem dX1_reasonOf_20 : decode cX1_reasonOf 20 = .ok (.getfield 33, 3) := dk_180 0 33 (dk_at dksX1_reasonOf_0 20 rfl rfl)
theorem dX1_reasonOf_23 : decode cX1_reasonOf 23 = .ok (.aload_n 1, 1) := dk_43 (dk_at dksX1_reasonOf_0 23 rfl rfl)
theorem dX1_reasonOf_24 : decode cX1_reasonOf 24 = .ok (.getfield 319, 3) := dk_180 1 63 (dk_at dksX1_reasonOf_1 0 rfl rfl)
theorem dX1_reasonOf_27 : decode cX1_reasonOf 27 = .ok (.aload_n 1, 1) := dk_43 (dk_at dksX1_reasonOf_1 3 rfl rfl)
theorem dX1_reasonOf_28 : decode cX1_reasonOf 28 = .ok (.getfield 310, 3) := dk_180 1 54 (dk_at dksX1_reasonOf_1 4 rfl rfl)
theorem dX1_reasonOf_31 : decode cX1_reasonOf 31 = .ok (.invokevirtual 297, 3) := dk_182 1 41 (dk_at dksX1_reasonOf_1 7 rfl rfl)
theorem dX1_reasonOf_34 : decode cX1_reasonOf 34 = .ok (.iconst (-1), 1) := dk_2 (dk_at dksX1_reasonOf_1 10 rfl rfl)
theorem dX1_reasonOf_35 : decode cX1_reasonOf 35 = .ok (.if_icmp .ne 5, 3) := dk_160 0 5 (dk_at dksX1_reasonOf_1 11 rfl rfl)
theorem dX1_reasonOf_38 : decode cX1_reasonOf 38 = .ok (.iconst 2, 1) := dk_5 (dk_at dksX1_reasonOf_1 14 rfl rfl)
theorem dX1_reasonOf_39 : decode cX1_reasonOf 39 = .ok (.ireturn, 1) := dk_172 (dk_at dksX1_reasonOf_1 15 rfl rfl)
theorem dX1_reasonOf_40 : decode cX1_reasonOf 40 = .ok (.iload_n 2, 1) := dk_28 (dk_at dksX1_reasonOf_1 16 rfl rfl)
theorem dX1_reasonOf_41 : decode cX1_reasonOf 41 = .ok (.bipush 60, 2) := dk_16 60 (dk_at dksX1_reasonOf_1 17 rfl rfl)
theorem dX1_reasonOf_43 : decode cX1_reasonOf 43 = .ok (.irem, 1) := dk_112 (dk_at dksX1_reasonOf_1 19 rfl rfl)
theorem dX1_reasonOf_44 : decode cX1_reasonOf 44 = .ok (.aload_n 0, 1) := dk_42 (dk_at dksX1_reasonOf_1 20 rfl rfl)
theorem dX1_reasonOf_45 : decode cX1_reasonOf 45 = .ok (.getfield 33, 3) := dk_180 0 33 (dk_at dksX1_reasonOf_1 21 rfl rfl)
theorem dX1_reasonOf_48 : decode cX1_reasonOf 48 = .ok (.getfield 214, 3) := dk_180 0 214 (dk_at dksX1_reasonOf_2 0 rfl rfl)
theorem dX1_reasonOf_51 : decode cX1_reasonOf 51 = .ok (.iconst 1, 1) := dk_4 (dk_at dksX1_reasonOf_2 3 rfl rfl)
theorem dX1_reasonOf_52 : decode cX1_reasonOf 52 = .ok (.iaload, 1) := dk_46 (dk_at dksX1_reasonOf_2 4 rfl rfl)
theorem dX1_reasonOf_53 : decode cX1_reasonOf 53 = .ok (.if_icmp .lt 5, 3) := dk_161 0 5 (dk_at dksX1_reasonOf_2 5 rfl rfl)
theorem dX1_reasonOf_56 : decode cX1_reasonOf 56 = .ok (.iconst 3, 1) := dk_6 (dk_at dksX1_reasonOf_2 8 rfl rfl)
theorem dX1_reasonOf_57 : decode cX1_reasonOf 57 = .ok (.ireturn, 1) := dk_172 (dk_at dksX1_reasonOf_2 9 rfl rfl)
theorem dX1_reasonOf_58 : decode cX1_reasonOf 58 = .ok (.aload_n 0, 1) := dk_42 (dk_at dksX1_reasonOf_2 10 rfl rfl)
theorem dX1_reasonOf_59 : decode cX1_reasonOf 59 = .ok (.getfield 33, 3) := dk_180 0 33 (dk_at dksX1_reasonOf_2 11 rfl rfl)
theorem dX1_reasonOf_62 : decode cX1_reasonOf 62 = .ok (.aload_n 1, 1) := dk_43 (dk_at dksX1_reasonOf_2 14 rfl rfl)
theorem dX1_reasonOf_63 : decode cX1_reasonOf 63 = .ok (.getfield 319, 3) := dk_180 1 63 (dk_at dksX1_reasonOf_2 15 rfl rfl)
theorem dX1_reasonOf_66 : decode cX1_reasonOf 66 = .ok (.invokevirtual 236, 3) := dk_182 0 236 (dk_at dksX1_reasonOf_2 18 rfl rfl)
theorem dX1_reasonOf_69 : decode cX1_reasonOf 69 = .ok (.getfield 198, 3) := dk_180 0 198 (dk_at dksX1_reasonOf_2 21 rfl rfl)
theorem dX1_reasonOf_72 : decode cX1_reasonOf 72 = .ok (.iload_n 2, 1) := dk_28 (dk_at dksX1_reasonOf_3 0 rfl rfl)
theorem dX1_reasonOf_73 : decode cX1_reasonOf 73 = .ok (.if_icmp .le 5, 3) := dk_164 0 5 (dk_at dksX1_reasonOf_3 1 rfl rfl)
theorem dX1_reasonOf_76 : decode cX1_reasonOf 76 = .ok (.iconst 4, 1) := dk_7 (dk_at dksX1_reasonOf_3 4 rfl rfl)
theorem dX1_reasonOf_77 : decode cX1_reasonOf 77 = .ok (.ireturn, 1) := dk_172 (dk_at dksX1_reasonOf_3 5 rfl rfl)
theorem dX1_reasonOf_78 : decode cX1_reasonOf 78 = .ok (.aload_n 0, 1) := dk_42 (dk_at dksX1_reasonOf_3 6 rfl rfl)
theorem dX1_reasonOf_79 : decode cX1_reasonOf 79 = .ok (.getfield 33, 3) := dk_180 0 33 (dk_at dksX1_reasonOf_3 7 rfl rfl)
theorem dX1_reasonOf_82 : decode cX1_reasonOf 82 = .ok (.aload_n 1, 1) := dk_43 (dk_at dksX1_reasonOf_3 10 rfl rfl)
theorem dX1_reasonOf_83 : decode cX1_reasonOf 83 = .ok (.getfield 319, 3) := dk_180 1 63 (dk_at dksX1_reasonOf_3 11 rfl rfl)
theorem dX1_reasonOf_86 : decode cX1_reasonOf 86 = .ok (.aload_n 1, 1) := dk_43 (dk_at dksX1_reasonOf_3 14 rfl rfl)
theorem dX1_reasonOf_87 : decode cX1_reasonOf 87 = .ok (.invokevirtual 375, 3) := dk_182 1 119 (dk_at dksX1_reasonOf_3 15 rfl rfl)
theorem dX1_reasonOf_90 : decode cX1_reasonOf 90 = .ok (.ifCond .ne 5, 3) := dk_154 0 5 (dk_at dksX1_reasonOf_3 18 rfl rfl)
theorem dX1_reasonOf_93 : decode cX1_reasonOf 93 = .ok (.iconst 5, 1) := dk_8 (dk_at dksX1_reasonOf_3 21 rfl rfl)
theorem dX1_reasonOf_94 : decode cX1_reasonOf 94 = .ok (.ireturn, 1) := dk_172 (dk_at dksX1_reasonOf_3 22 rfl rfl)
theorem dX1_reasonOf_95 : decode cX1_reasonOf 95 = .ok (.aload_n 0, 1) := dk_42 (dk_at dksX1_reasonOf_3 23 rfl rfl)
theorem dX1_reasonOf_96 : decode cX1_reasonOf 96 = .ok (.getfield 33, 3) := dk_180 0 33 (dk_at dksX1_reasonOf_4 0 rfl rfl)
theorem dX1_reasonOf_99 : decode cX1_reasonOf 99 = .ok (.aload_n 1, 1) := dk_43 (dk_at dksX1_reasonOf_4 3 rfl rfl)
theorem dX1_reasonOf_100 : decode cX1_reasonOf 100 = .ok (.getfield 319, 3) := dk_180 1 63 (dk_at dksX1_reasonOf_4 4 rfl rfl)
theorem dX1_reasonOf_103 : decode cX1_reasonOf 103 = .ok (.invokevirtual 379, 3) := dk_182 1 123 (dk_at dksX1_reasonOf_4 7 rfl rfl)
theorem dX1_reasonOf_106 : decode cX1_reasonOf 106 = .ok (.aload_n 1, 1) := dk_43 (dk_at dksX1_reasonOf_4 10 rfl rfl)
theorem dX1_reasonOf_107 : decode cX1_reasonOf 107 = .ok (.if_acmp .ne 7, 3) := dk_166 0 7 (dk_at dksX1_reasonOf_4 11 rfl rfl)
theorem dX1_reasonOf_110 : decode cX1_reasonOf 110 = .ok (.iconst 0, 1) := dk_3 (dk_at dksX1_reasonOf_4 14 rfl rfl)
theorem dX1_reasonOf_111 : decode cX1_reasonOf 111 = .ok (.goto 5, 3) := dk_167 0 5 (dk_at dksX1_reasonOf_4 15 rfl rfl)
theorem dX1_reasonOf_114 : decode cX1_reasonOf 114 = .ok (.bipush 6, 2) := dk_16 6 (dk_at dksX1_reasonOf_4 18 rfl rfl)
theorem dX1_reasonOf_116 : decode cX1_reasonOf 116 = .ok (.ireturn, 1) := dk_172 (dk_at dksX1_reasonOf_4 20 rfl rfl)
abbrev cX1_causeOf : ByteArray := prog_1_method_37_code
def yX1_causeOf : MethodName := ⟨RX1, "causeOf", "(LWhistlePosts$Tune;)I"⟩
def dkwX1_causeOf_6 : List UInt8 := [180, 0, 33, 43, 180, 1, 63, 182, 1, 123, 180, 1, 116, 96, 167, 0, 4, 3, 172]
abbrev dktX1_causeOf_6 : List UInt8 := dkwX1_causeOf_6 ++ []
def dkwX1_causeOf_5 : List UInt8 := [96, 42, 180, 0, 33, 43, 180, 1, 49, 182, 0, 236, 180, 0, 204, 100, 167, 0, 25, 17, 2, 88, 42]
abbrev dktX1_causeOf_5 : List UInt8 := dkwX1_causeOf_5 ++ dktX1_causeOf_6
def dkwX1_causeOf_4 : List UInt8 := [180, 0, 198, 96, 28, 100, 167, 0, 59, 17, 1, 244, 42, 180, 0, 33, 43, 180, 1, 63, 43, 182, 1, 130]
abbrev dktX1_causeOf_4 : List UInt8 := dkwX1_causeOf_4 ++ dktX1_causeOf_5
def dkwX1_causeOf_3 : List UInt8 := [28, 16, 60, 112, 96, 167, 0, 82, 17, 1, 144, 42, 180, 0, 33, 43, 180, 1, 63, 182, 0, 236]
abbrev dktX1_causeOf_3 : List UInt8 := dkwX1_causeOf_3 ++ dktX1_causeOf_4
def dkwX1_causeOf_2 : List UInt8 := [16, 100, 43, 180, 1, 60, 96, 167, 0, 104, 17, 0, 200, 43, 180, 1, 54, 96, 167, 0, 93, 17, 1, 44]
abbrev dktX1_causeOf_2 : List UInt8 := dkwX1_causeOf_2 ++ dktX1_causeOf_3
def dkwX1_causeOf_1 : List UInt8 := [170, 0, 0, 0, 147, 0, 0, 0, 1, 0, 0, 0, 6, 0, 0, 0, 37, 0, 0, 0, 47, 0, 0, 0, 58, 0, 0, 0, 69, 0, 0, 0, 92, 0, 0, 0, 126]
abbrev dktX1_causeOf_1 : List UInt8 := dkwX1_causeOf_1 ++ dktX1_causeOf_2
def dkwX1_causeOf_0 : List UInt8 := [42, 180, 0, 33, 180, 0, 201, 4, 96, 61, 42, 43, 182, 1, 126]
abbrev dktX1_causeOf_0 : List UInt8 := dkwX1_causeOf_0 ++ dktX1_causeOf_1
theorem dksX1_causeOf_0 : cX1_causeOf.data.toList.drop 0 = dktX1_causeOf_0 := by decide +kernel
theorem dksX1_causeOf_1 : cX1_causeOf.data.toList.drop 15 = dktX1_causeOf_1 := dk_seg dksX1_causeOf_0 15 rfl rfl
theorem dksX1_causeOf_2 : cX1_causeOf.data.toList.drop 52 = dktX1_causeOf_2 := dk_seg dksX1_causeOf_1 37 rfl rfl
theorem dksX1_causeOf_3 : cX1_causeOf.data.toList.drop 76 = dktX1_causeOf_3 := dk_seg dksX1_causeOf_2 24 rfl rfl
theorem dksX1_causeOf_4 : cX1_causeOf.data.toList.drop 98 = dktX1_causeOf_4 := dk_seg dksX1_causeOf_3 22 rfl rfl
theorem dksX1_causeOf_5 : cX1_causeOf.data.toList.drop 122 = dktX1_causeOf_5 := dk_seg dksX1_causeOf_4 24 rfl rfl
theorem dksX1_causeOf_6 : cX1_causeOf.data.toList.drop 145 = dktX1_causeOf_6 := dk_seg dksX1_causeOf_5 23 rfl rfl
theorem dX1_causeOf_0 : decode cX1_causeOf 0 = .ok (.aload_n 0, 1) := dk_42 (dk_at dksX1_causeOf_0 0 rfl rfl)
theorem dX1_causeOf_1 : decode cX1_causeOf 1 = .ok (.getfield 33, 3) := dk_180 0 33 (dk_at dksX1_causeOf_0 1 rfl rfl)
theorem dX1_causeOf_4 : decode cX1_causeOf 4 = .ok (.getfield 201, 3) := dk_180 0 201 (dk_at dksX1_causeOf_0 4 rfl rfl)
theorem dX1_causeOf_7 : decode cX1_causeOf 7 = .ok (.iconst 1, 1) := dk_4 (dk_at dksX1_causeOf_0 7 rfl rfl)
theorem dX1_causeOf_8 : decode cX1_causeOf 8 = .ok (.iadd, 1) := dk_96 (dk_at dksX1_causeOf_0 8 rfl rfl)
theorem dX1_causeOf_9 : decode cX1_causeOf 9 = .ok (.istore_n 2, 1) := dk_61 (dk_at dksX1_causeOf_0 9 rfl rfl)
theorem dX1_causeOf_10 : decode cX1_causeOf 10 = .ok (.aload_n 0, 1) := dk_42 (dk_at dksX1_causeOf_0 10 rfl rfl)
theorem dX1_causeOf_11 : decode cX1_causeOf 11 = .ok (.aload_n 1, 1) := dk_43 (dk_at dksX1_causeOf_0 11 rfl rfl)
theorem dX1_causeOf_12 : decode cX1_causeOf 12 = .ok (.invokevirtual 382, 3) := dk_182 1 126 (dk_at dksX1_causeOf_0 12 rfl rfl)
theorem dX1_causeOf_15 : decode cX1_causeOf 15 = .ok (.tableswitch 147 1 6 #[37, 47, 58, 69, 92, 126], 37) := by decide +kernel
theorem dX1_causeOf_52 : decode cX1_causeOf 52 = .ok (.bipush 100, 2) := dk_16 100 (dk_at dksX1_causeOf_2 0 rfl rfl)
theorem dX1_causeOf_54 : decode cX1_causeOf 54 = .ok (.aload_n 1, 1) := dk_43 (dk_at dksX1_causeOf_2 2 rfl rfl)
theorem dX1_causeOf_55 : decode cX1_causeOf 55 = .ok (.getfield 316, 3) := dk_180 1 60 (dk_at dksX1_causeOf_2 3 rfl rfl)
theorem dX1_causeOf_58 : decode cX1_causeOf 58 = .ok (.iadd, 1) := dk_96 (dk_at dksX1_causeOf_2 6 rfl rfl)
theorem dX1_causeOf_59 : decode cX1_causeOf 59 = .ok (.goto 104, 3) := dk_167 0 104 (dk_at dksX1_causeOf_2 7 rfl rfl)
theorem dX1_causeOf_62 : decode cX1_causeOf 62 = .ok (.sipush 200, 3) := dk_17 0 200 (dk_at dksX1_causeOf_2 10 rfl rfl)
theorem dX1_causeOf_65 : decode cX1_causeOf 65 = .ok (.aload_n 1, 1) := dk_43 (dk_at dksX1_causeOf_2 13 rfl rfl)
theorem dX1_causeOf_66 : decode cX1_causeOf 66 = .ok (.getfield 310, 3) := dk_180 1 54 (dk_at dksX1_causeOf_2 14 rfl rfl)
theorem dX1_causeOf_69 : decode cX1_causeOf 69 = .ok (.iadd, 1) := dk_96 (dk_at dksX1_causeOf_2 17 rfl rfl)
theorem dX1_causeOf_70 : decode cX1_causeOf 70 = .ok (.goto 93, 3) := dk_167 0 93 (dk_at dksX1_causeOf_2 18 rfl rfl)
theorem dX1_causeOf_73 : decode cX1_causeOf 73 = .ok (.sipush 300, 3) := dk_17 1 44 (dk_at dksX1_causeOf_2 21 rfl rfl)
theorem dX1_causeOf_76 : decode cX1_causeOf 76 = .ok (.iload_n 2, 1) := dk_28 (dk_at dksX1_causeOf_3 0 rfl rfl)
theorem dX1_causeOf_77 : decode cX1_causeOf 77 = .ok (.bipush 60, 2) := dk_16 60 (dk_at dksX1_causeOf_3 1 rfl rfl)
theorem dX1_causeOf_79 : decode cX1_causeOf 79 = .ok (.irem, 1) := dk_112 (dk_at dksX1_causeOf_3 3 rfl rfl)
theorem dX1_causeOf_80 : decode cX1_causeOf 80 = .ok (.iadd, 1) := dk_96 (dk_at dksX1_causeOf_3 4 rfl rfl)
theorem dX1_causeOf_81 : decode cX1_causeOf 81 = .ok (.goto 82, 3) := dk_167 0 82 (dk_at dksX1_causeOf_3 5 rfl rfl)
theorem dX1_causeOf_84 : decode cX1_causeOf 84 = .ok (.sipush 400, 3) := dk_17 1 144 (dk_at dksX1_causeOf_3 8 rfl rfl)
theorem dX1_causeOf_87 : decode cX1_causeOf 87 = .ok (.aload_n 0, 1) := dk_42 (dk_at dksX1_causeOf_3 11 rfl rfl)
theorem dX1_causeOf_88 : decode cX1_causeOf 88 = .ok (.getfield 33, 3) := dk_180 0 33 (dk_at dksX1_causeOf_3 12 rfl rfl)
theorem dX1_causeOf_91 : decode cX1_causeOf 91 = .ok (.aload_n 1, 1) := dk_43 (dk_at dksX1_causeOf_3 15 rfl rfl)
theorem dX1_causeOf_92 : decode cX1_causeOf 92 = .ok (.getfield 319, 3) := dk_180 1 63 (dk_at dksX1_causeOf_3 16 rfl rfl)
theorem dX1_causeOf_95 : decode cX1_causeOf 95 = .ok (.invokevirtual 236, 3) := dk_182 0 236 (dk_at dksX1_causeOf_3 19 rfl rfl)
theorem dX1_causeOf_98 : decode cX1_causeOf 98 = .ok (.getfield 198, 3) := dk_180 0 198 (dk_at dksX1_causeOf_4 0 rfl rfl)
theorem dX1_causeOf_101 : decode cX1_causeOf 101 = .ok (.iadd, 1) := dk_96 (dk_at dksX1_causeOf_4 3 rfl rfl)
theorem dX1_causeOf_102 : decode cX1_causeOf 102 = .ok (.iload_n 2, 1) := dk_28 (dk_at dksX1_causeOf_4 4 rfl rfl)
theorem dX1_causeOf_103 : decode cX1_causeOf 103 = .ok (.isub, 1) := dk_100 (dk_at dksX1_causeOf_4 5 rfl rfl)
theorem dX1_causeOf_104 : decode cX1_causeOf 104 = .ok (.goto 59, 3) := dk_167 0 59 (dk_at dksX1_causeOf_4 6 rfl rfl)
theorem dX1_causeOf_107 : decode cX1_causeOf 107 = .ok (.sipush 500, 3) := dk_17 1 244 (dk_at dksX1_causeOf_4 9 rfl rfl)
theorem dX1_causeOf_110 : decode cX1_causeOf 110 = .ok (.aload_n 0, 1) := dk_42 (dk_at dksX1_causeOf_4 12 rfl rfl)
theorem dX1_causeOf_111 : decode cX1_causeOf 111 = .ok (.getfield 33, 3) := dk_180 0 33 (dk_at dksX1_causeOf_4 13 rfl rfl)
theorem dX1_causeOf_114 : decode cX1_causeOf 114 = .ok (.aload_n 1, 1) := dk_43 (dk_at dksX1_causeOf_4 16 rfl rfl)
theorem dX1_causeOf_115 : decode cX1_causeOf 115 = .ok (.getfield 319, 3) := dk_180 1 63 (dk_at dksX1_causeOf_4 17 rfl rfl)
theorem dX1_causeOf_118 : decode cX1_causeOf 118 = .ok (.aload_n 1, 1) := dk_43 (dk_at dksX1_causeOf_4 20 rfl rfl)
theorem dX1_causeOf_119 : decode cX1_causeOf 119 = .ok (.invokevirtual 386, 3) := dk_182 1 130 (dk_at dksX1_causeOf_4 21 rfl rfl)
theorem dX1_causeOf_122 : decode cX1_causeOf 122 = .ok (.iadd, 1) := dk_96 (dk_at dksX1_causeOf_5 0 rfl rfl)
theorem dX1_causeOf_123 : decode cX1_causeOf 123 = .ok (.aload_n 0, 1) := dk_42 (dk_at dksX1_causeOf_5 1 rfl rfl)
theorem dX1_causeOf_124 : decode cX1_causeOf 124 = .ok (.getfield 33, 3) := dk_180 0 33 (dk_at dksX1_causeOf_5 2 rfl rfl)
theorem dX1_causeOf_127 : decode cX1_causeOf 127 = .ok (.aload_n 1, 1) := dk_43 (dk_at dksX1_causeOf_5 5 rfl rfl)
theorem dX1_causeOf_128 : decode cX1_causeOf 128 = .ok (.getfield 305, 3) := dk_180 1 49 (dk_at dksX1_causeOf_5 6 rfl rfl)
theorem dX1_causeOf_131 : decode cX1_causeOf 131 = .ok (.invokevirtual 236, 3) := dk_182 0 236 (dk_at dksX1_causeOf_5 9 rfl rfl)
theorem dX1_causeOf_134 : decode cX1_causeOf 134 = .ok (.getfield 204, 3) := dk_180 0 204 (dk_at dksX1_causeOf_5 12 rfl rfl)
theorem dX1_causeOf_137 : decode cX1_causeOf 137 = .ok (.isub, 1) := dk_100 (dk_at dksX1_causeOf_5 15 rfl rfl)
theorem dX1_causeOf_138 : decode cX1_causeOf 138 = .ok (.goto 25, 3) := dk_167 0 25 (dk_at dksX1_causeOf_5 16 rfl rfl)
theorem dX1_causeOf_141 : decode cX1_causeOf 141 = .ok (.sipush 600, 3) := dk_17 2 88 (dk_at dksX1_causeOf_5 19 rfl rfl)
theorem dX1_causeOf_144 : decode cX1_causeOf 144 = .ok (.aload_n 0, 1) := dk_42 (dk_at dksX1_causeOf_5 22 rfl rfl)
theorem dX1_causeOf_145 : decode cX1_causeOf 145 = .ok (.getfield 33, 3) := dk_180 0 33 (dk_at dksX1_causeOf_6 0 rfl rfl)
theorem dX1_causeOf_148 : decode cX1_causeOf 148 = .ok (.aload_n 1, 1) := dk_43 (dk_at dksX1_causeOf_6 3 rfl rfl)
theorem dX1_causeOf_149 : decode cX1_causeOf 149 = .ok (.getfield 319, 3) := dk_180 1 63 (dk_at dksX1_causeOf_6 4 rfl rfl)
theorem dX1_causeOf_152 : decode cX1_causeOf 152 = .ok (.invokevirtual 379, 3) := dk_182 1 123 (dk_at dksX1_causeOf_6 7 rfl rfl)
theorem dX1_causeOf_155 : decode cX1_causeOf 155 = .ok (.getfield 372, 3) := dk_180 1 116 (dk_at dksX1_causeOf_6 10 rfl rfl)
theorem dX1_causeOf_158 : decode cX1_causeOf 158 = .ok (.iadd, 1) := dk_96 (dk_at dksX1_causeOf_6 13 rfl rfl)
theorem dX1_causeOf_159 : decode cX1_causeOf 159 = .ok (.goto 4, 3) := dk_167 0 4 (dk_at dksX1_causeOf_6 14 rfl rfl)
theorem dX1_causeOf_162 : decode cX1_causeOf 162 = .ok (.iconst 0, 1) := dk_3 (dk_at dksX1_causeOf_6 17 rfl rfl)
theorem dX1_causeOf_163 : decode cX1_causeOf 163 = .ok (.ireturn, 1) := dk_172 (dk_at dksX1_causeOf_6 18 rfl rfl)
abbrev cX1_costOf : ByteArray := prog_1_method_40_code
def yX1_costOf : MethodName := ⟨RX1, "costOf", "(III)I"⟩
def dkwX1_costOf_2 : List UInt8 := [182, 1, 146, 172]
abbrev dktX1_costOf_2 : List UInt8 := dkwX1_costOf_2 ++ []
def dkwX1_costOf_1 : List UInt8 := [184, 0, 226, 29, 7, 96, 4, 100, 7, 108, 54, 6, 42, 27, 28, 42, 21, 6, 186, 1, 143, 0, 0]
abbrev dktX1_costOf_1 : List UInt8 := dkwX1_costOf_1 ++ dktX1_costOf_2
def dkwX1_costOf_0 : List UInt8 := [42, 27, 182, 0, 240, 58, 4, 42, 28, 182, 0, 240, 58, 5, 29, 133, 10, 20, 1, 141, 184, 0, 94]
abbrev dktX1_costOf_0 : List UInt8 := dkwX1_costOf_0 ++ dktX1_costOf_1
theorem dksX1_costOf_0 : cX1_costOf.data.toList.drop 0 = dktX1_costOf_0 := by decide +kernel
theorem dksX1_costOf_1 : cX1_costOf.data.toList.drop 23 = dktX1_costOf_1 := dk_seg dksX1_costOf_0 23 rfl rfl
theorem dksX1_costOf_2 : cX1_costOf.data.toList.drop 46 = dktX1_costOf_2 := dk_seg dksX1_costOf_1 23 rfl rfl
theorem dX1_costOf_0 : decode cX1_costOf 0 = .ok (.aload_n 0, 1) := dk_42 (dk_at dksX1_costOf_0 0 rfl rfl)
theorem dX1_costOf_1 : decode cX1_costOf 1 = .ok (.iload_n 1, 1) := dk_27 (dk_at dksX1_costOf_0 1 rfl rfl)
theorem dX1_costOf_2 : decode cX1_costOf 2 = .ok (.invokevirtual 240, 3) := dk_182 0 240 (dk_at dksX1_costOf_0 2 rfl rfl)
theorem dX1_costOf_5 : decode cX1_costOf 5 = .ok (.astore 4, 2) := dk_58 4 (dk_at dksX1_costOf_0 5 rfl rfl)
theorem dX1_costOf_7 : decode cX1_costOf 7 = .ok (.aload_n 0, 1) := dk_42 (dk_at dksX1_costOf_0 7 rfl rfl)
theorem dX1_costOf_8 : decode cX1_costOf 8 = .ok (.iload_n 2, 1) := dk_28 (dk_at dksX1_costOf_0 8 rfl rfl)
theorem dX1_costOf_9 : decode cX1_costOf 9 = .ok (.invokevirtual 240, 3) := dk_182 0 240 (dk_at dksX1_costOf_0 9 rfl rfl)
theorem dX1_costOf_12 : decode cX1_costOf 12 = .ok (.astore 5, 2) := dk_58 5 (dk_at dksX1_costOf_0 12 rfl rfl)
theorem dX1_costOf_14 : decode cX1_costOf 14 = .ok (.iload_n 3, 1) := dk_29 (dk_at dksX1_costOf_0 14 rfl rfl)
theorem dX1_costOf_15 : decode cX1_costOf 15 = .ok (.i2l, 1) := dk_133 (dk_at dksX1_costOf_0 15 rfl rfl)
theorem dX1_costOf_16 : decode cX1_costOf 16 = .ok (.lconst 1, 1) := dk_10 (dk_at dksX1_costOf_0 16 rfl rfl)
theorem dX1_costOf_17 : decode cX1_costOf 17 = .ok (.ldc2_w 397, 3) := dk_20 1 141 (dk_at dksX1_costOf_0 17 rfl rfl)
theorem dX1_costOf_20 : decode cX1_costOf 20 = .ok (.invokestatic 94, 3) := dk_184 0 94 (dk_at dksX1_costOf_0 20 rfl rfl)
theorem dX1_costOf_23 : decode cX1_costOf 23 = .ok (.invokestatic 226, 3) := dk_184 0 226 (dk_at dksX1_costOf_1 0 rfl rfl)
theorem dX1_costOf_26 : decode cX1_costOf 26 = .ok (.iload_n 3, 1) := dk_29 (dk_at dksX1_costOf_1 3 rfl rfl)
theorem dX1_costOf_27 : decode cX1_costOf 27 = .ok (.iconst 4, 1) := dk_7 (dk_at dksX1_costOf_1 4 rfl rfl)
theorem dX1_costOf_28 : decode cX1_costOf 28 = .ok (.iadd, 1) := dk_96 (dk_at dksX1_costOf_1 5 rfl rfl)
theorem dX1_costOf_29 : decode cX1_costOf 29 = .ok (.iconst 1, 1) := dk_4 (dk_at dksX1_costOf_1 6 rfl rfl)
theorem dX1_costOf_30 : decode cX1_costOf 30 = .ok (.isub, 1) := dk_100 (dk_at dksX1_costOf_1 7 rfl rfl)
theorem dX1_costOf_31 : decode cX1_costOf 31 = .ok (.iconst 4, 1) := dk_7 (dk_at dksX1_costOf_1 8 rfl rfl)
theorem dX1_costOf_32 : decode cX1_costOf 32 = .ok (.idiv, 1) := dk_108 (dk_at dksX1_costOf_1 9 rfl rfl)
theorem dX1_costOf_33 : decode cX1_costOf 33 = .ok (.istore 6, 2) := dk_54 6 (dk_at dksX1_costOf_1 10 rfl rfl)
theorem dX1_costOf_35 : decode cX1_costOf 35 = .ok (.aload_n 0, 1) := dk_42 (dk_at dksX1_costOf_1 12 rfl rfl)
theorem dX1_costOf_36 : decode cX1_costOf 36 = .ok (.iload_n 1, 1) := dk_27 (dk_at dksX1_costOf_1 13 rfl rfl)
theorem dX1_costOf_37 : decode cX1_costOf 37 = .ok (.iload_n 2, 1) := dk_28 (dk_at dksX1_costOf_1 14 rfl rfl)
theorem dX1_costOf_38 : decode cX1_costOf 38 = .ok (.aload_n 0, 1) := dk_42 (dk_at dksX1_costOf_1 15 rfl rfl)
theorem dX1_costOf_39 : decode cX1_costOf 39 = .ok (.iload 6, 2) := dk_21 6 (dk_at dksX1_costOf_1 16 rfl rfl)
theorem dX1_costOf_41 : decode cX1_costOf 41 = .ok (.invokedynamic 399, 5) := by decide +kernel
theorem dX1_costOf_46 : decode cX1_costOf 46 = .ok (.invokevirtual 402, 3) := dk_182 1 146 (dk_at dksX1_costOf_2 0 rfl rfl)
theorem dX1_costOf_49 : decode cX1_costOf 49 = .ok (.ireturn, 1) := dk_172 (dk_at dksX1_costOf_2 3 rfl rfl)
abbrev cX1_lambda_costOf_2 : ByteArray := prog_1_method_70_code
def yX1_lambda_costOf_2 : MethodName := ⟨RX1, "lambda$costOf$2", "(III)I"⟩
def dkwX1_lambda_costOf_2_0 : List UInt8 := [27, 42, 180, 0, 33, 28, 182, 0, 236, 180, 1, 11, 104, 172]
abbrev dktX1_lambda_costOf_2_0 : List UInt8 := dkwX1_lambda_costOf_2_0 ++ []
theorem dksX1_lambda_costOf_2_0 : cX1_lambda_costOf_2.data.toList.drop 0 = dktX1_lambda_costOf_2_0 := by decide +kernel
theorem dX1_lambda_costOf_2_0 : decode cX1_lambda_costOf_2 0 = .ok (.iload_n 1, 1) := dk_27 (dk_at dksX1_lambda_costOf_2_0 0 rfl rfl)
theorem dX1_lambda_costOf_2_1 : decode cX1_lambda_costOf_2 1 = .ok (.aload_n 0, 1) := dk_42 (dk_at dksX1_lambda_costOf_2_0 1 rfl rfl)
theorem dX1_lambda_costOf_2_2 : decode cX1_lambda_costOf_2 2 = .ok (.getfield 33, 3) := dk_180 0 33 (dk_at dksX1_lambda_costOf_2_0 2 rfl rfl)
theorem dX1_lambda_costOf_2_5 : decode cX1_lambda_costOf_2 5 = .ok (.iload_n 2, 1) := dk_28 (dk_at dksX1_lambda_costOf_2_0 5 rfl rfl)
theorem dX1_lambda_costOf_2_6 : decode cX1_lambda_costOf_2 6 = .ok (.invokevirtual 236, 3) := dk_182 0 236 (dk_at dksX1_lambda_costOf_2_0 6 rfl rfl)
theorem dX1_lambda_costOf_2_9 : decode cX1_lambda_costOf_2 9 = .ok (.getfield 267, 3) := dk_180 1 11 (dk_at dksX1_lambda_costOf_2_0 9 rfl rfl)
theorem dX1_lambda_costOf_2_12 : decode cX1_lambda_costOf_2 12 = .ok (.imul, 1) := dk_104 (dk_at dksX1_lambda_costOf_2_0 12 rfl rfl)
theorem dX1_lambda_costOf_2_13 : decode cX1_lambda_costOf_2 13 = .ok (.ireturn, 1) := dk_172 (dk_at dksX1_lambda_costOf_2_0 13 rfl rfl)
abbrev cX1_alongRoute : ByteArray := prog_1_method_39_code
def yX1_alongRoute : MethodName := ⟨RX1, "alongRoute", "(IILWhistlePosts$Hop;)I"⟩
def dkwX1_alongRoute_2 : List UInt8 := [54, 4, 42, 180, 0, 33, 21, 5, 28, 182, 1, 44, 54, 5, 167, 255, 215, 21, 4, 172]
abbrev dktX1_alongRoute_2 : List UInt8 := dkwX1_alongRoute_2 ++ []
def dkwX1_alongRoute_1 : List UInt8 := [159, 0, 41, 21, 4, 45, 21, 5, 42, 180, 0, 33, 21, 5, 28, 182, 1, 44, 185, 1, 136, 3, 0, 96]
abbrev dktX1_alongRoute_1 : List UInt8 := dkwX1_alongRoute_1 ++ dktX1_alongRoute_2
def dkwX1_alongRoute_0 : List UInt8 := [42, 180, 0, 33, 27, 28, 182, 1, 41, 2, 160, 0, 5, 2, 172, 3, 54, 4, 27, 54, 5, 21, 5, 28]
abbrev dktX1_alongRoute_0 : List UInt8 := dkwX1_alongRoute_0 ++ dktX1_alongRoute_1
theorem dksX1_alongRoute_0 : cX1_alongRoute.data.toList.drop 0 = dktX1_alongRoute_0 := by decide +kernel
theorem dksX1_alongRoute_1 : cX1_alongRoute.data.toList.drop 24 = dktX1_alongRoute_1 := dk_seg dksX1_alongRoute_0 24 rfl rfl
theorem dksX1_alongRoute_2 : cX1_alongRoute.data.toList.drop 48 = dktX1_alongRoute_2 := dk_seg dksX1_alongRoute_1 24 rfl rfl
theorem dX1_alongRoute_0 : decode cX1_alongRoute 0 = .ok (.aload_n 0, 1) := dk_42 (dk_at dksX1_alongRoute_0 0 rfl rfl)
theorem dX1_alongRoute_1 : decode cX1_alongRoute 1 = .ok (.getfield 33, 3) := dk_180 0 33 (dk_at dksX1_alongRoute_0 1 rfl rfl)
theorem dX1_alongRoute_4 : decode cX1_alongRoute 4 = .ok (.iload_n 1, 1) := dk_27 (dk_at dksX1_alongRoute_0 4 rfl rfl)
theorem dX1_alongRoute_5 : decode cX1_alongRoute 5 = .ok (.iload_n 2, 1) := dk_28 (dk_at dksX1_alongRoute_0 5 rfl rfl)
theorem dX1_alongRoute_6 : decode cX1_alongRoute 6 = .ok (.invokevirtual 297, 3) := dk_182 1 41 (dk_at dksX1_alongRoute_0 6 rfl rfl)
theorem dX1_alongRoute_9 : decode cX1_alongRoute 9 = .ok (.iconst (-1), 1) := dk_2 (dk_at dksX1_alongRoute_0 9 rfl rfl)
theorem dX1_alongRoute_10 : decode cX1_alongRoute 10 = .ok (.if_icmp .ne 5, 3) := dk_160 0 5 (dk_at dksX1_alongRoute_0 10 rfl rfl)
theorem dX1_alongRoute_13 : decode cX1_alongRoute 13 = .ok (.iconst (-1), 1) := dk_2 (dk_at dksX1_alongRoute_0 13 rfl rfl)
theorem dX1_alongRoute_14 : decode cX1_alongRoute 14 = .ok (.ireturn, 1) := dk_172 (dk_at dksX1_alongRoute_0 14 rfl rfl)
theorem dX1_alongRoute_15 : decode cX1_alongRoute 15 = .ok (.iconst 0, 1) := dk_3 (dk_at dksX1_alongRoute_0 15 rfl rfl)
theorem dX1_alongRoute_16 : decode cX1_alongRoute 16 = .ok (.istore 4, 2) := dk_54 4 (dk_at dksX1_alongRoute_0 16 rfl rfl)
theorem dX1_alongRoute_18 : decode cX1_alongRoute 18 = .ok (.iload_n 1, 1) := dk_27 (dk_at dksX1_alongRoute_0 18 rfl rfl)
theorem dX1_alongRoute_19 : decode cX1_alongRoute 19 = .ok (.istore 5, 2) := dk_54 5 (dk_at dksX1_alongRoute_0 19 rfl rfl)
theorem dX1_alongRoute_21 : decode cX1_alongRoute 21 = .ok (.iload 5, 2) := dk_21 5 (dk_at dksX1_alongRoute_0 21 rfl rfl)
theorem dX1_alongRoute_23 : decode cX1_alongRoute 23 = .ok (.iload_n 2, 1) := dk_28 (dk_at dksX1_alongRoute_0 23 rfl rfl)
theorem dX1_alongRoute_24 : decode cX1_alongRoute 24 = .ok (.if_icmp .eq 41, 3) := dk_159 0 41 (dk_at dksX1_alongRoute_1 0 rfl rfl)
theorem dX1_alongRoute_27 : decode cX1_alongRoute 27 = .ok (.iload 4, 2) := dk_21 4 (dk_at dksX1_alongRoute_1 3 rfl rfl)
theorem dX1_alongRoute_29 : decode cX1_alongRoute 29 = .ok (.aload_n 3, 1) := dk_45 (dk_at dksX1_alongRoute_1 5 rfl rfl)
theorem dX1_alongRoute_30 : decode cX1_alongRoute 30 = .ok (.iload 5, 2) := dk_21 5 (dk_at dksX1_alongRoute_1 6 rfl rfl)
theorem dX1_alongRoute_32 : decode cX1_alongRoute 32 = .ok (.aload_n 0, 1) := dk_42 (dk_at dksX1_alongRoute_1 8 rfl rfl)
theorem dX1_alongRoute_33 : decode cX1_alongRoute 33 = .ok (.getfield 33, 3) := dk_180 0 33 (dk_at dksX1_alongRoute_1 9 rfl rfl)
theorem dX1_alongRoute_36 : decode cX1_alongRoute 36 = .ok (.iload 5, 2) := dk_21 5 (dk_at dksX1_alongRoute_1 12 rfl rfl)
theorem dX1_alongRoute_38 : decode cX1_alongRoute 38 = .ok (.iload_n 2, 1) := dk_28 (dk_at dksX1_alongRoute_1 14 rfl rfl)
theorem dX1_alongRoute_39 : decode cX1_alongRoute 39 = .ok (.invokevirtual 300, 3) := dk_182 1 44 (dk_at dksX1_alongRoute_1 15 rfl rfl)
theorem dX1_alongRoute_42 : decode cX1_alongRoute 42 = .ok (.invokeinterface 392 3, 5) := by decide +kernel
theorem dX1_alongRoute_47 : decode cX1_alongRoute 47 = .ok (.iadd, 1) := dk_96 (dk_at dksX1_alongRoute_1 23 rfl rfl)
theorem dX1_alongRoute_48 : decode cX1_alongRoute 48 = .ok (.istore 4, 2) := dk_54 4 (dk_at dksX1_alongRoute_2 0 rfl rfl)
theorem dX1_alongRoute_50 : decode cX1_alongRoute 50 = .ok (.aload_n 0, 1) := dk_42 (dk_at dksX1_alongRoute_2 2 rfl rfl)
theorem dX1_alongRoute_51 : decode cX1_alongRoute 51 = .ok (.getfield 33, 3) := dk_180 0 33 (dk_at dksX1_alongRoute_2 3 rfl rfl)
theorem dX1_alongRoute_54 : decode cX1_alongRoute 54 = .ok (.iload 5, 2) := dk_21 5 (dk_at dksX1_alongRoute_2 6 rfl rfl)
theorem dX1_alongRoute_56 : decode cX1_alongRoute 56 = .ok (.iload_n 2, 1) := dk_28 (dk_at dksX1_alongRoute_2 8 rfl rfl)
theorem dX1_alongRoute_57 : decode cX1_alongRoute 57 = .ok (.invokevirtual 300, 3) := dk_182 1 44 (dk_at dksX1_alongRoute_2 9 rfl rfl)
theorem dX1_alongRoute_60 : decode cX1_alongRoute 60 = .ok (.istore 5, 2) := dk_54 5 (dk_at dksX1_alongRoute_2 12 rfl rfl)
theorem dX1_alongRoute_62 : decode cX1_alongRoute 62 = .ok (.goto (-41), 3) := dk_167 255 215 (dk_at dksX1_alongRoute_2 14 rfl rfl)
theorem dX1_alongRoute_65 : decode cX1_alongRoute 65 = .ok (.iload 4, 2) := dk_21 4 (dk_at dksX1_alongRoute_2 17 rfl rfl)
theorem dX1_alongRoute_67 : decode cX1_alongRoute 67 = .ok (.ireturn, 1) := dk_172 (dk_at dksX1_alongRoute_2 19 rfl rfl)
abbrev cX1_wrongOn : ByteArray := prog_1_method_42_code
def yX1_wrongOn : MethodName := ⟨RX1, "wrongOn", "(III)I"⟩
def dkwX1_wrongOn_1 : List UInt8 := [184, 0, 226, 42, 27, 28, 42, 180, 0, 33, 180, 0, 214, 3, 46, 29, 182, 1, 153, 172]
abbrev dktX1_wrongOn_1 : List UInt8 := dkwX1_wrongOn_1 ++ []
def dkwX1_wrongOn_0 : List UInt8 := [42, 27, 182, 0, 240, 58, 4, 42, 28, 182, 0, 240, 58, 5, 29, 133, 10, 20, 1, 141, 184, 0, 94]
abbrev dktX1_wrongOn_0 : List UInt8 := dkwX1_wrongOn_0 ++ dktX1_wrongOn_1
theorem dksX1_wrongOn_0 : cX1_wrongOn.data.toList.drop 0 = dktX1_wrongOn_0 := by decide +kernel
theorem dksX1_wrongOn_1 : cX1_wrongOn.data.toList.drop 23 = dktX1_wrongOn_1 := dk_seg dksX1_wrongOn_0 23 rfl rfl
theorem dX1_wrongOn_0 : decode cX1_wrongOn 0 = .ok (.aload_n 0, 1) := dk_42 (dk_at dksX1_wrongOn_0 0 rfl rfl)
theorem dX1_wrongOn_1 : decode cX1_wrongOn 1 = .ok (.iload_n 1, 1) := dk_27 (dk_at dksX1_wrongOn_0 1 rfl rfl)
theorem dX1_wrongOn_2 : decode cX1_wrongOn 2 = .ok (.invokevirtual 240, 3) := dk_182 0 240 (dk_at dksX1_wrongOn_0 2 rfl rfl)
theorem dX1_wrongOn_5 : decode cX1_wrongOn 5 = .ok (.astore 4, 2) := dk_58 4 (dk_at dksX1_wrongOn_0 5 rfl rfl)
theorem dX1_wrongOn_7 : decode cX1_wrongOn 7 = .ok (.aload_n 0, 1) := dk_42 (dk_at dksX1_wrongOn_0 7 rfl rfl)
theorem dX1_wrongOn_8 : decode cX1_wrongOn 8 = .ok (.iload_n 2, 1) := dk_28 (dk_at dksX1_wrongOn_0 8 rfl rfl)
theorem dX1_wrongOn_9 : decode cX1_wrongOn 9 = .ok (.invokevirtual 240, 3) := dk_182 0 240 (dk_at dksX1_wrongOn_0 9 rfl rfl)
theorem dX1_wrongOn_12 : decode cX1_wrongOn 12 = .ok (.astore 5, 2) := dk_58 5 (dk_at dksX1_wrongOn_0 12 rfl rfl)
theorem dX1_wrongOn_14 : decode cX1_wrongOn 14 = .ok (.iload_n 3, 1) := dk_29 (dk_at dksX1_wrongOn_0 14 rfl rfl)
theorem dX1_wrongOn_15 : decode cX1_wrongOn 15 = .ok (.i2l, 1) := dk_133 (dk_at dksX1_wrongOn_0 15 rfl rfl)
theorem dX1_wrongOn_16 : decode cX1_wrongOn 16 = .ok (.lconst 1, 1) := dk_10 (dk_at dksX1_wrongOn_0 16 rfl rfl)
theorem dX1_wrongOn_17 : decode cX1_wrongOn 17 = .ok (.ldc2_w 397, 3) := dk_20 1 141 (dk_at dksX1_wrongOn_0 17 rfl rfl)
theorem dX1_wrongOn_20 : decode cX1_wrongOn 20 = .ok (.invokestatic 94, 3) := dk_184 0 94 (dk_at dksX1_wrongOn_0 20 rfl rfl)
theorem dX1_wrongOn_23 : decode cX1_wrongOn 23 = .ok (.invokestatic 226, 3) := dk_184 0 226 (dk_at dksX1_wrongOn_1 0 rfl rfl)
theorem dX1_wrongOn_26 : decode cX1_wrongOn 26 = .ok (.aload_n 0, 1) := dk_42 (dk_at dksX1_wrongOn_1 3 rfl rfl)
theorem dX1_wrongOn_27 : decode cX1_wrongOn 27 = .ok (.iload_n 1, 1) := dk_27 (dk_at dksX1_wrongOn_1 4 rfl rfl)
theorem dX1_wrongOn_28 : decode cX1_wrongOn 28 = .ok (.iload_n 2, 1) := dk_28 (dk_at dksX1_wrongOn_1 5 rfl rfl)
theorem dX1_wrongOn_29 : decode cX1_wrongOn 29 = .ok (.aload_n 0, 1) := dk_42 (dk_at dksX1_wrongOn_1 6 rfl rfl)
theorem dX1_wrongOn_30 : decode cX1_wrongOn 30 = .ok (.getfield 33, 3) := dk_180 0 33 (dk_at dksX1_wrongOn_1 7 rfl rfl)
theorem dX1_wrongOn_33 : decode cX1_wrongOn 33 = .ok (.getfield 214, 3) := dk_180 0 214 (dk_at dksX1_wrongOn_1 10 rfl rfl)
theorem dX1_wrongOn_36 : decode cX1_wrongOn 36 = .ok (.iconst 0, 1) := dk_3 (dk_at dksX1_wrongOn_1 13 rfl rfl)
theorem dX1_wrongOn_37 : decode cX1_wrongOn 37 = .ok (.iaload, 1) := dk_46 (dk_at dksX1_wrongOn_1 14 rfl rfl)
theorem dX1_wrongOn_38 : decode cX1_wrongOn 38 = .ok (.iload_n 3, 1) := dk_29 (dk_at dksX1_wrongOn_1 15 rfl rfl)
theorem dX1_wrongOn_39 : decode cX1_wrongOn 39 = .ok (.invokevirtual 409, 3) := dk_182 1 153 (dk_at dksX1_wrongOn_1 16 rfl rfl)
theorem dX1_wrongOn_42 : decode cX1_wrongOn 42 = .ok (.ireturn, 1) := dk_172 (dk_at dksX1_wrongOn_1 19 rfl rfl)
abbrev cX1_wrong : ByteArray := prog_1_method_41_code
def yX1_wrong : MethodName := ⟨RX1, "wrong", "(IIII)I"⟩
def dkwX1_wrong_0 : List UInt8 := [42, 27, 28, 42, 29, 21, 4, 186, 1, 150, 0, 0, 182, 1, 146, 172]
abbrev dktX1_wrong_0 : List UInt8 := dkwX1_wrong_0 ++ []
theorem dksX1_wrong_0 : cX1_wrong.data.toList.drop 0 = dktX1_wrong_0 := by decide +kernel
theorem dX1_wrong_0 : decode cX1_wrong 0 = .ok (.aload_n 0, 1) := dk_42 (dk_at dksX1_wrong_0 0 rfl rfl)
theorem dX1_wrong_1 : decode cX1_wrong 1 = .ok (.iload_n 1, 1) := dk_27 (dk_at dksX1_wrong_0 1 rfl rfl)
theorem dX1_wrong_2 : decode cX1_wrong 2 = .ok (.iload_n 2, 1) := dk_28 (dk_at dksX1_wrong_0 2 rfl rfl)
theorem dX1_wrong_3 : decode cX1_wrong 3 = .ok (.aload_n 0, 1) := dk_42 (dk_at dksX1_wrong_0 3 rfl rfl)
theorem dX1_wrong_4 : decode cX1_wrong 4 = .ok (.iload_n 3, 1) := dk_29 (dk_at dksX1_wrong_0 4 rfl rfl)
theorem dX1_wrong_5 : decode cX1_wrong 5 = .ok (.iload 4, 2) := dk_21 4 (dk_at dksX1_wrong_0 5 rfl rfl)
theorem dX1_wrong_7 : decode cX1_wrong 7 = .ok (.invokedynamic 406, 5) := by decide +kernel
theorem dX1_wrong_12 : decode cX1_wrong 12 = .ok (.invokevirtual 402, 3) := dk_182 1 146 (dk_at dksX1_wrong_0 12 rfl rfl)
theorem dX1_wrong_15 : decode cX1_wrong 15 = .ok (.ireturn, 1) := dk_172 (dk_at dksX1_wrong_0 15 rfl rfl)
abbrev cX1_lambda_wrong_3 : ByteArray := prog_1_method_69_code
def yX1_lambda_wrong_3 : MethodName := ⟨RX1, "lambda$wrong$3", "(IIII)I"⟩
def dkwX1_lambda_wrong_3_1 : List UInt8 := [172]
abbrev dktX1_lambda_wrong_3_1 : List UInt8 := dkwX1_lambda_wrong_3_1 ++ []
def dkwX1_lambda_wrong_3_0 : List UInt8 := [42, 180, 0, 33, 27, 42, 180, 0, 33, 29, 21, 4, 182, 1, 246, 182, 1, 38, 21, 4, 28, 182, 1, 250]
abbrev dktX1_lambda_wrong_3_0 : List UInt8 := dkwX1_lambda_wrong_3_0 ++ dktX1_lambda_wrong_3_1
theorem dksX1_lambda_wrong_3_0 : cX1_lambda_wrong_3.data.toList.drop 0 = dktX1_lambda_wrong_3_0 := by decide +kernel
theorem dksX1_lambda_wrong_3_1 : cX1_lambda_wrong_3.data.toList.drop 24 = dktX1_lambda_wrong_3_1 := dk_seg dksX1_lambda_wrong_3_0 24 rfl rfl
theorem dX1_lambda_wrong_3_0 : decode cX1_lambda_wrong_3 0 = .ok (.aload_n 0, 1) := dk_42 (dk_at dksX1_lambda_wrong_3_0 0 rfl rfl)
theorem dX1_lambda_wrong_3_1 : decode cX1_lambda_wrong_3 1 = .ok (.getfield 33, 3) := dk_180 0 33 (dk_at dksX1_lambda_wrong_3_0 1 rfl rfl)
theorem dX1_lambda_wrong_3_4 : decode cX1_lambda_wrong_3 4 = .ok (.iload_n 1, 1) := dk_27 (dk_at dksX1_lambda_wrong_3_0 4 rfl rfl)
theorem dX1_lambda_wrong_3_5 : decode cX1_lambda_wrong_3 5 = .ok (.aload_n 0, 1) := dk_42 (dk_at dksX1_lambda_wrong_3_0 5 rfl rfl)
theorem dX1_lambda_wrong_3_6 : decode cX1_lambda_wrong_3 6 = .ok (.getfield 33, 3) := dk_180 0 33 (dk_at dksX1_lambda_wrong_3_0 6 rfl rfl)
theorem dX1_lambda_wrong_3_9 : decode cX1_lambda_wrong_3 9 = .ok (.iload_n 3, 1) := dk_29 (dk_at dksX1_lambda_wrong_3_0 9 rfl rfl)
theorem dX1_lambda_wrong_3_10 : decode cX1_lambda_wrong_3 10 = .ok (.iload 4, 2) := dk_21 4 (dk_at dksX1_lambda_wrong_3_0 10 rfl rfl)
theorem dX1_lambda_wrong_3_12 : decode cX1_lambda_wrong_3 12 = .ok (.invokevirtual 502, 3) := dk_182 1 246 (dk_at dksX1_lambda_wrong_3_0 12 rfl rfl)
theorem dX1_lambda_wrong_3_15 : decode cX1_lambda_wrong_3 15 = .ok (.invokevirtual 294, 3) := dk_182 1 38 (dk_at dksX1_lambda_wrong_3_0 15 rfl rfl)
theorem dX1_lambda_wrong_3_18 : decode cX1_lambda_wrong_3 18 = .ok (.iload 4, 2) := dk_21 4 (dk_at dksX1_lambda_wrong_3_0 18 rfl rfl)
theorem dX1_lambda_wrong_3_20 : decode cX1_lambda_wrong_3 20 = .ok (.iload_n 2, 1) := dk_28 (dk_at dksX1_lambda_wrong_3_0 20 rfl rfl)
theorem dX1_lambda_wrong_3_21 : decode cX1_lambda_wrong_3 21 = .ok (.invokevirtual 506, 3) := dk_182 1 250 (dk_at dksX1_lambda_wrong_3_0 21 rfl rfl)
theorem dX1_lambda_wrong_3_24 : decode cX1_lambda_wrong_3 24 = .ok (.ireturn, 1) := dk_172 (dk_at dksX1_lambda_wrong_3_1 0 rfl rfl)
abbrev cX1_calmest : ByteArray := prog_1_method_43_code
def yX1_calmest : MethodName := ⟨RX1, "calmest", "(II)I"⟩
def dkwX1_calmest_1 : List UInt8 := [28, 21, 5, 16, 8, 182, 1, 153, 154, 0, 6, 21, 5, 172, 132, 5, 255, 167, 255, 232, 2, 172]
abbrev dktX1_calmest_1 : List UInt8 := dkwX1_calmest_1 ++ []
def dkwX1_calmest_0 : List UInt8 := [42, 27, 182, 0, 240, 78, 42, 28, 182, 0, 240, 58, 4, 16, 9, 54, 5, 21, 5, 155, 0, 25, 42, 27]
abbrev dktX1_calmest_0 : List UInt8 := dkwX1_calmest_0 ++ dktX1_calmest_1
theorem dksX1_calmest_0 : cX1_calmest.data.toList.drop 0 = dktX1_calmest_0 := by decide +kernel
theorem dksX1_calmest_1 : cX1_calmest.data.toList.drop 24 = dktX1_calmest_1 := dk_seg dksX1_calmest_0 24 rfl rfl
theorem dX1_calmest_0 : decode cX1_calmest 0 = .ok (.aload_n 0, 1) := dk_42 (dk_at dksX1_calmest_0 0 rfl rfl)
theorem dX1_calmest_1 : decode cX1_calmest 1 = .ok (.iload_n 1, 1) := dk_27 (dk_at dksX1_calmest_0 1 rfl rfl)
theorem dX1_calmest_2 : decode cX1_calmest 2 = .ok (.invokevirtual 240, 3) := dk_182 0 240 (dk_at dksX1_calmest_0 2 rfl rfl)
theorem dX1_calmest_5 : decode cX1_calmest 5 = .ok (.astore_n 3, 1) := dk_78 (dk_at dksX1_calmest_0 5 rfl rfl)
theorem dX1_calmest_6 : decode cX1_calmest 6 = .ok (.aload_n 0, 1) := dk_42 (dk_at dksX1_calmest_0 6 rfl rfl)
theorem dX1_calmest_7 : decode cX1_calmest 7 = .ok (.iload_n 2, 1) := dk_28 (dk_at dksX1_calmest_0 7 rfl rfl)
theorem dX1_calmest_8 : decode cX1_calmest 8 = .ok (.invokevirtual 240, 3) := dk_182 0 240 (dk_at dksX1_calmest_0 8 rfl rfl)
theorem dX1_calmest_11 : decode cX1_calmest 11 = .ok (.astore 4, 2) := dk_58 4 (dk_at dksX1_calmest_0 11 rfl rfl)
theorem dX1_calmest_13 : decode cX1_calmest 13 = .ok (.bipush 9, 2) := dk_16 9 (dk_at dksX1_calmest_0 13 rfl rfl)
theorem dX1_calmest_15 : decode cX1_calmest 15 = .ok (.istore 5, 2) := dk_54 5 (dk_at dksX1_calmest_0 15 rfl rfl)
theorem dX1_calmest_17 : decode cX1_calmest 17 = .ok (.iload 5, 2) := dk_21 5 (dk_at dksX1_calmest_0 17 rfl rfl)
theorem dX1_calmest_19 : decode cX1_calmest 19 = .ok (.ifCond .lt 25, 3) := dk_155 0 25 (dk_at dksX1_calmest_0 19 rfl rfl)
theorem dX1_calmest_22 : decode cX1_calmest 22 = .ok (.aload_n 0, 1) := dk_42 (dk_at dksX1_calmest_0 22 rfl rfl)
theorem dX1_calmest_23 : decode cX1_calmest 23 = .ok (.iload_n 1, 1) := dk_27 (dk_at dksX1_calmest_0 23 rfl rfl)
theorem dX1_calmest_24 : decode cX1_calmest 24 = .ok (.iload_n 2, 1) := dk_28 (dk_at dksX1_calmest_1 0 rfl rfl)
theorem dX1_calmest_25 : decode cX1_calmest 25 = .ok (.iload 5, 2) := dk_21 5 (dk_at dksX1_calmest_1 1 rfl rfl)
theorem dX1_calmest_27 : decode cX1_calmest 27 = .ok (.bipush 8, 2) := dk_16 8 (dk_at dksX1_calmest_1 3 rfl rfl)
theorem dX1_calmest_29 : decode cX1_calmest 29 = .ok (.invokevirtual 409, 3) := dk_182 1 153 (dk_at dksX1_calmest_1 5 rfl rfl)
theorem dX1_calmest_32 : decode cX1_calmest 32 = .ok (.ifCond .ne 6, 3) := dk_154 0 6 (dk_at dksX1_calmest_1 8 rfl rfl)
theorem dX1_calmest_35 : decode cX1_calmest 35 = .ok (.iload 5, 2) := dk_21 5 (dk_at dksX1_calmest_1 11 rfl rfl)
theorem dX1_calmest_37 : decode cX1_calmest 37 = .ok (.ireturn, 1) := dk_172 (dk_at dksX1_calmest_1 13 rfl rfl)
theorem dX1_calmest_38 : decode cX1_calmest 38 = .ok (.iinc 5 (-1), 3) := dk_132 5 255 (dk_at dksX1_calmest_1 14 rfl rfl)
theorem dX1_calmest_41 : decode cX1_calmest 41 = .ok (.goto (-24), 3) := dk_167 255 232 (dk_at dksX1_calmest_1 17 rfl rfl)
theorem dX1_calmest_44 : decode cX1_calmest 44 = .ok (.iconst (-1), 1) := dk_2 (dk_at dksX1_calmest_1 20 rfl rfl)
theorem dX1_calmest_45 : decode cX1_calmest 45 = .ok (.ireturn, 1) := dk_172 (dk_at dksX1_calmest_1 21 rfl rfl)
abbrev cX1_arrivesIn : ByteArray := prog_1_method_44_code
def yX1_arrivesIn : MethodName := ⟨RX1, "arrivesIn", "(I)I"⟩
def dkwX1_arrivesIn_2 : List UInt8 := [132, 4, 1, 167, 255, 226, 2, 172]
abbrev dktX1_arrivesIn_2 : List UInt8 := dkwX1_arrivesIn_2 ++ []
def dkwX1_arrivesIn_1 : List UInt8 := [163, 0, 28, 45, 27, 182, 0, 168, 180, 1, 60, 5, 160, 0, 6, 21, 4, 172, 45, 182, 1, 157]
abbrev dktX1_arrivesIn_1 : List UInt8 := dkwX1_arrivesIn_1 ++ dktX1_arrivesIn_2
def dkwX1_arrivesIn_0 : List UInt8 := [42, 27, 182, 1, 46, 77, 42, 180, 0, 33, 182, 0, 150, 78, 3, 54, 4, 21, 4, 17, 0, 200]
abbrev dktX1_arrivesIn_0 : List UInt8 := dkwX1_arrivesIn_0 ++ dktX1_arrivesIn_1
theorem dksX1_arrivesIn_0 : cX1_arrivesIn.data.toList.drop 0 = dktX1_arrivesIn_0 := by decide +kernel
theorem dksX1_arrivesIn_1 : cX1_arrivesIn.data.toList.drop 22 = dktX1_arrivesIn_1 := dk_seg dksX1_arrivesIn_0 22 rfl rfl
theorem dksX1_arrivesIn_2 : cX1_arrivesIn.data.toList.drop 44 = dktX1_arrivesIn_2 := dk_seg dksX1_arrivesIn_1 22 rfl rfl
theorem dX1_arrivesIn_0 : decode cX1_arrivesIn 0 = .ok (.aload_n 0, 1) := dk_42 (dk_at dksX1_arrivesIn_0 0 rfl rfl)
theorem dX1_arrivesIn_1 : decode cX1_arrivesIn 1 = .ok (.iload_n 1, 1) := dk_27 (dk_at dksX1_arrivesIn_0 1 rfl rfl)
theorem dX1_arrivesIn_2 : decode cX1_arrivesIn 2 = .ok (.invokevirtual 302, 3) := dk_182 1 46 (dk_at dksX1_arrivesIn_0 2 rfl rfl)
theorem dX1_arrivesIn_5 : decode cX1_arrivesIn 5 = .ok (.astore_n 2, 1) := dk_77 (dk_at dksX1_arrivesIn_0 5 rfl rfl)
theorem dX1_arrivesIn_6 : decode cX1_arrivesIn 6 = .ok (.aload_n 0, 1) := dk_42 (dk_at dksX1_arrivesIn_0 6 rfl rfl)
theorem dX1_arrivesIn_7 : decode cX1_arrivesIn 7 = .ok (.getfield 33, 3) := dk_180 0 33 (dk_at dksX1_arrivesIn_0 7 rfl rfl)
theorem dX1_arrivesIn_10 : decode cX1_arrivesIn 10 = .ok (.invokevirtual 150, 3) := dk_182 0 150 (dk_at dksX1_arrivesIn_0 10 rfl rfl)
theorem dX1_arrivesIn_13 : decode cX1_arrivesIn 13 = .ok (.astore_n 3, 1) := dk_78 (dk_at dksX1_arrivesIn_0 13 rfl rfl)
theorem dX1_arrivesIn_14 : decode cX1_arrivesIn 14 = .ok (.iconst 0, 1) := dk_3 (dk_at dksX1_arrivesIn_0 14 rfl rfl)
theorem dX1_arrivesIn_15 : decode cX1_arrivesIn 15 = .ok (.istore 4, 2) := dk_54 4 (dk_at dksX1_arrivesIn_0 15 rfl rfl)
theorem dX1_arrivesIn_17 : decode cX1_arrivesIn 17 = .ok (.iload 4, 2) := dk_21 4 (dk_at dksX1_arrivesIn_0 17 rfl rfl)
theorem dX1_arrivesIn_19 : decode cX1_arrivesIn 19 = .ok (.sipush 200, 3) := dk_17 0 200 (dk_at dksX1_arrivesIn_0 19 rfl rfl)
theorem dX1_arrivesIn_22 : decode cX1_arrivesIn 22 = .ok (.if_icmp .gt 28, 3) := dk_163 0 28 (dk_at dksX1_arrivesIn_1 0 rfl rfl)
theorem dX1_arrivesIn_25 : decode cX1_arrivesIn 25 = .ok (.aload_n 3, 1) := dk_45 (dk_at dksX1_arrivesIn_1 3 rfl rfl)
theorem dX1_arrivesIn_26 : decode cX1_arrivesIn 26 = .ok (.iload_n 1, 1) := dk_27 (dk_at dksX1_arrivesIn_1 4 rfl rfl)
theorem dX1_arrivesIn_27 : decode cX1_arrivesIn 27 = .ok (.invokevirtual 168, 3) := dk_182 0 168 (dk_at dksX1_arrivesIn_1 5 rfl rfl)
theorem dX1_arrivesIn_30 : decode cX1_arrivesIn 30 = .ok (.getfield 316, 3) := dk_180 1 60 (dk_at dksX1_arrivesIn_1 8 rfl rfl)
theorem dX1_arrivesIn_33 : decode cX1_arrivesIn 33 = .ok (.iconst 2, 1) := dk_5 (dk_at dksX1_arrivesIn_1 11 rfl rfl)
theorem dX1_arrivesIn_34 : decode cX1_arrivesIn 34 = .ok (.if_icmp .ne 6, 3) := dk_160 0 6 (dk_at dksX1_arrivesIn_1 12 rfl rfl)
theorem dX1_arrivesIn_37 : decode cX1_arrivesIn 37 = .ok (.iload 4, 2) := dk_21 4 (dk_at dksX1_arrivesIn_1 15 rfl rfl)
theorem dX1_arrivesIn_39 : decode cX1_arrivesIn 39 = .ok (.ireturn, 1) := dk_172 (dk_at dksX1_arrivesIn_1 17 rfl rfl)
theorem dX1_arrivesIn_40 : decode cX1_arrivesIn 40 = .ok (.aload_n 3, 1) := dk_45 (dk_at dksX1_arrivesIn_1 18 rfl rfl)
theorem dX1_arrivesIn_41 : decode cX1_arrivesIn 41 = .ok (.invokevirtual 413, 3) := dk_182 1 157 (dk_at dksX1_arrivesIn_1 19 rfl rfl)
theorem dX1_arrivesIn_44 : decode cX1_arrivesIn 44 = .ok (.iinc 4 1, 3) := dk_132 4 1 (dk_at dksX1_arrivesIn_2 0 rfl rfl)
theorem dX1_arrivesIn_47 : decode cX1_arrivesIn 47 = .ok (.goto (-30), 3) := dk_167 255 226 (dk_at dksX1_arrivesIn_2 3 rfl rfl)
theorem dX1_arrivesIn_50 : decode cX1_arrivesIn 50 = .ok (.iconst (-1), 1) := dk_2 (dk_at dksX1_arrivesIn_2 6 rfl rfl)
theorem dX1_arrivesIn_51 : decode cX1_arrivesIn 51 = .ok (.ireturn, 1) := dk_172 (dk_at dksX1_arrivesIn_2 7 rfl rfl)
abbrev cX1_growsBy : ByteArray := prog_1_method_45_code
def yX1_growsBy : MethodName := ⟨RX1, "growsBy", "(II)I"⟩
def dkwX1_growsBy_2 : List UInt8 := [180, 0, 33, 180, 0, 230, 27, 46, 100, 172]
abbrev dktX1_growsBy_2 : List UInt8 := dkwX1_growsBy_2 ++ []
def dkwX1_growsBy_1 : List UInt8 := [42, 180, 0, 33, 182, 0, 150, 78, 45, 28, 182, 1, 162, 54, 4, 45, 180, 0, 230, 27, 46, 42]
abbrev dktX1_growsBy_1 : List UInt8 := dkwX1_growsBy_1 ++ dktX1_growsBy_2
def dkwX1_growsBy_0 : List UInt8 := [27, 133, 9, 20, 0, 224, 184, 0, 94, 184, 0, 226, 28, 133, 9, 20, 1, 160, 184, 0, 94, 184, 0, 226]
abbrev dktX1_growsBy_0 : List UInt8 := dkwX1_growsBy_0 ++ dktX1_growsBy_1
theorem dksX1_growsBy_0 : cX1_growsBy.data.toList.drop 0 = dktX1_growsBy_0 := by decide +kernel
theorem dksX1_growsBy_1 : cX1_growsBy.data.toList.drop 24 = dktX1_growsBy_1 := dk_seg dksX1_growsBy_0 24 rfl rfl
theorem dksX1_growsBy_2 : cX1_growsBy.data.toList.drop 46 = dktX1_growsBy_2 := dk_seg dksX1_growsBy_1 22 rfl rfl
theorem dX1_growsBy_0 : decode cX1_growsBy 0 = .ok (.iload_n 1, 1) := dk_27 (dk_at dksX1_growsBy_0 0 rfl rfl)
theorem dX1_growsBy_1 : decode cX1_growsBy 1 = .ok (.i2l, 1) := dk_133 (dk_at dksX1_growsBy_0 1 rfl rfl)
theorem dX1_growsBy_2 : decode cX1_growsBy 2 = .ok (.lconst 0, 1) := dk_9 (dk_at dksX1_growsBy_0 2 rfl rfl)
theorem dX1_growsBy_3 : decode cX1_growsBy 3 = .ok (.ldc2_w 224, 3) := dk_20 0 224 (dk_at dksX1_growsBy_0 3 rfl rfl)
theorem dX1_growsBy_6 : decode cX1_growsBy 6 = .ok (.invokestatic 94, 3) := dk_184 0 94 (dk_at dksX1_growsBy_0 6 rfl rfl)
theorem dX1_growsBy_9 : decode cX1_growsBy 9 = .ok (.invokestatic 226, 3) := dk_184 0 226 (dk_at dksX1_growsBy_0 9 rfl rfl)
theorem dX1_growsBy_12 : decode cX1_growsBy 12 = .ok (.iload_n 2, 1) := dk_28 (dk_at dksX1_growsBy_0 12 rfl rfl)
theorem dX1_growsBy_13 : decode cX1_growsBy 13 = .ok (.i2l, 1) := dk_133 (dk_at dksX1_growsBy_0 13 rfl rfl)
theorem dX1_growsBy_14 : decode cX1_growsBy 14 = .ok (.lconst 0, 1) := dk_9 (dk_at dksX1_growsBy_0 14 rfl rfl)
theorem dX1_growsBy_15 : decode cX1_growsBy 15 = .ok (.ldc2_w 416, 3) := dk_20 1 160 (dk_at dksX1_growsBy_0 15 rfl rfl)
theorem dX1_growsBy_18 : decode cX1_growsBy 18 = .ok (.invokestatic 94, 3) := dk_184 0 94 (dk_at dksX1_growsBy_0 18 rfl rfl)
theorem dX1_growsBy_21 : decode cX1_growsBy 21 = .ok (.invokestatic 226, 3) := dk_184 0 226 (dk_at dksX1_growsBy_0 21 rfl rfl)
theorem dX1_growsBy_24 : decode cX1_growsBy 24 = .ok (.aload_n 0, 1) := dk_42 (dk_at dksX1_growsBy_1 0 rfl rfl)
theorem dX1_growsBy_25 : decode cX1_growsBy 25 = .ok (.getfield 33, 3) := dk_180 0 33 (dk_at dksX1_growsBy_1 1 rfl rfl)
theorem dX1_growsBy_28 : decode cX1_growsBy 28 = .ok (.invokevirtual 150, 3) := dk_182 0 150 (dk_at dksX1_growsBy_1 4 rfl rfl)
theorem dX1_growsBy_31 : decode cX1_growsBy 31 = .ok (.astore_n 3, 1) := dk_78 (dk_at dksX1_growsBy_1 7 rfl rfl)
theorem dX1_growsBy_32 : decode cX1_growsBy 32 = .ok (.aload_n 3, 1) := dk_45 (dk_at dksX1_growsBy_1 8 rfl rfl)
theorem dX1_growsBy_33 : decode cX1_growsBy 33 = .ok (.iload_n 2, 1) := dk_28 (dk_at dksX1_growsBy_1 9 rfl rfl)
theorem dX1_growsBy_34 : decode cX1_growsBy 34 = .ok (.invokevirtual 418, 3) := dk_182 1 162 (dk_at dksX1_growsBy_1 10 rfl rfl)
theorem dX1_growsBy_37 : decode cX1_growsBy 37 = .ok (.istore 4, 2) := dk_54 4 (dk_at dksX1_growsBy_1 13 rfl rfl)
theorem dX1_growsBy_39 : decode cX1_growsBy 39 = .ok (.aload_n 3, 1) := dk_45 (dk_at dksX1_growsBy_1 15 rfl rfl)
theorem dX1_growsBy_40 : decode cX1_growsBy 40 = .ok (.getfield 230, 3) := dk_180 0 230 (dk_at dksX1_growsBy_1 16 rfl rfl)
theorem dX1_growsBy_43 : decode cX1_growsBy 43 = .ok (.iload_n 1, 1) := dk_27 (dk_at dksX1_growsBy_1 19 rfl rfl)
theorem dX1_growsBy_44 : decode cX1_growsBy 44 = .ok (.iaload, 1) := dk_46 (dk_at dksX1_growsBy_1 20 rfl rfl)
theorem dX1_growsBy_45 : decode cX1_growsBy 45 = .ok (.aload_n 0, 1) := dk_42 (dk_at dksX1_growsBy_1 21 rfl rfl)
theorem dX1_growsBy_46 : decode cX1_growsBy 46 = .ok (.getfield 33, 3) := dk_180 0 33 (dk_at dksX1_growsBy_2 0 rfl rfl)
theorem dX1_growsBy_49 : decode cX1_growsBy 49 = .ok (.getfield 230, 3) := dk_180 0 230 (dk_at dksX1_growsBy_2 3 rfl rfl)
theorem dX1_growsBy_52 : decode cX1_growsBy 52 = .ok (.iload_n 1, 1) := dk_27 (dk_at dksX1_growsBy_2 6 rfl rfl)
theorem dX1_growsBy_53 : decode cX1_growsBy 53 = .ok (.iaload, 1) := dk_46 (dk_at dksX1_growsBy_2 7 rfl rfl)
theorem dX1_growsBy_54 : decode cX1_growsBy 54 = .ok (.isub, 1) := dk_100 (dk_at dksX1_growsBy_2 8 rfl rfl)
theorem dX1_growsBy_55 : decode cX1_growsBy 55 = .ok (.ireturn, 1) := dk_172 (dk_at dksX1_growsBy_2 9 rfl rfl)
abbrev cX1_send : ByteArray := prog_1_method_53_code
def yX1_send : MethodName := ⟨RX1, "send", "(IIIZ)I"⟩
def dkwX1_send_2 : List UInt8 := [186, 1, 181, 0, 0, 182, 1, 184, 172]
abbrev dktX1_send_2 : List UInt8 := dkwX1_send_2 ++ []
def dkwX1_send_1 : List UInt8 := [153, 0, 7, 4, 167, 0, 4, 3, 184, 0, 226, 29, 184, 1, 177, 58, 7, 42, 27, 28, 21, 4, 25, 7]
abbrev dktX1_send_1 : List UInt8 := dkwX1_send_1 ++ dktX1_send_2
def dkwX1_send_0 : List UInt8 := [42, 27, 182, 0, 240, 58, 5, 42, 28, 182, 0, 240, 58, 6, 27, 28, 159, 0, 14, 29, 184, 1, 174]
abbrev dktX1_send_0 : List UInt8 := dkwX1_send_0 ++ dktX1_send_1
theorem dksX1_send_0 : cX1_send.data.toList.drop 0 = dktX1_send_0 := by decide +kernel
theorem dksX1_send_1 : cX1_send.data.toList.drop 23 = dktX1_send_1 := dk_seg dksX1_send_0 23 rfl rfl
theorem dksX1_send_2 : cX1_send.data.toList.drop 47 = dktX1_send_2 := dk_seg dksX1_send_1 24 rfl rfl
theorem dX1_send_0 : decode cX1_send 0 = .ok (.aload_n 0, 1) := dk_42 (dk_at dksX1_send_0 0 rfl rfl)
theorem dX1_send_1 : decode cX1_send 1 = .ok (.iload_n 1, 1) := dk_27 (dk_at dksX1_send_0 1 rfl rfl)
theorem dX1_send_2 : decode cX1_send 2 = .ok (.invokevirtual 240, 3) := dk_182 0 240 (dk_at dksX1_send_0 2 rfl rfl)
theorem dX1_send_5 : decode cX1_send 5 = .ok (.astore 5, 2) := dk_58 5 (dk_at dksX1_send_0 5 rfl rfl)
theorem dX1_send_7 : decode cX1_send 7 = .ok (.aload_n 0, 1) := dk_42 (dk_at dksX1_send_0 7 rfl rfl)
theorem dX1_send_8 : decode cX1_send 8 = .ok (.iload_n 2, 1) := dk_28 (dk_at dksX1_send_0 8 rfl rfl)
theorem dX1_send_9 : decode cX1_send 9 = .ok (.invokevirtual 240, 3) := dk_182 0 240 (dk_at dksX1_send_0 9 rfl rfl)
theorem dX1_send_12 : decode cX1_send 12 = .ok (.astore 6, 2) := dk_58 6 (dk_at dksX1_send_0 12 rfl rfl)
theorem dX1_send_14 : decode cX1_send 14 = .ok (.iload_n 1, 1) := dk_27 (dk_at dksX1_send_0 14 rfl rfl)
theorem dX1_send_15 : decode cX1_send 15 = .ok (.iload_n 2, 1) := dk_28 (dk_at dksX1_send_0 15 rfl rfl)
theorem dX1_send_16 : decode cX1_send 16 = .ok (.if_icmp .eq 14, 3) := dk_159 0 14 (dk_at dksX1_send_0 16 rfl rfl)
theorem dX1_send_19 : decode cX1_send 19 = .ok (.iload_n 3, 1) := dk_29 (dk_at dksX1_send_0 19 rfl rfl)
theorem dX1_send_20 : decode cX1_send 20 = .ok (.invokestatic 430, 3) := dk_184 1 174 (dk_at dksX1_send_0 20 rfl rfl)
theorem dX1_send_23 : decode cX1_send 23 = .ok (.ifCond .eq 7, 3) := dk_153 0 7 (dk_at dksX1_send_1 0 rfl rfl)
theorem dX1_send_26 : decode cX1_send 26 = .ok (.iconst 1, 1) := dk_4 (dk_at dksX1_send_1 3 rfl rfl)
theorem dX1_send_27 : decode cX1_send 27 = .ok (.goto 4, 3) := dk_167 0 4 (dk_at dksX1_send_1 4 rfl rfl)
theorem dX1_send_30 : decode cX1_send 30 = .ok (.iconst 0, 1) := dk_3 (dk_at dksX1_send_1 7 rfl rfl)
theorem dX1_send_31 : decode cX1_send 31 = .ok (.invokestatic 226, 3) := dk_184 0 226 (dk_at dksX1_send_1 8 rfl rfl)
theorem dX1_send_34 : decode cX1_send 34 = .ok (.iload_n 3, 1) := dk_29 (dk_at dksX1_send_1 11 rfl rfl)
theorem dX1_send_35 : decode cX1_send 35 = .ok (.invokestatic 433, 3) := dk_184 1 177 (dk_at dksX1_send_1 12 rfl rfl)
theorem dX1_send_38 : decode cX1_send 38 = .ok (.astore 7, 2) := dk_58 7 (dk_at dksX1_send_1 15 rfl rfl)
theorem dX1_send_40 : decode cX1_send 40 = .ok (.aload_n 0, 1) := dk_42 (dk_at dksX1_send_1 17 rfl rfl)
theorem dX1_send_41 : decode cX1_send 41 = .ok (.iload_n 1, 1) := dk_27 (dk_at dksX1_send_1 18 rfl rfl)
theorem dX1_send_42 : decode cX1_send 42 = .ok (.iload_n 2, 1) := dk_28 (dk_at dksX1_send_1 19 rfl rfl)
theorem dX1_send_43 : decode cX1_send 43 = .ok (.iload 4, 2) := dk_21 4 (dk_at dksX1_send_1 20 rfl rfl)
theorem dX1_send_45 : decode cX1_send 45 = .ok (.aload 7, 2) := dk_25 7 (dk_at dksX1_send_1 22 rfl rfl)
theorem dX1_send_47 : decode cX1_send 47 = .ok (.invokedynamic 437, 5) := by decide +kernel
theorem dX1_send_52 : decode cX1_send 52 = .ok (.invokevirtual 440, 3) := dk_182 1 184 (dk_at dksX1_send_2 5 rfl rfl)
theorem dX1_send_55 : decode cX1_send 55 = .ok (.ireturn, 1) := dk_172 (dk_at dksX1_send_2 8 rfl rfl)
abbrev cX1_areTones : ByteArray := prog_1_method_51_code
def yX1_areTones : MethodName := ⟨RX1, "areTones", "(I)Z"⟩
def dkwX1_areTones_1 : List UInt8 := [16, 8, 161, 0, 5, 3, 172, 27, 16, 10, 108, 60, 167, 255, 236, 4, 172]
abbrev dktX1_areTones_1 : List UInt8 := dkwX1_areTones_1 ++ []
def dkwX1_areTones_0 : List UInt8 := [26, 133, 9, 20, 1, 172, 184, 0, 94, 154, 0, 5, 3, 172, 26, 60, 27, 158, 0, 22, 27, 16, 10, 112]
abbrev dktX1_areTones_0 : List UInt8 := dkwX1_areTones_0 ++ dktX1_areTones_1
theorem dksX1_areTones_0 : cX1_areTones.data.toList.drop 0 = dktX1_areTones_0 := by decide +kernel
theorem dksX1_areTones_1 : cX1_areTones.data.toList.drop 24 = dktX1_areTones_1 := dk_seg dksX1_areTones_0 24 rfl rfl
theorem dX1_areTones_0 : decode cX1_areTones 0 = .ok (.iload_n 0, 1) := dk_26 (dk_at dksX1_areTones_0 0 rfl rfl)
theorem dX1_areTones_1 : decode cX1_areTones 1 = .ok (.i2l, 1) := dk_133 (dk_at dksX1_areTones_0 1 rfl rfl)
theorem dX1_areTones_2 : decode cX1_areTones 2 = .ok (.lconst 0, 1) := dk_9 (dk_at dksX1_areTones_0 2 rfl rfl)
theorem dX1_areTones_3 : decode cX1_areTones 3 = .ok (.ldc2_w 428, 3) := dk_20 1 172 (dk_at dksX1_areTones_0 3 rfl rfl)
theorem dX1_areTones_6 : decode cX1_areTones 6 = .ok (.invokestatic 94, 3) := dk_184 0 94 (dk_at dksX1_areTones_0 6 rfl rfl)
theorem dX1_areTones_9 : decode cX1_areTones 9 = .ok (.ifCond .ne 5, 3) := dk_154 0 5 (dk_at dksX1_areTones_0 9 rfl rfl)
theorem dX1_areTones_12 : decode cX1_areTones 12 = .ok (.iconst 0, 1) := dk_3 (dk_at dksX1_areTones_0 12 rfl rfl)
theorem dX1_areTones_13 : decode cX1_areTones 13 = .ok (.ireturn, 1) := dk_172 (dk_at dksX1_areTones_0 13 rfl rfl)
theorem dX1_areTones_14 : decode cX1_areTones 14 = .ok (.iload_n 0, 1) := dk_26 (dk_at dksX1_areTones_0 14 rfl rfl)
theorem dX1_areTones_15 : decode cX1_areTones 15 = .ok (.istore_n 1, 1) := dk_60 (dk_at dksX1_areTones_0 15 rfl rfl)
theorem dX1_areTones_16 : decode cX1_areTones 16 = .ok (.iload_n 1, 1) := dk_27 (dk_at dksX1_areTones_0 16 rfl rfl)
theorem dX1_areTones_17 : decode cX1_areTones 17 = .ok (.ifCond .le 22, 3) := dk_158 0 22 (dk_at dksX1_areTones_0 17 rfl rfl)
theorem dX1_areTones_20 : decode cX1_areTones 20 = .ok (.iload_n 1, 1) := dk_27 (dk_at dksX1_areTones_0 20 rfl rfl)
theorem dX1_areTones_21 : decode cX1_areTones 21 = .ok (.bipush 10, 2) := dk_16 10 (dk_at dksX1_areTones_0 21 rfl rfl)
theorem dX1_areTones_23 : decode cX1_areTones 23 = .ok (.irem, 1) := dk_112 (dk_at dksX1_areTones_0 23 rfl rfl)
theorem dX1_areTones_24 : decode cX1_areTones 24 = .ok (.bipush 8, 2) := dk_16 8 (dk_at dksX1_areTones_1 0 rfl rfl)
theorem dX1_areTones_26 : decode cX1_areTones 26 = .ok (.if_icmp .lt 5, 3) := dk_161 0 5 (dk_at dksX1_areTones_1 2 rfl rfl)
theorem dX1_areTones_29 : decode cX1_areTones 29 = .ok (.iconst 0, 1) := dk_3 (dk_at dksX1_areTones_1 5 rfl rfl)
theorem dX1_areTones_30 : decode cX1_areTones 30 = .ok (.ireturn, 1) := dk_172 (dk_at dksX1_areTones_1 6 rfl rfl)
theorem dX1_areTones_31 : decode cX1_areTones 31 = .ok (.iload_n 1, 1) := dk_27 (dk_at dksX1_areTones_1 7 rfl rfl)
theorem dX1_areTones_32 : decode cX1_areTones 32 = .ok (.bipush 10, 2) := dk_16 10 (dk_at dksX1_areTones_1 8 rfl rfl)
theorem dX1_areTones_34 : decode cX1_areTones 34 = .ok (.idiv, 1) := dk_108 (dk_at dksX1_areTones_1 10 rfl rfl)
theorem dX1_areTones_35 : decode cX1_areTones 35 = .ok (.istore_n 1, 1) := dk_60 (dk_at dksX1_areTones_1 11 rfl rfl)
theorem dX1_areTones_36 : decode cX1_areTones 36 = .ok (.goto (-20), 3) := dk_167 255 236 (dk_at dksX1_areTones_1 12 rfl rfl)
theorem dX1_areTones_39 : decode cX1_areTones 39 = .ok (.iconst 1, 1) := dk_4 (dk_at dksX1_areTones_1 15 rfl rfl)
theorem dX1_areTones_40 : decode cX1_areTones 40 = .ok (.ireturn, 1) := dk_172 (dk_at dksX1_areTones_1 16 rfl rfl)
abbrev cX1_tones : ByteArray := prog_1_method_52_code
def yX1_tones : MethodName := ⟨RX1, "tones", "(I)[I"⟩
def dkwX1_tones_2 : List UInt8 := [16, 10, 108, 62, 132, 4, 255, 167, 255, 235, 44, 176]
abbrev dktX1_tones_2 : List UInt8 := dkwX1_tones_2 ++ []
def dkwX1_tones_1 : List UInt8 := [188, 10, 77, 26, 62, 27, 4, 100, 54, 4, 21, 4, 155, 0, 22, 44, 21, 4, 29, 16, 10, 112, 79, 29]
abbrev dktX1_tones_1 : List UInt8 := dkwX1_tones_1 ++ dktX1_tones_2
def dkwX1_tones_0 : List UInt8 := [4, 60, 26, 16, 10, 108, 61, 28, 158, 0, 14, 132, 1, 1, 28, 16, 10, 108, 61, 167, 255, 244, 27]
abbrev dktX1_tones_0 : List UInt8 := dkwX1_tones_0 ++ dktX1_tones_1
theorem dksX1_tones_0 : cX1_tones.data.toList.drop 0 = dktX1_tones_0 := by decide +kernel
theorem dksX1_tones_1 : cX1_tones.data.toList.drop 23 = dktX1_tones_1 := dk_seg dksX1_tones_0 23 rfl rfl
theorem dksX1_tones_2 : cX1_tones.data.toList.drop 47 = dktX1_tones_2 := dk_seg dksX1_tones_1 24 rfl rfl
theorem dX1_tones_0 : decode cX1_tones 0 = .ok (.iconst 1, 1) := dk_4 (dk_at dksX1_tones_0 0 rfl rfl)
theorem dX1_tones_1 : decode cX1_tones 1 = .ok (.istore_n 1, 1) := dk_60 (dk_at dksX1_tones_0 1 rfl rfl)
theorem dX1_tones_2 : decode cX1_tones 2 = .ok (.iload_n 0, 1) := dk_26 (dk_at dksX1_tones_0 2 rfl rfl)
theorem dX1_tones_3 : decode cX1_tones 3 = .ok (.bipush 10, 2) := dk_16 10 (dk_at dksX1_tones_0 3 rfl rfl)
theorem dX1_tones_5 : decode cX1_tones 5 = .ok (.idiv, 1) := dk_108 (dk_at dksX1_tones_0 5 rfl rfl)
theorem dX1_tones_6 : decode cX1_tones 6 = .ok (.istore_n 2, 1) := dk_61 (dk_at dksX1_tones_0 6 rfl rfl)
theorem dX1_tones_7 : decode cX1_tones 7 = .ok (.iload_n 2, 1) := dk_28 (dk_at dksX1_tones_0 7 rfl rfl)
theorem dX1_tones_8 : decode cX1_tones 8 = .ok (.ifCond .le 14, 3) := dk_158 0 14 (dk_at dksX1_tones_0 8 rfl rfl)
theorem dX1_tones_11 : decode cX1_tones 11 = .ok (.iinc 1 1, 3) := dk_132 1 1 (dk_at dksX1_tones_0 11 rfl rfl)
theorem dX1_tones_14 : decode cX1_tones 14 = .ok (.iload_n 2, 1) := dk_28 (dk_at dksX1_tones_0 14 rfl rfl)
theorem dX1_tones_15 : decode cX1_tones 15 = .ok (.bipush 10, 2) := dk_16 10 (dk_at dksX1_tones_0 15 rfl rfl)
theorem dX1_tones_17 : decode cX1_tones 17 = .ok (.idiv, 1) := dk_108 (dk_at dksX1_tones_0 17 rfl rfl)
theorem dX1_tones_18 : decode cX1_tones 18 = .ok (.istore_n 2, 1) := dk_61 (dk_at dksX1_tones_0 18 rfl rfl)
theorem dX1_tones_19 : decode cX1_tones 19 = .ok (.goto (-12), 3) := dk_167 255 244 (dk_at dksX1_tones_0 19 rfl rfl)
theorem dX1_tones_22 : decode cX1_tones 22 = .ok (.iload_n 1, 1) := dk_27 (dk_at dksX1_tones_0 22 rfl rfl)
theorem dX1_tones_23 : decode cX1_tones 23 = .ok (.newarray .int, 2) := dk_188_10 (dk_at dksX1_tones_1 0 rfl rfl)
theorem dX1_tones_25 : decode cX1_tones 25 = .ok (.astore_n 2, 1) := dk_77 (dk_at dksX1_tones_1 2 rfl rfl)
theorem dX1_tones_26 : decode cX1_tones 26 = .ok (.iload_n 0, 1) := dk_26 (dk_at dksX1_tones_1 3 rfl rfl)
theorem dX1_tones_27 : decode cX1_tones 27 = .ok (.istore_n 3, 1) := dk_62 (dk_at dksX1_tones_1 4 rfl rfl)
theorem dX1_tones_28 : decode cX1_tones 28 = .ok (.iload_n 1, 1) := dk_27 (dk_at dksX1_tones_1 5 rfl rfl)
theorem dX1_tones_29 : decode cX1_tones 29 = .ok (.iconst 1, 1) := dk_4 (dk_at dksX1_tones_1 6 rfl rfl)
theorem dX1_tones_30 : decode cX1_tones 30 = .ok (.isub, 1) := dk_100 (dk_at dksX1_tones_1 7 rfl rfl)
theorem dX1_tones_31 : decode cX1_tones 31 = .ok (.istore 4, 2) := dk_54 4 (dk_at dksX1_tones_1 8 rfl rfl)
theorem dX1_tones_33 : decode cX1_tones 33 = .ok (.iload 4, 2) := dk_21 4 (dk_at dksX1_tones_1 10 rfl rfl)
theorem dX1_tones_35 : decode cX1_tones 35 = .ok (.ifCond .lt 22, 3) := dk_155 0 22 (dk_at dksX1_tones_1 12 rfl rfl)
theorem dX1_tones_38 : decode cX1_tones 38 = .ok (.aload_n 2, 1) := dk_44 (dk_at dksX1_tones_1 15 rfl rfl)
theorem dX1_tones_39 : decode cX1_tones 39 = .ok (.iload 4, 2) := dk_21 4 (dk_at dksX1_tones_1 16 rfl rfl)
theorem dX1_tones_41 : decode cX1_tones 41 = .ok (.iload_n 3, 1) := dk_29 (dk_at dksX1_tones_1 18 rfl rfl)
theorem dX1_tones_42 : decode cX1_tones 42 = .ok (.bipush 10, 2) := dk_16 10 (dk_at dksX1_tones_1 19 rfl rfl)
theorem dX1_tones_44 : decode cX1_tones 44 = .ok (.irem, 1) := dk_112 (dk_at dksX1_tones_1 21 rfl rfl)
theorem dX1_tones_45 : decode cX1_tones 45 = .ok (.iastore, 1) := dk_79 (dk_at dksX1_tones_1 22 rfl rfl)
theorem dX1_tones_46 : decode cX1_tones 46 = .ok (.iload_n 3, 1) := dk_29 (dk_at dksX1_tones_1 23 rfl rfl)
theorem dX1_tones_47 : decode cX1_tones 47 = .ok (.bipush 10, 2) := dk_16 10 (dk_at dksX1_tones_2 0 rfl rfl)
theorem dX1_tones_49 : decode cX1_tones 49 = .ok (.idiv, 1) := dk_108 (dk_at dksX1_tones_2 2 rfl rfl)
theorem dX1_tones_50 : decode cX1_tones 50 = .ok (.istore_n 3, 1) := dk_62 (dk_at dksX1_tones_2 3 rfl rfl)
theorem dX1_tones_51 : decode cX1_tones 51 = .ok (.iinc 4 (-1), 3) := dk_132 4 255 (dk_at dksX1_tones_2 4 rfl rfl)
theorem dX1_tones_54 : decode cX1_tones 54 = .ok (.goto (-21), 3) := dk_167 255 235 (dk_at dksX1_tones_2 7 rfl rfl)
theorem dX1_tones_57 : decode cX1_tones 57 = .ok (.aload_n 2, 1) := dk_44 (dk_at dksX1_tones_2 10 rfl rfl)
theorem dX1_tones_58 : decode cX1_tones 58 = .ok (.areturn, 1) := dk_176 (dk_at dksX1_tones_2 11 rfl rfl)
abbrev cX1_lambda_send_4 : ByteArray := prog_1_method_68_code
def yX1_lambda_send_4 : MethodName := ⟨RX1, "lambda$send$4", "(IIZ[ILWhistlePosts$World;)I"⟩
def dkwX1_lambda_send_4_0 : List UInt8 := [25, 4, 26, 27, 3, 28, 45, 182, 1, 242, 172]
abbrev dktX1_lambda_send_4_0 : List UInt8 := dkwX1_lambda_send_4_0 ++ []
theorem dksX1_lambda_send_4_0 : cX1_lambda_send_4.data.toList.drop 0 = dktX1_lambda_send_4_0 := by decide +kernel
theorem dX1_lambda_send_4_0 : decode cX1_lambda_send_4 0 = .ok (.aload 4, 2) := dk_25 4 (dk_at dksX1_lambda_send_4_0 0 rfl rfl)
theorem dX1_lambda_send_4_2 : decode cX1_lambda_send_4 2 = .ok (.iload_n 0, 1) := dk_26 (dk_at dksX1_lambda_send_4_0 2 rfl rfl)
theorem dX1_lambda_send_4_3 : decode cX1_lambda_send_4 3 = .ok (.iload_n 1, 1) := dk_27 (dk_at dksX1_lambda_send_4_0 3 rfl rfl)
theorem dX1_lambda_send_4_4 : decode cX1_lambda_send_4 4 = .ok (.iconst 0, 1) := dk_3 (dk_at dksX1_lambda_send_4_0 4 rfl rfl)
theorem dX1_lambda_send_4_5 : decode cX1_lambda_send_4 5 = .ok (.iload_n 2, 1) := dk_28 (dk_at dksX1_lambda_send_4_0 5 rfl rfl)
theorem dX1_lambda_send_4_6 : decode cX1_lambda_send_4 6 = .ok (.aload_n 3, 1) := dk_45 (dk_at dksX1_lambda_send_4_0 6 rfl rfl)
theorem dX1_lambda_send_4_7 : decode cX1_lambda_send_4 7 = .ok (.invokevirtual 498, 3) := dk_182 1 242 (dk_at dksX1_lambda_send_4_0 7 rfl rfl)
theorem dX1_lambda_send_4_10 : decode cX1_lambda_send_4 10 = .ok (.ireturn, 1) := dk_172 (dk_at dksX1_lambda_send_4_0 10 rfl rfl)
abbrev cX1_changes : ByteArray := prog_1_method_50_code
def yX1_changes : MethodName := ⟨RX1, "changes", "(LWhistlePosts$Deed;)I"⟩
def dkwX1_changes_0 : List UInt8 := [42, 180, 0, 33, 182, 0, 150, 77, 43, 44, 185, 0, 140, 2, 0, 62, 42, 44, 182, 0, 153, 29, 172]
abbrev dktX1_changes_0 : List UInt8 := dkwX1_changes_0 ++ []
theorem dksX1_changes_0 : cX1_changes.data.toList.drop 0 = dktX1_changes_0 := by decide +kernel
theorem dX1_changes_0 : decode cX1_changes 0 = .ok (.aload_n 0, 1) := dk_42 (dk_at dksX1_changes_0 0 rfl rfl)
theorem dX1_changes_1 : decode cX1_changes 1 = .ok (.getfield 33, 3) := dk_180 0 33 (dk_at dksX1_changes_0 1 rfl rfl)
theorem dX1_changes_4 : decode cX1_changes 4 = .ok (.invokevirtual 150, 3) := dk_182 0 150 (dk_at dksX1_changes_0 4 rfl rfl)
theorem dX1_changes_7 : decode cX1_changes 7 = .ok (.astore_n 2, 1) := dk_77 (dk_at dksX1_changes_0 7 rfl rfl)
theorem dX1_changes_8 : decode cX1_changes 8 = .ok (.aload_n 1, 1) := dk_43 (dk_at dksX1_changes_0 8 rfl rfl)
theorem dX1_changes_9 : decode cX1_changes 9 = .ok (.aload_n 2, 1) := dk_44 (dk_at dksX1_changes_0 9 rfl rfl)
theorem dX1_changes_10 : decode cX1_changes 10 = .ok (.invokeinterface 140 2, 5) := by decide +kernel
theorem dX1_changes_15 : decode cX1_changes 15 = .ok (.istore_n 3, 1) := dk_62 (dk_at dksX1_changes_0 15 rfl rfl)
theorem dX1_changes_16 : decode cX1_changes 16 = .ok (.aload_n 0, 1) := dk_42 (dk_at dksX1_changes_0 16 rfl rfl)
theorem dX1_changes_17 : decode cX1_changes 17 = .ok (.aload_n 2, 1) := dk_44 (dk_at dksX1_changes_0 17 rfl rfl)
theorem dX1_changes_18 : decode cX1_changes 18 = .ok (.invokevirtual 153, 3) := dk_182 0 153 (dk_at dksX1_changes_0 18 rfl rfl)
theorem dX1_changes_21 : decode cX1_changes 21 = .ok (.iload_n 3, 1) := dk_29 (dk_at dksX1_changes_0 21 rfl rfl)
theorem dX1_changes_22 : decode cX1_changes 22 = .ok (.ireturn, 1) := dk_172 (dk_at dksX1_changes_0 22 rfl rfl)
abbrev cX1_tick : ByteArray := prog_1_method_54_code
def yX1_tick : MethodName := ⟨RX1, "tick", "(I)I"⟩
def dkwX1_tick_0 : List UInt8 := [27, 133, 10, 20, 1, 160, 184, 0, 94, 184, 0, 226, 42, 27, 186, 1, 188, 0, 0, 182, 1, 184, 172]
abbrev dktX1_tick_0 : List UInt8 := dkwX1_tick_0 ++ []
theorem dksX1_tick_0 : cX1_tick.data.toList.drop 0 = dktX1_tick_0 := by decide +kernel
theorem dX1_tick_0 : decode cX1_tick 0 = .ok (.iload_n 1, 1) := dk_27 (dk_at dksX1_tick_0 0 rfl rfl)
theorem dX1_tick_1 : decode cX1_tick 1 = .ok (.i2l, 1) := dk_133 (dk_at dksX1_tick_0 1 rfl rfl)
theorem dX1_tick_2 : decode cX1_tick 2 = .ok (.lconst 1, 1) := dk_10 (dk_at dksX1_tick_0 2 rfl rfl)
theorem dX1_tick_3 : decode cX1_tick 3 = .ok (.ldc2_w 416, 3) := dk_20 1 160 (dk_at dksX1_tick_0 3 rfl rfl)
theorem dX1_tick_6 : decode cX1_tick 6 = .ok (.invokestatic 94, 3) := dk_184 0 94 (dk_at dksX1_tick_0 6 rfl rfl)
theorem dX1_tick_9 : decode cX1_tick 9 = .ok (.invokestatic 226, 3) := dk_184 0 226 (dk_at dksX1_tick_0 9 rfl rfl)
theorem dX1_tick_12 : decode cX1_tick 12 = .ok (.aload_n 0, 1) := dk_42 (dk_at dksX1_tick_0 12 rfl rfl)
theorem dX1_tick_13 : decode cX1_tick 13 = .ok (.iload_n 1, 1) := dk_27 (dk_at dksX1_tick_0 13 rfl rfl)
theorem dX1_tick_14 : decode cX1_tick 14 = .ok (.invokedynamic 444, 5) := by decide +kernel
theorem dX1_tick_19 : decode cX1_tick 19 = .ok (.invokevirtual 440, 3) := dk_182 1 184 (dk_at dksX1_tick_0 19 rfl rfl)
theorem dX1_tick_22 : decode cX1_tick 22 = .ok (.ireturn, 1) := dk_172 (dk_at dksX1_tick_0 22 rfl rfl)
abbrev cX1_lambda_tick_5 : ByteArray := prog_1_method_67_code
def yX1_lambda_tick_5 : MethodName := ⟨RX1, "lambda$tick$5", "(ILWhistlePosts$World;)I"⟩
def dkwX1_lambda_tick_5_0 : List UInt8 := [43, 26, 182, 1, 239, 172]
abbrev dktX1_lambda_tick_5_0 : List UInt8 := dkwX1_lambda_tick_5_0 ++ []
theorem dksX1_lambda_tick_5_0 : cX1_lambda_tick_5.data.toList.drop 0 = dktX1_lambda_tick_5_0 := by decide +kernel
theorem dX1_lambda_tick_5_0 : decode cX1_lambda_tick_5 0 = .ok (.aload_n 1, 1) := dk_43 (dk_at dksX1_lambda_tick_5_0 0 rfl rfl)
theorem dX1_lambda_tick_5_1 : decode cX1_lambda_tick_5 1 = .ok (.iload_n 0, 1) := dk_26 (dk_at dksX1_lambda_tick_5_0 1 rfl rfl)
theorem dX1_lambda_tick_5_2 : decode cX1_lambda_tick_5 2 = .ok (.invokevirtual 495, 3) := dk_182 1 239 (dk_at dksX1_lambda_tick_5_0 2 rfl rfl)
theorem dX1_lambda_tick_5_5 : decode cX1_lambda_tick_5 5 = .ok (.ireturn, 1) := dk_172 (dk_at dksX1_lambda_tick_5_0 5 rfl rfl)
abbrev cX1_give : ByteArray := prog_1_method_55_code
def yX1_give : MethodName := ⟨RX1, "give", "(II)I"⟩
def dkwX1_give_1 : List UInt8 := [186, 1, 193, 0, 0, 182, 1, 184, 172]
abbrev dktX1_give_1 : List UInt8 := dkwX1_give_1 ++ []
def dkwX1_give_0 : List UInt8 := [42, 27, 182, 0, 240, 78, 28, 133, 10, 20, 1, 191, 184, 0, 94, 184, 0, 226, 42, 27, 28]
abbrev dktX1_give_0 : List UInt8 := dkwX1_give_0 ++ dktX1_give_1
theorem dksX1_give_0 : cX1_give.data.toList.drop 0 = dktX1_give_0 := by decide +kernel
theorem dksX1_give_1 : cX1_give.data.toList.drop 21 = dktX1_give_1 := dk_seg dksX1_give_0 21 rfl rfl
theorem dX1_give_0 : decode cX1_give 0 = .ok (.aload_n 0, 1) := dk_42 (dk_at dksX1_give_0 0 rfl rfl)
theorem dX1_give_1 : decode cX1_give 1 = .ok (.iload_n 1, 1) := dk_27 (dk_at dksX1_give_0 1 rfl rfl)
theorem dX1_give_2 : decode cX1_give 2 = .ok (.invokevirtual 240, 3) := dk_182 0 240 (dk_at dksX1_give_0 2 rfl rfl)
theorem dX1_give_5 : decode cX1_give 5 = .ok (.astore_n 3, 1) := dk_78 (dk_at dksX1_give_0 5 rfl rfl)
theorem dX1_give_6 : decode cX1_give 6 = .ok (.iload_n 2, 1) := dk_28 (dk_at dksX1_give_0 6 rfl rfl)
theorem dX1_give_7 : decode cX1_give 7 = .ok (.i2l, 1) := dk_133 (dk_at dksX1_give_0 7 rfl rfl)
theorem dX1_give_8 : decode cX1_give 8 = .ok (.lconst 1, 1) := dk_10 (dk_at dksX1_give_0 8 rfl rfl)
theorem dX1_give_9 : decode cX1_give 9 = .ok (.ldc2_w 447, 3) := dk_20 1 191 (dk_at dksX1_give_0 9 rfl rfl)
theorem dX1_give_12 : decode cX1_give 12 = .ok (.invokestatic 94, 3) := dk_184 0 94 (dk_at dksX1_give_0 12 rfl rfl)
theorem dX1_give_15 : decode cX1_give 15 = .ok (.invokestatic 226, 3) := dk_184 0 226 (dk_at dksX1_give_0 15 rfl rfl)
theorem dX1_give_18 : decode cX1_give 18 = .ok (.aload_n 0, 1) := dk_42 (dk_at dksX1_give_0 18 rfl rfl)
theorem dX1_give_19 : decode cX1_give 19 = .ok (.iload_n 1, 1) := dk_27 (dk_at dksX1_give_0 19 rfl rfl)
theorem dX1_give_20 : decode cX1_give 20 = .ok (.iload_n 2, 1) := dk_28 (dk_at dksX1_give_0 20 rfl rfl)
theorem dX1_give_21 : decode cX1_give 21 = .ok (.invokedynamic 449, 5) := by decide +kernel
theorem dX1_give_26 : decode cX1_give 26 = .ok (.invokevirtual 440, 3) := dk_182 1 184 (dk_at dksX1_give_1 5 rfl rfl)
theorem dX1_give_29 : decode cX1_give 29 = .ok (.ireturn, 1) := dk_172 (dk_at dksX1_give_1 8 rfl rfl)
abbrev cX1_lambda_give_6 : ByteArray := prog_1_method_66_code
def yX1_lambda_give_6 : MethodName := ⟨RX1, "lambda$give$6", "(IILWhistlePosts$World;)I"⟩
def dkwX1_lambda_give_6_0 : List UInt8 := [44, 26, 27, 182, 1, 236, 172]
abbrev dktX1_lambda_give_6_0 : List UInt8 := dkwX1_lambda_give_6_0 ++ []
theorem dksX1_lambda_give_6_0 : cX1_lambda_give_6.data.toList.drop 0 = dktX1_lambda_give_6_0 := by decide +kernel
theorem dX1_lambda_give_6_0 : decode cX1_lambda_give_6 0 = .ok (.aload_n 2, 1) := dk_44 (dk_at dksX1_lambda_give_6_0 0 rfl rfl)
theorem dX1_lambda_give_6_1 : decode cX1_lambda_give_6 1 = .ok (.iload_n 0, 1) := dk_26 (dk_at dksX1_lambda_give_6_0 1 rfl rfl)
theorem dX1_lambda_give_6_2 : decode cX1_lambda_give_6 2 = .ok (.iload_n 1, 1) := dk_27 (dk_at dksX1_lambda_give_6_0 2 rfl rfl)
theorem dX1_lambda_give_6_3 : decode cX1_lambda_give_6 3 = .ok (.invokevirtual 492, 3) := dk_182 1 236 (dk_at dksX1_lambda_give_6_0 3 rfl rfl)
theorem dX1_lambda_give_6_6 : decode cX1_lambda_give_6 6 = .ok (.ireturn, 1) := dk_172 (dk_at dksX1_lambda_give_6_0 6 rfl rfl)
abbrev cX1_cut : ByteArray := prog_1_method_56_code
def yX1_cut : MethodName := ⟨RX1, "cut", "(II)I"⟩
def dkwX1_cut_1 : List UInt8 := [172]
abbrev dktX1_cut_1 : List UInt8 := dkwX1_cut_1 ++ []
def dkwX1_cut_0 : List UInt8 := [42, 27, 182, 0, 240, 78, 42, 28, 182, 0, 240, 58, 4, 42, 27, 28, 186, 1, 196, 0, 0, 182, 1, 184]
abbrev dktX1_cut_0 : List UInt8 := dkwX1_cut_0 ++ dktX1_cut_1
theorem dksX1_cut_0 : cX1_cut.data.toList.drop 0 = dktX1_cut_0 := by decide +kernel
theorem dksX1_cut_1 : cX1_cut.data.toList.drop 24 = dktX1_cut_1 := dk_seg dksX1_cut_0 24 rfl rfl
theorem dX1_cut_0 : decode cX1_cut 0 = .ok (.aload_n 0, 1) := dk_42 (dk_at dksX1_cut_0 0 rfl rfl)
theorem dX1_cut_1 : decode cX1_cut 1 = .ok (.iload_n 1, 1) := dk_27 (dk_at dksX1_cut_0 1 rfl rfl)
theorem dX1_cut_2 : decode cX1_cut 2 = .ok (.invokevirtual 240, 3) := dk_182 0 240 (dk_at dksX1_cut_0 2 rfl rfl)
theorem dX1_cut_5 : decode cX1_cut 5 = .ok (.astore_n 3, 1) := dk_78 (dk_at dksX1_cut_0 5 rfl rfl)
theorem dX1_cut_6 : decode cX1_cut 6 = .ok (.aload_n 0, 1) := dk_42 (dk_at dksX1_cut_0 6 rfl rfl)
theorem dX1_cut_7 : decode cX1_cut 7 = .ok (.iload_n 2, 1) := dk_28 (dk_at dksX1_cut_0 7 rfl rfl)
theorem dX1_cut_8 : decode cX1_cut 8 = .ok (.invokevirtual 240, 3) := dk_182 0 240 (dk_at dksX1_cut_0 8 rfl rfl)
theorem dX1_cut_11 : decode cX1_cut 11 = .ok (.astore 4, 2) := dk_58 4 (dk_at dksX1_cut_0 11 rfl rfl)
theorem dX1_cut_13 : decode cX1_cut 13 = .ok (.aload_n 0, 1) := dk_42 (dk_at dksX1_cut_0 13 rfl rfl)
theorem dX1_cut_14 : decode cX1_cut 14 = .ok (.iload_n 1, 1) := dk_27 (dk_at dksX1_cut_0 14 rfl rfl)
theorem dX1_cut_15 : decode cX1_cut 15 = .ok (.iload_n 2, 1) := dk_28 (dk_at dksX1_cut_0 15 rfl rfl)
theorem dX1_cut_16 : decode cX1_cut 16 = .ok (.invokedynamic 452, 5) := by decide +kernel
theorem dX1_cut_21 : decode cX1_cut 21 = .ok (.invokevirtual 440, 3) := dk_182 1 184 (dk_at dksX1_cut_0 21 rfl rfl)
theorem dX1_cut_24 : decode cX1_cut 24 = .ok (.ireturn, 1) := dk_172 (dk_at dksX1_cut_1 0 rfl rfl)
abbrev cX1_lambda_cut_7 : ByteArray := prog_1_method_65_code
def yX1_lambda_cut_7 : MethodName := ⟨RX1, "lambda$cut$7", "(IILWhistlePosts$World;)I"⟩
def dkwX1_lambda_cut_7_0 : List UInt8 := [44, 26, 27, 182, 1, 233, 172]
abbrev dktX1_lambda_cut_7_0 : List UInt8 := dkwX1_lambda_cut_7_0 ++ []
theorem dksX1_lambda_cut_7_0 : cX1_lambda_cut_7.data.toList.drop 0 = dktX1_lambda_cut_7_0 := by decide +kernel
theorem dX1_lambda_cut_7_0 : decode cX1_lambda_cut_7 0 = .ok (.aload_n 2, 1) := dk_44 (dk_at dksX1_lambda_cut_7_0 0 rfl rfl)
theorem dX1_lambda_cut_7_1 : decode cX1_lambda_cut_7 1 = .ok (.iload_n 0, 1) := dk_26 (dk_at dksX1_lambda_cut_7_0 1 rfl rfl)
theorem dX1_lambda_cut_7_2 : decode cX1_lambda_cut_7 2 = .ok (.iload_n 1, 1) := dk_27 (dk_at dksX1_lambda_cut_7_0 2 rfl rfl)
theorem dX1_lambda_cut_7_3 : decode cX1_lambda_cut_7 3 = .ok (.invokevirtual 489, 3) := dk_182 1 233 (dk_at dksX1_lambda_cut_7_0 3 rfl rfl)
theorem dX1_lambda_cut_7_6 : decode cX1_lambda_cut_7 6 = .ok (.ireturn, 1) := dk_172 (dk_at dksX1_lambda_cut_7_0 6 rfl rfl)
abbrev cX1_set : ByteArray := prog_1_method_57_code
def yX1_set : MethodName := ⟨RX1, "set", "(II)I"⟩
def dkwX1_set_2 : List UInt8 := [182, 1, 184, 172]
abbrev dktX1_set_2 : List UInt8 := dkwX1_set_2 ++ []
def dkwX1_set_1 : List UInt8 := [29, 46, 133, 178, 1, 200, 29, 46, 133, 184, 0, 94, 184, 0, 226, 42, 29, 28, 186, 1, 203, 0, 0]
abbrev dktX1_set_1 : List UInt8 := dkwX1_set_1 ++ dktX1_set_2
def dkwX1_set_0 : List UInt8 := [27, 16, 8, 100, 62, 27, 133, 20, 1, 141, 20, 0, 224, 184, 0, 94, 184, 0, 226, 28, 133, 178, 1, 197]
abbrev dktX1_set_0 : List UInt8 := dkwX1_set_0 ++ dktX1_set_1
theorem dksX1_set_0 : cX1_set.data.toList.drop 0 = dktX1_set_0 := by decide +kernel
theorem dksX1_set_1 : cX1_set.data.toList.drop 24 = dktX1_set_1 := dk_seg dksX1_set_0 24 rfl rfl
theorem dksX1_set_2 : cX1_set.data.toList.drop 47 = dktX1_set_2 := dk_seg dksX1_set_1 23 rfl rfl
theorem dX1_set_0 : decode cX1_set 0 = .ok (.iload_n 1, 1) := dk_27 (dk_at dksX1_set_0 0 rfl rfl)
theorem dX1_set_1 : decode cX1_set 1 = .ok (.bipush 8, 2) := dk_16 8 (dk_at dksX1_set_0 1 rfl rfl)
theorem dX1_set_3 : decode cX1_set 3 = .ok (.isub, 1) := dk_100 (dk_at dksX1_set_0 3 rfl rfl)
theorem dX1_set_4 : decode cX1_set 4 = .ok (.istore_n 3, 1) := dk_62 (dk_at dksX1_set_0 4 rfl rfl)
theorem dX1_set_5 : decode cX1_set 5 = .ok (.iload_n 1, 1) := dk_27 (dk_at dksX1_set_0 5 rfl rfl)
theorem dX1_set_6 : decode cX1_set 6 = .ok (.i2l, 1) := dk_133 (dk_at dksX1_set_0 6 rfl rfl)
theorem dX1_set_7 : decode cX1_set 7 = .ok (.ldc2_w 397, 3) := dk_20 1 141 (dk_at dksX1_set_0 7 rfl rfl)
theorem dX1_set_10 : decode cX1_set 10 = .ok (.ldc2_w 224, 3) := dk_20 0 224 (dk_at dksX1_set_0 10 rfl rfl)
theorem dX1_set_13 : decode cX1_set 13 = .ok (.invokestatic 94, 3) := dk_184 0 94 (dk_at dksX1_set_0 13 rfl rfl)
theorem dX1_set_16 : decode cX1_set 16 = .ok (.invokestatic 226, 3) := dk_184 0 226 (dk_at dksX1_set_0 16 rfl rfl)
theorem dX1_set_19 : decode cX1_set 19 = .ok (.iload_n 2, 1) := dk_28 (dk_at dksX1_set_0 19 rfl rfl)
theorem dX1_set_20 : decode cX1_set 20 = .ok (.i2l, 1) := dk_133 (dk_at dksX1_set_0 20 rfl rfl)
theorem dX1_set_21 : decode cX1_set 21 = .ok (.getstatic 453, 3) := dk_178 1 197 (dk_at dksX1_set_0 21 rfl rfl)
theorem dX1_set_24 : decode cX1_set 24 = .ok (.iload_n 3, 1) := dk_29 (dk_at dksX1_set_1 0 rfl rfl)
theorem dX1_set_25 : decode cX1_set 25 = .ok (.iaload, 1) := dk_46 (dk_at dksX1_set_1 1 rfl rfl)
theorem dX1_set_26 : decode cX1_set 26 = .ok (.i2l, 1) := dk_133 (dk_at dksX1_set_1 2 rfl rfl)
theorem dX1_set_27 : decode cX1_set 27 = .ok (.getstatic 456, 3) := dk_178 1 200 (dk_at dksX1_set_1 3 rfl rfl)
theorem dX1_set_30 : decode cX1_set 30 = .ok (.iload_n 3, 1) := dk_29 (dk_at dksX1_set_1 6 rfl rfl)
theorem dX1_set_31 : decode cX1_set 31 = .ok (.iaload, 1) := dk_46 (dk_at dksX1_set_1 7 rfl rfl)
theorem dX1_set_32 : decode cX1_set 32 = .ok (.i2l, 1) := dk_133 (dk_at dksX1_set_1 8 rfl rfl)
theorem dX1_set_33 : decode cX1_set 33 = .ok (.invokestatic 94, 3) := dk_184 0 94 (dk_at dksX1_set_1 9 rfl rfl)
theorem dX1_set_36 : decode cX1_set 36 = .ok (.invokestatic 226, 3) := dk_184 0 226 (dk_at dksX1_set_1 12 rfl rfl)
theorem dX1_set_39 : decode cX1_set 39 = .ok (.aload_n 0, 1) := dk_42 (dk_at dksX1_set_1 15 rfl rfl)
theorem dX1_set_40 : decode cX1_set 40 = .ok (.iload_n 3, 1) := dk_29 (dk_at dksX1_set_1 16 rfl rfl)
theorem dX1_set_41 : decode cX1_set 41 = .ok (.iload_n 2, 1) := dk_28 (dk_at dksX1_set_1 17 rfl rfl)
theorem dX1_set_42 : decode cX1_set 42 = .ok (.invokedynamic 459, 5) := by decide +kernel
theorem dX1_set_47 : decode cX1_set 47 = .ok (.invokevirtual 440, 3) := dk_182 1 184 (dk_at dksX1_set_2 0 rfl rfl)
theorem dX1_set_50 : decode cX1_set 50 = .ok (.ireturn, 1) := dk_172 (dk_at dksX1_set_2 3 rfl rfl)
abbrev cX1_lambda_set_8 : ByteArray := prog_1_method_64_code
def yX1_lambda_set_8 : MethodName := ⟨RX1, "lambda$set$8", "(IILWhistlePosts$World;)I"⟩
def dkwX1_lambda_set_8_0 : List UInt8 := [44, 26, 27, 182, 1, 230, 172]
abbrev dktX1_lambda_set_8_0 : List UInt8 := dkwX1_lambda_set_8_0 ++ []
theorem dksX1_lambda_set_8_0 : cX1_lambda_set_8.data.toList.drop 0 = dktX1_lambda_set_8_0 := by decide +kernel
theorem dX1_lambda_set_8_0 : decode cX1_lambda_set_8 0 = .ok (.aload_n 2, 1) := dk_44 (dk_at dksX1_lambda_set_8_0 0 rfl rfl)
theorem dX1_lambda_set_8_1 : decode cX1_lambda_set_8 1 = .ok (.iload_n 0, 1) := dk_26 (dk_at dksX1_lambda_set_8_0 1 rfl rfl)
theorem dX1_lambda_set_8_2 : decode cX1_lambda_set_8 2 = .ok (.iload_n 1, 1) := dk_27 (dk_at dksX1_lambda_set_8_0 2 rfl rfl)
theorem dX1_lambda_set_8_3 : decode cX1_lambda_set_8 3 = .ok (.invokevirtual 486, 3) := dk_182 1 230 (dk_at dksX1_lambda_set_8_0 3 rfl rfl)
theorem dX1_lambda_set_8_6 : decode cX1_lambda_set_8 6 = .ok (.ireturn, 1) := dk_172 (dk_at dksX1_lambda_set_8_0 6 rfl rfl)
abbrev cX1_undo : ByteArray := prog_1_method_58_code
def yX1_undo : MethodName := ⟨RX1, "undo", "()I"⟩
def dkwX1_undo_1 : List UInt8 := [182, 1, 210, 192, 0, 53, 181, 0, 33, 42, 180, 0, 42, 182, 0, 134, 172]
abbrev dktX1_undo_1 : List UInt8 := dkwX1_undo_1 ++ []
def dkwX1_undo_0 : List UInt8 := [42, 180, 0, 42, 182, 1, 204, 154, 0, 7, 4, 167, 0, 4, 3, 184, 1, 207, 42, 42, 180, 0, 42]
abbrev dktX1_undo_0 : List UInt8 := dkwX1_undo_0 ++ dktX1_undo_1
theorem dksX1_undo_0 : cX1_undo.data.toList.drop 0 = dktX1_undo_0 := by decide +kernel
theorem dksX1_undo_1 : cX1_undo.data.toList.drop 23 = dktX1_undo_1 := dk_seg dksX1_undo_0 23 rfl rfl
theorem dX1_undo_0 : decode cX1_undo 0 = .ok (.aload_n 0, 1) := dk_42 (dk_at dksX1_undo_0 0 rfl rfl)
theorem dX1_undo_1 : decode cX1_undo 1 = .ok (.getfield 42, 3) := dk_180 0 42 (dk_at dksX1_undo_0 1 rfl rfl)
theorem dX1_undo_4 : decode cX1_undo 4 = .ok (.invokevirtual 460, 3) := dk_182 1 204 (dk_at dksX1_undo_0 4 rfl rfl)
theorem dX1_undo_7 : decode cX1_undo 7 = .ok (.ifCond .ne 7, 3) := dk_154 0 7 (dk_at dksX1_undo_0 7 rfl rfl)
theorem dX1_undo_10 : decode cX1_undo 10 = .ok (.iconst 1, 1) := dk_4 (dk_at dksX1_undo_0 10 rfl rfl)
theorem dX1_undo_11 : decode cX1_undo 11 = .ok (.goto 4, 3) := dk_167 0 4 (dk_at dksX1_undo_0 11 rfl rfl)
theorem dX1_undo_14 : decode cX1_undo 14 = .ok (.iconst 0, 1) := dk_3 (dk_at dksX1_undo_0 14 rfl rfl)
theorem dX1_undo_15 : decode cX1_undo 15 = .ok (.invokestatic 463, 3) := dk_184 1 207 (dk_at dksX1_undo_0 15 rfl rfl)
theorem dX1_undo_18 : decode cX1_undo 18 = .ok (.aload_n 0, 1) := dk_42 (dk_at dksX1_undo_0 18 rfl rfl)
theorem dX1_undo_19 : decode cX1_undo 19 = .ok (.aload_n 0, 1) := dk_42 (dk_at dksX1_undo_0 19 rfl rfl)
theorem dX1_undo_20 : decode cX1_undo 20 = .ok (.getfield 42, 3) := dk_180 0 42 (dk_at dksX1_undo_0 20 rfl rfl)
theorem dX1_undo_23 : decode cX1_undo 23 = .ok (.invokevirtual 466, 3) := dk_182 1 210 (dk_at dksX1_undo_1 0 rfl rfl)
theorem dX1_undo_26 : decode cX1_undo 26 = .ok (.checkcast 53, 3) := dk_192 0 53 (dk_at dksX1_undo_1 3 rfl rfl)
theorem dX1_undo_29 : decode cX1_undo 29 = .ok (.putfield 33, 3) := dk_181 0 33 (dk_at dksX1_undo_1 6 rfl rfl)
theorem dX1_undo_32 : decode cX1_undo 32 = .ok (.aload_n 0, 1) := dk_42 (dk_at dksX1_undo_1 9 rfl rfl)
theorem dX1_undo_33 : decode cX1_undo 33 = .ok (.getfield 42, 3) := dk_180 0 42 (dk_at dksX1_undo_1 10 rfl rfl)
theorem dX1_undo_36 : decode cX1_undo 36 = .ok (.invokevirtual 134, 3) := dk_182 0 134 (dk_at dksX1_undo_1 13 rfl rfl)
theorem dX1_undo_39 : decode cX1_undo 39 = .ok (.ireturn, 1) := dk_172 (dk_at dksX1_undo_1 16 rfl rfl)
abbrev cX1_needElement : ByteArray := prog_1_method_6_code
def yX1_needElement : MethodName := ⟨RX1, "needElement", "(Z)V"⟩
def dkwX1_needElement_0 : List UInt8 := [26, 154, 0, 11, 187, 0, 13, 89, 183, 0, 15, 191, 177]
abbrev dktX1_needElement_0 : List UInt8 := dkwX1_needElement_0 ++ []
theorem dksX1_needElement_0 : cX1_needElement.data.toList.drop 0 = dktX1_needElement_0 := by decide +kernel
theorem dX1_needElement_0 : decode cX1_needElement 0 = .ok (.iload_n 0, 1) := dk_26 (dk_at dksX1_needElement_0 0 rfl rfl)
theorem dX1_needElement_1 : decode cX1_needElement 1 = .ok (.ifCond .ne 11, 3) := dk_154 0 11 (dk_at dksX1_needElement_0 1 rfl rfl)
theorem dX1_needElement_4 : decode cX1_needElement 4 = .ok (.new 13, 3) := dk_187 0 13 (dk_at dksX1_needElement_0 4 rfl rfl)
theorem dX1_needElement_7 : decode cX1_needElement 7 = .ok (.dup, 1) := dk_89 (dk_at dksX1_needElement_0 7 rfl rfl)
theorem dX1_needElement_8 : decode cX1_needElement 8 = .ok (.invokespecial 15, 3) := dk_183 0 15 (dk_at dksX1_needElement_0 8 rfl rfl)
theorem dX1_needElement_11 : decode cX1_needElement 11 = .ok (.athrow, 1) := dk_191 (dk_at dksX1_needElement_0 11 rfl rfl)
theorem dX1_needElement_12 : decode cX1_needElement 12 = .ok (.return_, 1) := dk_177 (dk_at dksX1_needElement_0 12 rfl rfl)
abbrev cX1_printTune : ByteArray := prog_1_method_60_code
def yX1_printTune : MethodName := ⟨RX1, "printTune", "(I)I"⟩
def dkwX1_printTune_4 : List UInt8 := [182, 1, 220, 87, 42, 180, 0, 49, 182, 1, 228, 172]
abbrev dktX1_printTune_4 : List UInt8 := dkwX1_printTune_4 ++ []
def dkwX1_printTune_3 : List UInt8 := [180, 0, 49, 16, 62, 182, 1, 216, 42, 180, 0, 33, 44, 180, 1, 54, 182, 0, 236, 180, 0, 243]
abbrev dktX1_printTune_3 : List UInt8 := dkwX1_printTune_3 ++ dktX1_printTune_4
def dkwX1_printTune_2 : List UInt8 := [29, 46, 159, 0, 13, 42, 180, 0, 49, 16, 39, 182, 1, 216, 87, 132, 3, 1, 167, 255, 206, 42]
abbrev dktX1_printTune_2 : List UInt8 := dkwX1_printTune_2 ++ dktX1_printTune_3
def dkwX1_printTune_1 : List UInt8 := [42, 180, 0, 49, 44, 180, 1, 88, 29, 46, 182, 1, 223, 87, 44, 180, 1, 88, 29, 46, 44, 180, 1, 91]
abbrev dktX1_printTune_1 : List UInt8 := dkwX1_printTune_1 ++ dktX1_printTune_2
def dkwX1_printTune_0 : List UInt8 := [42, 27, 182, 1, 46, 77, 42, 180, 0, 49, 3, 182, 1, 213, 3, 62, 29, 44, 182, 1, 57, 162, 0, 48]
abbrev dktX1_printTune_0 : List UInt8 := dkwX1_printTune_0 ++ dktX1_printTune_1
theorem dksX1_printTune_0 : cX1_printTune.data.toList.drop 0 = dktX1_printTune_0 := by decide +kernel
theorem dksX1_printTune_1 : cX1_printTune.data.toList.drop 24 = dktX1_printTune_1 := dk_seg dksX1_printTune_0 24 rfl rfl
theorem dksX1_printTune_2 : cX1_printTune.data.toList.drop 48 = dktX1_printTune_2 := dk_seg dksX1_printTune_1 24 rfl rfl
theorem dksX1_printTune_3 : cX1_printTune.data.toList.drop 70 = dktX1_printTune_3 := dk_seg dksX1_printTune_2 22 rfl rfl
theorem dksX1_printTune_4 : cX1_printTune.data.toList.drop 92 = dktX1_printTune_4 := dk_seg dksX1_printTune_3 22 rfl rfl
theorem dX1_printTune_0 : decode cX1_printTune 0 = .ok (.aload_n 0, 1) := dk_42 (dk_at dksX1_printTune_0 0 rfl rfl)
theorem dX1_printTune_1 : decode cX1_printTune 1 = .ok (.iload_n 1, 1) := dk_27 (dk_at dksX1_printTune_0 1 rfl rfl)
theorem dX1_printTune_2 : decode cX1_printTune 2 = .ok (.invokevirtual 302, 3) := dk_182 1 46 (dk_at dksX1_printTune_0 2 rfl rfl)
theorem dX1_printTune_5 : decode cX1_printTune 5 = .ok (.astore_n 2, 1) := dk_77 (dk_at dksX1_printTune_0 5 rfl rfl)
theorem dX1_printTune_6 : decode cX1_printTune 6 = .ok (.aload_n 0, 1) := dk_42 (dk_at dksX1_printTune_0 6 rfl rfl)
theorem dX1_printTune_7 : decode cX1_printTune 7 = .ok (.getfield 49, 3) := dk_180 0 49 (dk_at dksX1_printTune_0 7 rfl rfl)
theorem dX1_printTune_10 : decode cX1_printTune 10 = .ok (.iconst 0, 1) := dk_3 (dk_at dksX1_printTune_0 10 rfl rfl)
theorem dX1_printTune_11 : decode cX1_printTune 11 = .ok (.invokevirtual 469, 3) := dk_182 1 213 (dk_at dksX1_printTune_0 11 rfl rfl)
theorem dX1_printTune_14 : decode cX1_printTune 14 = .ok (.iconst 0, 1) := dk_3 (dk_at dksX1_printTune_0 14 rfl rfl)
theorem dX1_printTune_15 : decode cX1_printTune 15 = .ok (.istore_n 3, 1) := dk_62 (dk_at dksX1_printTune_0 15 rfl rfl)
theorem dX1_printTune_16 : decode cX1_printTune 16 = .ok (.iload_n 3, 1) := dk_29 (dk_at dksX1_printTune_0 16 rfl rfl)
theorem dX1_printTune_17 : decode cX1_printTune 17 = .ok (.aload_n 2, 1) := dk_44 (dk_at dksX1_printTune_0 17 rfl rfl)
theorem dX1_printTune_18 : decode cX1_printTune 18 = .ok (.invokevirtual 313, 3) := dk_182 1 57 (dk_at dksX1_printTune_0 18 rfl rfl)
theorem dX1_printTune_21 : decode cX1_printTune 21 = .ok (.if_icmp .ge 48, 3) := dk_162 0 48 (dk_at dksX1_printTune_0 21 rfl rfl)
theorem dX1_printTune_24 : decode cX1_printTune 24 = .ok (.aload_n 0, 1) := dk_42 (dk_at dksX1_printTune_1 0 rfl rfl)
theorem dX1_printTune_25 : decode cX1_printTune 25 = .ok (.getfield 49, 3) := dk_180 0 49 (dk_at dksX1_printTune_1 1 rfl rfl)
theorem dX1_printTune_28 : decode cX1_printTune 28 = .ok (.aload_n 2, 1) := dk_44 (dk_at dksX1_printTune_1 4 rfl rfl)
theorem dX1_printTune_29 : decode cX1_printTune 29 = .ok (.getfield 344, 3) := dk_180 1 88 (dk_at dksX1_printTune_1 5 rfl rfl)
theorem dX1_printTune_32 : decode cX1_printTune 32 = .ok (.iload_n 3, 1) := dk_29 (dk_at dksX1_printTune_1 8 rfl rfl)
theorem dX1_printTune_33 : decode cX1_printTune 33 = .ok (.iaload, 1) := dk_46 (dk_at dksX1_printTune_1 9 rfl rfl)
theorem dX1_printTune_34 : decode cX1_printTune 34 = .ok (.invokevirtual 479, 3) := dk_182 1 223 (dk_at dksX1_printTune_1 10 rfl rfl)
theorem dX1_printTune_37 : decode cX1_printTune 37 = .ok (.pop, 1) := dk_87 (dk_at dksX1_printTune_1 13 rfl rfl)
theorem dX1_printTune_38 : decode cX1_printTune 38 = .ok (.aload_n 2, 1) := dk_44 (dk_at dksX1_printTune_1 14 rfl rfl)
theorem dX1_printTune_39 : decode cX1_printTune 39 = .ok (.getfield 344, 3) := dk_180 1 88 (dk_at dksX1_printTune_1 15 rfl rfl)
theorem dX1_printTune_42 : decode cX1_printTune 42 = .ok (.iload_n 3, 1) := dk_29 (dk_at dksX1_printTune_1 18 rfl rfl)
theorem dX1_printTune_43 : decode cX1_printTune 43 = .ok (.iaload, 1) := dk_46 (dk_at dksX1_printTune_1 19 rfl rfl)
theorem dX1_printTune_44 : decode cX1_printTune 44 = .ok (.aload_n 2, 1) := dk_44 (dk_at dksX1_printTune_1 20 rfl rfl)
theorem dX1_printTune_45 : decode cX1_printTune 45 = .ok (.getfield 347, 3) := dk_180 1 91 (dk_at dksX1_printTune_1 21 rfl rfl)
theorem dX1_printTune_48 : decode cX1_printTune 48 = .ok (.iload_n 3, 1) := dk_29 (dk_at dksX1_printTune_2 0 rfl rfl)
theorem dX1_printTune_49 : decode cX1_printTune 49 = .ok (.iaload, 1) := dk_46 (dk_at dksX1_printTune_2 1 rfl rfl)
theorem dX1_printTune_50 : decode cX1_printTune 50 = .ok (.if_icmp .eq 13, 3) := dk_159 0 13 (dk_at dksX1_printTune_2 2 rfl rfl)
theorem dX1_printTune_53 : decode cX1_printTune 53 = .ok (.aload_n 0, 1) := dk_42 (dk_at dksX1_printTune_2 5 rfl rfl)
theorem dX1_printTune_54 : decode cX1_printTune 54 = .ok (.getfield 49, 3) := dk_180 0 49 (dk_at dksX1_printTune_2 6 rfl rfl)
theorem dX1_printTune_57 : decode cX1_printTune 57 = .ok (.bipush 39, 2) := dk_16 39 (dk_at dksX1_printTune_2 9 rfl rfl)
theorem dX1_printTune_59 : decode cX1_printTune 59 = .ok (.invokevirtual 472, 3) := dk_182 1 216 (dk_at dksX1_printTune_2 11 rfl rfl)
theorem dX1_printTune_62 : decode cX1_printTune 62 = .ok (.pop, 1) := dk_87 (dk_at dksX1_printTune_2 14 rfl rfl)
theorem dX1_printTune_63 : decode cX1_printTune 63 = .ok (.iinc 3 1, 3) := dk_132 3 1 (dk_at dksX1_printTune_2 15 rfl rfl)
theorem dX1_printTune_66 : decode cX1_printTune 66 = .ok (.goto (-50), 3) := dk_167 255 206 (dk_at dksX1_printTune_2 18 rfl rfl)
theorem dX1_printTune_69 : decode cX1_printTune 69 = .ok (.aload_n 0, 1) := dk_42 (dk_at dksX1_printTune_2 21 rfl rfl)
theorem dX1_printTune_70 : decode cX1_printTune 70 = .ok (.getfield 49, 3) := dk_180 0 49 (dk_at dksX1_printTune_3 0 rfl rfl)
theorem dX1_printTune_73 : decode cX1_printTune 73 = .ok (.bipush 62, 2) := dk_16 62 (dk_at dksX1_printTune_3 3 rfl rfl)
theorem dX1_printTune_75 : decode cX1_printTune 75 = .ok (.invokevirtual 472, 3) := dk_182 1 216 (dk_at dksX1_printTune_3 5 rfl rfl)
theorem dX1_printTune_78 : decode cX1_printTune 78 = .ok (.aload_n 0, 1) := dk_42 (dk_at dksX1_printTune_3 8 rfl rfl)
theorem dX1_printTune_79 : decode cX1_printTune 79 = .ok (.getfield 33, 3) := dk_180 0 33 (dk_at dksX1_printTune_3 9 rfl rfl)
theorem dX1_printTune_82 : decode cX1_printTune 82 = .ok (.aload_n 2, 1) := dk_44 (dk_at dksX1_printTune_3 12 rfl rfl)
theorem dX1_printTune_83 : decode cX1_printTune 83 = .ok (.getfield 310, 3) := dk_180 1 54 (dk_at dksX1_printTune_3 13 rfl rfl)
theorem dX1_printTune_86 : decode cX1_printTune 86 = .ok (.invokevirtual 236, 3) := dk_182 0 236 (dk_at dksX1_printTune_3 16 rfl rfl)
theorem dX1_printTune_89 : decode cX1_printTune 89 = .ok (.getfield 243, 3) := dk_180 0 243 (dk_at dksX1_printTune_3 19 rfl rfl)
theorem dX1_printTune_92 : decode cX1_printTune 92 = .ok (.invokevirtual 476, 3) := dk_182 1 220 (dk_at dksX1_printTune_4 0 rfl rfl)
theorem dX1_printTune_95 : decode cX1_printTune 95 = .ok (.pop, 1) := dk_87 (dk_at dksX1_printTune_4 3 rfl rfl)
theorem dX1_printTune_96 : decode cX1_printTune 96 = .ok (.aload_n 0, 1) := dk_42 (dk_at dksX1_printTune_4 4 rfl rfl)
theorem dX1_printTune_97 : decode cX1_printTune 97 = .ok (.getfield 49, 3) := dk_180 0 49 (dk_at dksX1_printTune_4 5 rfl rfl)
theorem dX1_printTune_100 : decode cX1_printTune 100 = .ok (.invokevirtual 484, 3) := dk_182 1 228 (dk_at dksX1_printTune_4 8 rfl rfl)
theorem dX1_printTune_103 : decode cX1_printTune 103 = .ok (.ireturn, 1) := dk_172 (dk_at dksX1_printTune_4 11 rfl rfl)
abbrev cX1_restoreState : ByteArray := prog_1_method_63_code
def yX1_restoreState : MethodName := ⟨RX1, "restoreState", "()I"⟩
def dkwX1_restoreState_1 : List UInt8 := [181, 0, 33, 42, 180, 0, 42, 182, 0, 124, 42, 180, 0, 33, 180, 0, 161, 185, 0, 165, 1, 0, 172]
abbrev dktX1_restoreState_1 : List UInt8 := dkwX1_restoreState_1 ++ []
def dkwX1_restoreState_0 : List UInt8 := [42, 180, 0, 127, 198, 0, 7, 4, 167, 0, 4, 3, 184, 1, 207, 42, 42, 180, 0, 127, 182, 0, 150]
abbrev dktX1_restoreState_0 : List UInt8 := dkwX1_restoreState_0 ++ dktX1_restoreState_1
theorem dksX1_restoreState_0 : cX1_restoreState.data.toList.drop 0 = dktX1_restoreState_0 := by decide +kernel
theorem dksX1_restoreState_1 : cX1_restoreState.data.toList.drop 23 = dktX1_restoreState_1 := dk_seg dksX1_restoreState_0 23 rfl rfl
theorem dX1_restoreState_0 : decode cX1_restoreState 0 = .ok (.aload_n 0, 1) := dk_42 (dk_at dksX1_restoreState_0 0 rfl rfl)
theorem dX1_restoreState_1 : decode cX1_restoreState 1 = .ok (.getfield 127, 3) := dk_180 0 127 (dk_at dksX1_restoreState_0 1 rfl rfl)
theorem dX1_restoreState_4 : decode cX1_restoreState 4 = .ok (.ifnull 7, 3) := dk_198 0 7 (dk_at dksX1_restoreState_0 4 rfl rfl)
theorem dX1_restoreState_7 : decode cX1_restoreState 7 = .ok (.iconst 1, 1) := dk_4 (dk_at dksX1_restoreState_0 7 rfl rfl)
theorem dX1_restoreState_8 : decode cX1_restoreState 8 = .ok (.goto 4, 3) := dk_167 0 4 (dk_at dksX1_restoreState_0 8 rfl rfl)
theorem dX1_restoreState_11 : decode cX1_restoreState 11 = .ok (.iconst 0, 1) := dk_3 (dk_at dksX1_restoreState_0 11 rfl rfl)
theorem dX1_restoreState_12 : decode cX1_restoreState 12 = .ok (.invokestatic 463, 3) := dk_184 1 207 (dk_at dksX1_restoreState_0 12 rfl rfl)
theorem dX1_restoreState_15 : decode cX1_restoreState 15 = .ok (.aload_n 0, 1) := dk_42 (dk_at dksX1_restoreState_0 15 rfl rfl)
theorem dX1_restoreState_16 : decode cX1_restoreState 16 = .ok (.aload_n 0, 1) := dk_42 (dk_at dksX1_restoreState_0 16 rfl rfl)
theorem dX1_restoreState_17 : decode cX1_restoreState 17 = .ok (.getfield 127, 3) := dk_180 0 127 (dk_at dksX1_restoreState_0 17 rfl rfl)
theorem dX1_restoreState_20 : decode cX1_restoreState 20 = .ok (.invokevirtual 150, 3) := dk_182 0 150 (dk_at dksX1_restoreState_0 20 rfl rfl)
theorem dX1_restoreState_23 : decode cX1_restoreState 23 = .ok (.putfield 33, 3) := dk_181 0 33 (dk_at dksX1_restoreState_1 0 rfl rfl)
theorem dX1_restoreState_26 : decode cX1_restoreState 26 = .ok (.aload_n 0, 1) := dk_42 (dk_at dksX1_restoreState_1 3 rfl rfl)
theorem dX1_restoreState_27 : decode cX1_restoreState 27 = .ok (.getfield 42, 3) := dk_180 0 42 (dk_at dksX1_restoreState_1 4 rfl rfl)
theorem dX1_restoreState_30 : decode cX1_restoreState 30 = .ok (.invokevirtual 124, 3) := dk_182 0 124 (dk_at dksX1_restoreState_1 7 rfl rfl)
theorem dX1_restoreState_33 : decode cX1_restoreState 33 = .ok (.aload_n 0, 1) := dk_42 (dk_at dksX1_restoreState_1 10 rfl rfl)
theorem dX1_restoreState_34 : decode cX1_restoreState 34 = .ok (.getfield 33, 3) := dk_180 0 33 (dk_at dksX1_restoreState_1 11 rfl rfl)
theorem dX1_restoreState_37 : decode cX1_restoreState 37 = .ok (.getfield 161, 3) := dk_180 0 161 (dk_at dksX1_restoreState_1 14 rfl rfl)
theorem dX1_restoreState_40 : decode cX1_restoreState 40 = .ok (.invokeinterface 165 1, 5) := by decide +kernel
theorem dX1_restoreState_45 : decode cX1_restoreState 45 = .ok (.ireturn, 1) := dk_172 (dk_at dksX1_restoreState_1 22 rfl rfl)
theorem q151 : (Jvm.Cond.initialized "WhistlePosts") ∈ lw_all := lw_g (lw_at lw_m1 1 rfl) rfl
theorem q206 : (Jvm.Cond.instantiable "WhistlePosts" (8 : Nat)) ∈ lw_all := lw_g (lw_at lw_m1 56 rfl) rfl
theorem q208 : (Jvm.Cond.instanceMethod ({ cls := "WhistlePosts", name := "<init>", desc := "()V" } : Jvm.MethodName)) ∈ lw_all := lw_g (lw_at lw_m1 58 rfl) rfl
theorem q209 : (Jvm.Cond.code ({ cls := "WhistlePosts", name := "<init>", desc := "()V" } : Jvm.MethodName) prog_1_method_7_code (1 : Nat) (Option.none : Option Jvm.ClassFile.FieldType)) ∈ lw_all := lw_g (lw_at lw_m1 59 rfl) rfl
theorem q210 : (Jvm.Cond.methodLink "WhistlePosts" (16 : Nat) ({ cls := "java/lang/Object", name := "<init>", desc := "()V" } : Jvm.MethodName)) ∈ lw_all := lw_g (lw_at lw_m1 60 rfl) rfl
theorem q213 : (Jvm.Cond.methodLink "WhistlePosts" (29 : Nat) ({ cls := "WhistlePosts", name := "plain", desc := "()LWhistlePosts$World;" } : Jvm.MethodName)) ∈ lw_all := lw_g (lw_at lw_m1 63 rfl) rfl
theorem q214 : (Jvm.Cond.static ({ cls := "WhistlePosts", name := "plain", desc := "()LWhistlePosts$World;" } : Jvm.MethodName)) ∈ lw_all := lw_g (lw_at lw_m1 64 rfl) rfl
theorem q215 : (Jvm.Cond.code ({ cls := "WhistlePosts", name := "plain", desc := "()LWhistlePosts$World;" } : Jvm.MethodName) prog_1_method_8_code (1 : Nat) (Option.some (Jvm.ClassFile.FieldType.object "WhistlePosts$World"))) ∈ lw_all := lw_g (lw_at lw_m1 65 rfl) rfl
theorem q216 : (Jvm.Cond.classLink "WhistlePosts" (53 : Nat) "WhistlePosts$World") ∈ lw_all := lw_g (lw_at lw_m1 66 rfl) rfl
theorem q218 : (Jvm.Cond.methodLinkNest "WhistlePosts" (55 : Nat) ({ cls := "WhistlePosts$World", name := "<init>", desc := "()V" } : Jvm.MethodName) "WhistlePosts") ∈ lw_tbl := lw_at lw_m1 68 rfl
theorem q600 : (Jvm.Cond.fieldLinkNest "WhistlePosts" (182 : Nat) "WhistlePosts$World" "roofs" "Ljava/util/List;" "WhistlePosts") ∈ lw_tbl := lw_at lw_m2 210 rfl
theorem q602 : (Jvm.Cond.fieldLinkNest "WhistlePosts" (73 : Nat) "WhistlePosts$World" "ways" "Ljava/util/LinkedList;" "WhistlePosts") ∈ lw_tbl := lw_at lw_m2 212 rfl
theorem q605 : (Jvm.Cond.fieldLinkNest "WhistlePosts" (161 : Nat) "WhistlePosts$World" "tunes" "Ljava/util/List;" "WhistlePosts") ∈ lw_tbl := lw_at lw_m2 215 rfl
theorem q607 : (Jvm.Cond.fieldLinkNest "WhistlePosts" (214 : Nat) "WhistlePosts$World" "set" "[I" "WhistlePosts") ∈ lw_tbl := lw_at lw_m2 217 rfl
theorem q609 : (Jvm.Cond.fieldLinkNest "WhistlePosts" (230 : Nat) "WhistlePosts$World" "accounts" "[I" "WhistlePosts") ∈ lw_tbl := lw_at lw_m2 219 rfl
theorem q611 : (Jvm.Cond.fieldLinkNest "WhistlePosts" (201 : Nat) "WhistlePosts$World" "time" "I" "WhistlePosts") ∈ lw_tbl := lw_at lw_m2 221 rfl
theorem q632 : (Jvm.Cond.classLink "WhistlePosts" (56 : Nat) "WhistlePosts$Roof") ∈ lw_all := lw_g (lw_at lw_m3 2 rfl) rfl
theorem q634 : (Jvm.Cond.stringRef "WhistlePosts" (58 : Nat) "tower") ∈ lw_tbl := lw_at lw_m3 4 rfl
theorem q635 : (Jvm.Cond.methodLink "WhistlePosts" (60 : Nat) ({ cls := "WhistlePosts$Roof", name := "<init>", desc := "(Ljava/lang/String;IIII)V" } : Jvm.MethodName)) ∈ lw_all := lw_g (lw_at lw_m3 5 rfl) rfl
theorem q641 : (Jvm.Cond.fieldLinkNest "WhistlePosts" (243 : Nat) "WhistlePosts$Roof" "name" "Ljava/lang/String;" "WhistlePosts") ∈ lw_tbl := lw_at lw_m3 11 rfl
theorem q644 : (Jvm.Cond.fieldLinkNest "WhistlePosts" (261 : Nat) "WhistlePosts$Roof" "breath" "I" "WhistlePosts") ∈ lw_tbl := lw_at lw_m3 14 rfl
theorem q647 : (Jvm.Cond.fieldLinkNest "WhistlePosts" (264 : Nat) "WhistlePosts$Roof" "ear" "I" "WhistlePosts") ∈ lw_tbl := lw_at lw_m3 17 rfl
theorem q650 : (Jvm.Cond.fieldLinkNest "WhistlePosts" (267 : Nat) "WhistlePosts$Roof" "fee" "I" "WhistlePosts") ∈ lw_tbl := lw_at lw_m3 20 rfl
theorem q653 : (Jvm.Cond.fieldLinkNest "WhistlePosts" (204 : Nat) "WhistlePosts$Roof" "purse" "I" "WhistlePosts") ∈ lw_tbl := lw_at lw_m3 23 rfl
theorem q656 : (Jvm.Cond.fieldLinkNest "WhistlePosts" (198 : Nat) "WhistlePosts$Roof" "busy" "I" "WhistlePosts") ∈ lw_tbl := lw_at lw_m3 26 rfl
theorem q659 : (Jvm.Cond.fieldLinkNest "WhistlePosts" (281 : Nat) "WhistlePosts$Roof" "whistled" "I" "WhistlePosts") ∈ lw_tbl := lw_at lw_m3 29 rfl
theorem q675 : (Jvm.Cond.methodLink "WhistlePosts" (63 : Nat) ({ cls := "WhistlePosts$World", name := "adds", desc := "(LWhistlePosts$Roof;)V" } : Jvm.MethodName)) ∈ lw_all := lw_g (lw_at lw_m3 45 rfl) rfl
theorem q710 : (Jvm.Cond.selects "WhistlePosts" ({ cls := "java/lang/Object", name := "getClass", desc := "()Ljava/lang/Class;" } : Jvm.MethodName) ({ cls := "java/lang/Object", name := "getClass", desc := "()Ljava/lang/Class;" } : Jvm.MethodName)) ∈ lw_all := lw_g (lw_at lw_m3 80 rfl) rfl
theorem q781 : (Jvm.Cond.stringRef "WhistlePosts" (67 : Nat) "barn") ∈ lw_tbl := lw_at lw_m3 151 rfl
theorem q782 : (Jvm.Cond.stringRef "WhistlePosts" (69 : Nat) "mill") ∈ lw_tbl := lw_at lw_m3 152 rfl
theorem q783 : (Jvm.Cond.stringRef "WhistlePosts" (71 : Nat) "inn") ∈ lw_tbl := lw_at lw_m3 153 rfl
theorem q784 : (Jvm.Cond.classLink "WhistlePosts" (77 : Nat) "WhistlePosts$Way") ∈ lw_all := lw_g (lw_at lw_m3 154 rfl) rfl
theorem q786 : (Jvm.Cond.methodLinkNest "WhistlePosts" (79 : Nat) ({ cls := "WhistlePosts$Way", name := "<init>", desc := "(III)V" } : Jvm.MethodName) "WhistlePosts") ∈ lw_tbl := lw_at lw_m3 156 rfl
theorem q803 : (Jvm.Cond.methodLink "WhistlePosts" (82 : Nat) ({ cls := "java/util/LinkedList", name := "addLast", desc := "(Ljava/lang/Object;)V" } : Jvm.MethodName)) ∈ lw_all := lw_g (lw_at lw_m3 173 rfl) rfl
theorem q807 : (Jvm.Cond.classLink "WhistlePosts" (37 : Nat) "java/util/ArrayDeque") ∈ lw_all := lw_g (lw_at lw_m3 177 rfl) rfl
theorem q809 : (Jvm.Cond.methodLink "WhistlePosts" (39 : Nat) ({ cls := "java/util/ArrayDeque", name := "<init>", desc := "(I)V" } : Jvm.MethodName)) ∈ lw_all := lw_g (lw_at lw_m3 179 rfl) rfl
theorem q825 : (Jvm.Cond.classLink "WhistlePosts" (46 : Nat) "java/lang/StringBuilder") ∈ lw_all := lw_g (lw_at lw_m3 195 rfl) rfl
theorem q826 : (Jvm.Cond.methodLink "WhistlePosts" (48 : Nat) ({ cls := "java/lang/StringBuilder", name := "<init>", desc := "()V" } : Jvm.MethodName)) ∈ lw_all := lw_g (lw_at lw_m3 196 rfl) rfl
theorem q828 : (Jvm.Cond.fieldLink "WhistlePosts" (21 : Nat) "WhistlePosts" "buffer" "[B") ∈ lw_all := lw_g (lw_at lw_m3 198 rfl) rfl
theorem q830 : (Jvm.Cond.fieldLink "WhistlePosts" (88 : Nat) "WhistlePosts" "buffered" "I") ∈ lw_all := lw_g (lw_at lw_m3 200 rfl) rfl
theorem q831 : (Jvm.Cond.fieldLink "WhistlePosts" (98 : Nat) "WhistlePosts" "errorCode" "I") ∈ lw_all := lw_g (lw_at lw_m3 201 rfl) rfl
theorem q832 : (Jvm.Cond.fieldLink "WhistlePosts" (25 : Nat) "WhistlePosts" "errorOffset" "I") ∈ lw_all := lw_g (lw_at lw_m3 202 rfl) rfl
theorem q833 : (Jvm.Cond.fieldLink "WhistlePosts" (33 : Nat) "WhistlePosts" "now" "LWhistlePosts$World;") ∈ lw_all := lw_g (lw_at lw_m3 203 rfl) rfl
theorem q834 : (Jvm.Cond.fieldLink "WhistlePosts" (127 : Nat) "WhistlePosts" "saved" "LWhistlePosts$World;") ∈ lw_all := lw_g (lw_at lw_m3 204 rfl) rfl
theorem q835 : (Jvm.Cond.fieldLink "WhistlePosts" (42 : Nat) "WhistlePosts" "past" "Ljava/util/ArrayDeque;") ∈ lw_all := lw_g (lw_at lw_m3 205 rfl) rfl
theorem q836 : (Jvm.Cond.fieldLink "WhistlePosts" (49 : Nat) "WhistlePosts" "output" "Ljava/lang/StringBuilder;") ∈ lw_all := lw_g (lw_at lw_m3 206 rfl) rfl
theorem q837 : (Jvm.Cond.laysFinal "WhistlePosts" "WhistlePosts" "buffer" "[B") ∈ lw_all := lw_g (lw_at lw_m3 207 rfl) rfl
theorem q838 : (Jvm.Cond.soleField "WhistlePosts" "buffer") ∈ lw_all := lw_g (lw_at lw_m3 208 rfl) rfl
theorem q839 : (Jvm.Cond.lays "WhistlePosts" "WhistlePosts" "buffered" "I") ∈ lw_all := lw_g (lw_at lw_m3 209 rfl) rfl
theorem q840 : (Jvm.Cond.soleField "WhistlePosts" "buffered") ∈ lw_all := lw_g (lw_at lw_m3 210 rfl) rfl
theorem q841 : (Jvm.Cond.lays "WhistlePosts" "WhistlePosts" "errorCode" "I") ∈ lw_all := lw_g (lw_at lw_m3 211 rfl) rfl
theorem q842 : (Jvm.Cond.soleField "WhistlePosts" "errorCode") ∈ lw_all := lw_g (lw_at lw_m3 212 rfl) rfl
theorem q843 : (Jvm.Cond.lays "WhistlePosts" "WhistlePosts" "errorOffset" "I") ∈ lw_all := lw_g (lw_at lw_m3 213 rfl) rfl
theorem q844 : (Jvm.Cond.soleField "WhistlePosts" "errorOffset") ∈ lw_all := lw_g (lw_at lw_m3 214 rfl) rfl
theorem q845 : (Jvm.Cond.lays "WhistlePosts" "WhistlePosts" "now" "LWhistlePosts$World;") ∈ lw_all := lw_g (lw_at lw_m3 215 rfl) rfl
theorem q846 : (Jvm.Cond.soleField "WhistlePosts" "now") ∈ lw_all := lw_g (lw_at lw_m3 216 rfl) rfl
theorem q847 : (Jvm.Cond.lays "WhistlePosts" "WhistlePosts" "saved" "LWhistlePosts$World;") ∈ lw_all := lw_g (lw_at lw_m3 217 rfl) rfl
theorem q848 : (Jvm.Cond.soleField "WhistlePosts" "saved") ∈ lw_all := lw_g (lw_at lw_m3 218 rfl) rfl
theorem q849 : (Jvm.Cond.laysFinal "WhistlePosts" "WhistlePosts" "past" "Ljava/util/ArrayDeque;") ∈ lw_all := lw_g (lw_at lw_m3 219 rfl) rfl
theorem q850 : (Jvm.Cond.soleField "WhistlePosts" "past") ∈ lw_all := lw_g (lw_at lw_m3 220 rfl) rfl
theorem q851 : (Jvm.Cond.laysFinal "WhistlePosts" "WhistlePosts" "output" "Ljava/lang/StringBuilder;") ∈ lw_all := lw_g (lw_at lw_m3 221 rfl) rfl
theorem q852 : (Jvm.Cond.soleField "WhistlePosts" "output") ∈ lw_all := lw_g (lw_at lw_m3 222 rfl) rfl
theorem q853 : (Jvm.Cond.superclass "WhistlePosts" "java/lang/Object") ∈ lw_all := lw_g (lw_at lw_m3 223 rfl) rfl
theorem q855 : (Jvm.Cond.instanceMethod ({ cls := "WhistlePosts", name := "appendInput", desc := "(IIIII)I" } : Jvm.MethodName)) ∈ lw_all := lw_g (lw_at lw_m3 225 rfl) rfl
theorem q856 : (Jvm.Cond.selects "WhistlePosts" ({ cls := "WhistlePosts", name := "appendInput", desc := "(IIIII)I" } : Jvm.MethodName) ({ cls := "WhistlePosts", name := "appendInput", desc := "(IIIII)I" } : Jvm.MethodName)) ∈ lw_all := lw_g (lw_at lw_m3 226 rfl) rfl
theorem q857 : (Jvm.Cond.code ({ cls := "WhistlePosts", name := "appendInput", desc := "(IIIII)I" } : Jvm.MethodName) prog_1_method_10_code (6 : Nat) (Option.some Jvm.ClassFile.FieldType.int)) ∈ lw_all := lw_g (lw_at lw_m3 227 rfl) rfl
theorem q858 : (Jvm.Cond.methodLink "WhistlePosts" (91 : Nat) ({ cls := "WhistlePosts", name := "puts", desc := "(I)V" } : Jvm.MethodName)) ∈ lw_all := lw_g (lw_at lw_m3 228 rfl) rfl
theorem q859 : (Jvm.Cond.privateMethod ({ cls := "WhistlePosts", name := "puts", desc := "(I)V" } : Jvm.MethodName)) ∈ lw_tbl := lw_at lw_m3 229 rfl
theorem q860 : (Jvm.Cond.instanceMethod ({ cls := "WhistlePosts", name := "puts", desc := "(I)V" } : Jvm.MethodName)) ∈ lw_all := lw_g (lw_at lw_m3 230 rfl) rfl
theorem q861 : (Jvm.Cond.code ({ cls := "WhistlePosts", name := "puts", desc := "(I)V" } : Jvm.MethodName) prog_1_method_9_code (3 : Nat) (Option.none : Option Jvm.ClassFile.FieldType)) ∈ lw_all := lw_g (lw_at lw_m3 231 rfl) rfl
theorem q863 : (Jvm.Cond.instanceMethod ({ cls := "WhistlePosts", name := "truncateInput", desc := "(I)Z" } : Jvm.MethodName)) ∈ lw_all := lw_g (lw_at lw_m3 233 rfl) rfl
theorem q864 : (Jvm.Cond.selects "WhistlePosts" ({ cls := "WhistlePosts", name := "truncateInput", desc := "(I)Z" } : Jvm.MethodName) ({ cls := "WhistlePosts", name := "truncateInput", desc := "(I)Z" } : Jvm.MethodName)) ∈ lw_all := lw_g (lw_at lw_m3 234 rfl) rfl
theorem q865 : (Jvm.Cond.code ({ cls := "WhistlePosts", name := "truncateInput", desc := "(I)Z" } : Jvm.MethodName) prog_1_method_11_code (2 : Nat) (Option.some Jvm.ClassFile.FieldType.boolean)) ∈ lw_all := lw_g (lw_at lw_m3 235 rfl) rfl
theorem q866 : (Jvm.Cond.methodLink "WhistlePosts" (94 : Nat) ({ cls := "WhistlePosts", name := "in", desc := "(JJJ)Z" } : Jvm.MethodName)) ∈ lw_all := lw_g (lw_at lw_m3 236 rfl) rfl
theorem q867 : (Jvm.Cond.static ({ cls := "WhistlePosts", name := "in", desc := "(JJJ)Z" } : Jvm.MethodName)) ∈ lw_all := lw_g (lw_at lw_m3 237 rfl) rfl
theorem q868 : (Jvm.Cond.code ({ cls := "WhistlePosts", name := "in", desc := "(JJJ)Z" } : Jvm.MethodName) prog_1_method_1_code (6 : Nat) (Option.some Jvm.ClassFile.FieldType.boolean)) ∈ lw_all := lw_g (lw_at lw_m3 238 rfl) rfl
theorem q870 : (Jvm.Cond.instanceMethod ({ cls := "WhistlePosts", name := "loadPost", desc := "()I" } : Jvm.MethodName)) ∈ lw_all := lw_g (lw_at lw_m4 0 rfl) rfl
theorem q871 : (Jvm.Cond.selects "WhistlePosts" ({ cls := "WhistlePosts", name := "loadPost", desc := "()I" } : Jvm.MethodName) ({ cls := "WhistlePosts", name := "loadPost", desc := "()I" } : Jvm.MethodName)) ∈ lw_all := lw_g (lw_at lw_m4 1 rfl) rfl
theorem q872 : (Jvm.Cond.codeWith ({ cls := "WhistlePosts", name := "loadPost", desc := "()I" } : Jvm.MethodName) prog_1_method_14_code (2 : Nat) (Option.some Jvm.ClassFile.FieldType.int) [((4 : Nat), (26 : Nat), (29 : Nat), (102 : Nat))]) ∈ lw_all := lw_g (lw_at lw_m4 2 rfl) rfl
theorem q873 : (Jvm.Cond.classLink "WhistlePosts" (102 : Nat) "WhistlePosts$TextError") ∈ lw_all := lw_g (lw_at lw_m4 3 rfl) rfl
theorem q874 : (Jvm.Cond.methodLink "WhistlePosts" (109 : Nat) ({ cls := "WhistlePosts", name := "noError", desc := "()V" } : Jvm.MethodName)) ∈ lw_all := lw_g (lw_at lw_m4 4 rfl) rfl
theorem q875 : (Jvm.Cond.privateMethod ({ cls := "WhistlePosts", name := "noError", desc := "()V" } : Jvm.MethodName)) ∈ lw_tbl := lw_at lw_m4 5 rfl
theorem q876 : (Jvm.Cond.instanceMethod ({ cls := "WhistlePosts", name := "noError", desc := "()V" } : Jvm.MethodName)) ∈ lw_all := lw_g (lw_at lw_m4 6 rfl) rfl
theorem q877 : (Jvm.Cond.code ({ cls := "WhistlePosts", name := "noError", desc := "()V" } : Jvm.MethodName) prog_1_method_12_code (1 : Nat) (Option.none : Option Jvm.ClassFile.FieldType)) ∈ lw_all := lw_g (lw_at lw_m4 7 rfl) rfl
theorem q878 : (Jvm.Cond.classLink "WhistlePosts" (112 : Nat) "WhistlePosts$Reader") ∈ lw_all := lw_g (lw_at lw_m4 8 rfl) rfl
theorem q880 : (Jvm.Cond.methodLink "WhistlePosts" (114 : Nat) ({ cls := "WhistlePosts$Reader", name := "<init>", desc := "(LWhistlePosts;LWhistlePosts$World;)V" } : Jvm.MethodName)) ∈ lw_all := lw_g (lw_at lw_m4 10 rfl) rfl
theorem q956 : (Jvm.Cond.methodLink "WhistlePosts" (117 : Nat) ({ cls := "WhistlePosts$Reader", name := "setup", desc := "()LWhistlePosts$World;" } : Jvm.MethodName)) ∈ lw_all := lw_g (lw_at lw_m4 86 rfl) rfl
theorem q1076 : (Jvm.Cond.fieldLinkNest "WhistlePosts" (101 : Nat) "WhistlePosts$TextError" "code" "I" "WhistlePosts") ∈ lw_tbl := lw_at lw_m4 206 rfl
theorem q1078 : (Jvm.Cond.fieldLinkNest "WhistlePosts" (106 : Nat) "WhistlePosts$TextError" "offset" "I" "WhistlePosts") ∈ lw_tbl := lw_at lw_m4 208 rfl
theorem q1451 : (Jvm.Cond.laysStatic "WhistlePosts" "LEAST" "[I") ∈ lw_tbl := lw_at lw_m6 101 rfl
theorem q1453 : (Jvm.Cond.laysStatic "WhistlePosts" "MOST" "[I") ∈ lw_tbl := lw_at lw_m6 103 rfl
theorem q1462 : (Jvm.Cond.methodLink "WhistlePosts" (120 : Nat) ({ cls := "WhistlePosts", name := "failed", desc := "(LWhistlePosts$TextError;)I" } : Jvm.MethodName)) ∈ lw_all := lw_g (lw_at lw_m6 112 rfl) rfl
theorem q1463 : (Jvm.Cond.privateMethod ({ cls := "WhistlePosts", name := "failed", desc := "(LWhistlePosts$TextError;)I" } : Jvm.MethodName)) ∈ lw_tbl := lw_at lw_m6 113 rfl
theorem q1464 : (Jvm.Cond.instanceMethod ({ cls := "WhistlePosts", name := "failed", desc := "(LWhistlePosts$TextError;)I" } : Jvm.MethodName)) ∈ lw_all := lw_g (lw_at lw_m6 114 rfl) rfl
theorem q1465 : (Jvm.Cond.code ({ cls := "WhistlePosts", name := "failed", desc := "(LWhistlePosts$TextError;)I" } : Jvm.MethodName) prog_1_method_13_code (2 : Nat) (Option.some Jvm.ClassFile.FieldType.int)) ∈ lw_all := lw_g (lw_at lw_m6 115 rfl) rfl
theorem q1466 : (Jvm.Cond.methodLink "WhistlePosts" (124 : Nat) ({ cls := "java/util/ArrayDeque", name := "clear", desc := "()V" } : Jvm.MethodName)) ∈ lw_all := lw_g (lw_at lw_m6 116 rfl) rfl
theorem q1473 : (Jvm.Cond.methodLink "WhistlePosts" (130 : Nat) ({ cls := "java/util/LinkedList", name := "size", desc := "()I" } : Jvm.MethodName)) ∈ lw_all := lw_g (lw_at lw_m6 123 rfl) rfl
theorem q1475 : (Jvm.Cond.instanceMethod ({ cls := "WhistlePosts", name := "playScript", desc := "()I" } : Jvm.MethodName)) ∈ lw_all := lw_g (lw_at lw_m6 125 rfl) rfl
theorem q1476 : (Jvm.Cond.selects "WhistlePosts" ({ cls := "WhistlePosts", name := "playScript", desc := "()I" } : Jvm.MethodName) ({ cls := "WhistlePosts", name := "playScript", desc := "()I" } : Jvm.MethodName)) ∈ lw_all := lw_g (lw_at lw_m6 126 rfl) rfl
theorem q1477 : (Jvm.Cond.codeWith ({ cls := "WhistlePosts", name := "playScript", desc := "()I" } : Jvm.MethodName) prog_1_method_17_code (3 : Nat) (Option.some Jvm.ClassFile.FieldType.int) [((4 : Nat), (20 : Nat), (23 : Nat), (102 : Nat))]) ∈ lw_all := lw_g (lw_at lw_m6 127 rfl) rfl
theorem q1478 : (Jvm.Cond.methodLink "WhistlePosts" (146 : Nat) ({ cls := "WhistlePosts$Reader", name := "script", desc := "()[LWhistlePosts$Deed;" } : Jvm.MethodName)) ∈ lw_all := lw_g (lw_at lw_m6 128 rfl) rfl
theorem q1541 : (Jvm.Cond.static ({ cls := "WhistlePosts", name := "needState", desc := "(Z)V" } : Jvm.MethodName)) ∈ lw_all := lw_g (lw_at lw_m6 191 rfl) rfl
theorem q1542 : (Jvm.Cond.code ({ cls := "WhistlePosts", name := "needState", desc := "(Z)V" } : Jvm.MethodName) prog_1_method_5_code (1 : Nat) (Option.none : Option Jvm.ClassFile.FieldType)) ∈ lw_all := lw_g (lw_at lw_m6 192 rfl) rfl
theorem q1543 : (Jvm.Cond.classLink "WhistlePosts" (10 : Nat) "java/lang/IllegalStateException") ∈ lw_all := lw_g (lw_at lw_m6 193 rfl) rfl
theorem q1552 : (Jvm.Cond.methodLink "WhistlePosts" (12 : Nat) ({ cls := "java/lang/IllegalStateException", name := "<init>", desc := "()V" } : Jvm.MethodName)) ∈ lw_all := lw_g (lw_at lw_m6 202 rfl) rfl
theorem q1570 : (Jvm.Cond.fieldLinkNest "WhistlePosts" (372 : Nat) "WhistlePosts$Tune" "number" "I" "WhistlePosts") ∈ lw_tbl := lw_at lw_m6 220 rfl
theorem q1573 : (Jvm.Cond.fieldLinkNest "WhistlePosts" (305 : Nat) "WhistlePosts$Tune" "sender" "I" "WhistlePosts") ∈ lw_tbl := lw_at lw_m6 223 rfl
theorem q1576 : (Jvm.Cond.fieldLinkNest "WhistlePosts" (310 : Nat) "WhistlePosts$Tune" "goal" "I" "WhistlePosts") ∈ lw_tbl := lw_at lw_m6 226 rfl
theorem q1578 : (Jvm.Cond.fieldLinkNest "WhistlePosts" (347 : Nat) "WhistlePosts$Tune" "sent" "[I" "WhistlePosts") ∈ lw_tbl := lw_at lw_m6 228 rfl
theorem q1580 : (Jvm.Cond.fieldLinkNest "WhistlePosts" (344 : Nat) "WhistlePosts$Tune" "heard" "[I" "WhistlePosts") ∈ lw_tbl := lw_at lw_m6 230 rfl
theorem q1582 : (Jvm.Cond.fieldLinkNest "WhistlePosts" (325 : Nat) "WhistlePosts$Tune" "isReply" "Z" "WhistlePosts") ∈ lw_tbl := lw_at lw_m6 232 rfl
theorem q1585 : (Jvm.Cond.fieldLinkNest "WhistlePosts" (329 : Nat) "WhistlePosts$Tune" "wants" "Z" "WhistlePosts") ∈ lw_tbl := lw_at lw_m6 235 rfl
theorem q1588 : (Jvm.Cond.fieldLinkNest "WhistlePosts" (319 : Nat) "WhistlePosts$Tune" "at" "I" "WhistlePosts") ∈ lw_tbl := lw_at lw_m6 238 rfl
theorem q1591 : (Jvm.Cond.fieldLinkNest "WhistlePosts" (316 : Nat) "WhistlePosts$Tune" "state" "I" "WhistlePosts") ∈ lw_tbl := lw_at lw_m7 1 rfl
theorem q1594 : (Jvm.Cond.fieldLinkNest "WhistlePosts" (322 : Nat) "WhistlePosts$Tune" "end" "I" "WhistlePosts") ∈ lw_tbl := lw_at lw_m7 4 rfl
theorem q1599 : (Jvm.Cond.fieldLinkNest "WhistlePosts" (332 : Nat) "WhistlePosts$Tune" "tries" "I" "WhistlePosts") ∈ lw_tbl := lw_at lw_m7 9 rfl
theorem q1602 : (Jvm.Cond.fieldLinkNest "WhistlePosts" (341 : Nat) "WhistlePosts$Tune" "hops" "I" "WhistlePosts") ∈ lw_tbl := lw_at lw_m7 12 rfl
theorem q1631 : (Jvm.Cond.static ({ cls := "WhistlePosts", name := "one", desc := "(Z)I" } : Jvm.MethodName)) ∈ lw_all := lw_g (lw_at lw_m7 41 rfl) rfl
theorem q1632 : (Jvm.Cond.code ({ cls := "WhistlePosts", name := "one", desc := "(Z)I" } : Jvm.MethodName) prog_1_method_2_code (1 : Nat) (Option.some Jvm.ClassFile.FieldType.int)) ∈ lw_all := lw_g (lw_at lw_m7 42 rfl) rfl
theorem q2172 : (Jvm.Cond.methodLink "WhistlePosts" (150 : Nat) ({ cls := "WhistlePosts$World", name := "copy", desc := "()LWhistlePosts$World;" } : Jvm.MethodName)) ∈ lw_all := lw_g (lw_at lw_m9 102 rfl) rfl
theorem q2192 : (Jvm.Cond.methodLink "WhistlePosts" (153 : Nat) ({ cls := "WhistlePosts", name := "keeps", desc := "(LWhistlePosts$World;)V" } : Jvm.MethodName)) ∈ lw_all := lw_g (lw_at lw_m9 122 rfl) rfl
theorem q2193 : (Jvm.Cond.privateMethod ({ cls := "WhistlePosts", name := "keeps", desc := "(LWhistlePosts$World;)V" } : Jvm.MethodName)) ∈ lw_tbl := lw_at lw_m9 123 rfl
theorem q2194 : (Jvm.Cond.instanceMethod ({ cls := "WhistlePosts", name := "keeps", desc := "(LWhistlePosts$World;)V" } : Jvm.MethodName)) ∈ lw_all := lw_g (lw_at lw_m9 124 rfl) rfl
theorem q2195 : (Jvm.Cond.code ({ cls := "WhistlePosts", name := "keeps", desc := "(LWhistlePosts$World;)V" } : Jvm.MethodName) prog_1_method_15_code (3 : Nat) (Option.none : Option Jvm.ClassFile.FieldType)) ∈ lw_all := lw_g (lw_at lw_m9 125 rfl) rfl
theorem q2196 : (Jvm.Cond.methodLink "WhistlePosts" (134 : Nat) ({ cls := "java/util/ArrayDeque", name := "size", desc := "()I" } : Jvm.MethodName)) ∈ lw_all := lw_g (lw_at lw_m9 126 rfl) rfl
theorem q2197 : (Jvm.Cond.methodLink "WhistlePosts" (135 : Nat) ({ cls := "java/util/ArrayDeque", name := "removeFirst", desc := "()Ljava/lang/Object;" } : Jvm.MethodName)) ∈ lw_all := lw_g (lw_at lw_m9 127 rfl) rfl
theorem q2213 : (Jvm.Cond.methodLink "WhistlePosts" (139 : Nat) ({ cls := "java/util/ArrayDeque", name := "addLast", desc := "(Ljava/lang/Object;)V" } : Jvm.MethodName)) ∈ lw_all := lw_g (lw_at lw_m9 143 rfl) rfl
theorem q2234 : (Jvm.Cond.methodLink "WhistlePosts" (157 : Nat) ({ cls := "WhistlePosts", name := "doesAll", desc := "([LWhistlePosts$Deed;LWhistlePosts$World;)I" } : Jvm.MethodName)) ∈ lw_all := lw_g (lw_at lw_m9 164 rfl) rfl
theorem q2235 : (Jvm.Cond.static ({ cls := "WhistlePosts", name := "doesAll", desc := "([LWhistlePosts$Deed;LWhistlePosts$World;)I" } : Jvm.MethodName)) ∈ lw_all := lw_g (lw_at lw_m9 165 rfl) rfl
theorem q2236 : (Jvm.Cond.codeWith ({ cls := "WhistlePosts", name := "doesAll", desc := "([LWhistlePosts$Deed;LWhistlePosts$World;)I" } : Jvm.MethodName) prog_1_method_16_code (4 : Nat) (Option.some Jvm.ClassFile.FieldType.int) [((2 : Nat), (24 : Nat), (27 : Nat), (10 : Nat))]) ∈ lw_all := lw_g (lw_at lw_m9 166 rfl) rfl
theorem q2237 : (Jvm.Cond.interfaceEntry "WhistlePosts" (140 : Nat)) ∈ lw_tbl := lw_at lw_m9 167 rfl
theorem q2238 : (Jvm.Cond.methodLink "WhistlePosts" (140 : Nat) ({ cls := "WhistlePosts$Deed", name := "does", desc := "(LWhistlePosts$World;)I" } : Jvm.MethodName)) ∈ lw_all := lw_g (lw_at lw_m9 168 rfl) rfl
theorem q2242 : (Jvm.Cond.instanceMethod ({ cls := "WhistlePosts", name := "errorCode", desc := "()I" } : Jvm.MethodName)) ∈ lw_all := lw_g (lw_at lw_m9 172 rfl) rfl
theorem q2243 : (Jvm.Cond.selects "WhistlePosts" ({ cls := "WhistlePosts", name := "errorCode", desc := "()I" } : Jvm.MethodName) ({ cls := "WhistlePosts", name := "errorCode", desc := "()I" } : Jvm.MethodName)) ∈ lw_all := lw_g (lw_at lw_m9 173 rfl) rfl
theorem q2244 : (Jvm.Cond.code ({ cls := "WhistlePosts", name := "errorCode", desc := "()I" } : Jvm.MethodName) prog_1_method_18_code (1 : Nat) (Option.some Jvm.ClassFile.FieldType.int)) ∈ lw_all := lw_g (lw_at lw_m9 174 rfl) rfl
theorem q2246 : (Jvm.Cond.instanceMethod ({ cls := "WhistlePosts", name := "errorOffset", desc := "()I" } : Jvm.MethodName)) ∈ lw_all := lw_g (lw_at lw_m9 176 rfl) rfl
theorem q2247 : (Jvm.Cond.selects "WhistlePosts" ({ cls := "WhistlePosts", name := "errorOffset", desc := "()I" } : Jvm.MethodName) ({ cls := "WhistlePosts", name := "errorOffset", desc := "()I" } : Jvm.MethodName)) ∈ lw_all := lw_g (lw_at lw_m9 177 rfl) rfl
theorem q2248 : (Jvm.Cond.code ({ cls := "WhistlePosts", name := "errorOffset", desc := "()I" } : Jvm.MethodName) prog_1_method_19_code (1 : Nat) (Option.some Jvm.ClassFile.FieldType.int)) ∈ lw_all := lw_g (lw_at lw_m9 178 rfl) rfl
theorem q2250 : (Jvm.Cond.instanceMethod ({ cls := "WhistlePosts", name := "dearestWay", desc := "()I" } : Jvm.MethodName)) ∈ lw_all := lw_g (lw_at lw_m9 180 rfl) rfl
theorem q2251 : (Jvm.Cond.selects "WhistlePosts" ({ cls := "WhistlePosts", name := "dearestWay", desc := "()I" } : Jvm.MethodName) ({ cls := "WhistlePosts", name := "dearestWay", desc := "()I" } : Jvm.MethodName)) ∈ lw_all := lw_g (lw_at lw_m9 181 rfl) rfl
theorem q2252 : (Jvm.Cond.code ({ cls := "WhistlePosts", name := "dearestWay", desc := "()I" } : Jvm.MethodName) prog_1_method_46_code (7 : Nat) (Option.some Jvm.ClassFile.FieldType.int)) ∈ lw_all := lw_g (lw_at lw_m9 182 rfl) rfl
theorem q2253 : (Jvm.Cond.methodLink "WhistlePosts" (256 : Nat) ({ cls := "java/util/LinkedList", name := "iterator", desc := "()Ljava/util/Iterator;" } : Jvm.MethodName)) ∈ lw_all := lw_g (lw_at lw_m9 183 rfl) rfl
theorem q2254 : (Jvm.Cond.interfaceEntry "WhistlePosts" (189 : Nat)) ∈ lw_tbl := lw_at lw_m9 184 rfl
theorem q2255 : (Jvm.Cond.methodLink "WhistlePosts" (189 : Nat) ({ cls := "java/util/Iterator", name := "hasNext", desc := "()Z" } : Jvm.MethodName)) ∈ lw_all := lw_g (lw_at lw_m9 185 rfl) rfl
theorem q2256 : (Jvm.Cond.interfaceEntry "WhistlePosts" (195 : Nat)) ∈ lw_tbl := lw_at lw_m9 186 rfl
theorem q2257 : (Jvm.Cond.methodLink "WhistlePosts" (195 : Nat) ({ cls := "java/util/Iterator", name := "next", desc := "()Ljava/lang/Object;" } : Jvm.MethodName)) ∈ lw_all := lw_g (lw_at lw_m9 187 rfl) rfl
theorem q2258 : (Jvm.Cond.methodLink "WhistlePosts" (421 : Nat) ({ cls := "WhistlePosts$World", name := "apart", desc := "(LWhistlePosts$Way;)I" } : Jvm.MethodName)) ∈ lw_all := lw_g (lw_at lw_m9 188 rfl) rfl
theorem q2347 : (Jvm.Cond.methodLink "WhistlePosts" (270 : Nat) ({ cls := "java/lang/Math", name := "max", desc := "(II)I" } : Jvm.MethodName)) ∈ lw_all := lw_g (lw_at lw_m10 37 rfl) rfl
theorem q2349 : (Jvm.Cond.instanceMethod ({ cls := "WhistlePosts", name := "agree", desc := "()Z" } : Jvm.MethodName)) ∈ lw_all := lw_g (lw_at lw_m10 39 rfl) rfl
theorem q2350 : (Jvm.Cond.selects "WhistlePosts" ({ cls := "WhistlePosts", name := "agree", desc := "()Z" } : Jvm.MethodName) ({ cls := "WhistlePosts", name := "agree", desc := "()Z" } : Jvm.MethodName)) ∈ lw_all := lw_g (lw_at lw_m10 40 rfl) rfl
theorem q2351 : (Jvm.Cond.code ({ cls := "WhistlePosts", name := "agree", desc := "()Z" } : Jvm.MethodName) prog_1_method_47_code (1 : Nat) (Option.some Jvm.ClassFile.FieldType.boolean)) ∈ lw_all := lw_g (lw_at lw_m10 41 rfl) rfl
theorem q2352 : (Jvm.Cond.methodLink "WhistlePosts" (425 : Nat) ({ cls := "WhistlePosts$World", name := "agrees", desc := "()Z" } : Jvm.MethodName)) ∈ lw_all := lw_g (lw_at lw_m10 42 rfl) rfl
theorem q2364 : (Jvm.Cond.instanceMethod ({ cls := "WhistlePosts", name := "meanPurse", desc := "()D" } : Jvm.MethodName)) ∈ lw_all := lw_g (lw_at lw_m10 54 rfl) rfl
theorem q2365 : (Jvm.Cond.selects "WhistlePosts" ({ cls := "WhistlePosts", name := "meanPurse", desc := "()D" } : Jvm.MethodName) ({ cls := "WhistlePosts", name := "meanPurse", desc := "()D" } : Jvm.MethodName)) ∈ lw_all := lw_g (lw_at lw_m10 55 rfl) rfl
theorem q2366 : (Jvm.Cond.code ({ cls := "WhistlePosts", name := "meanPurse", desc := "()D" } : Jvm.MethodName) prog_1_method_48_code (1 : Nat) (Option.some Jvm.ClassFile.FieldType.double)) ∈ lw_all := lw_g (lw_at lw_m10 56 rfl) rfl
theorem q2367 : (Jvm.Cond.methodLink "WhistlePosts" (221 : Nat) ({ cls := "WhistlePosts", name := "purses", desc := "()I" } : Jvm.MethodName)) ∈ lw_all := lw_g (lw_at lw_m10 57 rfl) rfl
theorem q2368 : (Jvm.Cond.privateMethod ({ cls := "WhistlePosts", name := "purses", desc := "()I" } : Jvm.MethodName)) ∈ lw_tbl := lw_at lw_m10 58 rfl
theorem q2369 : (Jvm.Cond.instanceMethod ({ cls := "WhistlePosts", name := "purses", desc := "()I" } : Jvm.MethodName)) ∈ lw_all := lw_g (lw_at lw_m10 59 rfl) rfl
theorem q2370 : (Jvm.Cond.code ({ cls := "WhistlePosts", name := "purses", desc := "()I" } : Jvm.MethodName) prog_1_method_22_code (4 : Nat) (Option.some Jvm.ClassFile.FieldType.int)) ∈ lw_all := lw_g (lw_at lw_m10 60 rfl) rfl
theorem q2371 : (Jvm.Cond.interfaceEntry "WhistlePosts" (185 : Nat)) ∈ lw_tbl := lw_at lw_m10 61 rfl
theorem q2372 : (Jvm.Cond.methodLink "WhistlePosts" (185 : Nat) ({ cls := "java/util/List", name := "iterator", desc := "()Ljava/util/Iterator;" } : Jvm.MethodName)) ∈ lw_all := lw_g (lw_at lw_m10 62 rfl) rfl
theorem q2391 : (Jvm.Cond.interfaceEntry "WhistlePosts" (165 : Nat)) ∈ lw_tbl := lw_at lw_m10 81 rfl
theorem q2392 : (Jvm.Cond.methodLink "WhistlePosts" (165 : Nat) ({ cls := "java/util/List", name := "size", desc := "()I" } : Jvm.MethodName)) ∈ lw_all := lw_g (lw_at lw_m10 82 rfl) rfl
theorem q2394 : (Jvm.Cond.instanceMethod ({ cls := "WhistlePosts", name := "rightPart", desc := "()F" } : Jvm.MethodName)) ∈ lw_all := lw_g (lw_at lw_m10 84 rfl) rfl
theorem q2395 : (Jvm.Cond.selects "WhistlePosts" ({ cls := "WhistlePosts", name := "rightPart", desc := "()F" } : Jvm.MethodName) ({ cls := "WhistlePosts", name := "rightPart", desc := "()F" } : Jvm.MethodName)) ∈ lw_all := lw_g (lw_at lw_m10 85 rfl) rfl
theorem q2396 : (Jvm.Cond.code ({ cls := "WhistlePosts", name := "rightPart", desc := "()F" } : Jvm.MethodName) prog_1_method_49_code (2 : Nat) (Option.some Jvm.ClassFile.FieldType.float)) ∈ lw_all := lw_g (lw_at lw_m10 86 rfl) rfl
theorem q2398 : (Jvm.Cond.instanceMethod ({ cls := "WhistlePosts", name := "printRoofs", desc := "()I" } : Jvm.MethodName)) ∈ lw_all := lw_g (lw_at lw_m10 88 rfl) rfl
theorem q2399 : (Jvm.Cond.selects "WhistlePosts" ({ cls := "WhistlePosts", name := "printRoofs", desc := "()I" } : Jvm.MethodName) ({ cls := "WhistlePosts", name := "printRoofs", desc := "()I" } : Jvm.MethodName)) ∈ lw_all := lw_g (lw_at lw_m10 89 rfl) rfl
theorem q2400 : (Jvm.Cond.code ({ cls := "WhistlePosts", name := "printRoofs", desc := "()I" } : Jvm.MethodName) prog_1_method_59_code (3 : Nat) (Option.some Jvm.ClassFile.FieldType.int)) ∈ lw_all := lw_g (lw_at lw_m10 90 rfl) rfl
theorem q2401 : (Jvm.Cond.methodLink "WhistlePosts" (469 : Nat) ({ cls := "java/lang/StringBuilder", name := "setLength", desc := "(I)V" } : Jvm.MethodName)) ∈ lw_all := lw_g (lw_at lw_m10 91 rfl) rfl
theorem q2466 : (Jvm.Cond.methodLink "WhistlePosts" (236 : Nat) ({ cls := "WhistlePosts$World", name := "roof", desc := "(I)LWhistlePosts$Roof;" } : Jvm.MethodName)) ∈ lw_all := lw_g (lw_at lw_m10 156 rfl) rfl
theorem q2467 : (Jvm.Cond.methodLink "WhistlePosts" (472 : Nat) ({ cls := "java/lang/StringBuilder", name := "append", desc := "(C)Ljava/lang/StringBuilder;" } : Jvm.MethodName)) ∈ lw_all := lw_g (lw_at lw_m10 157 rfl) rfl
theorem q2468 : (Jvm.Cond.methodLink "WhistlePosts" (476 : Nat) ({ cls := "java/lang/StringBuilder", name := "append", desc := "(Ljava/lang/String;)Ljava/lang/StringBuilder;" } : Jvm.MethodName)) ∈ lw_all := lw_g (lw_at lw_m10 158 rfl) rfl
theorem q2469 : (Jvm.Cond.methodLink "WhistlePosts" (479 : Nat) ({ cls := "java/lang/StringBuilder", name := "append", desc := "(I)Ljava/lang/StringBuilder;" } : Jvm.MethodName)) ∈ lw_all := lw_g (lw_at lw_m10 159 rfl) rfl
theorem q2470 : (Jvm.Cond.methodLink "WhistlePosts" (482 : Nat) ({ cls := "WhistlePosts", name := "roof", desc := "(II)I" } : Jvm.MethodName)) ∈ lw_all := lw_g (lw_at lw_m10 160 rfl) rfl
theorem q2471 : (Jvm.Cond.instanceMethod ({ cls := "WhistlePosts", name := "roof", desc := "(II)I" } : Jvm.MethodName)) ∈ lw_all := lw_g (lw_at lw_m10 161 rfl) rfl
theorem q2472 : (Jvm.Cond.selects "WhistlePosts" ({ cls := "WhistlePosts", name := "roof", desc := "(II)I" } : Jvm.MethodName) ({ cls := "WhistlePosts", name := "roof", desc := "(II)I" } : Jvm.MethodName)) ∈ lw_all := lw_g (lw_at lw_m10 162 rfl) rfl
theorem q2473 : (Jvm.Cond.code ({ cls := "WhistlePosts", name := "roof", desc := "(II)I" } : Jvm.MethodName) prog_1_method_29_code (4 : Nat) (Option.some Jvm.ClassFile.FieldType.int)) ∈ lw_all := lw_g (lw_at lw_m10 163 rfl) rfl
theorem q2474 : (Jvm.Cond.methodLink "WhistlePosts" (240 : Nat) ({ cls := "WhistlePosts", name := "roofAt", desc := "(I)LWhistlePosts$Roof;" } : Jvm.MethodName)) ∈ lw_all := lw_g (lw_at lw_m10 164 rfl) rfl
theorem q2475 : (Jvm.Cond.privateMethod ({ cls := "WhistlePosts", name := "roofAt", desc := "(I)LWhistlePosts$Roof;" } : Jvm.MethodName)) ∈ lw_tbl := lw_at lw_m10 165 rfl
theorem q2476 : (Jvm.Cond.instanceMethod ({ cls := "WhistlePosts", name := "roofAt", desc := "(I)LWhistlePosts$Roof;" } : Jvm.MethodName)) ∈ lw_all := lw_g (lw_at lw_m10 166 rfl) rfl
theorem q2477 : (Jvm.Cond.code ({ cls := "WhistlePosts", name := "roofAt", desc := "(I)LWhistlePosts$Roof;" } : Jvm.MethodName) prog_1_method_25_code (2 : Nat) (Option.some (Jvm.ClassFile.FieldType.object "WhistlePosts$Roof"))) ∈ lw_all := lw_g (lw_at lw_m10 167 rfl) rfl
theorem q2478 : (Jvm.Cond.methodLink "WhistlePosts" (233 : Nat) ({ cls := "WhistlePosts", name := "needIndex", desc := "(Z)V" } : Jvm.MethodName)) ∈ lw_all := lw_g (lw_at lw_m10 168 rfl) rfl
theorem q2479 : (Jvm.Cond.static ({ cls := "WhistlePosts", name := "needIndex", desc := "(Z)V" } : Jvm.MethodName)) ∈ lw_all := lw_g (lw_at lw_m10 169 rfl) rfl
theorem q2480 : (Jvm.Cond.code ({ cls := "WhistlePosts", name := "needIndex", desc := "(Z)V" } : Jvm.MethodName) prog_1_method_4_code (1 : Nat) (Option.none : Option Jvm.ClassFile.FieldType)) ∈ lw_all := lw_g (lw_at lw_m10 170 rfl) rfl
theorem q2481 : (Jvm.Cond.classLink "WhistlePosts" (7 : Nat) "java/lang/IndexOutOfBoundsException") ∈ lw_all := lw_g (lw_at lw_m10 171 rfl) rfl
theorem q2482 : (Jvm.Cond.methodLink "WhistlePosts" (9 : Nat) ({ cls := "java/lang/IndexOutOfBoundsException", name := "<init>", desc := "()V" } : Jvm.MethodName)) ∈ lw_all := lw_g (lw_at lw_m10 172 rfl) rfl
theorem q2486 : (Jvm.Cond.static ({ cls := "WhistlePosts", name := "lambda$roof$1", desc := "(ILWhistlePosts$Tune;)Z" } : Jvm.MethodName)) ∈ lw_all := lw_g (lw_at lw_m10 176 rfl) rfl
theorem q2487 : (Jvm.Cond.code ({ cls := "WhistlePosts", name := "lambda$roof$1", desc := "(ILWhistlePosts$Tune;)Z" } : Jvm.MethodName) prog_1_method_71_code (2 : Nat) (Option.some Jvm.ClassFile.FieldType.boolean)) ∈ lw_all := lw_g (lw_at lw_m10 177 rfl) rfl
theorem q2488 : (Jvm.Cond.methodLink "WhistlePosts" (358 : Nat) ({ cls := "WhistlePosts$Tune", name := "waitsAt", desc := "(I)Z" } : Jvm.MethodName)) ∈ lw_all := lw_g (lw_at lw_m10 178 rfl) rfl
theorem q2489 : (Jvm.Cond.methodLink "WhistlePosts" (210 : Nat) ({ cls := "WhistlePosts", name := "tunesThat", desc := "(LWhistlePosts$Test;)I" } : Jvm.MethodName)) ∈ lw_all := lw_g (lw_at lw_m10 179 rfl) rfl
theorem q2490 : (Jvm.Cond.privateMethod ({ cls := "WhistlePosts", name := "tunesThat", desc := "(LWhistlePosts$Test;)I" } : Jvm.MethodName)) ∈ lw_tbl := lw_at lw_m10 180 rfl
theorem q2491 : (Jvm.Cond.instanceMethod ({ cls := "WhistlePosts", name := "tunesThat", desc := "(LWhistlePosts$Test;)I" } : Jvm.MethodName)) ∈ lw_all := lw_g (lw_at lw_m10 181 rfl) rfl
theorem q2492 : (Jvm.Cond.code ({ cls := "WhistlePosts", name := "tunesThat", desc := "(LWhistlePosts$Test;)I" } : Jvm.MethodName) prog_1_method_20_code (4 : Nat) (Option.some Jvm.ClassFile.FieldType.int)) ∈ lw_all := lw_g (lw_at lw_m10 182 rfl) rfl
theorem q2493 : (Jvm.Cond.methodLink "WhistlePosts" (168 : Nat) ({ cls := "WhistlePosts$World", name := "tune", desc := "(I)LWhistlePosts$Tune;" } : Jvm.MethodName)) ∈ lw_all := lw_g (lw_at lw_m10 183 rfl) rfl
theorem q2494 : (Jvm.Cond.interfaceEntry "WhistlePosts" (172 : Nat)) ∈ lw_tbl := lw_at lw_m10 184 rfl
theorem q2495 : (Jvm.Cond.methodLink "WhistlePosts" (172 : Nat) ({ cls := "WhistlePosts$Test", name := "is", desc := "(LWhistlePosts$Tune;)Z" } : Jvm.MethodName)) ∈ lw_all := lw_g (lw_at lw_m10 185 rfl) rfl
theorem q2498 : (Jvm.Cond.methodLink "WhistlePosts" (178 : Nat) ({ cls := "WhistlePosts", name := "one", desc := "(Z)I" } : Jvm.MethodName)) ∈ lw_all := lw_g (lw_at lw_m10 188 rfl) rfl
theorem q2499 : (Jvm.Cond.methodLink "WhistlePosts" (277 : Nat) ({ cls := "WhistlePosts", name := "waysAt", desc := "(I)I" } : Jvm.MethodName)) ∈ lw_all := lw_g (lw_at lw_m10 189 rfl) rfl
theorem q2500 : (Jvm.Cond.privateMethod ({ cls := "WhistlePosts", name := "waysAt", desc := "(I)I" } : Jvm.MethodName)) ∈ lw_tbl := lw_at lw_m10 190 rfl
theorem q2501 : (Jvm.Cond.instanceMethod ({ cls := "WhistlePosts", name := "waysAt", desc := "(I)I" } : Jvm.MethodName)) ∈ lw_all := lw_g (lw_at lw_m10 191 rfl) rfl
theorem q2502 : (Jvm.Cond.code ({ cls := "WhistlePosts", name := "waysAt", desc := "(I)I" } : Jvm.MethodName) prog_1_method_28_code (5 : Nat) (Option.some Jvm.ClassFile.FieldType.int)) ∈ lw_all := lw_g (lw_at lw_m10 192 rfl) rfl
theorem q2503 : (Jvm.Cond.methodLink "WhistlePosts" (257 : Nat) ({ cls := "WhistlePosts$Way", name := "ends", desc := "(I)Z" } : Jvm.MethodName)) ∈ lw_all := lw_g (lw_at lw_m10 193 rfl) rfl
theorem q2504 : (Jvm.Cond.classLink "WhistlePosts" (1 : Nat) "java/lang/IllegalArgumentException") ∈ lw_all := lw_g (lw_at lw_m10 194 rfl) rfl
theorem q2505 : (Jvm.Cond.methodLink "WhistlePosts" (3 : Nat) ({ cls := "java/lang/IllegalArgumentException", name := "<init>", desc := "()V" } : Jvm.MethodName)) ∈ lw_all := lw_g (lw_at lw_m10 195 rfl) rfl
theorem q2506 : (Jvm.Cond.methodLink "WhistlePosts" (484 : Nat) ({ cls := "java/lang/StringBuilder", name := "length", desc := "()I" } : Jvm.MethodName)) ∈ lw_all := lw_g (lw_at lw_m10 196 rfl) rfl
theorem q2508 : (Jvm.Cond.instanceMethod ({ cls := "WhistlePosts", name := "outputByte", desc := "(I)I" } : Jvm.MethodName)) ∈ lw_all := lw_g (lw_at lw_m10 198 rfl) rfl
theorem q2509 : (Jvm.Cond.selects "WhistlePosts" ({ cls := "WhistlePosts", name := "outputByte", desc := "(I)I" } : Jvm.MethodName) ({ cls := "WhistlePosts", name := "outputByte", desc := "(I)I" } : Jvm.MethodName)) ∈ lw_all := lw_g (lw_at lw_m10 199 rfl) rfl
theorem q2510 : (Jvm.Cond.code ({ cls := "WhistlePosts", name := "outputByte", desc := "(I)I" } : Jvm.MethodName) prog_1_method_61_code (2 : Nat) (Option.some Jvm.ClassFile.FieldType.int)) ∈ lw_all := lw_g (lw_at lw_m10 200 rfl) rfl
theorem q2511 : (Jvm.Cond.methodLink "WhistlePosts" (485 : Nat) ({ cls := "java/lang/StringBuilder", name := "charAt", desc := "(I)C" } : Jvm.MethodName)) ∈ lw_all := lw_g (lw_at lw_m10 201 rfl) rfl
theorem q2522 : (Jvm.Cond.instanceMethod ({ cls := "WhistlePosts", name := "saveState", desc := "()I" } : Jvm.MethodName)) ∈ lw_all := lw_g (lw_at lw_m10 212 rfl) rfl
theorem q2523 : (Jvm.Cond.selects "WhistlePosts" ({ cls := "WhistlePosts", name := "saveState", desc := "()I" } : Jvm.MethodName) ({ cls := "WhistlePosts", name := "saveState", desc := "()I" } : Jvm.MethodName)) ∈ lw_all := lw_g (lw_at lw_m10 213 rfl) rfl
theorem q2524 : (Jvm.Cond.code ({ cls := "WhistlePosts", name := "saveState", desc := "()I" } : Jvm.MethodName) prog_1_method_62_code (1 : Nat) (Option.some Jvm.ClassFile.FieldType.int)) ∈ lw_all := lw_g (lw_at lw_m10 214 rfl) rfl
theorem q2530 : (Jvm.Cond.instanceMethod ({ cls := "WhistlePosts", name := "count", desc := "(I)I" } : Jvm.MethodName)) ∈ lw_all := lw_g (lw_at lw_m10 220 rfl) rfl
theorem q2531 : (Jvm.Cond.selects "WhistlePosts" ({ cls := "WhistlePosts", name := "count", desc := "(I)I" } : Jvm.MethodName) ({ cls := "WhistlePosts", name := "count", desc := "(I)I" } : Jvm.MethodName)) ∈ lw_all := lw_g (lw_at lw_m10 221 rfl) rfl
theorem q2532 : (Jvm.Cond.code ({ cls := "WhistlePosts", name := "count", desc := "(I)I" } : Jvm.MethodName) prog_1_method_23_code (2 : Nat) (Option.some Jvm.ClassFile.FieldType.int)) ∈ lw_all := lw_g (lw_at lw_m10 222 rfl) rfl
theorem q2533 : (Jvm.Cond.static ({ cls := "WhistlePosts", name := "lambda$count$0", desc := "(ILWhistlePosts$Tune;)Z" } : Jvm.MethodName)) ∈ lw_all := lw_g (lw_at lw_m10 223 rfl) rfl
theorem q2534 : (Jvm.Cond.code ({ cls := "WhistlePosts", name := "lambda$count$0", desc := "(ILWhistlePosts$Tune;)Z" } : Jvm.MethodName) prog_1_method_72_code (2 : Nat) (Option.some Jvm.ClassFile.FieldType.boolean)) ∈ lw_all := lw_g (lw_at lw_m10 224 rfl) rfl
theorem q2535 : (Jvm.Cond.methodLink "WhistlePosts" (218 : Nat) ({ cls := "WhistlePosts", name := "busyMany", desc := "()I" } : Jvm.MethodName)) ∈ lw_all := lw_g (lw_at lw_m10 225 rfl) rfl
theorem q2536 : (Jvm.Cond.privateMethod ({ cls := "WhistlePosts", name := "busyMany", desc := "()I" } : Jvm.MethodName)) ∈ lw_tbl := lw_at lw_m10 226 rfl
theorem q2537 : (Jvm.Cond.instanceMethod ({ cls := "WhistlePosts", name := "busyMany", desc := "()I" } : Jvm.MethodName)) ∈ lw_all := lw_g (lw_at lw_m10 227 rfl) rfl
theorem q2538 : (Jvm.Cond.code ({ cls := "WhistlePosts", name := "busyMany", desc := "()I" } : Jvm.MethodName) prog_1_method_21_code (4 : Nat) (Option.some Jvm.ClassFile.FieldType.int)) ∈ lw_all := lw_g (lw_at lw_m10 228 rfl) rfl
theorem q2543 : (Jvm.Cond.instanceMethod ({ cls := "WhistlePosts", name := "account", desc := "(I)I" } : Jvm.MethodName)) ∈ lw_all := lw_g (lw_at lw_m10 233 rfl) rfl
theorem q2544 : (Jvm.Cond.selects "WhistlePosts" ({ cls := "WhistlePosts", name := "account", desc := "(I)I" } : Jvm.MethodName) ({ cls := "WhistlePosts", name := "account", desc := "(I)I" } : Jvm.MethodName)) ∈ lw_all := lw_g (lw_at lw_m10 234 rfl) rfl
theorem q2545 : (Jvm.Cond.code ({ cls := "WhistlePosts", name := "account", desc := "(I)I" } : Jvm.MethodName) prog_1_method_24_code (2 : Nat) (Option.some Jvm.ClassFile.FieldType.int)) ∈ lw_all := lw_g (lw_at lw_m10 235 rfl) rfl
theorem q2546 : (Jvm.Cond.constantLong "WhistlePosts" (224 : Nat) (10 : Int64)) ∈ lw_all := lw_g (lw_at lw_m10 236 rfl) rfl
theorem q2547 : (Jvm.Cond.methodLink "WhistlePosts" (226 : Nat) ({ cls := "WhistlePosts", name := "needRange", desc := "(Z)V" } : Jvm.MethodName)) ∈ lw_all := lw_g (lw_at lw_m10 237 rfl) rfl
theorem q2548 : (Jvm.Cond.static ({ cls := "WhistlePosts", name := "needRange", desc := "(Z)V" } : Jvm.MethodName)) ∈ lw_all := lw_g (lw_at lw_m10 238 rfl) rfl
theorem q2549 : (Jvm.Cond.code ({ cls := "WhistlePosts", name := "needRange", desc := "(Z)V" } : Jvm.MethodName) prog_1_method_3_code (1 : Nat) (Option.none : Option Jvm.ClassFile.FieldType)) ∈ lw_all := lw_g (lw_at lw_m10 239 rfl) rfl
theorem q2557 : (Jvm.Cond.instanceMethod ({ cls := "WhistlePosts", name := "nameByte", desc := "(II)I" } : Jvm.MethodName)) ∈ lw_all := lw_g (lw_at lw_m11 7 rfl) rfl
theorem q2558 : (Jvm.Cond.selects "WhistlePosts" ({ cls := "WhistlePosts", name := "nameByte", desc := "(II)I" } : Jvm.MethodName) ({ cls := "WhistlePosts", name := "nameByte", desc := "(II)I" } : Jvm.MethodName)) ∈ lw_all := lw_g (lw_at lw_m11 8 rfl) rfl
theorem q2559 : (Jvm.Cond.code ({ cls := "WhistlePosts", name := "nameByte", desc := "(II)I" } : Jvm.MethodName) prog_1_method_27_code (4 : Nat) (Option.some Jvm.ClassFile.FieldType.int)) ∈ lw_all := lw_g (lw_at lw_m11 9 rfl) rfl
theorem q2560 : (Jvm.Cond.methodLink "WhistlePosts" (247 : Nat) ({ cls := "java/lang/String", name := "length", desc := "()I" } : Jvm.MethodName)) ∈ lw_all := lw_g (lw_at lw_m11 10 rfl) rfl
theorem q2561 : (Jvm.Cond.methodLink "WhistlePosts" (252 : Nat) ({ cls := "java/lang/String", name := "charAt", desc := "(I)C" } : Jvm.MethodName)) ∈ lw_all := lw_g (lw_at lw_m11 11 rfl) rfl
theorem q2580 : (Jvm.Cond.instanceMethod ({ cls := "WhistlePosts", name := "way", desc := "(II)I" } : Jvm.MethodName)) ∈ lw_all := lw_g (lw_at lw_m11 30 rfl) rfl
theorem q2581 : (Jvm.Cond.selects "WhistlePosts" ({ cls := "WhistlePosts", name := "way", desc := "(II)I" } : Jvm.MethodName) ({ cls := "WhistlePosts", name := "way", desc := "(II)I" } : Jvm.MethodName)) ∈ lw_all := lw_g (lw_at lw_m11 31 rfl) rfl
theorem q2582 : (Jvm.Cond.code ({ cls := "WhistlePosts", name := "way", desc := "(II)I" } : Jvm.MethodName) prog_1_method_30_code (4 : Nat) (Option.some Jvm.ClassFile.FieldType.int)) ∈ lw_all := lw_g (lw_at lw_m11 32 rfl) rfl
theorem q2583 : (Jvm.Cond.methodLink "WhistlePosts" (284 : Nat) ({ cls := "java/util/LinkedList", name := "get", desc := "(I)Ljava/lang/Object;" } : Jvm.MethodName)) ∈ lw_all := lw_g (lw_at lw_m11 33 rfl) rfl
theorem q2584 : (Jvm.Cond.methodLink "WhistlePosts" (288 : Nat) ({ cls := "WhistlePosts$Way", name := "first", desc := "()I" } : Jvm.MethodName)) ∈ lw_all := lw_g (lw_at lw_m11 34 rfl) rfl
theorem q2585 : (Jvm.Cond.methodLink "WhistlePosts" (291 : Nat) ({ cls := "WhistlePosts$Way", name := "second", desc := "()I" } : Jvm.MethodName)) ∈ lw_all := lw_g (lw_at lw_m11 35 rfl) rfl
theorem q2586 : (Jvm.Cond.methodLink "WhistlePosts" (294 : Nat) ({ cls := "WhistlePosts$Way", name := "far", desc := "()I" } : Jvm.MethodName)) ∈ lw_all := lw_g (lw_at lw_m11 36 rfl) rfl
theorem q2591 : (Jvm.Cond.instanceMethod ({ cls := "WhistlePosts", name := "route", desc := "(II)I" } : Jvm.MethodName)) ∈ lw_all := lw_g (lw_at lw_m11 41 rfl) rfl
theorem q2592 : (Jvm.Cond.selects "WhistlePosts" ({ cls := "WhistlePosts", name := "route", desc := "(II)I" } : Jvm.MethodName) ({ cls := "WhistlePosts", name := "route", desc := "(II)I" } : Jvm.MethodName)) ∈ lw_all := lw_g (lw_at lw_m11 42 rfl) rfl
theorem q2593 : (Jvm.Cond.code ({ cls := "WhistlePosts", name := "route", desc := "(II)I" } : Jvm.MethodName) prog_1_method_31_code (5 : Nat) (Option.some Jvm.ClassFile.FieldType.int)) ∈ lw_all := lw_g (lw_at lw_m11 43 rfl) rfl
theorem q2594 : (Jvm.Cond.methodLink "WhistlePosts" (297 : Nat) ({ cls := "WhistlePosts$World", name := "route", desc := "(II)I" } : Jvm.MethodName)) ∈ lw_all := lw_g (lw_at lw_m11 44 rfl) rfl
theorem q2599 : (Jvm.Cond.instanceMethod ({ cls := "WhistlePosts", name := "next", desc := "(II)I" } : Jvm.MethodName)) ∈ lw_all := lw_g (lw_at lw_m11 49 rfl) rfl
theorem q2600 : (Jvm.Cond.selects "WhistlePosts" ({ cls := "WhistlePosts", name := "next", desc := "(II)I" } : Jvm.MethodName) ({ cls := "WhistlePosts", name := "next", desc := "(II)I" } : Jvm.MethodName)) ∈ lw_all := lw_g (lw_at lw_m11 50 rfl) rfl
theorem q2601 : (Jvm.Cond.code ({ cls := "WhistlePosts", name := "next", desc := "(II)I" } : Jvm.MethodName) prog_1_method_32_code (5 : Nat) (Option.some Jvm.ClassFile.FieldType.int)) ∈ lw_all := lw_g (lw_at lw_m11 51 rfl) rfl
theorem q2602 : (Jvm.Cond.methodLink "WhistlePosts" (300 : Nat) ({ cls := "WhistlePosts$World", name := "next", desc := "(II)I" } : Jvm.MethodName)) ∈ lw_all := lw_g (lw_at lw_m11 52 rfl) rfl
theorem q2607 : (Jvm.Cond.instanceMethod ({ cls := "WhistlePosts", name := "tune", desc := "(II)I" } : Jvm.MethodName)) ∈ lw_all := lw_g (lw_at lw_m11 57 rfl) rfl
theorem q2608 : (Jvm.Cond.selects "WhistlePosts" ({ cls := "WhistlePosts", name := "tune", desc := "(II)I" } : Jvm.MethodName) ({ cls := "WhistlePosts", name := "tune", desc := "(II)I" } : Jvm.MethodName)) ∈ lw_all := lw_g (lw_at lw_m11 58 rfl) rfl
theorem q2609 : (Jvm.Cond.code ({ cls := "WhistlePosts", name := "tune", desc := "(II)I" } : Jvm.MethodName) prog_1_method_33_code (4 : Nat) (Option.some Jvm.ClassFile.FieldType.int)) ∈ lw_all := lw_g (lw_at lw_m11 59 rfl) rfl
theorem q2610 : (Jvm.Cond.methodLink "WhistlePosts" (302 : Nat) ({ cls := "WhistlePosts", name := "tuneAt", desc := "(I)LWhistlePosts$Tune;" } : Jvm.MethodName)) ∈ lw_all := lw_g (lw_at lw_m11 60 rfl) rfl
theorem q2611 : (Jvm.Cond.privateMethod ({ cls := "WhistlePosts", name := "tuneAt", desc := "(I)LWhistlePosts$Tune;" } : Jvm.MethodName)) ∈ lw_tbl := lw_at lw_m11 61 rfl
theorem q2612 : (Jvm.Cond.instanceMethod ({ cls := "WhistlePosts", name := "tuneAt", desc := "(I)LWhistlePosts$Tune;" } : Jvm.MethodName)) ∈ lw_all := lw_g (lw_at lw_m11 62 rfl) rfl
theorem q2613 : (Jvm.Cond.code ({ cls := "WhistlePosts", name := "tuneAt", desc := "(I)LWhistlePosts$Tune;" } : Jvm.MethodName) prog_1_method_26_code (2 : Nat) (Option.some (Jvm.ClassFile.FieldType.object "WhistlePosts$Tune"))) ∈ lw_all := lw_g (lw_at lw_m11 63 rfl) rfl
theorem q2614 : (Jvm.Cond.methodLink "WhistlePosts" (313 : Nat) ({ cls := "WhistlePosts$Tune", name := "notes", desc := "()I" } : Jvm.MethodName)) ∈ lw_all := lw_g (lw_at lw_m11 64 rfl) rfl
theorem q2615 : (Jvm.Cond.methodLink "WhistlePosts" (335 : Nat) ({ cls := "WhistlePosts$Tune", name := "bars", desc := "()I" } : Jvm.MethodName)) ∈ lw_all := lw_g (lw_at lw_m11 65 rfl) rfl
theorem q2616 : (Jvm.Cond.methodLink "WhistlePosts" (338 : Nat) ({ cls := "WhistlePosts$Tune", name := "unlike", desc := "()I" } : Jvm.MethodName)) ∈ lw_all := lw_g (lw_at lw_m11 66 rfl) rfl
theorem q2621 : (Jvm.Cond.instanceMethod ({ cls := "WhistlePosts", name := "note", desc := "(IIZ)I" } : Jvm.MethodName)) ∈ lw_all := lw_g (lw_at lw_m11 71 rfl) rfl
theorem q2622 : (Jvm.Cond.selects "WhistlePosts" ({ cls := "WhistlePosts", name := "note", desc := "(IIZ)I" } : Jvm.MethodName) ({ cls := "WhistlePosts", name := "note", desc := "(IIZ)I" } : Jvm.MethodName)) ∈ lw_all := lw_g (lw_at lw_m11 72 rfl) rfl
theorem q2623 : (Jvm.Cond.code ({ cls := "WhistlePosts", name := "note", desc := "(IIZ)I" } : Jvm.MethodName) prog_1_method_34_code (5 : Nat) (Option.some Jvm.ClassFile.FieldType.int)) ∈ lw_all := lw_g (lw_at lw_m11 73 rfl) rfl
theorem q2628 : (Jvm.Cond.instanceMethod ({ cls := "WhistlePosts", name := "waiting", desc := "(II)I" } : Jvm.MethodName)) ∈ lw_all := lw_g (lw_at lw_m11 78 rfl) rfl
theorem q2629 : (Jvm.Cond.selects "WhistlePosts" ({ cls := "WhistlePosts", name := "waiting", desc := "(II)I" } : Jvm.MethodName) ({ cls := "WhistlePosts", name := "waiting", desc := "(II)I" } : Jvm.MethodName)) ∈ lw_all := lw_g (lw_at lw_m11 79 rfl) rfl
theorem q2630 : (Jvm.Cond.code ({ cls := "WhistlePosts", name := "waiting", desc := "(II)I" } : Jvm.MethodName) prog_1_method_35_code (8 : Nat) (Option.some Jvm.ClassFile.FieldType.int)) ∈ lw_all := lw_g (lw_at lw_m11 80 rfl) rfl
theorem q2631 : (Jvm.Cond.classLink "WhistlePosts" (350 : Nat) "java/util/PriorityQueue") ∈ lw_all := lw_g (lw_at lw_m11 81 rfl) rfl
theorem q2632 : (Jvm.Cond.classLink "WhistlePosts" (352 : Nat) "WhistlePosts$Dearer") ∈ lw_all := lw_g (lw_at lw_m11 82 rfl) rfl
theorem q2634 : (Jvm.Cond.methodLinkNest "WhistlePosts" (354 : Nat) ({ cls := "WhistlePosts$Dearer", name := "<init>", desc := "()V" } : Jvm.MethodName) "WhistlePosts") ∈ lw_tbl := lw_at lw_m11 84 rfl
theorem q2639 : (Jvm.Cond.methodLink "WhistlePosts" (355 : Nat) ({ cls := "java/util/PriorityQueue", name := "<init>", desc := "(Ljava/util/Comparator;)V" } : Jvm.MethodName)) ∈ lw_all := lw_g (lw_at lw_m11 89 rfl) rfl
theorem q2640 : (Jvm.Cond.classLink "WhistlePosts" (306 : Nat) "WhistlePosts$Tune") ∈ lw_all := lw_g (lw_at lw_m11 90 rfl) rfl
theorem q2641 : (Jvm.Cond.methodLink "WhistlePosts" (361 : Nat) ({ cls := "java/util/PriorityQueue", name := "add", desc := "(Ljava/lang/Object;)Z" } : Jvm.MethodName)) ∈ lw_all := lw_g (lw_at lw_m11 91 rfl) rfl
theorem q2642 : (Jvm.Cond.methodLink "WhistlePosts" (365 : Nat) ({ cls := "java/util/PriorityQueue", name := "size", desc := "()I" } : Jvm.MethodName)) ∈ lw_all := lw_g (lw_at lw_m11 92 rfl) rfl
theorem q2643 : (Jvm.Cond.methodLink "WhistlePosts" (366 : Nat) ({ cls := "java/util/PriorityQueue", name := "poll", desc := "()Ljava/lang/Object;" } : Jvm.MethodName)) ∈ lw_all := lw_g (lw_at lw_m11 93 rfl) rfl
theorem q2644 : (Jvm.Cond.methodLink "WhistlePosts" (369 : Nat) ({ cls := "java/util/PriorityQueue", name := "peek", desc := "()Ljava/lang/Object;" } : Jvm.MethodName)) ∈ lw_all := lw_g (lw_at lw_m11 94 rfl) rfl
theorem q2652 : (Jvm.Cond.instanceMethod ({ cls := "WhistlePosts", name := "why", desc := "(II)I" } : Jvm.MethodName)) ∈ lw_all := lw_g (lw_at lw_m11 102 rfl) rfl
theorem q2653 : (Jvm.Cond.selects "WhistlePosts" ({ cls := "WhistlePosts", name := "why", desc := "(II)I" } : Jvm.MethodName) ({ cls := "WhistlePosts", name := "why", desc := "(II)I" } : Jvm.MethodName)) ∈ lw_all := lw_g (lw_at lw_m11 103 rfl) rfl
theorem q2654 : (Jvm.Cond.code ({ cls := "WhistlePosts", name := "why", desc := "(II)I" } : Jvm.MethodName) prog_1_method_38_code (4 : Nat) (Option.some Jvm.ClassFile.FieldType.int)) ∈ lw_all := lw_g (lw_at lw_m11 104 rfl) rfl
theorem q2655 : (Jvm.Cond.methodLink "WhistlePosts" (382 : Nat) ({ cls := "WhistlePosts", name := "reasonOf", desc := "(LWhistlePosts$Tune;)I" } : Jvm.MethodName)) ∈ lw_all := lw_g (lw_at lw_m11 105 rfl) rfl
theorem q2656 : (Jvm.Cond.privateMethod ({ cls := "WhistlePosts", name := "reasonOf", desc := "(LWhistlePosts$Tune;)I" } : Jvm.MethodName)) ∈ lw_tbl := lw_at lw_m11 106 rfl
theorem q2657 : (Jvm.Cond.instanceMethod ({ cls := "WhistlePosts", name := "reasonOf", desc := "(LWhistlePosts$Tune;)I" } : Jvm.MethodName)) ∈ lw_all := lw_g (lw_at lw_m11 107 rfl) rfl
theorem q2658 : (Jvm.Cond.code ({ cls := "WhistlePosts", name := "reasonOf", desc := "(LWhistlePosts$Tune;)I" } : Jvm.MethodName) prog_1_method_36_code (3 : Nat) (Option.some Jvm.ClassFile.FieldType.int)) ∈ lw_all := lw_g (lw_at lw_m11 108 rfl) rfl
theorem q2659 : (Jvm.Cond.methodLink "WhistlePosts" (375 : Nat) ({ cls := "WhistlePosts$World", name := "canBe", desc := "(ILWhistlePosts$Tune;)Z" } : Jvm.MethodName)) ∈ lw_all := lw_g (lw_at lw_m11 109 rfl) rfl
theorem q2660 : (Jvm.Cond.methodLink "WhistlePosts" (379 : Nat) ({ cls := "WhistlePosts$World", name := "chosen", desc := "(I)LWhistlePosts$Tune;" } : Jvm.MethodName)) ∈ lw_all := lw_g (lw_at lw_m11 110 rfl) rfl
theorem q2661 : (Jvm.Cond.methodLink "WhistlePosts" (389 : Nat) ({ cls := "WhistlePosts", name := "causeOf", desc := "(LWhistlePosts$Tune;)I" } : Jvm.MethodName)) ∈ lw_all := lw_g (lw_at lw_m11 111 rfl) rfl
theorem q2662 : (Jvm.Cond.privateMethod ({ cls := "WhistlePosts", name := "causeOf", desc := "(LWhistlePosts$Tune;)I" } : Jvm.MethodName)) ∈ lw_tbl := lw_at lw_m11 112 rfl
theorem q2663 : (Jvm.Cond.instanceMethod ({ cls := "WhistlePosts", name := "causeOf", desc := "(LWhistlePosts$Tune;)I" } : Jvm.MethodName)) ∈ lw_all := lw_g (lw_at lw_m11 113 rfl) rfl
theorem q2664 : (Jvm.Cond.code ({ cls := "WhistlePosts", name := "causeOf", desc := "(LWhistlePosts$Tune;)I" } : Jvm.MethodName) prog_1_method_37_code (3 : Nat) (Option.some Jvm.ClassFile.FieldType.int)) ∈ lw_all := lw_g (lw_at lw_m11 114 rfl) rfl
theorem q2665 : (Jvm.Cond.methodLink "WhistlePosts" (386 : Nat) ({ cls := "WhistlePosts$World", name := "fee", desc := "(ILWhistlePosts$Tune;)I" } : Jvm.MethodName)) ∈ lw_all := lw_g (lw_at lw_m11 115 rfl) rfl
theorem q2670 : (Jvm.Cond.instanceMethod ({ cls := "WhistlePosts", name := "costOf", desc := "(III)I" } : Jvm.MethodName)) ∈ lw_all := lw_g (lw_at lw_m11 120 rfl) rfl
theorem q2671 : (Jvm.Cond.selects "WhistlePosts" ({ cls := "WhistlePosts", name := "costOf", desc := "(III)I" } : Jvm.MethodName) ({ cls := "WhistlePosts", name := "costOf", desc := "(III)I" } : Jvm.MethodName)) ∈ lw_all := lw_g (lw_at lw_m11 121 rfl) rfl
theorem q2672 : (Jvm.Cond.code ({ cls := "WhistlePosts", name := "costOf", desc := "(III)I" } : Jvm.MethodName) prog_1_method_40_code (7 : Nat) (Option.some Jvm.ClassFile.FieldType.int)) ∈ lw_all := lw_g (lw_at lw_m11 122 rfl) rfl
theorem q2673 : (Jvm.Cond.constantLong "WhistlePosts" (397 : Nat) (8 : Int64)) ∈ lw_all := lw_g (lw_at lw_m11 123 rfl) rfl
theorem q2674 : (Jvm.Cond.privateMethod ({ cls := "WhistlePosts", name := "lambda$costOf$2", desc := "(III)I" } : Jvm.MethodName)) ∈ lw_tbl := lw_at lw_m11 124 rfl
theorem q2675 : (Jvm.Cond.instanceMethod ({ cls := "WhistlePosts", name := "lambda$costOf$2", desc := "(III)I" } : Jvm.MethodName)) ∈ lw_all := lw_g (lw_at lw_m11 125 rfl) rfl
theorem q2676 : (Jvm.Cond.code ({ cls := "WhistlePosts", name := "lambda$costOf$2", desc := "(III)I" } : Jvm.MethodName) prog_1_method_70_code (4 : Nat) (Option.some Jvm.ClassFile.FieldType.int)) ∈ lw_all := lw_g (lw_at lw_m11 126 rfl) rfl
theorem q2677 : (Jvm.Cond.methodLink "WhistlePosts" (402 : Nat) ({ cls := "WhistlePosts", name := "alongRoute", desc := "(IILWhistlePosts$Hop;)I" } : Jvm.MethodName)) ∈ lw_all := lw_g (lw_at lw_m11 127 rfl) rfl
theorem q2678 : (Jvm.Cond.privateMethod ({ cls := "WhistlePosts", name := "alongRoute", desc := "(IILWhistlePosts$Hop;)I" } : Jvm.MethodName)) ∈ lw_tbl := lw_at lw_m11 128 rfl
theorem q2679 : (Jvm.Cond.instanceMethod ({ cls := "WhistlePosts", name := "alongRoute", desc := "(IILWhistlePosts$Hop;)I" } : Jvm.MethodName)) ∈ lw_all := lw_g (lw_at lw_m11 129 rfl) rfl
theorem q2680 : (Jvm.Cond.code ({ cls := "WhistlePosts", name := "alongRoute", desc := "(IILWhistlePosts$Hop;)I" } : Jvm.MethodName) prog_1_method_39_code (6 : Nat) (Option.some Jvm.ClassFile.FieldType.int)) ∈ lw_all := lw_g (lw_at lw_m11 130 rfl) rfl
theorem q2681 : (Jvm.Cond.interfaceEntry "WhistlePosts" (392 : Nat)) ∈ lw_tbl := lw_at lw_m11 131 rfl
theorem q2682 : (Jvm.Cond.methodLink "WhistlePosts" (392 : Nat) ({ cls := "WhistlePosts$Hop", name := "of", desc := "(II)I" } : Jvm.MethodName)) ∈ lw_all := lw_g (lw_at lw_m11 132 rfl) rfl
theorem q2689 : (Jvm.Cond.instanceMethod ({ cls := "WhistlePosts", name := "wrongOn", desc := "(III)I" } : Jvm.MethodName)) ∈ lw_all := lw_g (lw_at lw_m11 139 rfl) rfl
theorem q2690 : (Jvm.Cond.selects "WhistlePosts" ({ cls := "WhistlePosts", name := "wrongOn", desc := "(III)I" } : Jvm.MethodName) ({ cls := "WhistlePosts", name := "wrongOn", desc := "(III)I" } : Jvm.MethodName)) ∈ lw_all := lw_g (lw_at lw_m11 140 rfl) rfl
theorem q2691 : (Jvm.Cond.code ({ cls := "WhistlePosts", name := "wrongOn", desc := "(III)I" } : Jvm.MethodName) prog_1_method_42_code (6 : Nat) (Option.some Jvm.ClassFile.FieldType.int)) ∈ lw_all := lw_g (lw_at lw_m11 141 rfl) rfl
theorem q2692 : (Jvm.Cond.methodLink "WhistlePosts" (409 : Nat) ({ cls := "WhistlePosts", name := "wrong", desc := "(IIII)I" } : Jvm.MethodName)) ∈ lw_all := lw_g (lw_at lw_m11 142 rfl) rfl
theorem q2693 : (Jvm.Cond.privateMethod ({ cls := "WhistlePosts", name := "wrong", desc := "(IIII)I" } : Jvm.MethodName)) ∈ lw_tbl := lw_at lw_m11 143 rfl
theorem q2694 : (Jvm.Cond.instanceMethod ({ cls := "WhistlePosts", name := "wrong", desc := "(IIII)I" } : Jvm.MethodName)) ∈ lw_all := lw_g (lw_at lw_m11 144 rfl) rfl
theorem q2695 : (Jvm.Cond.code ({ cls := "WhistlePosts", name := "wrong", desc := "(IIII)I" } : Jvm.MethodName) prog_1_method_41_code (5 : Nat) (Option.some Jvm.ClassFile.FieldType.int)) ∈ lw_all := lw_g (lw_at lw_m11 145 rfl) rfl
theorem q2696 : (Jvm.Cond.privateMethod ({ cls := "WhistlePosts", name := "lambda$wrong$3", desc := "(IIII)I" } : Jvm.MethodName)) ∈ lw_tbl := lw_at lw_m11 146 rfl
theorem q2697 : (Jvm.Cond.instanceMethod ({ cls := "WhistlePosts", name := "lambda$wrong$3", desc := "(IIII)I" } : Jvm.MethodName)) ∈ lw_all := lw_g (lw_at lw_m11 147 rfl) rfl
theorem q2698 : (Jvm.Cond.code ({ cls := "WhistlePosts", name := "lambda$wrong$3", desc := "(IIII)I" } : Jvm.MethodName) prog_1_method_69_code (5 : Nat) (Option.some Jvm.ClassFile.FieldType.int)) ∈ lw_all := lw_g (lw_at lw_m11 148 rfl) rfl
theorem q2699 : (Jvm.Cond.methodLink "WhistlePosts" (502 : Nat) ({ cls := "WhistlePosts$World", name := "between", desc := "(II)LWhistlePosts$Way;" } : Jvm.MethodName)) ∈ lw_all := lw_g (lw_at lw_m11 149 rfl) rfl
theorem q2700 : (Jvm.Cond.methodLink "WhistlePosts" (506 : Nat) ({ cls := "WhistlePosts$World", name := "wrongBy", desc := "(IIII)I" } : Jvm.MethodName)) ∈ lw_all := lw_g (lw_at lw_m11 150 rfl) rfl
theorem q2705 : (Jvm.Cond.instanceMethod ({ cls := "WhistlePosts", name := "calmest", desc := "(II)I" } : Jvm.MethodName)) ∈ lw_all := lw_g (lw_at lw_m11 155 rfl) rfl
theorem q2706 : (Jvm.Cond.selects "WhistlePosts" ({ cls := "WhistlePosts", name := "calmest", desc := "(II)I" } : Jvm.MethodName) ({ cls := "WhistlePosts", name := "calmest", desc := "(II)I" } : Jvm.MethodName)) ∈ lw_all := lw_g (lw_at lw_m11 156 rfl) rfl
theorem q2707 : (Jvm.Cond.code ({ cls := "WhistlePosts", name := "calmest", desc := "(II)I" } : Jvm.MethodName) prog_1_method_43_code (6 : Nat) (Option.some Jvm.ClassFile.FieldType.int)) ∈ lw_all := lw_g (lw_at lw_m11 157 rfl) rfl
theorem q2712 : (Jvm.Cond.instanceMethod ({ cls := "WhistlePosts", name := "arrivesIn", desc := "(I)I" } : Jvm.MethodName)) ∈ lw_all := lw_g (lw_at lw_m11 162 rfl) rfl
theorem q2713 : (Jvm.Cond.selects "WhistlePosts" ({ cls := "WhistlePosts", name := "arrivesIn", desc := "(I)I" } : Jvm.MethodName) ({ cls := "WhistlePosts", name := "arrivesIn", desc := "(I)I" } : Jvm.MethodName)) ∈ lw_all := lw_g (lw_at lw_m11 163 rfl) rfl
theorem q2714 : (Jvm.Cond.code ({ cls := "WhistlePosts", name := "arrivesIn", desc := "(I)I" } : Jvm.MethodName) prog_1_method_44_code (5 : Nat) (Option.some Jvm.ClassFile.FieldType.int)) ∈ lw_all := lw_g (lw_at lw_m11 164 rfl) rfl
theorem q2715 : (Jvm.Cond.methodLink "WhistlePosts" (413 : Nat) ({ cls := "WhistlePosts$World", name := "ticks", desc := "()V" } : Jvm.MethodName)) ∈ lw_all := lw_g (lw_at lw_m11 165 rfl) rfl
theorem q2720 : (Jvm.Cond.instanceMethod ({ cls := "WhistlePosts", name := "growsBy", desc := "(II)I" } : Jvm.MethodName)) ∈ lw_all := lw_g (lw_at lw_m11 170 rfl) rfl
theorem q2721 : (Jvm.Cond.selects "WhistlePosts" ({ cls := "WhistlePosts", name := "growsBy", desc := "(II)I" } : Jvm.MethodName) ({ cls := "WhistlePosts", name := "growsBy", desc := "(II)I" } : Jvm.MethodName)) ∈ lw_all := lw_g (lw_at lw_m11 171 rfl) rfl
theorem q2722 : (Jvm.Cond.code ({ cls := "WhistlePosts", name := "growsBy", desc := "(II)I" } : Jvm.MethodName) prog_1_method_45_code (5 : Nat) (Option.some Jvm.ClassFile.FieldType.int)) ∈ lw_all := lw_g (lw_at lw_m11 172 rfl) rfl
theorem q2723 : (Jvm.Cond.constantLong "WhistlePosts" (416 : Nat) (200 : Int64)) ∈ lw_all := lw_g (lw_at lw_m11 173 rfl) rfl
theorem q2724 : (Jvm.Cond.methodLink "WhistlePosts" (418 : Nat) ({ cls := "WhistlePosts$World", name := "ticksMany", desc := "(I)I" } : Jvm.MethodName)) ∈ lw_all := lw_g (lw_at lw_m11 174 rfl) rfl
theorem q2730 : (Jvm.Cond.instanceMethod ({ cls := "WhistlePosts", name := "send", desc := "(IIIZ)I" } : Jvm.MethodName)) ∈ lw_all := lw_g (lw_at lw_m11 180 rfl) rfl
theorem q2731 : (Jvm.Cond.selects "WhistlePosts" ({ cls := "WhistlePosts", name := "send", desc := "(IIIZ)I" } : Jvm.MethodName) ({ cls := "WhistlePosts", name := "send", desc := "(IIIZ)I" } : Jvm.MethodName)) ∈ lw_all := lw_g (lw_at lw_m11 181 rfl) rfl
theorem q2732 : (Jvm.Cond.code ({ cls := "WhistlePosts", name := "send", desc := "(IIIZ)I" } : Jvm.MethodName) prog_1_method_53_code (8 : Nat) (Option.some Jvm.ClassFile.FieldType.int)) ∈ lw_all := lw_g (lw_at lw_m11 182 rfl) rfl
theorem q2733 : (Jvm.Cond.methodLink "WhistlePosts" (430 : Nat) ({ cls := "WhistlePosts", name := "areTones", desc := "(I)Z" } : Jvm.MethodName)) ∈ lw_all := lw_g (lw_at lw_m11 183 rfl) rfl
theorem q2734 : (Jvm.Cond.static ({ cls := "WhistlePosts", name := "areTones", desc := "(I)Z" } : Jvm.MethodName)) ∈ lw_all := lw_g (lw_at lw_m11 184 rfl) rfl
theorem q2735 : (Jvm.Cond.code ({ cls := "WhistlePosts", name := "areTones", desc := "(I)Z" } : Jvm.MethodName) prog_1_method_51_code (2 : Nat) (Option.some Jvm.ClassFile.FieldType.boolean)) ∈ lw_all := lw_g (lw_at lw_m11 185 rfl) rfl
theorem q2736 : (Jvm.Cond.constantLong "WhistlePosts" (428 : Nat) (77777777 : Int64)) ∈ lw_all := lw_g (lw_at lw_m11 186 rfl) rfl
theorem q2737 : (Jvm.Cond.methodLink "WhistlePosts" (433 : Nat) ({ cls := "WhistlePosts", name := "tones", desc := "(I)[I" } : Jvm.MethodName)) ∈ lw_all := lw_g (lw_at lw_m11 187 rfl) rfl
theorem q2738 : (Jvm.Cond.static ({ cls := "WhistlePosts", name := "tones", desc := "(I)[I" } : Jvm.MethodName)) ∈ lw_all := lw_g (lw_at lw_m11 188 rfl) rfl
theorem q2739 : (Jvm.Cond.code ({ cls := "WhistlePosts", name := "tones", desc := "(I)[I" } : Jvm.MethodName) prog_1_method_52_code (5 : Nat) (Option.some (Jvm.ClassFile.FieldType.array Jvm.ClassFile.FieldType.int))) ∈ lw_all := lw_g (lw_at lw_m11 189 rfl) rfl
theorem q2740 : (Jvm.Cond.static ({ cls := "WhistlePosts", name := "lambda$send$4", desc := "(IIZ[ILWhistlePosts$World;)I" } : Jvm.MethodName)) ∈ lw_all := lw_g (lw_at lw_m11 190 rfl) rfl
theorem q2741 : (Jvm.Cond.code ({ cls := "WhistlePosts", name := "lambda$send$4", desc := "(IIZ[ILWhistlePosts$World;)I" } : Jvm.MethodName) prog_1_method_68_code (5 : Nat) (Option.some Jvm.ClassFile.FieldType.int)) ∈ lw_all := lw_g (lw_at lw_m11 191 rfl) rfl
theorem q2742 : (Jvm.Cond.methodLink "WhistlePosts" (498 : Nat) ({ cls := "WhistlePosts$World", name := "sends", desc := "(IIZZ[I)I" } : Jvm.MethodName)) ∈ lw_all := lw_g (lw_at lw_m11 192 rfl) rfl
theorem q2743 : (Jvm.Cond.methodLink "WhistlePosts" (440 : Nat) ({ cls := "WhistlePosts", name := "changes", desc := "(LWhistlePosts$Deed;)I" } : Jvm.MethodName)) ∈ lw_all := lw_g (lw_at lw_m11 193 rfl) rfl
theorem q2744 : (Jvm.Cond.privateMethod ({ cls := "WhistlePosts", name := "changes", desc := "(LWhistlePosts$Deed;)I" } : Jvm.MethodName)) ∈ lw_tbl := lw_at lw_m11 194 rfl
theorem q2745 : (Jvm.Cond.instanceMethod ({ cls := "WhistlePosts", name := "changes", desc := "(LWhistlePosts$Deed;)I" } : Jvm.MethodName)) ∈ lw_all := lw_g (lw_at lw_m11 195 rfl) rfl
theorem q2746 : (Jvm.Cond.code ({ cls := "WhistlePosts", name := "changes", desc := "(LWhistlePosts$Deed;)I" } : Jvm.MethodName) prog_1_method_50_code (4 : Nat) (Option.some Jvm.ClassFile.FieldType.int)) ∈ lw_all := lw_g (lw_at lw_m11 196 rfl) rfl
theorem q2751 : (Jvm.Cond.instanceMethod ({ cls := "WhistlePosts", name := "tick", desc := "(I)I" } : Jvm.MethodName)) ∈ lw_all := lw_g (lw_at lw_m11 201 rfl) rfl
theorem q2752 : (Jvm.Cond.selects "WhistlePosts" ({ cls := "WhistlePosts", name := "tick", desc := "(I)I" } : Jvm.MethodName) ({ cls := "WhistlePosts", name := "tick", desc := "(I)I" } : Jvm.MethodName)) ∈ lw_all := lw_g (lw_at lw_m11 202 rfl) rfl
theorem q2753 : (Jvm.Cond.code ({ cls := "WhistlePosts", name := "tick", desc := "(I)I" } : Jvm.MethodName) prog_1_method_54_code (2 : Nat) (Option.some Jvm.ClassFile.FieldType.int)) ∈ lw_all := lw_g (lw_at lw_m11 203 rfl) rfl
theorem q2754 : (Jvm.Cond.static ({ cls := "WhistlePosts", name := "lambda$tick$5", desc := "(ILWhistlePosts$World;)I" } : Jvm.MethodName)) ∈ lw_all := lw_g (lw_at lw_m11 204 rfl) rfl
theorem q2755 : (Jvm.Cond.code ({ cls := "WhistlePosts", name := "lambda$tick$5", desc := "(ILWhistlePosts$World;)I" } : Jvm.MethodName) prog_1_method_67_code (2 : Nat) (Option.some Jvm.ClassFile.FieldType.int)) ∈ lw_all := lw_g (lw_at lw_m11 205 rfl) rfl
theorem q2756 : (Jvm.Cond.methodLink "WhistlePosts" (495 : Nat) ({ cls := "WhistlePosts$World", name := "ticksNow", desc := "(I)I" } : Jvm.MethodName)) ∈ lw_all := lw_g (lw_at lw_m11 206 rfl) rfl
theorem q2761 : (Jvm.Cond.instanceMethod ({ cls := "WhistlePosts", name := "give", desc := "(II)I" } : Jvm.MethodName)) ∈ lw_all := lw_g (lw_at lw_m11 211 rfl) rfl
theorem q2762 : (Jvm.Cond.selects "WhistlePosts" ({ cls := "WhistlePosts", name := "give", desc := "(II)I" } : Jvm.MethodName) ({ cls := "WhistlePosts", name := "give", desc := "(II)I" } : Jvm.MethodName)) ∈ lw_all := lw_g (lw_at lw_m11 212 rfl) rfl
theorem q2763 : (Jvm.Cond.code ({ cls := "WhistlePosts", name := "give", desc := "(II)I" } : Jvm.MethodName) prog_1_method_55_code (4 : Nat) (Option.some Jvm.ClassFile.FieldType.int)) ∈ lw_all := lw_g (lw_at lw_m11 213 rfl) rfl
theorem q2764 : (Jvm.Cond.constantLong "WhistlePosts" (447 : Nat) (99 : Int64)) ∈ lw_all := lw_g (lw_at lw_m11 214 rfl) rfl
theorem q2765 : (Jvm.Cond.static ({ cls := "WhistlePosts", name := "lambda$give$6", desc := "(IILWhistlePosts$World;)I" } : Jvm.MethodName)) ∈ lw_all := lw_g (lw_at lw_m11 215 rfl) rfl
theorem q2766 : (Jvm.Cond.code ({ cls := "WhistlePosts", name := "lambda$give$6", desc := "(IILWhistlePosts$World;)I" } : Jvm.MethodName) prog_1_method_66_code (3 : Nat) (Option.some Jvm.ClassFile.FieldType.int)) ∈ lw_all := lw_g (lw_at lw_m11 216 rfl) rfl
theorem q2767 : (Jvm.Cond.methodLink "WhistlePosts" (492 : Nat) ({ cls := "WhistlePosts$World", name := "gives", desc := "(II)I" } : Jvm.MethodName)) ∈ lw_all := lw_g (lw_at lw_m11 217 rfl) rfl
theorem q2772 : (Jvm.Cond.instanceMethod ({ cls := "WhistlePosts", name := "cut", desc := "(II)I" } : Jvm.MethodName)) ∈ lw_all := lw_g (lw_at lw_m11 222 rfl) rfl
theorem q2773 : (Jvm.Cond.selects "WhistlePosts" ({ cls := "WhistlePosts", name := "cut", desc := "(II)I" } : Jvm.MethodName) ({ cls := "WhistlePosts", name := "cut", desc := "(II)I" } : Jvm.MethodName)) ∈ lw_all := lw_g (lw_at lw_m11 223 rfl) rfl
theorem q2774 : (Jvm.Cond.code ({ cls := "WhistlePosts", name := "cut", desc := "(II)I" } : Jvm.MethodName) prog_1_method_56_code (5 : Nat) (Option.some Jvm.ClassFile.FieldType.int)) ∈ lw_all := lw_g (lw_at lw_m11 224 rfl) rfl
theorem q2775 : (Jvm.Cond.static ({ cls := "WhistlePosts", name := "lambda$cut$7", desc := "(IILWhistlePosts$World;)I" } : Jvm.MethodName)) ∈ lw_all := lw_g (lw_at lw_m11 225 rfl) rfl
theorem q2776 : (Jvm.Cond.code ({ cls := "WhistlePosts", name := "lambda$cut$7", desc := "(IILWhistlePosts$World;)I" } : Jvm.MethodName) prog_1_method_65_code (3 : Nat) (Option.some Jvm.ClassFile.FieldType.int)) ∈ lw_all := lw_g (lw_at lw_m11 226 rfl) rfl
theorem q2777 : (Jvm.Cond.methodLink "WhistlePosts" (489 : Nat) ({ cls := "WhistlePosts$World", name := "cuts", desc := "(II)I" } : Jvm.MethodName)) ∈ lw_all := lw_g (lw_at lw_m11 227 rfl) rfl
theorem q2782 : (Jvm.Cond.instanceMethod ({ cls := "WhistlePosts", name := "set", desc := "(II)I" } : Jvm.MethodName)) ∈ lw_all := lw_g (lw_at lw_m11 232 rfl) rfl
theorem q2783 : (Jvm.Cond.selects "WhistlePosts" ({ cls := "WhistlePosts", name := "set", desc := "(II)I" } : Jvm.MethodName) ({ cls := "WhistlePosts", name := "set", desc := "(II)I" } : Jvm.MethodName)) ∈ lw_all := lw_g (lw_at lw_m11 233 rfl) rfl
theorem q2784 : (Jvm.Cond.code ({ cls := "WhistlePosts", name := "set", desc := "(II)I" } : Jvm.MethodName) prog_1_method_57_code (4 : Nat) (Option.some Jvm.ClassFile.FieldType.int)) ∈ lw_all := lw_g (lw_at lw_m11 234 rfl) rfl
theorem q2785 : (Jvm.Cond.fieldLink "WhistlePosts" (453 : Nat) "WhistlePosts" "LEAST" "[I") ∈ lw_all := lw_g (lw_at lw_m11 235 rfl) rfl
theorem q2786 : (Jvm.Cond.fieldLink "WhistlePosts" (456 : Nat) "WhistlePosts" "MOST" "[I") ∈ lw_all := lw_g (lw_at lw_m11 236 rfl) rfl
theorem q2787 : (Jvm.Cond.static ({ cls := "WhistlePosts", name := "lambda$set$8", desc := "(IILWhistlePosts$World;)I" } : Jvm.MethodName)) ∈ lw_all := lw_g (lw_at lw_m11 237 rfl) rfl
theorem q2788 : (Jvm.Cond.code ({ cls := "WhistlePosts", name := "lambda$set$8", desc := "(IILWhistlePosts$World;)I" } : Jvm.MethodName) prog_1_method_64_code (3 : Nat) (Option.some Jvm.ClassFile.FieldType.int)) ∈ lw_all := lw_g (lw_at lw_m11 238 rfl) rfl
theorem q2789 : (Jvm.Cond.methodLink "WhistlePosts" (486 : Nat) ({ cls := "WhistlePosts$World", name := "sets", desc := "(II)I" } : Jvm.MethodName)) ∈ lw_all := lw_g (lw_at lw_m11 239 rfl) rfl
theorem q2795 : (Jvm.Cond.instanceMethod ({ cls := "WhistlePosts", name := "undo", desc := "()I" } : Jvm.MethodName)) ∈ lw_all := lw_g (lw_at lw_m12 5 rfl) rfl
theorem q2796 : (Jvm.Cond.selects "WhistlePosts" ({ cls := "WhistlePosts", name := "undo", desc := "()I" } : Jvm.MethodName) ({ cls := "WhistlePosts", name := "undo", desc := "()I" } : Jvm.MethodName)) ∈ lw_all := lw_g (lw_at lw_m12 6 rfl) rfl
theorem q2797 : (Jvm.Cond.code ({ cls := "WhistlePosts", name := "undo", desc := "()I" } : Jvm.MethodName) prog_1_method_58_code (1 : Nat) (Option.some Jvm.ClassFile.FieldType.int)) ∈ lw_all := lw_g (lw_at lw_m12 7 rfl) rfl
theorem q2798 : (Jvm.Cond.methodLink "WhistlePosts" (460 : Nat) ({ cls := "java/util/ArrayDeque", name := "isEmpty", desc := "()Z" } : Jvm.MethodName)) ∈ lw_all := lw_g (lw_at lw_m12 8 rfl) rfl
theorem q2802 : (Jvm.Cond.methodLink "WhistlePosts" (463 : Nat) ({ cls := "WhistlePosts", name := "needElement", desc := "(Z)V" } : Jvm.MethodName)) ∈ lw_all := lw_g (lw_at lw_m12 12 rfl) rfl
theorem q2803 : (Jvm.Cond.static ({ cls := "WhistlePosts", name := "needElement", desc := "(Z)V" } : Jvm.MethodName)) ∈ lw_all := lw_g (lw_at lw_m12 13 rfl) rfl
theorem q2804 : (Jvm.Cond.code ({ cls := "WhistlePosts", name := "needElement", desc := "(Z)V" } : Jvm.MethodName) prog_1_method_6_code (1 : Nat) (Option.none : Option Jvm.ClassFile.FieldType)) ∈ lw_all := lw_g (lw_at lw_m12 14 rfl) rfl
theorem q2805 : (Jvm.Cond.classLink "WhistlePosts" (13 : Nat) "java/util/NoSuchElementException") ∈ lw_all := lw_g (lw_at lw_m12 15 rfl) rfl
theorem q2806 : (Jvm.Cond.methodLink "WhistlePosts" (15 : Nat) ({ cls := "java/util/NoSuchElementException", name := "<init>", desc := "()V" } : Jvm.MethodName)) ∈ lw_all := lw_g (lw_at lw_m12 16 rfl) rfl
theorem q2807 : (Jvm.Cond.methodLink "WhistlePosts" (466 : Nat) ({ cls := "java/util/ArrayDeque", name := "removeLast", desc := "()Ljava/lang/Object;" } : Jvm.MethodName)) ∈ lw_all := lw_g (lw_at lw_m12 17 rfl) rfl
theorem q2822 : (Jvm.Cond.instanceMethod ({ cls := "WhistlePosts", name := "printTune", desc := "(I)I" } : Jvm.MethodName)) ∈ lw_all := lw_g (lw_at lw_m12 32 rfl) rfl
theorem q2823 : (Jvm.Cond.selects "WhistlePosts" ({ cls := "WhistlePosts", name := "printTune", desc := "(I)I" } : Jvm.MethodName) ({ cls := "WhistlePosts", name := "printTune", desc := "(I)I" } : Jvm.MethodName)) ∈ lw_all := lw_g (lw_at lw_m12 33 rfl) rfl
theorem q2824 : (Jvm.Cond.code ({ cls := "WhistlePosts", name := "printTune", desc := "(I)I" } : Jvm.MethodName) prog_1_method_60_code (4 : Nat) (Option.some Jvm.ClassFile.FieldType.int)) ∈ lw_all := lw_g (lw_at lw_m12 34 rfl) rfl
theorem q2829 : (Jvm.Cond.instanceMethod ({ cls := "WhistlePosts", name := "restoreState", desc := "()I" } : Jvm.MethodName)) ∈ lw_all := lw_g (lw_at lw_m12 39 rfl) rfl
theorem q2830 : (Jvm.Cond.selects "WhistlePosts" ({ cls := "WhistlePosts", name := "restoreState", desc := "()I" } : Jvm.MethodName) ({ cls := "WhistlePosts", name := "restoreState", desc := "()I" } : Jvm.MethodName)) ∈ lw_all := lw_g (lw_at lw_m12 40 rfl) rfl
theorem q2831 : (Jvm.Cond.code ({ cls := "WhistlePosts", name := "restoreState", desc := "()I" } : Jvm.MethodName) prog_1_method_63_code (1 : Nat) (Option.some Jvm.ClassFile.FieldType.int)) ∈ lw_all := lw_g (lw_at lw_m12 41 rfl) rfl
theorem q3491 : (Jvm.Cond.castable "WhistlePosts" "java/lang/Object") ∈ lw_tbl := lw_at lw_m14 221 rfl
theorem in_X1 : ∀ w ∈ wsX10, w ∈ lw_all := lw_in wsX10 [837, 839, 841, 843, 845, 847, 849, 851] (by decide +kernel) (by decide +kernel)

def RX10 : String := "WhistlePosts$Stop"
def TX10 : u_T := fun k => match k with
  | 0 => ("WhistlePosts$Stop", "roof", "I", true)
  | _ => ("WhistlePosts$Stop", "far", "I", true)
def tyX10 : Nat → FieldType := fun k => match k with
  | 0 => .int
  | _ => .int
abbrev wsX100 : List Cond := u_ws RX10 TX10 2
theorem nmX10 : ∀ a, a < 2 → ∀ b, b < 2 → a ≠ b → (TX10 a).2.1 ≠ (TX10 b).2.1 := by decide +kernel
theorem tyX10_ok : ∀ k, k < 2 → parseFieldDescriptor (TX10 k).2.2.1 = some (tyX10 k) := by decide +kernel
abbrev cX10_init : ByteArray := prog_8_method_1_code
def yX10_init : MethodName := ⟨RX10, "<init>", "(II)V"⟩
def dkwX10_init_0 : List UInt8 := [42, 183, 0, 1, 42, 27, 181, 0, 7, 42, 28, 181, 0, 13, 177]
abbrev dktX10_init_0 : List UInt8 := dkwX10_init_0 ++ []
theorem dksX10_init_0 : cX10_init.data.toList.drop 0 = dktX10_init_0 := by decide +kernel
theorem dX10_init_0 : decode cX10_init 0 = .ok (.aload_n 0, 1) := dk_42 (dk_at dksX10_init_0 0 rfl rfl)
theorem dX10_init_1 : decode cX10_init 1 = .ok (.invokespecial 1, 3) := dk_183 0 1 (dk_at dksX10_init_0 1 rfl rfl)
theorem dX10_init_4 : decode cX10_init 4 = .ok (.aload_n 0, 1) := dk_42 (dk_at dksX10_init_0 4 rfl rfl)
theorem dX10_init_5 : decode cX10_init 5 = .ok (.iload_n 1, 1) := dk_27 (dk_at dksX10_init_0 5 rfl rfl)
theorem dX10_init_6 : decode cX10_init 6 = .ok (.putfield 7, 3) := dk_181 0 7 (dk_at dksX10_init_0 6 rfl rfl)
theorem dX10_init_9 : decode cX10_init 9 = .ok (.aload_n 0, 1) := dk_42 (dk_at dksX10_init_0 9 rfl rfl)
theorem dX10_init_10 : decode cX10_init 10 = .ok (.iload_n 2, 1) := dk_28 (dk_at dksX10_init_0 10 rfl rfl)
theorem dX10_init_11 : decode cX10_init 11 = .ok (.putfield 13, 3) := dk_181 0 13 (dk_at dksX10_init_0 11 rfl rfl)
theorem dX10_init_14 : decode cX10_init 14 = .ok (.return_, 1) := dk_177 (dk_at dksX10_init_0 14 rfl rfl)
abbrev cX10_far : ByteArray := prog_8_method_6_code
def yX10_far : MethodName := ⟨RX10, "far", "()I"⟩
theorem dX10_far_0 : decode cX10_far 0 = .ok (.aload_n 0, 1) := by decide +kernel
theorem dX10_far_1 : decode cX10_far 1 = .ok (.getfield 13, 3) := by decide +kernel
theorem dX10_far_4 : decode cX10_far 4 = .ok (.ireturn, 1) := by decide +kernel
abbrev cX10_roof : ByteArray := prog_8_method_5_code
def yX10_roof : MethodName := ⟨RX10, "roof", "()I"⟩
theorem dX10_roof_0 : decode cX10_roof 0 = .ok (.aload_n 0, 1) := by decide +kernel
theorem dX10_roof_1 : decode cX10_roof 1 = .ok (.getfield 7, 3) := by decide +kernel
theorem dX10_roof_4 : decode cX10_roof 4 = .ok (.ireturn, 1) := by decide +kernel
theorem q196 : (Jvm.Cond.initialized "WhistlePosts$Stop") ∈ lw_all := lw_g (lw_at lw_m1 46 rfl) rfl
theorem q715 : (Jvm.Cond.selects "WhistlePosts$Stop" ({ cls := "java/lang/Object", name := "getClass", desc := "()Ljava/lang/Class;" } : Jvm.MethodName) ({ cls := "java/lang/Object", name := "getClass", desc := "()Ljava/lang/Class;" } : Jvm.MethodName)) ∈ lw_all := lw_g (lw_at lw_m3 85 rfl) rfl
theorem q1764 : (Jvm.Cond.instantiable "WhistlePosts$Stop" (2 : Nat)) ∈ lw_all := lw_g (lw_at lw_m7 174 rfl) rfl
theorem q1766 : (Jvm.Cond.instanceMethod ({ cls := "WhistlePosts$Stop", name := "<init>", desc := "(II)V" } : Jvm.MethodName)) ∈ lw_all := lw_g (lw_at lw_m7 176 rfl) rfl
theorem q1767 : (Jvm.Cond.code ({ cls := "WhistlePosts$Stop", name := "<init>", desc := "(II)V" } : Jvm.MethodName) prog_8_method_1_code (3 : Nat) (Option.none : Option Jvm.ClassFile.FieldType)) ∈ lw_all := lw_g (lw_at lw_m7 177 rfl) rfl
theorem q1768 : (Jvm.Cond.methodLink "WhistlePosts$Stop" (1 : Nat) ({ cls := "java/lang/Record", name := "<init>", desc := "()V" } : Jvm.MethodName)) ∈ lw_all := lw_g (lw_at lw_m7 178 rfl) rfl
theorem q1769 : (Jvm.Cond.fieldLink "WhistlePosts$Stop" (7 : Nat) "WhistlePosts$Stop" "roof" "I") ∈ lw_all := lw_g (lw_at lw_m7 179 rfl) rfl
theorem q1770 : (Jvm.Cond.fieldLink "WhistlePosts$Stop" (13 : Nat) "WhistlePosts$Stop" "far" "I") ∈ lw_all := lw_g (lw_at lw_m7 180 rfl) rfl
theorem q1771 : (Jvm.Cond.laysFinal "WhistlePosts$Stop" "WhistlePosts$Stop" "roof" "I") ∈ lw_all := lw_g (lw_at lw_m7 181 rfl) rfl
theorem q1772 : (Jvm.Cond.soleField "WhistlePosts$Stop" "roof") ∈ lw_all := lw_g (lw_at lw_m7 182 rfl) rfl
theorem q1773 : (Jvm.Cond.laysFinal "WhistlePosts$Stop" "WhistlePosts$Stop" "far" "I") ∈ lw_all := lw_g (lw_at lw_m7 183 rfl) rfl
theorem q1774 : (Jvm.Cond.soleField "WhistlePosts$Stop" "far") ∈ lw_all := lw_g (lw_at lw_m7 184 rfl) rfl
theorem q1775 : (Jvm.Cond.superclass "WhistlePosts$Stop" "java/lang/Record") ∈ lw_all := lw_g (lw_at lw_m7 185 rfl) rfl
theorem q1829 : (Jvm.Cond.instanceMethod ({ cls := "WhistlePosts$Stop", name := "far", desc := "()I" } : Jvm.MethodName)) ∈ lw_all := lw_g (lw_at lw_m7 239 rfl) rfl
theorem q1830 : (Jvm.Cond.selects "WhistlePosts$Stop" ({ cls := "WhistlePosts$Stop", name := "far", desc := "()I" } : Jvm.MethodName) ({ cls := "WhistlePosts$Stop", name := "far", desc := "()I" } : Jvm.MethodName)) ∈ lw_all := lw_g (lw_at lw_m8 0 rfl) rfl
theorem q1831 : (Jvm.Cond.code ({ cls := "WhistlePosts$Stop", name := "far", desc := "()I" } : Jvm.MethodName) prog_8_method_6_code (1 : Nat) (Option.some Jvm.ClassFile.FieldType.int)) ∈ lw_all := lw_g (lw_at lw_m8 1 rfl) rfl
theorem q1836 : (Jvm.Cond.instanceMethod ({ cls := "WhistlePosts$Stop", name := "roof", desc := "()I" } : Jvm.MethodName)) ∈ lw_all := lw_g (lw_at lw_m8 6 rfl) rfl
theorem q1837 : (Jvm.Cond.selects "WhistlePosts$Stop" ({ cls := "WhistlePosts$Stop", name := "roof", desc := "()I" } : Jvm.MethodName) ({ cls := "WhistlePosts$Stop", name := "roof", desc := "()I" } : Jvm.MethodName)) ∈ lw_all := lw_g (lw_at lw_m8 7 rfl) rfl
theorem q1838 : (Jvm.Cond.code ({ cls := "WhistlePosts$Stop", name := "roof", desc := "()I" } : Jvm.MethodName) prog_8_method_5_code (1 : Nat) (Option.some Jvm.ClassFile.FieldType.int)) ∈ lw_all := lw_g (lw_at lw_m8 8 rfl) rfl
theorem q3516 : (Jvm.Cond.castable "WhistlePosts$Stop" "java/lang/Object") ∈ lw_tbl := lw_at lw_m15 6 rfl
theorem in_X10 : ∀ w ∈ wsX100, w ∈ lw_all := lw_in wsX100 [1771, 1773] (by decide +kernel) (by decide +kernel)

def RX11 : String := "WhistlePosts$Dearer"
abbrev cX11_compare : ByteArray := prog_2_method_3_code
def yX11_compare : MethodName := ⟨RX11, "compare", "(Ljava/lang/Object;Ljava/lang/Object;)I"⟩
def dkwX11_compare_0 : List UInt8 := [42, 43, 192, 0, 10, 44, 192, 0, 10, 182, 0, 15, 172]
abbrev dktX11_compare_0 : List UInt8 := dkwX11_compare_0 ++ []
theorem dksX11_compare_0 : cX11_compare.data.toList.drop 0 = dktX11_compare_0 := by decide +kernel
theorem dX11_compare_0 : decode cX11_compare 0 = .ok (.aload_n 0, 1) := dk_42 (dk_at dksX11_compare_0 0 rfl rfl)
theorem dX11_compare_1 : decode cX11_compare 1 = .ok (.aload_n 1, 1) := dk_43 (dk_at dksX11_compare_0 1 rfl rfl)
theorem dX11_compare_2 : decode cX11_compare 2 = .ok (.checkcast 10, 3) := dk_192 0 10 (dk_at dksX11_compare_0 2 rfl rfl)
theorem dX11_compare_5 : decode cX11_compare 5 = .ok (.aload_n 2, 1) := dk_44 (dk_at dksX11_compare_0 5 rfl rfl)
theorem dX11_compare_6 : decode cX11_compare 6 = .ok (.checkcast 10, 3) := dk_192 0 10 (dk_at dksX11_compare_0 6 rfl rfl)
theorem dX11_compare_9 : decode cX11_compare 9 = .ok (.invokevirtual 15, 3) := dk_182 0 15 (dk_at dksX11_compare_0 9 rfl rfl)
theorem dX11_compare_12 : decode cX11_compare 12 = .ok (.ireturn, 1) := dk_172 (dk_at dksX11_compare_0 12 rfl rfl)
abbrev cX11_compare_2 : ByteArray := prog_2_method_2_code
def yX11_compare_2 : MethodName := ⟨RX11, "compare", "(LWhistlePosts$Tune;LWhistlePosts$Tune;)I"⟩
def dkwX11_compare_2_0 : List UInt8 := [43, 44, 166, 0, 7, 3, 167, 0, 16, 43, 44, 182, 0, 9, 153, 0, 7, 2, 167, 0, 4, 4, 172]
abbrev dktX11_compare_2_0 : List UInt8 := dkwX11_compare_2_0 ++ []
theorem dksX11_compare_2_0 : cX11_compare_2.data.toList.drop 0 = dktX11_compare_2_0 := by decide +kernel
theorem dX11_compare_2_0 : decode cX11_compare_2 0 = .ok (.aload_n 1, 1) := dk_43 (dk_at dksX11_compare_2_0 0 rfl rfl)
theorem dX11_compare_2_1 : decode cX11_compare_2 1 = .ok (.aload_n 2, 1) := dk_44 (dk_at dksX11_compare_2_0 1 rfl rfl)
theorem dX11_compare_2_2 : decode cX11_compare_2 2 = .ok (.if_acmp .ne 7, 3) := dk_166 0 7 (dk_at dksX11_compare_2_0 2 rfl rfl)
theorem dX11_compare_2_5 : decode cX11_compare_2 5 = .ok (.iconst 0, 1) := dk_3 (dk_at dksX11_compare_2_0 5 rfl rfl)
theorem dX11_compare_2_6 : decode cX11_compare_2 6 = .ok (.goto 16, 3) := dk_167 0 16 (dk_at dksX11_compare_2_0 6 rfl rfl)
theorem dX11_compare_2_9 : decode cX11_compare_2 9 = .ok (.aload_n 1, 1) := dk_43 (dk_at dksX11_compare_2_0 9 rfl rfl)
theorem dX11_compare_2_10 : decode cX11_compare_2 10 = .ok (.aload_n 2, 1) := dk_44 (dk_at dksX11_compare_2_0 10 rfl rfl)
theorem dX11_compare_2_11 : decode cX11_compare_2 11 = .ok (.invokevirtual 9, 3) := dk_182 0 9 (dk_at dksX11_compare_2_0 11 rfl rfl)
theorem dX11_compare_2_14 : decode cX11_compare_2 14 = .ok (.ifCond .eq 7, 3) := dk_153 0 7 (dk_at dksX11_compare_2_0 14 rfl rfl)
theorem dX11_compare_2_17 : decode cX11_compare_2 17 = .ok (.iconst (-1), 1) := dk_2 (dk_at dksX11_compare_2_0 17 rfl rfl)
theorem dX11_compare_2_18 : decode cX11_compare_2 18 = .ok (.goto 4, 3) := dk_167 0 4 (dk_at dksX11_compare_2_0 18 rfl rfl)
theorem dX11_compare_2_21 : decode cX11_compare_2 21 = .ok (.iconst 1, 1) := dk_4 (dk_at dksX11_compare_2_0 21 rfl rfl)
theorem dX11_compare_2_22 : decode cX11_compare_2 22 = .ok (.ireturn, 1) := dk_172 (dk_at dksX11_compare_2_0 22 rfl rfl)
abbrev cX11_init : ByteArray := prog_2_method_1_code
def yX11_init : MethodName := ⟨RX11, "<init>", "()V"⟩
theorem dX11_init_0 : decode cX11_init 0 = .ok (.aload_n 0, 1) := by decide +kernel
theorem dX11_init_1 : decode cX11_init 1 = .ok (.invokespecial 3, 3) := by decide +kernel
theorem dX11_init_4 : decode cX11_init 4 = .ok (.return_, 1) := by decide +kernel
theorem q202 : (Jvm.Cond.initialized "WhistlePosts$Dearer") ∈ lw_all := lw_g (lw_at lw_m1 52 rfl) rfl
theorem q711 : (Jvm.Cond.selects "WhistlePosts$Dearer" ({ cls := "java/lang/Object", name := "getClass", desc := "()Ljava/lang/Class;" } : Jvm.MethodName) ({ cls := "java/lang/Object", name := "getClass", desc := "()Ljava/lang/Class;" } : Jvm.MethodName)) ∈ lw_all := lw_g (lw_at lw_m3 81 rfl) rfl
theorem q1801 : (Jvm.Cond.castable "WhistlePosts$Dearer" "java/util/Comparator") ∈ lw_tbl := lw_at lw_m7 211 rfl
theorem q1802 : (Jvm.Cond.selects "WhistlePosts$Dearer" ({ cls := "java/util/Comparator", name := "compare", desc := "(Ljava/lang/Object;Ljava/lang/Object;)I" } : Jvm.MethodName) ({ cls := "WhistlePosts$Dearer", name := "compare", desc := "(Ljava/lang/Object;Ljava/lang/Object;)I" } : Jvm.MethodName)) ∈ lw_all := lw_g (lw_at lw_m7 212 rfl) rfl
theorem q1803 : (Jvm.Cond.unhidden "WhistlePosts$Dearer" "compare" "(Ljava/lang/Object;Ljava/lang/Object;)I") ∈ lw_tbl := lw_at lw_m7 213 rfl
theorem q1804 : (Jvm.Cond.instanceMethod ({ cls := "WhistlePosts$Dearer", name := "compare", desc := "(Ljava/lang/Object;Ljava/lang/Object;)I" } : Jvm.MethodName)) ∈ lw_all := lw_g (lw_at lw_m7 214 rfl) rfl
theorem q1805 : (Jvm.Cond.publicMethod ({ cls := "WhistlePosts$Dearer", name := "compare", desc := "(Ljava/lang/Object;Ljava/lang/Object;)I" } : Jvm.MethodName)) ∈ lw_tbl := lw_at lw_m7 215 rfl
theorem q1806 : (Jvm.Cond.code ({ cls := "WhistlePosts$Dearer", name := "compare", desc := "(Ljava/lang/Object;Ljava/lang/Object;)I" } : Jvm.MethodName) prog_2_method_3_code (3 : Nat) (Option.some Jvm.ClassFile.FieldType.int)) ∈ lw_all := lw_g (lw_at lw_m7 216 rfl) rfl
theorem q1807 : (Jvm.Cond.classLink "WhistlePosts$Dearer" (10 : Nat) "WhistlePosts$Tune") ∈ lw_all := lw_g (lw_at lw_m7 217 rfl) rfl
theorem q1808 : (Jvm.Cond.methodLink "WhistlePosts$Dearer" (15 : Nat) ({ cls := "WhistlePosts$Dearer", name := "compare", desc := "(LWhistlePosts$Tune;LWhistlePosts$Tune;)I" } : Jvm.MethodName)) ∈ lw_all := lw_g (lw_at lw_m7 218 rfl) rfl
theorem q1809 : (Jvm.Cond.instanceMethod ({ cls := "WhistlePosts$Dearer", name := "compare", desc := "(LWhistlePosts$Tune;LWhistlePosts$Tune;)I" } : Jvm.MethodName)) ∈ lw_all := lw_g (lw_at lw_m7 219 rfl) rfl
theorem q1810 : (Jvm.Cond.selects "WhistlePosts$Dearer" ({ cls := "WhistlePosts$Dearer", name := "compare", desc := "(LWhistlePosts$Tune;LWhistlePosts$Tune;)I" } : Jvm.MethodName) ({ cls := "WhistlePosts$Dearer", name := "compare", desc := "(LWhistlePosts$Tune;LWhistlePosts$Tune;)I" } : Jvm.MethodName)) ∈ lw_all := lw_g (lw_at lw_m7 220 rfl) rfl
theorem q1811 : (Jvm.Cond.code ({ cls := "WhistlePosts$Dearer", name := "compare", desc := "(LWhistlePosts$Tune;LWhistlePosts$Tune;)I" } : Jvm.MethodName) prog_2_method_2_code (3 : Nat) (Option.some Jvm.ClassFile.FieldType.int)) ∈ lw_all := lw_g (lw_at lw_m7 221 rfl) rfl
theorem q1812 : (Jvm.Cond.methodLink "WhistlePosts$Dearer" (9 : Nat) ({ cls := "WhistlePosts$Tune", name := "isDearer", desc := "(LWhistlePosts$Tune;)Z" } : Jvm.MethodName)) ∈ lw_all := lw_g (lw_at lw_m7 222 rfl) rfl
theorem q2633 : (Jvm.Cond.instantiable "WhistlePosts$Dearer" (0 : Nat)) ∈ lw_all := lw_g (lw_at lw_m11 83 rfl) rfl
theorem q2635 : (Jvm.Cond.instanceMethod ({ cls := "WhistlePosts$Dearer", name := "<init>", desc := "()V" } : Jvm.MethodName)) ∈ lw_all := lw_g (lw_at lw_m11 85 rfl) rfl
theorem q2636 : (Jvm.Cond.code ({ cls := "WhistlePosts$Dearer", name := "<init>", desc := "()V" } : Jvm.MethodName) prog_2_method_1_code (1 : Nat) (Option.none : Option Jvm.ClassFile.FieldType)) ∈ lw_all := lw_g (lw_at lw_m11 86 rfl) rfl
theorem q2637 : (Jvm.Cond.methodLink "WhistlePosts$Dearer" (3 : Nat) ({ cls := "java/lang/Object", name := "<init>", desc := "()V" } : Jvm.MethodName)) ∈ lw_all := lw_g (lw_at lw_m11 87 rfl) rfl
theorem q2638 : (Jvm.Cond.superclass "WhistlePosts$Dearer" "java/lang/Object") ∈ lw_all := lw_g (lw_at lw_m11 88 rfl) rfl
theorem q3521 : (Jvm.Cond.castable "WhistlePosts$Dearer" "java/lang/Object") ∈ lw_tbl := lw_at lw_m15 11 rfl

def RX2 : String := "WhistlePosts$World"
def TX2 : u_T := fun k => match k with
  | 0 => ("WhistlePosts$World", "roofs", "Ljava/util/List;", true)
  | 1 => ("WhistlePosts$World", "ways", "Ljava/util/LinkedList;", true)
  | 2 => ("WhistlePosts$World", "tunes", "Ljava/util/List;", true)
  | 3 => ("WhistlePosts$World", "set", "[I", true)
  | 4 => ("WhistlePosts$World", "accounts", "[I", true)
  | 5 => ("WhistlePosts$World", "time", "I", false)
  | 6 => ("WhistlePosts$World", "coins", "I", false)
  | _ => ("WhistlePosts$World", "routes", "[I", false)
def tyX2 : Nat → FieldType := fun k => match k with
  | 0 => .object "java/util/List"
  | 1 => .object "java/util/LinkedList"
  | 2 => .object "java/util/List"
  | 3 => .array .int
  | 4 => .array .int
  | 5 => .int
  | 6 => .int
  | _ => .array .int
abbrev wsX20 : List Cond := u_ws RX2 TX2 8
theorem nmX2 : ∀ a, a < 8 → ∀ b, b < 8 → a ≠ b → (TX2 a).2.1 ≠ (TX2 b).2.1 := by decide +kernel
theorem tyX2_ok : ∀ k, k < 8 → parseFieldDescriptor (TX2 k).2.2.1 = some (tyX2 k) := by decide +kernel
abbrev cX2_init : ByteArray := prog_13_method_1_code
def yX2_init : MethodName := ⟨RX2, "<init>", "()V"⟩
def dkwX2_init_2 : List UInt8 := [3, 6, 79, 89, 4, 16, 50, 79, 89, 5, 4, 79, 181, 0, 30, 42, 16, 11, 188, 10, 181, 0, 34, 177]
abbrev dktX2_init_2 : List UInt8 := dkwX2_init_2 ++ []
def dkwX2_init_1 : List UInt8 := [183, 0, 22, 181, 0, 23, 42, 187, 0, 9, 89, 16, 30, 183, 0, 11, 181, 0, 27, 42, 6, 188, 10, 89]
abbrev dktX2_init_1 : List UInt8 := dkwX2_init_1 ++ dktX2_init_2
def dkwX2_init_0 : List UInt8 := [42, 183, 0, 3, 42, 187, 0, 9, 89, 16, 10, 183, 0, 11, 181, 0, 14, 42, 187, 0, 20, 89]
abbrev dktX2_init_0 : List UInt8 := dkwX2_init_0 ++ dktX2_init_1
theorem dksX2_init_0 : cX2_init.data.toList.drop 0 = dktX2_init_0 := by decide +kernel
theorem dksX2_init_1 : cX2_init.data.toList.drop 22 = dktX2_init_1 := dk_seg dksX2_init_0 22 rfl rfl
theorem dksX2_init_2 : cX2_init.data.toList.drop 46 = dktX2_init_2 := dk_seg dksX2_init_1 24 rfl rfl
theorem dX2_init_0 : decode cX2_init 0 = .ok (.aload_n 0, 1) := dk_42 (dk_at dksX2_init_0 0 rfl rfl)
theorem dX2_init_1 : decode cX2_init 1 = .ok (.invokespecial 3, 3) := dk_183 0 3 (dk_at dksX2_init_0 1 rfl rfl)
theorem dX2_init_4 : decode cX2_init 4 = .ok (.aload_n 0, 1) := dk_42 (dk_at dksX2_init_0 4 rfl rfl)
theorem dX2_init_5 : decode cX2_init 5 = .ok (.new 9, 3) := dk_187 0 9 (dk_at dksX2_init_0 5 rfl rfl)
theorem dX2_init_8 : decode cX2_init 8 = .ok (.dup, 1) := dk_89 (dk_at dksX2_init_0 8 rfl rfl)
theorem dX2_init_9 : decode cX2_init 9 = .ok (.bipush 10, 2) := dk_16 10 (dk_at dksX2_init_0 9 rfl rfl)
theorem dX2_init_11 : decode cX2_init 11 = .ok (.invokespecial 11, 3) := dk_183 0 11 (dk_at dksX2_init_0 11 rfl rfl)
theorem dX2_init_14 : decode cX2_init 14 = .ok (.putfield 14, 3) := dk_181 0 14 (dk_at dksX2_init_0 14 rfl rfl)
theorem dX2_init_17 : decode cX2_init 17 = .ok (.aload_n 0, 1) := dk_42 (dk_at dksX2_init_0 17 rfl rfl)
theorem dX2_init_18 : decode cX2_init 18 = .ok (.new 20, 3) := dk_187 0 20 (dk_at dksX2_init_0 18 rfl rfl)
theorem dX2_init_21 : decode cX2_init 21 = .ok (.dup, 1) := dk_89 (dk_at dksX2_init_0 21 rfl rfl)
theorem dX2_init_22 : decode cX2_init 22 = .ok (.invokespecial 22, 3) := dk_183 0 22 (dk_at dksX2_init_1 0 rfl rfl)
theorem dX2_init_25 : decode cX2_init 25 = .ok (.putfield 23, 3) := dk_181 0 23 (dk_at dksX2_init_1 3 rfl rfl)
theorem dX2_init_28 : decode cX2_init 28 = .ok (.aload_n 0, 1) := dk_42 (dk_at dksX2_init_1 6 rfl rfl)
theorem dX2_init_29 : decode cX2_init 29 = .ok (.new 9, 3) := dk_187 0 9 (dk_at dksX2_init_1 7 rfl rfl)
theorem dX2_init_32 : decode cX2_init 32 = .ok (.dup, 1) := dk_89 (dk_at dksX2_init_1 10 rfl rfl)
theorem dX2_init_33 : decode cX2_init 33 = .ok (.bipush 30, 2) := dk_16 30 (dk_at dksX2_init_1 11 rfl rfl)
theorem dX2_init_35 : decode cX2_init 35 = .ok (.invokespecial 11, 3) := dk_183 0 11 (dk_at dksX2_init_1 13 rfl rfl)
theorem dX2_init_38 : decode cX2_init 38 = .ok (.putfield 27, 3) := dk_181 0 27 (dk_at dksX2_init_1 16 rfl rfl)
theorem dX2_init_41 : decode cX2_init 41 = .ok (.aload_n 0, 1) := dk_42 (dk_at dksX2_init_1 19 rfl rfl)
theorem dX2_init_42 : decode cX2_init 42 = .ok (.iconst 3, 1) := dk_6 (dk_at dksX2_init_1 20 rfl rfl)
theorem dX2_init_43 : decode cX2_init 43 = .ok (.newarray .int, 2) := dk_188_10 (dk_at dksX2_init_1 21 rfl rfl)
theorem dX2_init_45 : decode cX2_init 45 = .ok (.dup, 1) := dk_89 (dk_at dksX2_init_1 23 rfl rfl)
theorem dX2_init_46 : decode cX2_init 46 = .ok (.iconst 0, 1) := dk_3 (dk_at dksX2_init_2 0 rfl rfl)
theorem dX2_init_47 : decode cX2_init 47 = .ok (.iconst 3, 1) := dk_6 (dk_at dksX2_init_2 1 rfl rfl)
theorem dX2_init_48 : decode cX2_init 48 = .ok (.iastore, 1) := dk_79 (dk_at dksX2_init_2 2 rfl rfl)
theorem dX2_init_49 : decode cX2_init 49 = .ok (.dup, 1) := dk_89 (dk_at dksX2_init_2 3 rfl rfl)
theorem dX2_init_50 : decode cX2_init 50 = .ok (.iconst 1, 1) := dk_4 (dk_at dksX2_init_2 4 rfl rfl)
theorem dX2_init_51 : decode cX2_init 51 = .ok (.bipush 50, 2) := dk_16 50 (dk_at dksX2_init_2 5 rfl rfl)
theorem dX2_init_53 : decode cX2_init 53 = .ok (.iastore, 1) := dk_79 (dk_at dksX2_init_2 7 rfl rfl)
theorem dX2_init_54 : decode cX2_init 54 = .ok (.dup, 1) := dk_89 (dk_at dksX2_init_2 8 rfl rfl)
theorem dX2_init_55 : decode cX2_init 55 = .ok (.iconst 2, 1) := dk_5 (dk_at dksX2_init_2 9 rfl rfl)
theorem dX2_init_56 : decode cX2_init 56 = .ok (.iconst 1, 1) := dk_4 (dk_at dksX2_init_2 10 rfl rfl)
theorem dX2_init_57 : decode cX2_init 57 = .ok (.iastore, 1) := dk_79 (dk_at dksX2_init_2 11 rfl rfl)
theorem dX2_init_58 : decode cX2_init 58 = .ok (.putfield 30, 3) := dk_181 0 30 (dk_at dksX2_init_2 12 rfl rfl)
theorem dX2_init_61 : decode cX2_init 61 = .ok (.aload_n 0, 1) := dk_42 (dk_at dksX2_init_2 15 rfl rfl)
theorem dX2_init_62 : decode cX2_init 62 = .ok (.bipush 11, 2) := dk_16 11 (dk_at dksX2_init_2 16 rfl rfl)
theorem dX2_init_64 : decode cX2_init 64 = .ok (.newarray .int, 2) := dk_188_10 (dk_at dksX2_init_2 18 rfl rfl)
theorem dX2_init_66 : decode cX2_init 66 = .ok (.putfield 34, 3) := dk_181 0 34 (dk_at dksX2_init_2 20 rfl rfl)
theorem dX2_init_69 : decode cX2_init 69 = .ok (.return_, 1) := dk_177 (dk_at dksX2_init_2 23 rfl rfl)
abbrev cX2_adds : ByteArray := prog_13_method_6_code
def yX2_adds : MethodName := ⟨RX2, "adds", "(LWhistlePosts$Roof;)V"⟩
def dkwX2_adds_1 : List UInt8 := [177]
abbrev dktX2_adds_1 : List UInt8 := dkwX2_adds_1 ++ []
def dkwX2_adds_0 : List UInt8 := [42, 180, 0, 14, 43, 185, 0, 54, 2, 0, 87, 42, 89, 180, 0, 97, 43, 180, 0, 116, 96, 181, 0, 97]
abbrev dktX2_adds_0 : List UInt8 := dkwX2_adds_0 ++ dktX2_adds_1
theorem dksX2_adds_0 : cX2_adds.data.toList.drop 0 = dktX2_adds_0 := by decide +kernel
theorem dksX2_adds_1 : cX2_adds.data.toList.drop 24 = dktX2_adds_1 := dk_seg dksX2_adds_0 24 rfl rfl
theorem dX2_adds_0 : decode cX2_adds 0 = .ok (.aload_n 0, 1) := dk_42 (dk_at dksX2_adds_0 0 rfl rfl)
theorem dX2_adds_1 : decode cX2_adds 1 = .ok (.getfield 14, 3) := dk_180 0 14 (dk_at dksX2_adds_0 1 rfl rfl)
theorem dX2_adds_4 : decode cX2_adds 4 = .ok (.aload_n 1, 1) := dk_43 (dk_at dksX2_adds_0 4 rfl rfl)
theorem dX2_adds_5 : decode cX2_adds 5 = .ok (.invokeinterface 54 2, 5) := by decide +kernel
theorem dX2_adds_10 : decode cX2_adds 10 = .ok (.pop, 1) := dk_87 (dk_at dksX2_adds_0 10 rfl rfl)
theorem dX2_adds_11 : decode cX2_adds 11 = .ok (.aload_n 0, 1) := dk_42 (dk_at dksX2_adds_0 11 rfl rfl)
theorem dX2_adds_12 : decode cX2_adds 12 = .ok (.dup, 1) := dk_89 (dk_at dksX2_adds_0 12 rfl rfl)
theorem dX2_adds_13 : decode cX2_adds 13 = .ok (.getfield 97, 3) := dk_180 0 97 (dk_at dksX2_adds_0 13 rfl rfl)
theorem dX2_adds_16 : decode cX2_adds 16 = .ok (.aload_n 1, 1) := dk_43 (dk_at dksX2_adds_0 16 rfl rfl)
theorem dX2_adds_17 : decode cX2_adds 17 = .ok (.getfield 116, 3) := dk_180 0 116 (dk_at dksX2_adds_0 17 rfl rfl)
theorem dX2_adds_20 : decode cX2_adds 20 = .ok (.iadd, 1) := dk_96 (dk_at dksX2_adds_0 20 rfl rfl)
theorem dX2_adds_21 : decode cX2_adds 21 = .ok (.putfield 97, 3) := dk_181 0 97 (dk_at dksX2_adds_0 21 rfl rfl)
theorem dX2_adds_24 : decode cX2_adds 24 = .ok (.return_, 1) := dk_177 (dk_at dksX2_adds_1 0 rfl rfl)
abbrev cX2_named : ByteArray := prog_13_method_5_code
def yX2_named : MethodName := ⟨RX2, "named", "(Ljava/lang/String;)I"⟩
def dkwX2_named_1 : List UInt8 := [182, 0, 111, 153, 0, 5, 28, 172, 132, 2, 1, 167, 255, 223, 2, 172]
abbrev dktX2_named_1 : List UInt8 := dkwX2_named_1 ++ []
def dkwX2_named_0 : List UInt8 := [3, 61, 28, 42, 180, 0, 14, 185, 0, 38, 1, 0, 162, 0, 26, 42, 28, 182, 0, 44, 180, 0, 107, 43]
abbrev dktX2_named_0 : List UInt8 := dkwX2_named_0 ++ dktX2_named_1
theorem dksX2_named_0 : cX2_named.data.toList.drop 0 = dktX2_named_0 := by decide +kernel
theorem dksX2_named_1 : cX2_named.data.toList.drop 24 = dktX2_named_1 := dk_seg dksX2_named_0 24 rfl rfl
theorem dX2_named_0 : decode cX2_named 0 = .ok (.iconst 0, 1) := dk_3 (dk_at dksX2_named_0 0 rfl rfl)
theorem dX2_named_1 : decode cX2_named 1 = .ok (.istore_n 2, 1) := dk_61 (dk_at dksX2_named_0 1 rfl rfl)
theorem dX2_named_2 : decode cX2_named 2 = .ok (.iload_n 2, 1) := dk_28 (dk_at dksX2_named_0 2 rfl rfl)
theorem dX2_named_3 : decode cX2_named 3 = .ok (.aload_n 0, 1) := dk_42 (dk_at dksX2_named_0 3 rfl rfl)
theorem dX2_named_4 : decode cX2_named 4 = .ok (.getfield 14, 3) := dk_180 0 14 (dk_at dksX2_named_0 4 rfl rfl)
theorem dX2_named_7 : decode cX2_named 7 = .ok (.invokeinterface 38 1, 5) := by decide +kernel
theorem dX2_named_12 : decode cX2_named 12 = .ok (.if_icmp .ge 26, 3) := dk_162 0 26 (dk_at dksX2_named_0 12 rfl rfl)
theorem dX2_named_15 : decode cX2_named 15 = .ok (.aload_n 0, 1) := dk_42 (dk_at dksX2_named_0 15 rfl rfl)
theorem dX2_named_16 : decode cX2_named 16 = .ok (.iload_n 2, 1) := dk_28 (dk_at dksX2_named_0 16 rfl rfl)
theorem dX2_named_17 : decode cX2_named 17 = .ok (.invokevirtual 44, 3) := dk_182 0 44 (dk_at dksX2_named_0 17 rfl rfl)
theorem dX2_named_20 : decode cX2_named 20 = .ok (.getfield 107, 3) := dk_180 0 107 (dk_at dksX2_named_0 20 rfl rfl)
theorem dX2_named_23 : decode cX2_named 23 = .ok (.aload_n 1, 1) := dk_43 (dk_at dksX2_named_0 23 rfl rfl)
theorem dX2_named_24 : decode cX2_named 24 = .ok (.invokevirtual 111, 3) := dk_182 0 111 (dk_at dksX2_named_1 0 rfl rfl)
theorem dX2_named_27 : decode cX2_named 27 = .ok (.ifCond .eq 5, 3) := dk_153 0 5 (dk_at dksX2_named_1 3 rfl rfl)
theorem dX2_named_30 : decode cX2_named 30 = .ok (.iload_n 2, 1) := dk_28 (dk_at dksX2_named_1 6 rfl rfl)
theorem dX2_named_31 : decode cX2_named 31 = .ok (.ireturn, 1) := dk_172 (dk_at dksX2_named_1 7 rfl rfl)
theorem dX2_named_32 : decode cX2_named 32 = .ok (.iinc 2 1, 3) := dk_132 2 1 (dk_at dksX2_named_1 8 rfl rfl)
theorem dX2_named_35 : decode cX2_named 35 = .ok (.goto (-33), 3) := dk_167 255 223 (dk_at dksX2_named_1 11 rfl rfl)
theorem dX2_named_38 : decode cX2_named 38 = .ok (.iconst (-1), 1) := dk_2 (dk_at dksX2_named_1 14 rfl rfl)
theorem dX2_named_39 : decode cX2_named 39 = .ok (.ireturn, 1) := dk_172 (dk_at dksX2_named_1 15 rfl rfl)
abbrev cX2_roof : ByteArray := prog_13_method_3_code
def yX2_roof : MethodName := ⟨RX2, "roof", "(I)LWhistlePosts$Roof;"⟩
def dkwX2_roof_0 : List UInt8 := [42, 180, 0, 14, 27, 185, 0, 103, 2, 0, 192, 0, 49, 176]
abbrev dktX2_roof_0 : List UInt8 := dkwX2_roof_0 ++ []
theorem dksX2_roof_0 : cX2_roof.data.toList.drop 0 = dktX2_roof_0 := by decide +kernel
theorem dX2_roof_0 : decode cX2_roof 0 = .ok (.aload_n 0, 1) := dk_42 (dk_at dksX2_roof_0 0 rfl rfl)
theorem dX2_roof_1 : decode cX2_roof 1 = .ok (.getfield 14, 3) := dk_180 0 14 (dk_at dksX2_roof_0 1 rfl rfl)
theorem dX2_roof_4 : decode cX2_roof 4 = .ok (.iload_n 1, 1) := dk_27 (dk_at dksX2_roof_0 4 rfl rfl)
theorem dX2_roof_5 : decode cX2_roof 5 = .ok (.invokeinterface 103 2, 5) := by decide +kernel
theorem dX2_roof_10 : decode cX2_roof 10 = .ok (.checkcast 49, 3) := dk_192 0 49 (dk_at dksX2_roof_0 10 rfl rfl)
theorem dX2_roof_13 : decode cX2_roof 13 = .ok (.areturn, 1) := dk_176 (dk_at dksX2_roof_0 13 rfl rfl)
abbrev cX2_between : ByteArray := prog_13_method_7_code
def yX2_between : MethodName := ⟨RX2, "between", "(II)LWhistlePosts$Way;"⟩
def dkwX2_between_1 : List UInt8 := [192, 0, 72, 58, 4, 25, 4, 27, 28, 182, 0, 119, 153, 0, 6, 25, 4, 176, 167, 255, 223, 1, 176]
abbrev dktX2_between_1 : List UInt8 := dkwX2_between_1 ++ []
def dkwX2_between_0 : List UInt8 := [42, 180, 0, 23, 182, 0, 58, 78, 45, 185, 0, 62, 1, 0, 153, 0, 30, 45, 185, 0, 68, 1, 0]
abbrev dktX2_between_0 : List UInt8 := dkwX2_between_0 ++ dktX2_between_1
theorem dksX2_between_0 : cX2_between.data.toList.drop 0 = dktX2_between_0 := by decide +kernel
theorem dksX2_between_1 : cX2_between.data.toList.drop 23 = dktX2_between_1 := dk_seg dksX2_between_0 23 rfl rfl
theorem dX2_between_0 : decode cX2_between 0 = .ok (.aload_n 0, 1) := dk_42 (dk_at dksX2_between_0 0 rfl rfl)
theorem dX2_between_1 : decode cX2_between 1 = .ok (.getfield 23, 3) := dk_180 0 23 (dk_at dksX2_between_0 1 rfl rfl)
theorem dX2_between_4 : decode cX2_between 4 = .ok (.invokevirtual 58, 3) := dk_182 0 58 (dk_at dksX2_between_0 4 rfl rfl)
theorem dX2_between_7 : decode cX2_between 7 = .ok (.astore_n 3, 1) := dk_78 (dk_at dksX2_between_0 7 rfl rfl)
theorem dX2_between_8 : decode cX2_between 8 = .ok (.aload_n 3, 1) := dk_45 (dk_at dksX2_between_0 8 rfl rfl)
theorem dX2_between_9 : decode cX2_between 9 = .ok (.invokeinterface 62 1, 5) := by decide +kernel
theorem dX2_between_14 : decode cX2_between 14 = .ok (.ifCond .eq 30, 3) := dk_153 0 30 (dk_at dksX2_between_0 14 rfl rfl)
theorem dX2_between_17 : decode cX2_between 17 = .ok (.aload_n 3, 1) := dk_45 (dk_at dksX2_between_0 17 rfl rfl)
theorem dX2_between_18 : decode cX2_between 18 = .ok (.invokeinterface 68 1, 5) := by decide +kernel
theorem dX2_between_23 : decode cX2_between 23 = .ok (.checkcast 72, 3) := dk_192 0 72 (dk_at dksX2_between_1 0 rfl rfl)
theorem dX2_between_26 : decode cX2_between 26 = .ok (.astore 4, 2) := dk_58 4 (dk_at dksX2_between_1 3 rfl rfl)
theorem dX2_between_28 : decode cX2_between 28 = .ok (.aload 4, 2) := dk_25 4 (dk_at dksX2_between_1 5 rfl rfl)
theorem dX2_between_30 : decode cX2_between 30 = .ok (.iload_n 1, 1) := dk_27 (dk_at dksX2_between_1 7 rfl rfl)
theorem dX2_between_31 : decode cX2_between 31 = .ok (.iload_n 2, 1) := dk_28 (dk_at dksX2_between_1 8 rfl rfl)
theorem dX2_between_32 : decode cX2_between 32 = .ok (.invokevirtual 119, 3) := dk_182 0 119 (dk_at dksX2_between_1 9 rfl rfl)
theorem dX2_between_35 : decode cX2_between 35 = .ok (.ifCond .eq 6, 3) := dk_153 0 6 (dk_at dksX2_between_1 12 rfl rfl)
theorem dX2_between_38 : decode cX2_between 38 = .ok (.aload 4, 2) := dk_25 4 (dk_at dksX2_between_1 15 rfl rfl)
theorem dX2_between_40 : decode cX2_between 40 = .ok (.areturn, 1) := dk_176 (dk_at dksX2_between_1 17 rfl rfl)
theorem dX2_between_41 : decode cX2_between 41 = .ok (.goto (-33), 3) := dk_167 255 223 (dk_at dksX2_between_1 18 rfl rfl)
theorem dX2_between_44 : decode cX2_between 44 = .ok (.aconst_null, 1) := dk_1 (dk_at dksX2_between_1 21 rfl rfl)
theorem dX2_between_45 : decode cX2_between 45 = .ok (.areturn, 1) := dk_176 (dk_at dksX2_between_1 22 rfl rfl)
abbrev cX2_sets : ByteArray := prog_13_method_27_code
def yX2_sets : MethodName := ⟨RX2, "sets", "(II)I"⟩
def dkwX2_sets_0 : List UInt8 := [42, 180, 0, 30, 27, 46, 62, 42, 180, 0, 30, 27, 28, 79, 29, 172]
abbrev dktX2_sets_0 : List UInt8 := dkwX2_sets_0 ++ []
theorem dksX2_sets_0 : cX2_sets.data.toList.drop 0 = dktX2_sets_0 := by decide +kernel
theorem dX2_sets_0 : decode cX2_sets 0 = .ok (.aload_n 0, 1) := dk_42 (dk_at dksX2_sets_0 0 rfl rfl)
theorem dX2_sets_1 : decode cX2_sets 1 = .ok (.getfield 30, 3) := dk_180 0 30 (dk_at dksX2_sets_0 1 rfl rfl)
theorem dX2_sets_4 : decode cX2_sets 4 = .ok (.iload_n 1, 1) := dk_27 (dk_at dksX2_sets_0 4 rfl rfl)
theorem dX2_sets_5 : decode cX2_sets 5 = .ok (.iaload, 1) := dk_46 (dk_at dksX2_sets_0 5 rfl rfl)
theorem dX2_sets_6 : decode cX2_sets 6 = .ok (.istore_n 3, 1) := dk_62 (dk_at dksX2_sets_0 6 rfl rfl)
theorem dX2_sets_7 : decode cX2_sets 7 = .ok (.aload_n 0, 1) := dk_42 (dk_at dksX2_sets_0 7 rfl rfl)
theorem dX2_sets_8 : decode cX2_sets 8 = .ok (.getfield 30, 3) := dk_180 0 30 (dk_at dksX2_sets_0 8 rfl rfl)
theorem dX2_sets_11 : decode cX2_sets 11 = .ok (.iload_n 1, 1) := dk_27 (dk_at dksX2_sets_0 11 rfl rfl)
theorem dX2_sets_12 : decode cX2_sets 12 = .ok (.iload_n 2, 1) := dk_28 (dk_at dksX2_sets_0 12 rfl rfl)
theorem dX2_sets_13 : decode cX2_sets 13 = .ok (.iastore, 1) := dk_79 (dk_at dksX2_sets_0 13 rfl rfl)
theorem dX2_sets_14 : decode cX2_sets 14 = .ok (.iload_n 3, 1) := dk_29 (dk_at dksX2_sets_0 14 rfl rfl)
theorem dX2_sets_15 : decode cX2_sets 15 = .ok (.ireturn, 1) := dk_172 (dk_at dksX2_sets_0 15 rfl rfl)
abbrev cX2_sends : ByteArray := prog_13_method_15_code
def yX2_sends : MethodName := ⟨RX2, "sends", "(IIZZ[I)I"⟩
def dkwX2_sends_3 : List UInt8 := [92, 46, 29, 184, 0, 205, 96, 79, 42, 180, 0, 27, 185, 0, 38, 1, 0, 4, 100, 172]
abbrev dktX2_sends_3 : List UInt8 := dkwX2_sends_3 ++ []
def dkwX2_sends_2 : List UInt8 := [183, 0, 202, 185, 0, 54, 2, 0, 87, 42, 180, 0, 34, 4, 92, 46, 4, 96, 79, 42, 180, 0, 34, 5]
abbrev dktX2_sends_2 : List UInt8 := dkwX2_sends_2 ++ dktX2_sends_3
def dkwX2_sends_1 : List UInt8 := [180, 0, 27, 187, 0, 83, 89, 42, 180, 0, 27, 185, 0, 38, 1, 0, 27, 28, 29, 21, 4, 25, 5]
abbrev dktX2_sends_1 : List UInt8 := dkwX2_sends_1 ++ dktX2_sends_2
def dkwX2_sends_0 : List UInt8 := [42, 180, 0, 27, 185, 0, 38, 1, 0, 16, 30, 162, 0, 7, 4, 167, 0, 4, 3, 184, 0, 198, 42]
abbrev dktX2_sends_0 : List UInt8 := dkwX2_sends_0 ++ dktX2_sends_1
theorem dksX2_sends_0 : cX2_sends.data.toList.drop 0 = dktX2_sends_0 := by decide +kernel
theorem dksX2_sends_1 : cX2_sends.data.toList.drop 23 = dktX2_sends_1 := dk_seg dksX2_sends_0 23 rfl rfl
theorem dksX2_sends_2 : cX2_sends.data.toList.drop 46 = dktX2_sends_2 := dk_seg dksX2_sends_1 23 rfl rfl
theorem dksX2_sends_3 : cX2_sends.data.toList.drop 70 = dktX2_sends_3 := dk_seg dksX2_sends_2 24 rfl rfl
theorem dX2_sends_0 : decode cX2_sends 0 = .ok (.aload_n 0, 1) := dk_42 (dk_at dksX2_sends_0 0 rfl rfl)
theorem dX2_sends_1 : decode cX2_sends 1 = .ok (.getfield 27, 3) := dk_180 0 27 (dk_at dksX2_sends_0 1 rfl rfl)
theorem dX2_sends_4 : decode cX2_sends 4 = .ok (.invokeinterface 38 1, 5) := by decide +kernel
theorem dX2_sends_9 : decode cX2_sends 9 = .ok (.bipush 30, 2) := dk_16 30 (dk_at dksX2_sends_0 9 rfl rfl)
theorem dX2_sends_11 : decode cX2_sends 11 = .ok (.if_icmp .ge 7, 3) := dk_162 0 7 (dk_at dksX2_sends_0 11 rfl rfl)
theorem dX2_sends_14 : decode cX2_sends 14 = .ok (.iconst 1, 1) := dk_4 (dk_at dksX2_sends_0 14 rfl rfl)
theorem dX2_sends_15 : decode cX2_sends 15 = .ok (.goto 4, 3) := dk_167 0 4 (dk_at dksX2_sends_0 15 rfl rfl)
theorem dX2_sends_18 : decode cX2_sends 18 = .ok (.iconst 0, 1) := dk_3 (dk_at dksX2_sends_0 18 rfl rfl)
theorem dX2_sends_19 : decode cX2_sends 19 = .ok (.invokestatic 198, 3) := dk_184 0 198 (dk_at dksX2_sends_0 19 rfl rfl)
theorem dX2_sends_22 : decode cX2_sends 22 = .ok (.aload_n 0, 1) := dk_42 (dk_at dksX2_sends_0 22 rfl rfl)
theorem dX2_sends_23 : decode cX2_sends 23 = .ok (.getfield 27, 3) := dk_180 0 27 (dk_at dksX2_sends_1 0 rfl rfl)
theorem dX2_sends_26 : decode cX2_sends 26 = .ok (.new 83, 3) := dk_187 0 83 (dk_at dksX2_sends_1 3 rfl rfl)
theorem dX2_sends_29 : decode cX2_sends 29 = .ok (.dup, 1) := dk_89 (dk_at dksX2_sends_1 6 rfl rfl)
theorem dX2_sends_30 : decode cX2_sends 30 = .ok (.aload_n 0, 1) := dk_42 (dk_at dksX2_sends_1 7 rfl rfl)
theorem dX2_sends_31 : decode cX2_sends 31 = .ok (.getfield 27, 3) := dk_180 0 27 (dk_at dksX2_sends_1 8 rfl rfl)
theorem dX2_sends_34 : decode cX2_sends 34 = .ok (.invokeinterface 38 1, 5) := by decide +kernel
theorem dX2_sends_39 : decode cX2_sends 39 = .ok (.iload_n 1, 1) := dk_27 (dk_at dksX2_sends_1 16 rfl rfl)
theorem dX2_sends_40 : decode cX2_sends 40 = .ok (.iload_n 2, 1) := dk_28 (dk_at dksX2_sends_1 17 rfl rfl)
theorem dX2_sends_41 : decode cX2_sends 41 = .ok (.iload_n 3, 1) := dk_29 (dk_at dksX2_sends_1 18 rfl rfl)
theorem dX2_sends_42 : decode cX2_sends 42 = .ok (.iload 4, 2) := dk_21 4 (dk_at dksX2_sends_1 19 rfl rfl)
theorem dX2_sends_44 : decode cX2_sends 44 = .ok (.aload 5, 2) := dk_25 5 (dk_at dksX2_sends_1 21 rfl rfl)
theorem dX2_sends_46 : decode cX2_sends 46 = .ok (.invokespecial 202, 3) := dk_183 0 202 (dk_at dksX2_sends_2 0 rfl rfl)
theorem dX2_sends_49 : decode cX2_sends 49 = .ok (.invokeinterface 54 2, 5) := by decide +kernel
theorem dX2_sends_54 : decode cX2_sends 54 = .ok (.pop, 1) := dk_87 (dk_at dksX2_sends_2 8 rfl rfl)
theorem dX2_sends_55 : decode cX2_sends 55 = .ok (.aload_n 0, 1) := dk_42 (dk_at dksX2_sends_2 9 rfl rfl)
theorem dX2_sends_56 : decode cX2_sends 56 = .ok (.getfield 34, 3) := dk_180 0 34 (dk_at dksX2_sends_2 10 rfl rfl)
theorem dX2_sends_59 : decode cX2_sends 59 = .ok (.iconst 1, 1) := dk_4 (dk_at dksX2_sends_2 13 rfl rfl)
theorem dX2_sends_60 : decode cX2_sends 60 = .ok (.dup2, 1) := dk_92 (dk_at dksX2_sends_2 14 rfl rfl)
theorem dX2_sends_61 : decode cX2_sends 61 = .ok (.iaload, 1) := dk_46 (dk_at dksX2_sends_2 15 rfl rfl)
theorem dX2_sends_62 : decode cX2_sends 62 = .ok (.iconst 1, 1) := dk_4 (dk_at dksX2_sends_2 16 rfl rfl)
theorem dX2_sends_63 : decode cX2_sends 63 = .ok (.iadd, 1) := dk_96 (dk_at dksX2_sends_2 17 rfl rfl)
theorem dX2_sends_64 : decode cX2_sends 64 = .ok (.iastore, 1) := dk_79 (dk_at dksX2_sends_2 18 rfl rfl)
theorem dX2_sends_65 : decode cX2_sends 65 = .ok (.aload_n 0, 1) := dk_42 (dk_at dksX2_sends_2 19 rfl rfl)
theorem dX2_sends_66 : decode cX2_sends 66 = .ok (.getfield 34, 3) := dk_180 0 34 (dk_at dksX2_sends_2 20 rfl rfl)
theorem dX2_sends_69 : decode cX2_sends 69 = .ok (.iconst 2, 1) := dk_5 (dk_at dksX2_sends_2 23 rfl rfl)
theorem dX2_sends_70 : decode cX2_sends 70 = .ok (.dup2, 1) := dk_92 (dk_at dksX2_sends_3 0 rfl rfl)
theorem dX2_sends_71 : decode cX2_sends 71 = .ok (.iaload, 1) := dk_46 (dk_at dksX2_sends_3 1 rfl rfl)
theorem dX2_sends_72 : decode cX2_sends 72 = .ok (.iload_n 3, 1) := dk_29 (dk_at dksX2_sends_3 2 rfl rfl)
theorem dX2_sends_73 : decode cX2_sends 73 = .ok (.invokestatic 205, 3) := dk_184 0 205 (dk_at dksX2_sends_3 3 rfl rfl)
theorem dX2_sends_76 : decode cX2_sends 76 = .ok (.iadd, 1) := dk_96 (dk_at dksX2_sends_3 6 rfl rfl)
theorem dX2_sends_77 : decode cX2_sends 77 = .ok (.iastore, 1) := dk_79 (dk_at dksX2_sends_3 7 rfl rfl)
theorem dX2_sends_78 : decode cX2_sends 78 = .ok (.aload_n 0, 1) := dk_42 (dk_at dksX2_sends_3 8 rfl rfl)
theorem dX2_sends_79 : decode cX2_sends 79 = .ok (.getfield 27, 3) := dk_180 0 27 (dk_at dksX2_sends_3 9 rfl rfl)
theorem dX2_sends_82 : decode cX2_sends 82 = .ok (.invokeinterface 38 1, 5) := by decide +kernel
theorem dX2_sends_87 : decode cX2_sends 87 = .ok (.iconst 1, 1) := dk_4 (dk_at dksX2_sends_3 17 rfl rfl)
theorem dX2_sends_88 : decode cX2_sends 88 = .ok (.isub, 1) := dk_100 (dk_at dksX2_sends_3 18 rfl rfl)
theorem dX2_sends_89 : decode cX2_sends 89 = .ok (.ireturn, 1) := dk_172 (dk_at dksX2_sends_3 19 rfl rfl)
abbrev cX2_ticksNow : ByteArray := prog_13_method_24_code
def yX2_ticksNow : MethodName := ⟨RX2, "ticksNow", "(I)I"⟩
def dkwX2_ticksNow_1 : List UInt8 := [182, 1, 55, 172]
abbrev dktX2_ticksNow_1 : List UInt8 := dkwX2_ticksNow_1 ++ []
def dkwX2_ticksNow_0 : List UInt8 := [42, 180, 0, 93, 27, 96, 17, 39, 15, 163, 0, 7, 4, 167, 0, 4, 3, 184, 0, 198, 42, 27]
abbrev dktX2_ticksNow_0 : List UInt8 := dkwX2_ticksNow_0 ++ dktX2_ticksNow_1
theorem dksX2_ticksNow_0 : cX2_ticksNow.data.toList.drop 0 = dktX2_ticksNow_0 := by decide +kernel
theorem dksX2_ticksNow_1 : cX2_ticksNow.data.toList.drop 22 = dktX2_ticksNow_1 := dk_seg dksX2_ticksNow_0 22 rfl rfl
theorem dX2_ticksNow_0 : decode cX2_ticksNow 0 = .ok (.aload_n 0, 1) := dk_42 (dk_at dksX2_ticksNow_0 0 rfl rfl)
theorem dX2_ticksNow_1 : decode cX2_ticksNow 1 = .ok (.getfield 93, 3) := dk_180 0 93 (dk_at dksX2_ticksNow_0 1 rfl rfl)
theorem dX2_ticksNow_4 : decode cX2_ticksNow 4 = .ok (.iload_n 1, 1) := dk_27 (dk_at dksX2_ticksNow_0 4 rfl rfl)
theorem dX2_ticksNow_5 : decode cX2_ticksNow 5 = .ok (.iadd, 1) := dk_96 (dk_at dksX2_ticksNow_0 5 rfl rfl)
theorem dX2_ticksNow_6 : decode cX2_ticksNow 6 = .ok (.sipush 9999, 3) := dk_17 39 15 (dk_at dksX2_ticksNow_0 6 rfl rfl)
theorem dX2_ticksNow_9 : decode cX2_ticksNow 9 = .ok (.if_icmp .gt 7, 3) := dk_163 0 7 (dk_at dksX2_ticksNow_0 9 rfl rfl)
theorem dX2_ticksNow_12 : decode cX2_ticksNow 12 = .ok (.iconst 1, 1) := dk_4 (dk_at dksX2_ticksNow_0 12 rfl rfl)
theorem dX2_ticksNow_13 : decode cX2_ticksNow 13 = .ok (.goto 4, 3) := dk_167 0 4 (dk_at dksX2_ticksNow_0 13 rfl rfl)
theorem dX2_ticksNow_16 : decode cX2_ticksNow 16 = .ok (.iconst 0, 1) := dk_3 (dk_at dksX2_ticksNow_0 16 rfl rfl)
theorem dX2_ticksNow_17 : decode cX2_ticksNow 17 = .ok (.invokestatic 198, 3) := dk_184 0 198 (dk_at dksX2_ticksNow_0 17 rfl rfl)
theorem dX2_ticksNow_20 : decode cX2_ticksNow 20 = .ok (.aload_n 0, 1) := dk_42 (dk_at dksX2_ticksNow_0 20 rfl rfl)
theorem dX2_ticksNow_21 : decode cX2_ticksNow 21 = .ok (.iload_n 1, 1) := dk_27 (dk_at dksX2_ticksNow_0 21 rfl rfl)
theorem dX2_ticksNow_22 : decode cX2_ticksNow 22 = .ok (.invokevirtual 311, 3) := dk_182 1 55 (dk_at dksX2_ticksNow_1 0 rfl rfl)
theorem dX2_ticksNow_25 : decode cX2_ticksNow 25 = .ok (.ireturn, 1) := dk_172 (dk_at dksX2_ticksNow_1 3 rfl rfl)
abbrev cX2_ticksMany : ByteArray := prog_13_method_23_code
def yX2_ticksMany : MethodName := ⟨RX2, "ticksMany", "(I)I"⟩
def dkwX2_ticksMany_1 : List UInt8 := [42, 180, 0, 34, 8, 46, 28, 100, 172]
abbrev dktX2_ticksMany_1 : List UInt8 := dkwX2_ticksMany_1 ++ []
def dkwX2_ticksMany_0 : List UInt8 := [42, 180, 0, 34, 8, 46, 61, 3, 62, 29, 27, 162, 0, 13, 42, 182, 1, 52, 132, 3, 1, 167, 255, 244]
abbrev dktX2_ticksMany_0 : List UInt8 := dkwX2_ticksMany_0 ++ dktX2_ticksMany_1
theorem dksX2_ticksMany_0 : cX2_ticksMany.data.toList.drop 0 = dktX2_ticksMany_0 := by decide +kernel
theorem dksX2_ticksMany_1 : cX2_ticksMany.data.toList.drop 24 = dktX2_ticksMany_1 := dk_seg dksX2_ticksMany_0 24 rfl rfl
theorem dX2_ticksMany_0 : decode cX2_ticksMany 0 = .ok (.aload_n 0, 1) := dk_42 (dk_at dksX2_ticksMany_0 0 rfl rfl)
theorem dX2_ticksMany_1 : decode cX2_ticksMany 1 = .ok (.getfield 34, 3) := dk_180 0 34 (dk_at dksX2_ticksMany_0 1 rfl rfl)
theorem dX2_ticksMany_4 : decode cX2_ticksMany 4 = .ok (.iconst 5, 1) := dk_8 (dk_at dksX2_ticksMany_0 4 rfl rfl)
theorem dX2_ticksMany_5 : decode cX2_ticksMany 5 = .ok (.iaload, 1) := dk_46 (dk_at dksX2_ticksMany_0 5 rfl rfl)
theorem dX2_ticksMany_6 : decode cX2_ticksMany 6 = .ok (.istore_n 2, 1) := dk_61 (dk_at dksX2_ticksMany_0 6 rfl rfl)
theorem dX2_ticksMany_7 : decode cX2_ticksMany 7 = .ok (.iconst 0, 1) := dk_3 (dk_at dksX2_ticksMany_0 7 rfl rfl)
theorem dX2_ticksMany_8 : decode cX2_ticksMany 8 = .ok (.istore_n 3, 1) := dk_62 (dk_at dksX2_ticksMany_0 8 rfl rfl)
theorem dX2_ticksMany_9 : decode cX2_ticksMany 9 = .ok (.iload_n 3, 1) := dk_29 (dk_at dksX2_ticksMany_0 9 rfl rfl)
theorem dX2_ticksMany_10 : decode cX2_ticksMany 10 = .ok (.iload_n 1, 1) := dk_27 (dk_at dksX2_ticksMany_0 10 rfl rfl)
theorem dX2_ticksMany_11 : decode cX2_ticksMany 11 = .ok (.if_icmp .ge 13, 3) := dk_162 0 13 (dk_at dksX2_ticksMany_0 11 rfl rfl)
theorem dX2_ticksMany_14 : decode cX2_ticksMany 14 = .ok (.aload_n 0, 1) := dk_42 (dk_at dksX2_ticksMany_0 14 rfl rfl)
theorem dX2_ticksMany_15 : decode cX2_ticksMany 15 = .ok (.invokevirtual 308, 3) := dk_182 1 52 (dk_at dksX2_ticksMany_0 15 rfl rfl)
theorem dX2_ticksMany_18 : decode cX2_ticksMany 18 = .ok (.iinc 3 1, 3) := dk_132 3 1 (dk_at dksX2_ticksMany_0 18 rfl rfl)
theorem dX2_ticksMany_21 : decode cX2_ticksMany 21 = .ok (.goto (-12), 3) := dk_167 255 244 (dk_at dksX2_ticksMany_0 21 rfl rfl)
theorem dX2_ticksMany_24 : decode cX2_ticksMany 24 = .ok (.aload_n 0, 1) := dk_42 (dk_at dksX2_ticksMany_1 0 rfl rfl)
theorem dX2_ticksMany_25 : decode cX2_ticksMany 25 = .ok (.getfield 34, 3) := dk_180 0 34 (dk_at dksX2_ticksMany_1 1 rfl rfl)
theorem dX2_ticksMany_28 : decode cX2_ticksMany 28 = .ok (.iconst 5, 1) := dk_8 (dk_at dksX2_ticksMany_1 4 rfl rfl)
theorem dX2_ticksMany_29 : decode cX2_ticksMany 29 = .ok (.iaload, 1) := dk_46 (dk_at dksX2_ticksMany_1 5 rfl rfl)
theorem dX2_ticksMany_30 : decode cX2_ticksMany 30 = .ok (.iload_n 2, 1) := dk_28 (dk_at dksX2_ticksMany_1 6 rfl rfl)
theorem dX2_ticksMany_31 : decode cX2_ticksMany 31 = .ok (.isub, 1) := dk_100 (dk_at dksX2_ticksMany_1 7 rfl rfl)
theorem dX2_ticksMany_32 : decode cX2_ticksMany 32 = .ok (.ireturn, 1) := dk_172 (dk_at dksX2_ticksMany_1 8 rfl rfl)
abbrev cX2_ticks : ByteArray := prog_13_method_22_code
def yX2_ticks : MethodName := ⟨RX2, "ticks", "()V"⟩
def dkwX2_ticks_8 : List UInt8 := [132, 2, 1, 167, 255, 192, 177]
abbrev dktX2_ticks_8 : List UInt8 := dkwX2_ticks_8 ++ []
def dkwX2_ticks_7 : List UInt8 := [159, 0, 6, 167, 0, 19, 45, 6, 181, 0, 224, 42, 180, 0, 34, 16, 8, 92, 46, 4, 96, 79]
abbrev dktX2_ticks_7 : List UInt8 := dkwX2_ticks_7 ++ dktX2_ticks_8
def dkwX2_ticks_6 : List UInt8 := [182, 0, 78, 78, 45, 180, 0, 224, 154, 0, 38, 42, 45, 180, 0, 221, 45, 180, 0, 231, 182, 0, 163, 2]
abbrev dktX2_ticks_6 : List UInt8 := dkwX2_ticks_6 ++ dktX2_ticks_7
def dkwX2_ticks_5 : List UInt8 := [132, 2, 1, 167, 255, 235, 3, 61, 28, 42, 180, 0, 27, 185, 0, 38, 1, 0, 162, 0, 57, 42, 28]
abbrev dktX2_ticks_5 : List UInt8 := dkwX2_ticks_5 ++ dktX2_ticks_6
def dkwX2_ticks_4 : List UInt8 := [162, 0, 29, 3, 61, 28, 42, 180, 0, 14, 185, 0, 38, 1, 0, 162, 0, 14, 42, 28, 182, 1, 49]
abbrev dktX2_ticks_4 : List UInt8 := dkwX2_ticks_4 ++ dktX2_ticks_5
def dkwX2_ticks_3 : List UInt8 := [182, 1, 46, 132, 2, 1, 167, 255, 212, 42, 180, 0, 93, 16, 60, 112, 42, 180, 0, 30, 4, 46]
abbrev dktX2_ticks_3 : List UInt8 := dkwX2_ticks_3 ++ dktX2_ticks_4
def dkwX2_ticks_2 : List UInt8 := [160, 0, 27, 42, 28, 182, 0, 78, 180, 0, 254, 42, 180, 0, 93, 160, 0, 12, 42, 42, 28, 182, 0, 78]
abbrev dktX2_ticks_2 : List UInt8 := dkwX2_ticks_2 ++ dktX2_ticks_3
def dkwX2_ticks_1 : List UInt8 := [185, 0, 38, 1, 0, 60, 3, 61, 28, 27, 162, 0, 45, 42, 28, 182, 0, 78, 180, 0, 224, 4]
abbrev dktX2_ticks_1 : List UInt8 := dkwX2_ticks_1 ++ dktX2_ticks_2
def dkwX2_ticks_0 : List UInt8 := [42, 89, 180, 0, 93, 4, 96, 181, 0, 93, 42, 180, 0, 34, 3, 92, 46, 4, 96, 79, 42, 180, 0, 27]
abbrev dktX2_ticks_0 : List UInt8 := dkwX2_ticks_0 ++ dktX2_ticks_1
theorem dksX2_ticks_0 : cX2_ticks.data.toList.drop 0 = dktX2_ticks_0 := by decide +kernel
theorem dksX2_ticks_1 : cX2_ticks.data.toList.drop 24 = dktX2_ticks_1 := dk_seg dksX2_ticks_0 24 rfl rfl
theorem dksX2_ticks_2 : cX2_ticks.data.toList.drop 46 = dktX2_ticks_2 := dk_seg dksX2_ticks_1 22 rfl rfl
theorem dksX2_ticks_3 : cX2_ticks.data.toList.drop 70 = dktX2_ticks_3 := dk_seg dksX2_ticks_2 24 rfl rfl
theorem dksX2_ticks_4 : cX2_ticks.data.toList.drop 92 = dktX2_ticks_4 := dk_seg dksX2_ticks_3 22 rfl rfl
theorem dksX2_ticks_5 : cX2_ticks.data.toList.drop 115 = dktX2_ticks_5 := dk_seg dksX2_ticks_4 23 rfl rfl
theorem dksX2_ticks_6 : cX2_ticks.data.toList.drop 138 = dktX2_ticks_6 := dk_seg dksX2_ticks_5 23 rfl rfl
theorem dksX2_ticks_7 : cX2_ticks.data.toList.drop 162 = dktX2_ticks_7 := dk_seg dksX2_ticks_6 24 rfl rfl
theorem dksX2_ticks_8 : cX2_ticks.data.toList.drop 184 = dktX2_ticks_8 := dk_seg dksX2_ticks_7 22 rfl rfl
theorem dX2_ticks_0 : decode cX2_ticks 0 = .ok (.aload_n 0, 1) := dk_42 (dk_at dksX2_ticks_0 0 rfl rfl)
theorem dX2_ticks_1 : decode cX2_ticks 1 = .ok (.dup, 1) := dk_89 (dk_at dksX2_ticks_0 1 rfl rfl)
theorem dX2_ticks_2 : decode cX2_ticks 2 = .ok (.getfield 93, 3) := dk_180 0 93 (dk_at dksX2_ticks_0 2 rfl rfl)
theorem dX2_ticks_5 : decode cX2_ticks 5 = .ok (.iconst 1, 1) := dk_4 (dk_at dksX2_ticks_0 5 rfl rfl)
theorem dX2_ticks_6 : decode cX2_ticks 6 = .ok (.iadd, 1) := dk_96 (dk_at dksX2_ticks_0 6 rfl rfl)
theorem dX2_ticks_7 : decode cX2_ticks 7 = .ok (.putfield 93, 3) := dk_181 0 93 (dk_at dksX2_ticks_0 7 rfl rfl)
theorem dX2_ticks_10 : decode cX2_ticks 10 = .ok (.aload_n 0, 1) := dk_42 (dk_at dksX2_ticks_0 10 rfl rfl)
theorem dX2_ticks_11 : decode cX2_ticks 11 = .ok (.getfield 34, 3) := dk_180 0 34 (dk_at dksX2_ticks_0 11 rfl rfl)
theorem dX2_ticks_14 : decode cX2_ticks 14 = .ok (.iconst 0, 1) := dk_3 (dk_at dksX2_ticks_0 14 rfl rfl)
theorem dX2_ticks_15 : decode cX2_ticks 15 = .ok (.dup2, 1) := dk_92 (dk_at dksX2_ticks_0 15 rfl rfl)
theorem dX2_ticks_16 : decode cX2_ticks 16 = .ok (.iaload, 1) := dk_46 (dk_at dksX2_ticks_0 16 rfl rfl)
theorem dX2_ticks_17 : decode cX2_ticks 17 = .ok (.iconst 1, 1) := dk_4 (dk_at dksX2_ticks_0 17 rfl rfl)
theorem dX2_ticks_18 : decode cX2_ticks 18 = .ok (.iadd, 1) := dk_96 (dk_at dksX2_ticks_0 18 rfl rfl)
theorem dX2_ticks_19 : decode cX2_ticks 19 = .ok (.iastore, 1) := dk_79 (dk_at dksX2_ticks_0 19 rfl rfl)
theorem dX2_ticks_20 : decode cX2_ticks 20 = .ok (.aload_n 0, 1) := dk_42 (dk_at dksX2_ticks_0 20 rfl rfl)
theorem dX2_ticks_21 : decode cX2_ticks 21 = .ok (.getfield 27, 3) := dk_180 0 27 (dk_at dksX2_ticks_0 21 rfl rfl)
theorem dX2_ticks_24 : decode cX2_ticks 24 = .ok (.invokeinterface 38 1, 5) := by decide +kernel
theorem dX2_ticks_29 : decode cX2_ticks 29 = .ok (.istore_n 1, 1) := dk_60 (dk_at dksX2_ticks_1 5 rfl rfl)
theorem dX2_ticks_30 : decode cX2_ticks 30 = .ok (.iconst 0, 1) := dk_3 (dk_at dksX2_ticks_1 6 rfl rfl)
theorem dX2_ticks_31 : decode cX2_ticks 31 = .ok (.istore_n 2, 1) := dk_61 (dk_at dksX2_ticks_1 7 rfl rfl)
theorem dX2_ticks_32 : decode cX2_ticks 32 = .ok (.iload_n 2, 1) := dk_28 (dk_at dksX2_ticks_1 8 rfl rfl)
theorem dX2_ticks_33 : decode cX2_ticks 33 = .ok (.iload_n 1, 1) := dk_27 (dk_at dksX2_ticks_1 9 rfl rfl)
theorem dX2_ticks_34 : decode cX2_ticks 34 = .ok (.if_icmp .ge 45, 3) := dk_162 0 45 (dk_at dksX2_ticks_1 10 rfl rfl)
theorem dX2_ticks_37 : decode cX2_ticks 37 = .ok (.aload_n 0, 1) := dk_42 (dk_at dksX2_ticks_1 13 rfl rfl)
theorem dX2_ticks_38 : decode cX2_ticks 38 = .ok (.iload_n 2, 1) := dk_28 (dk_at dksX2_ticks_1 14 rfl rfl)
theorem dX2_ticks_39 : decode cX2_ticks 39 = .ok (.invokevirtual 78, 3) := dk_182 0 78 (dk_at dksX2_ticks_1 15 rfl rfl)
theorem dX2_ticks_42 : decode cX2_ticks 42 = .ok (.getfield 224, 3) := dk_180 0 224 (dk_at dksX2_ticks_1 18 rfl rfl)
theorem dX2_ticks_45 : decode cX2_ticks 45 = .ok (.iconst 1, 1) := dk_4 (dk_at dksX2_ticks_1 21 rfl rfl)
theorem dX2_ticks_46 : decode cX2_ticks 46 = .ok (.if_icmp .ne 27, 3) := dk_160 0 27 (dk_at dksX2_ticks_2 0 rfl rfl)
theorem dX2_ticks_49 : decode cX2_ticks 49 = .ok (.aload_n 0, 1) := dk_42 (dk_at dksX2_ticks_2 3 rfl rfl)
theorem dX2_ticks_50 : decode cX2_ticks 50 = .ok (.iload_n 2, 1) := dk_28 (dk_at dksX2_ticks_2 4 rfl rfl)
theorem dX2_ticks_51 : decode cX2_ticks 51 = .ok (.invokevirtual 78, 3) := dk_182 0 78 (dk_at dksX2_ticks_2 5 rfl rfl)
theorem dX2_ticks_54 : decode cX2_ticks 54 = .ok (.getfield 254, 3) := dk_180 0 254 (dk_at dksX2_ticks_2 8 rfl rfl)
theorem dX2_ticks_57 : decode cX2_ticks 57 = .ok (.aload_n 0, 1) := dk_42 (dk_at dksX2_ticks_2 11 rfl rfl)
theorem dX2_ticks_58 : decode cX2_ticks 58 = .ok (.getfield 93, 3) := dk_180 0 93 (dk_at dksX2_ticks_2 12 rfl rfl)
theorem dX2_ticks_61 : decode cX2_ticks 61 = .ok (.if_icmp .ne 12, 3) := dk_160 0 12 (dk_at dksX2_ticks_2 15 rfl rfl)
theorem dX2_ticks_64 : decode cX2_ticks 64 = .ok (.aload_n 0, 1) := dk_42 (dk_at dksX2_ticks_2 18 rfl rfl)
theorem dX2_ticks_65 : decode cX2_ticks 65 = .ok (.aload_n 0, 1) := dk_42 (dk_at dksX2_ticks_2 19 rfl rfl)
theorem dX2_ticks_66 : decode cX2_ticks 66 = .ok (.iload_n 2, 1) := dk_28 (dk_at dksX2_ticks_2 20 rfl rfl)
theorem dX2_ticks_67 : decode cX2_ticks 67 = .ok (.invokevirtual 78, 3) := dk_182 0 78 (dk_at dksX2_ticks_2 21 rfl rfl)
theorem dX2_ticks_70 : decode cX2_ticks 70 = .ok (.invokevirtual 302, 3) := dk_182 1 46 (dk_at dksX2_ticks_3 0 rfl rfl)
theorem dX2_ticks_73 : decode cX2_ticks 73 = .ok (.iinc 2 1, 3) := dk_132 2 1 (dk_at dksX2_ticks_3 3 rfl rfl)
theorem dX2_ticks_76 : decode cX2_ticks 76 = .ok (.goto (-44), 3) := dk_167 255 212 (dk_at dksX2_ticks_3 6 rfl rfl)
theorem dX2_ticks_79 : decode cX2_ticks 79 = .ok (.aload_n 0, 1) := dk_42 (dk_at dksX2_ticks_3 9 rfl rfl)
theorem dX2_ticks_80 : decode cX2_ticks 80 = .ok (.getfield 93, 3) := dk_180 0 93 (dk_at dksX2_ticks_3 10 rfl rfl)
theorem dX2_ticks_83 : decode cX2_ticks 83 = .ok (.bipush 60, 2) := dk_16 60 (dk_at dksX2_ticks_3 13 rfl rfl)
theorem dX2_ticks_85 : decode cX2_ticks 85 = .ok (.irem, 1) := dk_112 (dk_at dksX2_ticks_3 15 rfl rfl)
theorem dX2_ticks_86 : decode cX2_ticks 86 = .ok (.aload_n 0, 1) := dk_42 (dk_at dksX2_ticks_3 16 rfl rfl)
theorem dX2_ticks_87 : decode cX2_ticks 87 = .ok (.getfield 30, 3) := dk_180 0 30 (dk_at dksX2_ticks_3 17 rfl rfl)
theorem dX2_ticks_90 : decode cX2_ticks 90 = .ok (.iconst 1, 1) := dk_4 (dk_at dksX2_ticks_3 20 rfl rfl)
theorem dX2_ticks_91 : decode cX2_ticks 91 = .ok (.iaload, 1) := dk_46 (dk_at dksX2_ticks_3 21 rfl rfl)
theorem dX2_ticks_92 : decode cX2_ticks 92 = .ok (.if_icmp .ge 29, 3) := dk_162 0 29 (dk_at dksX2_ticks_4 0 rfl rfl)
theorem dX2_ticks_95 : decode cX2_ticks 95 = .ok (.iconst 0, 1) := dk_3 (dk_at dksX2_ticks_4 3 rfl rfl)
theorem dX2_ticks_96 : decode cX2_ticks 96 = .ok (.istore_n 2, 1) := dk_61 (dk_at dksX2_ticks_4 4 rfl rfl)
theorem dX2_ticks_97 : decode cX2_ticks 97 = .ok (.iload_n 2, 1) := dk_28 (dk_at dksX2_ticks_4 5 rfl rfl)
theorem dX2_ticks_98 : decode cX2_ticks 98 = .ok (.aload_n 0, 1) := dk_42 (dk_at dksX2_ticks_4 6 rfl rfl)
theorem dX2_ticks_99 : decode cX2_ticks 99 = .ok (.getfield 14, 3) := dk_180 0 14 (dk_at dksX2_ticks_4 7 rfl rfl)
theorem dX2_ticks_102 : decode cX2_ticks 102 = .ok (.invokeinterface 38 1, 5) := by decide +kernel
theorem dX2_ticks_107 : decode cX2_ticks 107 = .ok (.if_icmp .ge 14, 3) := dk_162 0 14 (dk_at dksX2_ticks_4 15 rfl rfl)
theorem dX2_ticks_110 : decode cX2_ticks 110 = .ok (.aload_n 0, 1) := dk_42 (dk_at dksX2_ticks_4 18 rfl rfl)
theorem dX2_ticks_111 : decode cX2_ticks 111 = .ok (.iload_n 2, 1) := dk_28 (dk_at dksX2_ticks_4 19 rfl rfl)
theorem dX2_ticks_112 : decode cX2_ticks 112 = .ok (.invokevirtual 305, 3) := dk_182 1 49 (dk_at dksX2_ticks_4 20 rfl rfl)
theorem dX2_ticks_115 : decode cX2_ticks 115 = .ok (.iinc 2 1, 3) := dk_132 2 1 (dk_at dksX2_ticks_5 0 rfl rfl)
theorem dX2_ticks_118 : decode cX2_ticks 118 = .ok (.goto (-21), 3) := dk_167 255 235 (dk_at dksX2_ticks_5 3 rfl rfl)
theorem dX2_ticks_121 : decode cX2_ticks 121 = .ok (.iconst 0, 1) := dk_3 (dk_at dksX2_ticks_5 6 rfl rfl)
theorem dX2_ticks_122 : decode cX2_ticks 122 = .ok (.istore_n 2, 1) := dk_61 (dk_at dksX2_ticks_5 7 rfl rfl)
theorem dX2_ticks_123 : decode cX2_ticks 123 = .ok (.iload_n 2, 1) := dk_28 (dk_at dksX2_ticks_5 8 rfl rfl)
theorem dX2_ticks_124 : decode cX2_ticks 124 = .ok (.aload_n 0, 1) := dk_42 (dk_at dksX2_ticks_5 9 rfl rfl)
theorem dX2_ticks_125 : decode cX2_ticks 125 = .ok (.getfield 27, 3) := dk_180 0 27 (dk_at dksX2_ticks_5 10 rfl rfl)
theorem dX2_ticks_128 : decode cX2_ticks 128 = .ok (.invokeinterface 38 1, 5) := by decide +kernel
theorem dX2_ticks_133 : decode cX2_ticks 133 = .ok (.if_icmp .ge 57, 3) := dk_162 0 57 (dk_at dksX2_ticks_5 18 rfl rfl)
theorem dX2_ticks_136 : decode cX2_ticks 136 = .ok (.aload_n 0, 1) := dk_42 (dk_at dksX2_ticks_5 21 rfl rfl)
theorem dX2_ticks_137 : decode cX2_ticks 137 = .ok (.iload_n 2, 1) := dk_28 (dk_at dksX2_ticks_5 22 rfl rfl)
theorem dX2_ticks_138 : decode cX2_ticks 138 = .ok (.invokevirtual 78, 3) := dk_182 0 78 (dk_at dksX2_ticks_6 0 rfl rfl)
theorem dX2_ticks_141 : decode cX2_ticks 141 = .ok (.astore_n 3, 1) := dk_78 (dk_at dksX2_ticks_6 3 rfl rfl)
theorem dX2_ticks_142 : decode cX2_ticks 142 = .ok (.aload_n 3, 1) := dk_45 (dk_at dksX2_ticks_6 4 rfl rfl)
theorem dX2_ticks_143 : decode cX2_ticks 143 = .ok (.getfield 224, 3) := dk_180 0 224 (dk_at dksX2_ticks_6 5 rfl rfl)
theorem dX2_ticks_146 : decode cX2_ticks 146 = .ok (.ifCond .ne 38, 3) := dk_154 0 38 (dk_at dksX2_ticks_6 8 rfl rfl)
theorem dX2_ticks_149 : decode cX2_ticks 149 = .ok (.aload_n 0, 1) := dk_42 (dk_at dksX2_ticks_6 11 rfl rfl)
theorem dX2_ticks_150 : decode cX2_ticks 150 = .ok (.aload_n 3, 1) := dk_45 (dk_at dksX2_ticks_6 12 rfl rfl)
theorem dX2_ticks_151 : decode cX2_ticks 151 = .ok (.getfield 221, 3) := dk_180 0 221 (dk_at dksX2_ticks_6 13 rfl rfl)
theorem dX2_ticks_154 : decode cX2_ticks 154 = .ok (.aload_n 3, 1) := dk_45 (dk_at dksX2_ticks_6 16 rfl rfl)
theorem dX2_ticks_155 : decode cX2_ticks 155 = .ok (.getfield 231, 3) := dk_180 0 231 (dk_at dksX2_ticks_6 17 rfl rfl)
theorem dX2_ticks_158 : decode cX2_ticks 158 = .ok (.invokevirtual 163, 3) := dk_182 0 163 (dk_at dksX2_ticks_6 20 rfl rfl)
theorem dX2_ticks_161 : decode cX2_ticks 161 = .ok (.iconst (-1), 1) := dk_2 (dk_at dksX2_ticks_6 23 rfl rfl)
theorem dX2_ticks_162 : decode cX2_ticks 162 = .ok (.if_icmp .eq 6, 3) := dk_159 0 6 (dk_at dksX2_ticks_7 0 rfl rfl)
theorem dX2_ticks_165 : decode cX2_ticks 165 = .ok (.goto 19, 3) := dk_167 0 19 (dk_at dksX2_ticks_7 3 rfl rfl)
theorem dX2_ticks_168 : decode cX2_ticks 168 = .ok (.aload_n 3, 1) := dk_45 (dk_at dksX2_ticks_7 6 rfl rfl)
theorem dX2_ticks_169 : decode cX2_ticks 169 = .ok (.iconst 3, 1) := dk_6 (dk_at dksX2_ticks_7 7 rfl rfl)
theorem dX2_ticks_170 : decode cX2_ticks 170 = .ok (.putfield 224, 3) := dk_181 0 224 (dk_at dksX2_ticks_7 8 rfl rfl)
theorem dX2_ticks_173 : decode cX2_ticks 173 = .ok (.aload_n 0, 1) := dk_42 (dk_at dksX2_ticks_7 11 rfl rfl)
theorem dX2_ticks_174 : decode cX2_ticks 174 = .ok (.getfield 34, 3) := dk_180 0 34 (dk_at dksX2_ticks_7 12 rfl rfl)
theorem dX2_ticks_177 : decode cX2_ticks 177 = .ok (.bipush 8, 2) := dk_16 8 (dk_at dksX2_ticks_7 15 rfl rfl)
theorem dX2_ticks_179 : decode cX2_ticks 179 = .ok (.dup2, 1) := dk_92 (dk_at dksX2_ticks_7 17 rfl rfl)
theorem dX2_ticks_180 : decode cX2_ticks 180 = .ok (.iaload, 1) := dk_46 (dk_at dksX2_ticks_7 18 rfl rfl)
theorem dX2_ticks_181 : decode cX2_ticks 181 = .ok (.iconst 1, 1) := dk_4 (dk_at dksX2_ticks_7 19 rfl rfl)
theorem dX2_ticks_182 : decode cX2_ticks 182 = .ok (.iadd, 1) := dk_96 (dk_at dksX2_ticks_7 20 rfl rfl)
theorem dX2_ticks_183 : decode cX2_ticks 183 = .ok (.iastore, 1) := dk_79 (dk_at dksX2_ticks_7 21 rfl rfl)
theorem dX2_ticks_184 : decode cX2_ticks 184 = .ok (.iinc 2 1, 3) := dk_132 2 1 (dk_at dksX2_ticks_8 0 rfl rfl)
theorem dX2_ticks_187 : decode cX2_ticks 187 = .ok (.goto (-64), 3) := dk_167 255 192 (dk_at dksX2_ticks_8 3 rfl rfl)
theorem dX2_ticks_190 : decode cX2_ticks 190 = .ok (.return_, 1) := dk_177 (dk_at dksX2_ticks_8 6 rfl rfl)
abbrev cX2_tune : ByteArray := prog_13_method_4_code
def yX2_tune : MethodName := ⟨RX2, "tune", "(I)LWhistlePosts$Tune;"⟩
def dkwX2_tune_0 : List UInt8 := [42, 180, 0, 27, 27, 185, 0, 103, 2, 0, 192, 0, 83, 176]
abbrev dktX2_tune_0 : List UInt8 := dkwX2_tune_0 ++ []
theorem dksX2_tune_0 : cX2_tune.data.toList.drop 0 = dktX2_tune_0 := by decide +kernel
theorem dX2_tune_0 : decode cX2_tune 0 = .ok (.aload_n 0, 1) := dk_42 (dk_at dksX2_tune_0 0 rfl rfl)
theorem dX2_tune_1 : decode cX2_tune 1 = .ok (.getfield 27, 3) := dk_180 0 27 (dk_at dksX2_tune_0 1 rfl rfl)
theorem dX2_tune_4 : decode cX2_tune 4 = .ok (.iload_n 1, 1) := dk_27 (dk_at dksX2_tune_0 4 rfl rfl)
theorem dX2_tune_5 : decode cX2_tune 5 = .ok (.invokeinterface 103 2, 5) := by decide +kernel
theorem dX2_tune_10 : decode cX2_tune 10 = .ok (.checkcast 83, 3) := dk_192 0 83 (dk_at dksX2_tune_0 10 rfl rfl)
theorem dX2_tune_13 : decode cX2_tune 13 = .ok (.areturn, 1) := dk_176 (dk_at dksX2_tune_0 13 rfl rfl)
abbrev cX2_lands : ByteArray := prog_13_method_17_code
def yX2_lands : MethodName := ⟨RX2, "lands", "(LWhistlePosts$Tune;)V"⟩
def dkwX2_lands_2 : List UInt8 := [43, 180, 0, 221, 43, 180, 0, 231, 160, 0, 8, 42, 43, 182, 1, 1, 177]
abbrev dktX2_lands_2 : List UInt8 := dkwX2_lands_2 ++ []
def dkwX2_lands_1 : List UInt8 := [28, 182, 0, 251, 42, 180, 0, 34, 7, 92, 46, 28, 96, 79, 43, 2, 181, 0, 254, 43, 3, 181, 0, 224]
abbrev dktX2_lands_1 : List UInt8 := dkwX2_lands_1 ++ dktX2_lands_2
def dkwX2_lands_0 : List UInt8 := [42, 42, 180, 0, 30, 3, 46, 43, 180, 0, 242, 43, 180, 0, 221, 43, 182, 0, 244, 182, 0, 247, 61, 43]
abbrev dktX2_lands_0 : List UInt8 := dkwX2_lands_0 ++ dktX2_lands_1
theorem dksX2_lands_0 : cX2_lands.data.toList.drop 0 = dktX2_lands_0 := by decide +kernel
theorem dksX2_lands_1 : cX2_lands.data.toList.drop 24 = dktX2_lands_1 := dk_seg dksX2_lands_0 24 rfl rfl
theorem dksX2_lands_2 : cX2_lands.data.toList.drop 48 = dktX2_lands_2 := dk_seg dksX2_lands_1 24 rfl rfl
theorem dX2_lands_0 : decode cX2_lands 0 = .ok (.aload_n 0, 1) := dk_42 (dk_at dksX2_lands_0 0 rfl rfl)
theorem dX2_lands_1 : decode cX2_lands 1 = .ok (.aload_n 0, 1) := dk_42 (dk_at dksX2_lands_0 1 rfl rfl)
theorem dX2_lands_2 : decode cX2_lands 2 = .ok (.getfield 30, 3) := dk_180 0 30 (dk_at dksX2_lands_0 2 rfl rfl)
theorem dX2_lands_5 : decode cX2_lands 5 = .ok (.iconst 0, 1) := dk_3 (dk_at dksX2_lands_0 5 rfl rfl)
theorem dX2_lands_6 : decode cX2_lands 6 = .ok (.iaload, 1) := dk_46 (dk_at dksX2_lands_0 6 rfl rfl)
theorem dX2_lands_7 : decode cX2_lands 7 = .ok (.aload_n 1, 1) := dk_43 (dk_at dksX2_lands_0 7 rfl rfl)
theorem dX2_lands_8 : decode cX2_lands 8 = .ok (.getfield 242, 3) := dk_180 0 242 (dk_at dksX2_lands_0 8 rfl rfl)
theorem dX2_lands_11 : decode cX2_lands 11 = .ok (.aload_n 1, 1) := dk_43 (dk_at dksX2_lands_0 11 rfl rfl)
theorem dX2_lands_12 : decode cX2_lands 12 = .ok (.getfield 221, 3) := dk_180 0 221 (dk_at dksX2_lands_0 12 rfl rfl)
theorem dX2_lands_15 : decode cX2_lands 15 = .ok (.aload_n 1, 1) := dk_43 (dk_at dksX2_lands_0 15 rfl rfl)
theorem dX2_lands_16 : decode cX2_lands 16 = .ok (.invokevirtual 244, 3) := dk_182 0 244 (dk_at dksX2_lands_0 16 rfl rfl)
theorem dX2_lands_19 : decode cX2_lands 19 = .ok (.invokevirtual 247, 3) := dk_182 0 247 (dk_at dksX2_lands_0 19 rfl rfl)
theorem dX2_lands_22 : decode cX2_lands 22 = .ok (.istore_n 2, 1) := dk_61 (dk_at dksX2_lands_0 22 rfl rfl)
theorem dX2_lands_23 : decode cX2_lands 23 = .ok (.aload_n 1, 1) := dk_43 (dk_at dksX2_lands_0 23 rfl rfl)
theorem dX2_lands_24 : decode cX2_lands 24 = .ok (.iload_n 2, 1) := dk_28 (dk_at dksX2_lands_1 0 rfl rfl)
theorem dX2_lands_25 : decode cX2_lands 25 = .ok (.invokevirtual 251, 3) := dk_182 0 251 (dk_at dksX2_lands_1 1 rfl rfl)
theorem dX2_lands_28 : decode cX2_lands 28 = .ok (.aload_n 0, 1) := dk_42 (dk_at dksX2_lands_1 4 rfl rfl)
theorem dX2_lands_29 : decode cX2_lands 29 = .ok (.getfield 34, 3) := dk_180 0 34 (dk_at dksX2_lands_1 5 rfl rfl)
theorem dX2_lands_32 : decode cX2_lands 32 = .ok (.iconst 4, 1) := dk_7 (dk_at dksX2_lands_1 8 rfl rfl)
theorem dX2_lands_33 : decode cX2_lands 33 = .ok (.dup2, 1) := dk_92 (dk_at dksX2_lands_1 9 rfl rfl)
theorem dX2_lands_34 : decode cX2_lands 34 = .ok (.iaload, 1) := dk_46 (dk_at dksX2_lands_1 10 rfl rfl)
theorem dX2_lands_35 : decode cX2_lands 35 = .ok (.iload_n 2, 1) := dk_28 (dk_at dksX2_lands_1 11 rfl rfl)
theorem dX2_lands_36 : decode cX2_lands 36 = .ok (.iadd, 1) := dk_96 (dk_at dksX2_lands_1 12 rfl rfl)
theorem dX2_lands_37 : decode cX2_lands 37 = .ok (.iastore, 1) := dk_79 (dk_at dksX2_lands_1 13 rfl rfl)
theorem dX2_lands_38 : decode cX2_lands 38 = .ok (.aload_n 1, 1) := dk_43 (dk_at dksX2_lands_1 14 rfl rfl)
theorem dX2_lands_39 : decode cX2_lands 39 = .ok (.iconst (-1), 1) := dk_2 (dk_at dksX2_lands_1 15 rfl rfl)
theorem dX2_lands_40 : decode cX2_lands 40 = .ok (.putfield 254, 3) := dk_181 0 254 (dk_at dksX2_lands_1 16 rfl rfl)
theorem dX2_lands_43 : decode cX2_lands 43 = .ok (.aload_n 1, 1) := dk_43 (dk_at dksX2_lands_1 19 rfl rfl)
theorem dX2_lands_44 : decode cX2_lands 44 = .ok (.iconst 0, 1) := dk_3 (dk_at dksX2_lands_1 20 rfl rfl)
theorem dX2_lands_45 : decode cX2_lands 45 = .ok (.putfield 224, 3) := dk_181 0 224 (dk_at dksX2_lands_1 21 rfl rfl)
theorem dX2_lands_48 : decode cX2_lands 48 = .ok (.aload_n 1, 1) := dk_43 (dk_at dksX2_lands_2 0 rfl rfl)
theorem dX2_lands_49 : decode cX2_lands 49 = .ok (.getfield 221, 3) := dk_180 0 221 (dk_at dksX2_lands_2 1 rfl rfl)
theorem dX2_lands_52 : decode cX2_lands 52 = .ok (.aload_n 1, 1) := dk_43 (dk_at dksX2_lands_2 4 rfl rfl)
theorem dX2_lands_53 : decode cX2_lands 53 = .ok (.getfield 231, 3) := dk_180 0 231 (dk_at dksX2_lands_2 5 rfl rfl)
theorem dX2_lands_56 : decode cX2_lands 56 = .ok (.if_icmp .ne 8, 3) := dk_160 0 8 (dk_at dksX2_lands_2 8 rfl rfl)
theorem dX2_lands_59 : decode cX2_lands 59 = .ok (.aload_n 0, 1) := dk_42 (dk_at dksX2_lands_2 11 rfl rfl)
theorem dX2_lands_60 : decode cX2_lands 60 = .ok (.aload_n 1, 1) := dk_43 (dk_at dksX2_lands_2 12 rfl rfl)
theorem dX2_lands_61 : decode cX2_lands 61 = .ok (.invokevirtual 257, 3) := dk_182 1 1 (dk_at dksX2_lands_2 13 rfl rfl)
theorem dX2_lands_64 : decode cX2_lands 64 = .ok (.return_, 1) := dk_177 (dk_at dksX2_lands_2 16 rfl rfl)
abbrev cX2_wrongBy : ByteArray := prog_13_method_14_code
def yX2_wrongBy : MethodName := ⟨RX2, "wrongBy", "(IIII)I"⟩
def dkwX2_wrongBy_1 : List UInt8 := [184, 0, 195, 172]
abbrev dktX2_wrongBy_1 : List UInt8 := dkwX2_wrongBy_1 ++ []
def dkwX2_wrongBy_0 : List UInt8 := [21, 4, 3, 27, 28, 104, 6, 42, 29, 182, 0, 44, 180, 0, 187, 104, 100, 184, 0, 190, 16, 10, 108]
abbrev dktX2_wrongBy_0 : List UInt8 := dkwX2_wrongBy_0 ++ dktX2_wrongBy_1
theorem dksX2_wrongBy_0 : cX2_wrongBy.data.toList.drop 0 = dktX2_wrongBy_0 := by decide +kernel
theorem dksX2_wrongBy_1 : cX2_wrongBy.data.toList.drop 23 = dktX2_wrongBy_1 := dk_seg dksX2_wrongBy_0 23 rfl rfl
theorem dX2_wrongBy_0 : decode cX2_wrongBy 0 = .ok (.iload 4, 2) := dk_21 4 (dk_at dksX2_wrongBy_0 0 rfl rfl)
theorem dX2_wrongBy_2 : decode cX2_wrongBy 2 = .ok (.iconst 0, 1) := dk_3 (dk_at dksX2_wrongBy_0 2 rfl rfl)
theorem dX2_wrongBy_3 : decode cX2_wrongBy 3 = .ok (.iload_n 1, 1) := dk_27 (dk_at dksX2_wrongBy_0 3 rfl rfl)
theorem dX2_wrongBy_4 : decode cX2_wrongBy 4 = .ok (.iload_n 2, 1) := dk_28 (dk_at dksX2_wrongBy_0 4 rfl rfl)
theorem dX2_wrongBy_5 : decode cX2_wrongBy 5 = .ok (.imul, 1) := dk_104 (dk_at dksX2_wrongBy_0 5 rfl rfl)
theorem dX2_wrongBy_6 : decode cX2_wrongBy 6 = .ok (.iconst 3, 1) := dk_6 (dk_at dksX2_wrongBy_0 6 rfl rfl)
theorem dX2_wrongBy_7 : decode cX2_wrongBy 7 = .ok (.aload_n 0, 1) := dk_42 (dk_at dksX2_wrongBy_0 7 rfl rfl)
theorem dX2_wrongBy_8 : decode cX2_wrongBy 8 = .ok (.iload_n 3, 1) := dk_29 (dk_at dksX2_wrongBy_0 8 rfl rfl)
theorem dX2_wrongBy_9 : decode cX2_wrongBy 9 = .ok (.invokevirtual 44, 3) := dk_182 0 44 (dk_at dksX2_wrongBy_0 9 rfl rfl)
theorem dX2_wrongBy_12 : decode cX2_wrongBy 12 = .ok (.getfield 187, 3) := dk_180 0 187 (dk_at dksX2_wrongBy_0 12 rfl rfl)
theorem dX2_wrongBy_15 : decode cX2_wrongBy 15 = .ok (.imul, 1) := dk_104 (dk_at dksX2_wrongBy_0 15 rfl rfl)
theorem dX2_wrongBy_16 : decode cX2_wrongBy 16 = .ok (.isub, 1) := dk_100 (dk_at dksX2_wrongBy_0 16 rfl rfl)
theorem dX2_wrongBy_17 : decode cX2_wrongBy 17 = .ok (.invokestatic 190, 3) := dk_184 0 190 (dk_at dksX2_wrongBy_0 17 rfl rfl)
theorem dX2_wrongBy_20 : decode cX2_wrongBy 20 = .ok (.bipush 10, 2) := dk_16 10 (dk_at dksX2_wrongBy_0 20 rfl rfl)
theorem dX2_wrongBy_22 : decode cX2_wrongBy 22 = .ok (.idiv, 1) := dk_108 (dk_at dksX2_wrongBy_0 22 rfl rfl)
theorem dX2_wrongBy_23 : decode cX2_wrongBy 23 = .ok (.invokestatic 195, 3) := dk_184 0 195 (dk_at dksX2_wrongBy_1 0 rfl rfl)
theorem dX2_wrongBy_26 : decode cX2_wrongBy 26 = .ok (.ireturn, 1) := dk_172 (dk_at dksX2_wrongBy_1 3 rfl rfl)
abbrev cX2_arrives : ByteArray := prog_13_method_16_code
def yX2_arrives : MethodName := ⟨RX2, "arrives", "(LWhistlePosts$Tune;)V"⟩
def dkwX2_arrives_6 : List UInt8 := [182, 0, 234, 182, 0, 238, 62, 177]
abbrev dktX2_arrives_6 : List UInt8 := dkwX2_arrives_6 ++ []
def dkwX2_arrives_5 : List UInt8 := [185, 0, 38, 1, 0, 16, 30, 162, 0, 22, 42, 43, 180, 0, 231, 43, 180, 0, 218, 4, 3, 43]
abbrev dktX2_arrives_5 : List UInt8 := dkwX2_arrives_5 ++ dktX2_arrives_6
def dkwX2_arrives_4 : List UInt8 := [184, 0, 205, 96, 79, 28, 153, 0, 43, 43, 180, 0, 227, 153, 0, 36, 42, 180, 0, 27]
abbrev dktX2_arrives_4 : List UInt8 := dkwX2_arrives_4 ++ dktX2_arrives_5
def dkwX2_arrives_3 : List UInt8 := [5, 181, 0, 224, 42, 180, 0, 34, 8, 92, 46, 4, 96, 79, 42, 180, 0, 34, 16, 6, 92, 46, 28]
abbrev dktX2_arrives_3 : List UInt8 := dkwX2_arrives_3 ++ dktX2_arrives_4
def dkwX2_arrives_2 : List UInt8 := [180, 0, 218, 181, 0, 221, 43, 3, 181, 0, 224, 42, 180, 0, 34, 16, 7, 92, 46, 4, 96, 79, 177, 43]
abbrev dktX2_arrives_2 : List UInt8 := dkwX2_arrives_2 ++ dktX2_arrives_3
def dkwX2_arrives_1 : List UInt8 := [180, 0, 30, 5, 46, 162, 0, 42, 43, 89, 180, 0, 212, 4, 96, 181, 0, 212, 43, 182, 0, 215, 43, 43]
abbrev dktX2_arrives_1 : List UInt8 := dkwX2_arrives_1 ++ dktX2_arrives_2
def dkwX2_arrives_0 : List UInt8 := [43, 182, 0, 209, 154, 0, 7, 4, 167, 0, 4, 3, 61, 28, 154, 0, 55, 43, 180, 0, 212, 42]
abbrev dktX2_arrives_0 : List UInt8 := dkwX2_arrives_0 ++ dktX2_arrives_1
theorem dksX2_arrives_0 : cX2_arrives.data.toList.drop 0 = dktX2_arrives_0 := by decide +kernel
theorem dksX2_arrives_1 : cX2_arrives.data.toList.drop 22 = dktX2_arrives_1 := dk_seg dksX2_arrives_0 22 rfl rfl
theorem dksX2_arrives_2 : cX2_arrives.data.toList.drop 46 = dktX2_arrives_2 := dk_seg dksX2_arrives_1 24 rfl rfl
theorem dksX2_arrives_3 : cX2_arrives.data.toList.drop 70 = dktX2_arrives_3 := dk_seg dksX2_arrives_2 24 rfl rfl
theorem dksX2_arrives_4 : cX2_arrives.data.toList.drop 93 = dktX2_arrives_4 := dk_seg dksX2_arrives_3 23 rfl rfl
theorem dksX2_arrives_5 : cX2_arrives.data.toList.drop 113 = dktX2_arrives_5 := dk_seg dksX2_arrives_4 20 rfl rfl
theorem dksX2_arrives_6 : cX2_arrives.data.toList.drop 135 = dktX2_arrives_6 := dk_seg dksX2_arrives_5 22 rfl rfl
theorem dX2_arrives_0 : decode cX2_arrives 0 = .ok (.aload_n 1, 1) := dk_43 (dk_at dksX2_arrives_0 0 rfl rfl)
theorem dX2_arrives_1 : decode cX2_arrives 1 = .ok (.invokevirtual 209, 3) := dk_182 0 209 (dk_at dksX2_arrives_0 1 rfl rfl)
theorem dX2_arrives_4 : decode cX2_arrives 4 = .ok (.ifCond .ne 7, 3) := dk_154 0 7 (dk_at dksX2_arrives_0 4 rfl rfl)
theorem dX2_arrives_7 : decode cX2_arrives 7 = .ok (.iconst 1, 1) := dk_4 (dk_at dksX2_arrives_0 7 rfl rfl)
theorem dX2_arrives_8 : decode cX2_arrives 8 = .ok (.goto 4, 3) := dk_167 0 4 (dk_at dksX2_arrives_0 8 rfl rfl)
theorem dX2_arrives_11 : decode cX2_arrives 11 = .ok (.iconst 0, 1) := dk_3 (dk_at dksX2_arrives_0 11 rfl rfl)
theorem dX2_arrives_12 : decode cX2_arrives 12 = .ok (.istore_n 2, 1) := dk_61 (dk_at dksX2_arrives_0 12 rfl rfl)
theorem dX2_arrives_13 : decode cX2_arrives 13 = .ok (.iload_n 2, 1) := dk_28 (dk_at dksX2_arrives_0 13 rfl rfl)
theorem dX2_arrives_14 : decode cX2_arrives 14 = .ok (.ifCond .ne 55, 3) := dk_154 0 55 (dk_at dksX2_arrives_0 14 rfl rfl)
theorem dX2_arrives_17 : decode cX2_arrives 17 = .ok (.aload_n 1, 1) := dk_43 (dk_at dksX2_arrives_0 17 rfl rfl)
theorem dX2_arrives_18 : decode cX2_arrives 18 = .ok (.getfield 212, 3) := dk_180 0 212 (dk_at dksX2_arrives_0 18 rfl rfl)
theorem dX2_arrives_21 : decode cX2_arrives 21 = .ok (.aload_n 0, 1) := dk_42 (dk_at dksX2_arrives_0 21 rfl rfl)
theorem dX2_arrives_22 : decode cX2_arrives 22 = .ok (.getfield 30, 3) := dk_180 0 30 (dk_at dksX2_arrives_1 0 rfl rfl)
theorem dX2_arrives_25 : decode cX2_arrives 25 = .ok (.iconst 2, 1) := dk_5 (dk_at dksX2_arrives_1 3 rfl rfl)
theorem dX2_arrives_26 : decode cX2_arrives 26 = .ok (.iaload, 1) := dk_46 (dk_at dksX2_arrives_1 4 rfl rfl)
theorem dX2_arrives_27 : decode cX2_arrives 27 = .ok (.if_icmp .ge 42, 3) := dk_162 0 42 (dk_at dksX2_arrives_1 5 rfl rfl)
theorem dX2_arrives_30 : decode cX2_arrives 30 = .ok (.aload_n 1, 1) := dk_43 (dk_at dksX2_arrives_1 8 rfl rfl)
theorem dX2_arrives_31 : decode cX2_arrives 31 = .ok (.dup, 1) := dk_89 (dk_at dksX2_arrives_1 9 rfl rfl)
theorem dX2_arrives_32 : decode cX2_arrives 32 = .ok (.getfield 212, 3) := dk_180 0 212 (dk_at dksX2_arrives_1 10 rfl rfl)
theorem dX2_arrives_35 : decode cX2_arrives 35 = .ok (.iconst 1, 1) := dk_4 (dk_at dksX2_arrives_1 13 rfl rfl)
theorem dX2_arrives_36 : decode cX2_arrives 36 = .ok (.iadd, 1) := dk_96 (dk_at dksX2_arrives_1 14 rfl rfl)
theorem dX2_arrives_37 : decode cX2_arrives 37 = .ok (.putfield 212, 3) := dk_181 0 212 (dk_at dksX2_arrives_1 15 rfl rfl)
theorem dX2_arrives_40 : decode cX2_arrives 40 = .ok (.aload_n 1, 1) := dk_43 (dk_at dksX2_arrives_1 18 rfl rfl)
theorem dX2_arrives_41 : decode cX2_arrives 41 = .ok (.invokevirtual 215, 3) := dk_182 0 215 (dk_at dksX2_arrives_1 19 rfl rfl)
theorem dX2_arrives_44 : decode cX2_arrives 44 = .ok (.aload_n 1, 1) := dk_43 (dk_at dksX2_arrives_1 22 rfl rfl)
theorem dX2_arrives_45 : decode cX2_arrives 45 = .ok (.aload_n 1, 1) := dk_43 (dk_at dksX2_arrives_1 23 rfl rfl)
theorem dX2_arrives_46 : decode cX2_arrives 46 = .ok (.getfield 218, 3) := dk_180 0 218 (dk_at dksX2_arrives_2 0 rfl rfl)
theorem dX2_arrives_49 : decode cX2_arrives 49 = .ok (.putfield 221, 3) := dk_181 0 221 (dk_at dksX2_arrives_2 3 rfl rfl)
theorem dX2_arrives_52 : decode cX2_arrives 52 = .ok (.aload_n 1, 1) := dk_43 (dk_at dksX2_arrives_2 6 rfl rfl)
theorem dX2_arrives_53 : decode cX2_arrives 53 = .ok (.iconst 0, 1) := dk_3 (dk_at dksX2_arrives_2 7 rfl rfl)
theorem dX2_arrives_54 : decode cX2_arrives 54 = .ok (.putfield 224, 3) := dk_181 0 224 (dk_at dksX2_arrives_2 8 rfl rfl)
theorem dX2_arrives_57 : decode cX2_arrives 57 = .ok (.aload_n 0, 1) := dk_42 (dk_at dksX2_arrives_2 11 rfl rfl)
theorem dX2_arrives_58 : decode cX2_arrives 58 = .ok (.getfield 34, 3) := dk_180 0 34 (dk_at dksX2_arrives_2 12 rfl rfl)
theorem dX2_arrives_61 : decode cX2_arrives 61 = .ok (.bipush 7, 2) := dk_16 7 (dk_at dksX2_arrives_2 15 rfl rfl)
theorem dX2_arrives_63 : decode cX2_arrives 63 = .ok (.dup2, 1) := dk_92 (dk_at dksX2_arrives_2 17 rfl rfl)
theorem dX2_arrives_64 : decode cX2_arrives 64 = .ok (.iaload, 1) := dk_46 (dk_at dksX2_arrives_2 18 rfl rfl)
theorem dX2_arrives_65 : decode cX2_arrives 65 = .ok (.iconst 1, 1) := dk_4 (dk_at dksX2_arrives_2 19 rfl rfl)
theorem dX2_arrives_66 : decode cX2_arrives 66 = .ok (.iadd, 1) := dk_96 (dk_at dksX2_arrives_2 20 rfl rfl)
theorem dX2_arrives_67 : decode cX2_arrives 67 = .ok (.iastore, 1) := dk_79 (dk_at dksX2_arrives_2 21 rfl rfl)
theorem dX2_arrives_68 : decode cX2_arrives 68 = .ok (.return_, 1) := dk_177 (dk_at dksX2_arrives_2 22 rfl rfl)
theorem dX2_arrives_69 : decode cX2_arrives 69 = .ok (.aload_n 1, 1) := dk_43 (dk_at dksX2_arrives_2 23 rfl rfl)
theorem dX2_arrives_70 : decode cX2_arrives 70 = .ok (.iconst 2, 1) := dk_5 (dk_at dksX2_arrives_3 0 rfl rfl)
theorem dX2_arrives_71 : decode cX2_arrives 71 = .ok (.putfield 224, 3) := dk_181 0 224 (dk_at dksX2_arrives_3 1 rfl rfl)
theorem dX2_arrives_74 : decode cX2_arrives 74 = .ok (.aload_n 0, 1) := dk_42 (dk_at dksX2_arrives_3 4 rfl rfl)
theorem dX2_arrives_75 : decode cX2_arrives 75 = .ok (.getfield 34, 3) := dk_180 0 34 (dk_at dksX2_arrives_3 5 rfl rfl)
theorem dX2_arrives_78 : decode cX2_arrives 78 = .ok (.iconst 5, 1) := dk_8 (dk_at dksX2_arrives_3 8 rfl rfl)
theorem dX2_arrives_79 : decode cX2_arrives 79 = .ok (.dup2, 1) := dk_92 (dk_at dksX2_arrives_3 9 rfl rfl)
theorem dX2_arrives_80 : decode cX2_arrives 80 = .ok (.iaload, 1) := dk_46 (dk_at dksX2_arrives_3 10 rfl rfl)
theorem dX2_arrives_81 : decode cX2_arrives 81 = .ok (.iconst 1, 1) := dk_4 (dk_at dksX2_arrives_3 11 rfl rfl)
theorem dX2_arrives_82 : decode cX2_arrives 82 = .ok (.iadd, 1) := dk_96 (dk_at dksX2_arrives_3 12 rfl rfl)
theorem dX2_arrives_83 : decode cX2_arrives 83 = .ok (.iastore, 1) := dk_79 (dk_at dksX2_arrives_3 13 rfl rfl)
theorem dX2_arrives_84 : decode cX2_arrives 84 = .ok (.aload_n 0, 1) := dk_42 (dk_at dksX2_arrives_3 14 rfl rfl)
theorem dX2_arrives_85 : decode cX2_arrives 85 = .ok (.getfield 34, 3) := dk_180 0 34 (dk_at dksX2_arrives_3 15 rfl rfl)
theorem dX2_arrives_88 : decode cX2_arrives 88 = .ok (.bipush 6, 2) := dk_16 6 (dk_at dksX2_arrives_3 18 rfl rfl)
theorem dX2_arrives_90 : decode cX2_arrives 90 = .ok (.dup2, 1) := dk_92 (dk_at dksX2_arrives_3 20 rfl rfl)
theorem dX2_arrives_91 : decode cX2_arrives 91 = .ok (.iaload, 1) := dk_46 (dk_at dksX2_arrives_3 21 rfl rfl)
theorem dX2_arrives_92 : decode cX2_arrives 92 = .ok (.iload_n 2, 1) := dk_28 (dk_at dksX2_arrives_3 22 rfl rfl)
theorem dX2_arrives_93 : decode cX2_arrives 93 = .ok (.invokestatic 205, 3) := dk_184 0 205 (dk_at dksX2_arrives_4 0 rfl rfl)
theorem dX2_arrives_96 : decode cX2_arrives 96 = .ok (.iadd, 1) := dk_96 (dk_at dksX2_arrives_4 3 rfl rfl)
theorem dX2_arrives_97 : decode cX2_arrives 97 = .ok (.iastore, 1) := dk_79 (dk_at dksX2_arrives_4 4 rfl rfl)
theorem dX2_arrives_98 : decode cX2_arrives 98 = .ok (.iload_n 2, 1) := dk_28 (dk_at dksX2_arrives_4 5 rfl rfl)
theorem dX2_arrives_99 : decode cX2_arrives 99 = .ok (.ifCond .eq 43, 3) := dk_153 0 43 (dk_at dksX2_arrives_4 6 rfl rfl)
theorem dX2_arrives_102 : decode cX2_arrives 102 = .ok (.aload_n 1, 1) := dk_43 (dk_at dksX2_arrives_4 9 rfl rfl)
theorem dX2_arrives_103 : decode cX2_arrives 103 = .ok (.getfield 227, 3) := dk_180 0 227 (dk_at dksX2_arrives_4 10 rfl rfl)
theorem dX2_arrives_106 : decode cX2_arrives 106 = .ok (.ifCond .eq 36, 3) := dk_153 0 36 (dk_at dksX2_arrives_4 13 rfl rfl)
theorem dX2_arrives_109 : decode cX2_arrives 109 = .ok (.aload_n 0, 1) := dk_42 (dk_at dksX2_arrives_4 16 rfl rfl)
theorem dX2_arrives_110 : decode cX2_arrives 110 = .ok (.getfield 27, 3) := dk_180 0 27 (dk_at dksX2_arrives_4 17 rfl rfl)
theorem dX2_arrives_113 : decode cX2_arrives 113 = .ok (.invokeinterface 38 1, 5) := by decide +kernel
theorem dX2_arrives_118 : decode cX2_arrives 118 = .ok (.bipush 30, 2) := dk_16 30 (dk_at dksX2_arrives_5 5 rfl rfl)
theorem dX2_arrives_120 : decode cX2_arrives 120 = .ok (.if_icmp .ge 22, 3) := dk_162 0 22 (dk_at dksX2_arrives_5 7 rfl rfl)
theorem dX2_arrives_123 : decode cX2_arrives 123 = .ok (.aload_n 0, 1) := dk_42 (dk_at dksX2_arrives_5 10 rfl rfl)
theorem dX2_arrives_124 : decode cX2_arrives 124 = .ok (.aload_n 1, 1) := dk_43 (dk_at dksX2_arrives_5 11 rfl rfl)
theorem dX2_arrives_125 : decode cX2_arrives 125 = .ok (.getfield 231, 3) := dk_180 0 231 (dk_at dksX2_arrives_5 12 rfl rfl)
theorem dX2_arrives_128 : decode cX2_arrives 128 = .ok (.aload_n 1, 1) := dk_43 (dk_at dksX2_arrives_5 15 rfl rfl)
theorem dX2_arrives_129 : decode cX2_arrives 129 = .ok (.getfield 218, 3) := dk_180 0 218 (dk_at dksX2_arrives_5 16 rfl rfl)
theorem dX2_arrives_132 : decode cX2_arrives 132 = .ok (.iconst 1, 1) := dk_4 (dk_at dksX2_arrives_5 19 rfl rfl)
theorem dX2_arrives_133 : decode cX2_arrives 133 = .ok (.iconst 0, 1) := dk_3 (dk_at dksX2_arrives_5 20 rfl rfl)
theorem dX2_arrives_134 : decode cX2_arrives 134 = .ok (.aload_n 1, 1) := dk_43 (dk_at dksX2_arrives_5 21 rfl rfl)
theorem dX2_arrives_135 : decode cX2_arrives 135 = .ok (.invokevirtual 234, 3) := dk_182 0 234 (dk_at dksX2_arrives_6 0 rfl rfl)
theorem dX2_arrives_138 : decode cX2_arrives 138 = .ok (.invokevirtual 238, 3) := dk_182 0 238 (dk_at dksX2_arrives_6 3 rfl rfl)
theorem dX2_arrives_141 : decode cX2_arrives 141 = .ok (.istore_n 3, 1) := dk_62 (dk_at dksX2_arrives_6 6 rfl rfl)
theorem dX2_arrives_142 : decode cX2_arrives 142 = .ok (.return_, 1) := dk_177 (dk_at dksX2_arrives_6 7 rfl rfl)
abbrev cX2_whistles : ByteArray := prog_13_method_21_code
def yX2_whistles : MethodName := ⟨RX2, "whistles", "(I)V"⟩
def dkwX2_whistles_7 : List UInt8 := [180, 1, 25, 45, 180, 0, 242, 96, 181, 0, 254, 45, 21, 5, 181, 0, 221, 45, 4, 181, 0, 224, 177]
abbrev dktX2_whistles_7 : List UInt8 := dkwX2_whistles_7 ++ []
def dkwX2_whistles_6 : List UInt8 := [180, 0, 231, 182, 1, 40, 54, 5, 45, 42, 27, 21, 5, 182, 1, 42, 182, 0, 156, 181, 0, 242, 45, 44]
abbrev dktX2_whistles_6 : List UInt8 := dkwX2_whistles_6 ++ dktX2_whistles_7
def dkwX2_whistles_5 : List UInt8 := [182, 0, 244, 44, 180, 1, 37, 96, 4, 100, 44, 180, 1, 37, 108, 96, 181, 1, 25, 42, 27, 45]
abbrev dktX2_whistles_5 : List UInt8 := dkwX2_whistles_5 ++ dktX2_whistles_6
def dkwX2_whistles_4 : List UInt8 := [180, 1, 31, 4, 96, 181, 1, 31, 45, 89, 180, 1, 34, 4, 96, 181, 1, 34, 44, 42, 180, 0, 93, 45]
abbrev dktX2_whistles_4 : List UInt8 := dkwX2_whistles_4 ++ dktX2_whistles_5
def dkwX2_whistles_3 : List UInt8 := [42, 180, 0, 34, 16, 9, 92, 46, 21, 4, 96, 79, 42, 180, 0, 34, 6, 92, 46, 4, 96, 79, 44, 89]
abbrev dktX2_whistles_3 : List UInt8 := dkwX2_whistles_3 ++ dktX2_whistles_4
def dkwX2_whistles_2 : List UInt8 := [182, 0, 44, 89, 180, 0, 116, 21, 4, 100, 181, 0, 116, 44, 89, 180, 0, 116, 21, 4, 96, 181, 0, 116]
abbrev dktX2_whistles_2 : List UInt8 := dkwX2_whistles_2 ++ dktX2_whistles_3
def dkwX2_whistles_1 : List UInt8 := [182, 1, 28, 78, 45, 199, 0, 4, 177, 42, 27, 45, 182, 1, 11, 54, 4, 42, 45, 180, 0, 218]
abbrev dktX2_whistles_1 : List UInt8 := dkwX2_whistles_1 ++ dktX2_whistles_2
def dkwX2_whistles_0 : List UInt8 := [42, 27, 182, 0, 44, 77, 44, 180, 1, 25, 42, 180, 0, 93, 164, 0, 7, 1, 167, 0, 8, 42, 27]
abbrev dktX2_whistles_0 : List UInt8 := dkwX2_whistles_0 ++ dktX2_whistles_1
theorem dksX2_whistles_0 : cX2_whistles.data.toList.drop 0 = dktX2_whistles_0 := by decide +kernel
theorem dksX2_whistles_1 : cX2_whistles.data.toList.drop 23 = dktX2_whistles_1 := dk_seg dksX2_whistles_0 23 rfl rfl
theorem dksX2_whistles_2 : cX2_whistles.data.toList.drop 45 = dktX2_whistles_2 := dk_seg dksX2_whistles_1 22 rfl rfl
theorem dksX2_whistles_3 : cX2_whistles.data.toList.drop 69 = dktX2_whistles_3 := dk_seg dksX2_whistles_2 24 rfl rfl
theorem dksX2_whistles_4 : cX2_whistles.data.toList.drop 93 = dktX2_whistles_4 := dk_seg dksX2_whistles_3 24 rfl rfl
theorem dksX2_whistles_5 : cX2_whistles.data.toList.drop 117 = dktX2_whistles_5 := dk_seg dksX2_whistles_4 24 rfl rfl
theorem dksX2_whistles_6 : cX2_whistles.data.toList.drop 139 = dktX2_whistles_6 := dk_seg dksX2_whistles_5 22 rfl rfl
theorem dksX2_whistles_7 : cX2_whistles.data.toList.drop 163 = dktX2_whistles_7 := dk_seg dksX2_whistles_6 24 rfl rfl
theorem dX2_whistles_0 : decode cX2_whistles 0 = .ok (.aload_n 0, 1) := dk_42 (dk_at dksX2_whistles_0 0 rfl rfl)
theorem dX2_whistles_1 : decode cX2_whistles 1 = .ok (.iload_n 1, 1) := dk_27 (dk_at dksX2_whistles_0 1 rfl rfl)
theorem dX2_whistles_2 : decode cX2_whistles 2 = .ok (.invokevirtual 44, 3) := dk_182 0 44 (dk_at dksX2_whistles_0 2 rfl rfl)
theorem dX2_whistles_5 : decode cX2_whistles 5 = .ok (.astore_n 2, 1) := dk_77 (dk_at dksX2_whistles_0 5 rfl rfl)
theorem dX2_whistles_6 : decode cX2_whistles 6 = .ok (.aload_n 2, 1) := dk_44 (dk_at dksX2_whistles_0 6 rfl rfl)
theorem dX2_whistles_7 : decode cX2_whistles 7 = .ok (.getfield 281, 3) := dk_180 1 25 (dk_at dksX2_whistles_0 7 rfl rfl)
theorem dX2_whistles_10 : decode cX2_whistles 10 = .ok (.aload_n 0, 1) := dk_42 (dk_at dksX2_whistles_0 10 rfl rfl)
theorem dX2_whistles_11 : decode cX2_whistles 11 = .ok (.getfield 93, 3) := dk_180 0 93 (dk_at dksX2_whistles_0 11 rfl rfl)
theorem dX2_whistles_14 : decode cX2_whistles 14 = .ok (.if_icmp .le 7, 3) := dk_164 0 7 (dk_at dksX2_whistles_0 14 rfl rfl)
theorem dX2_whistles_17 : decode cX2_whistles 17 = .ok (.aconst_null, 1) := dk_1 (dk_at dksX2_whistles_0 17 rfl rfl)
theorem dX2_whistles_18 : decode cX2_whistles 18 = .ok (.goto 8, 3) := dk_167 0 8 (dk_at dksX2_whistles_0 18 rfl rfl)
theorem dX2_whistles_21 : decode cX2_whistles 21 = .ok (.aload_n 0, 1) := dk_42 (dk_at dksX2_whistles_0 21 rfl rfl)
theorem dX2_whistles_22 : decode cX2_whistles 22 = .ok (.iload_n 1, 1) := dk_27 (dk_at dksX2_whistles_0 22 rfl rfl)
theorem dX2_whistles_23 : decode cX2_whistles 23 = .ok (.invokevirtual 284, 3) := dk_182 1 28 (dk_at dksX2_whistles_1 0 rfl rfl)
theorem dX2_whistles_26 : decode cX2_whistles 26 = .ok (.astore_n 3, 1) := dk_78 (dk_at dksX2_whistles_1 3 rfl rfl)
theorem dX2_whistles_27 : decode cX2_whistles 27 = .ok (.aload_n 3, 1) := dk_45 (dk_at dksX2_whistles_1 4 rfl rfl)
theorem dX2_whistles_28 : decode cX2_whistles 28 = .ok (.ifnonnull 4, 3) := dk_199 0 4 (dk_at dksX2_whistles_1 5 rfl rfl)
theorem dX2_whistles_31 : decode cX2_whistles 31 = .ok (.return_, 1) := dk_177 (dk_at dksX2_whistles_1 8 rfl rfl)
theorem dX2_whistles_32 : decode cX2_whistles 32 = .ok (.aload_n 0, 1) := dk_42 (dk_at dksX2_whistles_1 9 rfl rfl)
theorem dX2_whistles_33 : decode cX2_whistles 33 = .ok (.iload_n 1, 1) := dk_27 (dk_at dksX2_whistles_1 10 rfl rfl)
theorem dX2_whistles_34 : decode cX2_whistles 34 = .ok (.aload_n 3, 1) := dk_45 (dk_at dksX2_whistles_1 11 rfl rfl)
theorem dX2_whistles_35 : decode cX2_whistles 35 = .ok (.invokevirtual 267, 3) := dk_182 1 11 (dk_at dksX2_whistles_1 12 rfl rfl)
theorem dX2_whistles_38 : decode cX2_whistles 38 = .ok (.istore 4, 2) := dk_54 4 (dk_at dksX2_whistles_1 15 rfl rfl)
theorem dX2_whistles_40 : decode cX2_whistles 40 = .ok (.aload_n 0, 1) := dk_42 (dk_at dksX2_whistles_1 17 rfl rfl)
theorem dX2_whistles_41 : decode cX2_whistles 41 = .ok (.aload_n 3, 1) := dk_45 (dk_at dksX2_whistles_1 18 rfl rfl)
theorem dX2_whistles_42 : decode cX2_whistles 42 = .ok (.getfield 218, 3) := dk_180 0 218 (dk_at dksX2_whistles_1 19 rfl rfl)
theorem dX2_whistles_45 : decode cX2_whistles 45 = .ok (.invokevirtual 44, 3) := dk_182 0 44 (dk_at dksX2_whistles_2 0 rfl rfl)
theorem dX2_whistles_48 : decode cX2_whistles 48 = .ok (.dup, 1) := dk_89 (dk_at dksX2_whistles_2 3 rfl rfl)
theorem dX2_whistles_49 : decode cX2_whistles 49 = .ok (.getfield 116, 3) := dk_180 0 116 (dk_at dksX2_whistles_2 4 rfl rfl)
theorem dX2_whistles_52 : decode cX2_whistles 52 = .ok (.iload 4, 2) := dk_21 4 (dk_at dksX2_whistles_2 7 rfl rfl)
theorem dX2_whistles_54 : decode cX2_whistles 54 = .ok (.isub, 1) := dk_100 (dk_at dksX2_whistles_2 9 rfl rfl)
theorem dX2_whistles_55 : decode cX2_whistles 55 = .ok (.putfield 116, 3) := dk_181 0 116 (dk_at dksX2_whistles_2 10 rfl rfl)
theorem dX2_whistles_58 : decode cX2_whistles 58 = .ok (.aload_n 2, 1) := dk_44 (dk_at dksX2_whistles_2 13 rfl rfl)
theorem dX2_whistles_59 : decode cX2_whistles 59 = .ok (.dup, 1) := dk_89 (dk_at dksX2_whistles_2 14 rfl rfl)
theorem dX2_whistles_60 : decode cX2_whistles 60 = .ok (.getfield 116, 3) := dk_180 0 116 (dk_at dksX2_whistles_2 15 rfl rfl)
theorem dX2_whistles_63 : decode cX2_whistles 63 = .ok (.iload 4, 2) := dk_21 4 (dk_at dksX2_whistles_2 18 rfl rfl)
theorem dX2_whistles_65 : decode cX2_whistles 65 = .ok (.iadd, 1) := dk_96 (dk_at dksX2_whistles_2 20 rfl rfl)
theorem dX2_whistles_66 : decode cX2_whistles 66 = .ok (.putfield 116, 3) := dk_181 0 116 (dk_at dksX2_whistles_2 21 rfl rfl)
theorem dX2_whistles_69 : decode cX2_whistles 69 = .ok (.aload_n 0, 1) := dk_42 (dk_at dksX2_whistles_3 0 rfl rfl)
theorem dX2_whistles_70 : decode cX2_whistles 70 = .ok (.getfield 34, 3) := dk_180 0 34 (dk_at dksX2_whistles_3 1 rfl rfl)
theorem dX2_whistles_73 : decode cX2_whistles 73 = .ok (.bipush 9, 2) := dk_16 9 (dk_at dksX2_whistles_3 4 rfl rfl)
theorem dX2_whistles_75 : decode cX2_whistles 75 = .ok (.dup2, 1) := dk_92 (dk_at dksX2_whistles_3 6 rfl rfl)
theorem dX2_whistles_76 : decode cX2_whistles 76 = .ok (.iaload, 1) := dk_46 (dk_at dksX2_whistles_3 7 rfl rfl)
theorem dX2_whistles_77 : decode cX2_whistles 77 = .ok (.iload 4, 2) := dk_21 4 (dk_at dksX2_whistles_3 8 rfl rfl)
theorem dX2_whistles_79 : decode cX2_whistles 79 = .ok (.iadd, 1) := dk_96 (dk_at dksX2_whistles_3 10 rfl rfl)
theorem dX2_whistles_80 : decode cX2_whistles 80 = .ok (.iastore, 1) := dk_79 (dk_at dksX2_whistles_3 11 rfl rfl)
theorem dX2_whistles_81 : decode cX2_whistles 81 = .ok (.aload_n 0, 1) := dk_42 (dk_at dksX2_whistles_3 12 rfl rfl)
theorem dX2_whistles_82 : decode cX2_whistles 82 = .ok (.getfield 34, 3) := dk_180 0 34 (dk_at dksX2_whistles_3 13 rfl rfl)
theorem dX2_whistles_85 : decode cX2_whistles 85 = .ok (.iconst 3, 1) := dk_6 (dk_at dksX2_whistles_3 16 rfl rfl)
theorem dX2_whistles_86 : decode cX2_whistles 86 = .ok (.dup2, 1) := dk_92 (dk_at dksX2_whistles_3 17 rfl rfl)
theorem dX2_whistles_87 : decode cX2_whistles 87 = .ok (.iaload, 1) := dk_46 (dk_at dksX2_whistles_3 18 rfl rfl)
theorem dX2_whistles_88 : decode cX2_whistles 88 = .ok (.iconst 1, 1) := dk_4 (dk_at dksX2_whistles_3 19 rfl rfl)
theorem dX2_whistles_89 : decode cX2_whistles 89 = .ok (.iadd, 1) := dk_96 (dk_at dksX2_whistles_3 20 rfl rfl)
theorem dX2_whistles_90 : decode cX2_whistles 90 = .ok (.iastore, 1) := dk_79 (dk_at dksX2_whistles_3 21 rfl rfl)
theorem dX2_whistles_91 : decode cX2_whistles 91 = .ok (.aload_n 2, 1) := dk_44 (dk_at dksX2_whistles_3 22 rfl rfl)
theorem dX2_whistles_92 : decode cX2_whistles 92 = .ok (.dup, 1) := dk_89 (dk_at dksX2_whistles_3 23 rfl rfl)
theorem dX2_whistles_93 : decode cX2_whistles 93 = .ok (.getfield 287, 3) := dk_180 1 31 (dk_at dksX2_whistles_4 0 rfl rfl)
theorem dX2_whistles_96 : decode cX2_whistles 96 = .ok (.iconst 1, 1) := dk_4 (dk_at dksX2_whistles_4 3 rfl rfl)
theorem dX2_whistles_97 : decode cX2_whistles 97 = .ok (.iadd, 1) := dk_96 (dk_at dksX2_whistles_4 4 rfl rfl)
theorem dX2_whistles_98 : decode cX2_whistles 98 = .ok (.putfield 287, 3) := dk_181 1 31 (dk_at dksX2_whistles_4 5 rfl rfl)
theorem dX2_whistles_101 : decode cX2_whistles 101 = .ok (.aload_n 3, 1) := dk_45 (dk_at dksX2_whistles_4 8 rfl rfl)
theorem dX2_whistles_102 : decode cX2_whistles 102 = .ok (.dup, 1) := dk_89 (dk_at dksX2_whistles_4 9 rfl rfl)
theorem dX2_whistles_103 : decode cX2_whistles 103 = .ok (.getfield 290, 3) := dk_180 1 34 (dk_at dksX2_whistles_4 10 rfl rfl)
theorem dX2_whistles_106 : decode cX2_whistles 106 = .ok (.iconst 1, 1) := dk_4 (dk_at dksX2_whistles_4 13 rfl rfl)
theorem dX2_whistles_107 : decode cX2_whistles 107 = .ok (.iadd, 1) := dk_96 (dk_at dksX2_whistles_4 14 rfl rfl)
theorem dX2_whistles_108 : decode cX2_whistles 108 = .ok (.putfield 290, 3) := dk_181 1 34 (dk_at dksX2_whistles_4 15 rfl rfl)
theorem dX2_whistles_111 : decode cX2_whistles 111 = .ok (.aload_n 2, 1) := dk_44 (dk_at dksX2_whistles_4 18 rfl rfl)
theorem dX2_whistles_112 : decode cX2_whistles 112 = .ok (.aload_n 0, 1) := dk_42 (dk_at dksX2_whistles_4 19 rfl rfl)
theorem dX2_whistles_113 : decode cX2_whistles 113 = .ok (.getfield 93, 3) := dk_180 0 93 (dk_at dksX2_whistles_4 20 rfl rfl)
theorem dX2_whistles_116 : decode cX2_whistles 116 = .ok (.aload_n 3, 1) := dk_45 (dk_at dksX2_whistles_4 23 rfl rfl)
theorem dX2_whistles_117 : decode cX2_whistles 117 = .ok (.invokevirtual 244, 3) := dk_182 0 244 (dk_at dksX2_whistles_5 0 rfl rfl)
theorem dX2_whistles_120 : decode cX2_whistles 120 = .ok (.aload_n 2, 1) := dk_44 (dk_at dksX2_whistles_5 3 rfl rfl)
theorem dX2_whistles_121 : decode cX2_whistles 121 = .ok (.getfield 293, 3) := dk_180 1 37 (dk_at dksX2_whistles_5 4 rfl rfl)
theorem dX2_whistles_124 : decode cX2_whistles 124 = .ok (.iadd, 1) := dk_96 (dk_at dksX2_whistles_5 7 rfl rfl)
theorem dX2_whistles_125 : decode cX2_whistles 125 = .ok (.iconst 1, 1) := dk_4 (dk_at dksX2_whistles_5 8 rfl rfl)
theorem dX2_whistles_126 : decode cX2_whistles 126 = .ok (.isub, 1) := dk_100 (dk_at dksX2_whistles_5 9 rfl rfl)
theorem dX2_whistles_127 : decode cX2_whistles 127 = .ok (.aload_n 2, 1) := dk_44 (dk_at dksX2_whistles_5 10 rfl rfl)
theorem dX2_whistles_128 : decode cX2_whistles 128 = .ok (.getfield 293, 3) := dk_180 1 37 (dk_at dksX2_whistles_5 11 rfl rfl)
theorem dX2_whistles_131 : decode cX2_whistles 131 = .ok (.idiv, 1) := dk_108 (dk_at dksX2_whistles_5 14 rfl rfl)
theorem dX2_whistles_132 : decode cX2_whistles 132 = .ok (.iadd, 1) := dk_96 (dk_at dksX2_whistles_5 15 rfl rfl)
theorem dX2_whistles_133 : decode cX2_whistles 133 = .ok (.putfield 281, 3) := dk_181 1 25 (dk_at dksX2_whistles_5 16 rfl rfl)
theorem dX2_whistles_136 : decode cX2_whistles 136 = .ok (.aload_n 0, 1) := dk_42 (dk_at dksX2_whistles_5 19 rfl rfl)
theorem dX2_whistles_137 : decode cX2_whistles 137 = .ok (.iload_n 1, 1) := dk_27 (dk_at dksX2_whistles_5 20 rfl rfl)
theorem dX2_whistles_138 : decode cX2_whistles 138 = .ok (.aload_n 3, 1) := dk_45 (dk_at dksX2_whistles_5 21 rfl rfl)
theorem dX2_whistles_139 : decode cX2_whistles 139 = .ok (.getfield 231, 3) := dk_180 0 231 (dk_at dksX2_whistles_6 0 rfl rfl)
theorem dX2_whistles_142 : decode cX2_whistles 142 = .ok (.invokevirtual 296, 3) := dk_182 1 40 (dk_at dksX2_whistles_6 3 rfl rfl)
theorem dX2_whistles_145 : decode cX2_whistles 145 = .ok (.istore 5, 2) := dk_54 5 (dk_at dksX2_whistles_6 6 rfl rfl)
theorem dX2_whistles_147 : decode cX2_whistles 147 = .ok (.aload_n 3, 1) := dk_45 (dk_at dksX2_whistles_6 8 rfl rfl)
theorem dX2_whistles_148 : decode cX2_whistles 148 = .ok (.aload_n 0, 1) := dk_42 (dk_at dksX2_whistles_6 9 rfl rfl)
theorem dX2_whistles_149 : decode cX2_whistles 149 = .ok (.iload_n 1, 1) := dk_27 (dk_at dksX2_whistles_6 10 rfl rfl)
theorem dX2_whistles_150 : decode cX2_whistles 150 = .ok (.iload 5, 2) := dk_21 5 (dk_at dksX2_whistles_6 11 rfl rfl)
theorem dX2_whistles_152 : decode cX2_whistles 152 = .ok (.invokevirtual 298, 3) := dk_182 1 42 (dk_at dksX2_whistles_6 13 rfl rfl)
theorem dX2_whistles_155 : decode cX2_whistles 155 = .ok (.invokevirtual 156, 3) := dk_182 0 156 (dk_at dksX2_whistles_6 16 rfl rfl)
theorem dX2_whistles_158 : decode cX2_whistles 158 = .ok (.putfield 242, 3) := dk_181 0 242 (dk_at dksX2_whistles_6 19 rfl rfl)
theorem dX2_whistles_161 : decode cX2_whistles 161 = .ok (.aload_n 3, 1) := dk_45 (dk_at dksX2_whistles_6 22 rfl rfl)
theorem dX2_whistles_162 : decode cX2_whistles 162 = .ok (.aload_n 2, 1) := dk_44 (dk_at dksX2_whistles_6 23 rfl rfl)
theorem dX2_whistles_163 : decode cX2_whistles 163 = .ok (.getfield 281, 3) := dk_180 1 25 (dk_at dksX2_whistles_7 0 rfl rfl)
theorem dX2_whistles_166 : decode cX2_whistles 166 = .ok (.aload_n 3, 1) := dk_45 (dk_at dksX2_whistles_7 3 rfl rfl)
theorem dX2_whistles_167 : decode cX2_whistles 167 = .ok (.getfield 242, 3) := dk_180 0 242 (dk_at dksX2_whistles_7 4 rfl rfl)
theorem dX2_whistles_170 : decode cX2_whistles 170 = .ok (.iadd, 1) := dk_96 (dk_at dksX2_whistles_7 7 rfl rfl)
theorem dX2_whistles_171 : decode cX2_whistles 171 = .ok (.putfield 254, 3) := dk_181 0 254 (dk_at dksX2_whistles_7 8 rfl rfl)
theorem dX2_whistles_174 : decode cX2_whistles 174 = .ok (.aload_n 3, 1) := dk_45 (dk_at dksX2_whistles_7 11 rfl rfl)
theorem dX2_whistles_175 : decode cX2_whistles 175 = .ok (.iload 5, 2) := dk_21 5 (dk_at dksX2_whistles_7 12 rfl rfl)
theorem dX2_whistles_177 : decode cX2_whistles 177 = .ok (.putfield 221, 3) := dk_181 0 221 (dk_at dksX2_whistles_7 14 rfl rfl)
theorem dX2_whistles_180 : decode cX2_whistles 180 = .ok (.aload_n 3, 1) := dk_45 (dk_at dksX2_whistles_7 17 rfl rfl)
theorem dX2_whistles_181 : decode cX2_whistles 181 = .ok (.iconst 1, 1) := dk_4 (dk_at dksX2_whistles_7 18 rfl rfl)
theorem dX2_whistles_182 : decode cX2_whistles 182 = .ok (.putfield 224, 3) := dk_181 0 224 (dk_at dksX2_whistles_7 19 rfl rfl)
theorem dX2_whistles_185 : decode cX2_whistles 185 = .ok (.return_, 1) := dk_177 (dk_at dksX2_whistles_7 22 rfl rfl)
abbrev cX2_chosen : ByteArray := prog_13_method_20_code
def yX2_chosen : MethodName := ⟨RX2, "chosen", "(I)LWhistlePosts$Tune;"⟩
def dkwX2_chosen_2 : List UInt8 := [25, 4, 44, 182, 1, 21, 153, 0, 6, 25, 4, 77, 132, 3, 1, 167, 255, 198, 44, 176]
abbrev dktX2_chosen_2 : List UInt8 := dkwX2_chosen_2 ++ []
def dkwX2_chosen_1 : List UInt8 := [25, 4, 27, 182, 1, 14, 153, 0, 29, 42, 27, 25, 4, 182, 1, 17, 153, 0, 19, 44, 198, 0, 12]
abbrev dktX2_chosen_1 : List UInt8 := dkwX2_chosen_1 ++ dktX2_chosen_2
def dkwX2_chosen_0 : List UInt8 := [1, 77, 3, 62, 29, 42, 180, 0, 27, 185, 0, 38, 1, 0, 162, 0, 51, 42, 29, 182, 0, 78, 58, 4]
abbrev dktX2_chosen_0 : List UInt8 := dkwX2_chosen_0 ++ dktX2_chosen_1
theorem dksX2_chosen_0 : cX2_chosen.data.toList.drop 0 = dktX2_chosen_0 := by decide +kernel
theorem dksX2_chosen_1 : cX2_chosen.data.toList.drop 24 = dktX2_chosen_1 := dk_seg dksX2_chosen_0 24 rfl rfl
theorem dksX2_chosen_2 : cX2_chosen.data.toList.drop 47 = dktX2_chosen_2 := dk_seg dksX2_chosen_1 23 rfl rfl
theorem dX2_chosen_0 : decode cX2_chosen 0 = .ok (.aconst_null, 1) := dk_1 (dk_at dksX2_chosen_0 0 rfl rfl)
theorem dX2_chosen_1 : decode cX2_chosen 1 = .ok (.astore_n 2, 1) := dk_77 (dk_at dksX2_chosen_0 1 rfl rfl)
theorem dX2_chosen_2 : decode cX2_chosen 2 = .ok (.iconst 0, 1) := dk_3 (dk_at dksX2_chosen_0 2 rfl rfl)
theorem dX2_chosen_3 : decode cX2_chosen 3 = .ok (.istore_n 3, 1) := dk_62 (dk_at dksX2_chosen_0 3 rfl rfl)
theorem dX2_chosen_4 : decode cX2_chosen 4 = .ok (.iload_n 3, 1) := dk_29 (dk_at dksX2_chosen_0 4 rfl rfl)
theorem dX2_chosen_5 : decode cX2_chosen 5 = .ok (.aload_n 0, 1) := dk_42 (dk_at dksX2_chosen_0 5 rfl rfl)
theorem dX2_chosen_6 : decode cX2_chosen 6 = .ok (.getfield 27, 3) := dk_180 0 27 (dk_at dksX2_chosen_0 6 rfl rfl)
theorem dX2_chosen_9 : decode cX2_chosen 9 = .ok (.invokeinterface 38 1, 5) := by decide +kernel
theorem dX2_chosen_14 : decode cX2_chosen 14 = .ok (.if_icmp .ge 51, 3) := dk_162 0 51 (dk_at dksX2_chosen_0 14 rfl rfl)
theorem dX2_chosen_17 : decode cX2_chosen 17 = .ok (.aload_n 0, 1) := dk_42 (dk_at dksX2_chosen_0 17 rfl rfl)
theorem dX2_chosen_18 : decode cX2_chosen 18 = .ok (.iload_n 3, 1) := dk_29 (dk_at dksX2_chosen_0 18 rfl rfl)
theorem dX2_chosen_19 : decode cX2_chosen 19 = .ok (.invokevirtual 78, 3) := dk_182 0 78 (dk_at dksX2_chosen_0 19 rfl rfl)
theorem dX2_chosen_22 : decode cX2_chosen 22 = .ok (.astore 4, 2) := dk_58 4 (dk_at dksX2_chosen_0 22 rfl rfl)
theorem dX2_chosen_24 : decode cX2_chosen 24 = .ok (.aload 4, 2) := dk_25 4 (dk_at dksX2_chosen_1 0 rfl rfl)
theorem dX2_chosen_26 : decode cX2_chosen 26 = .ok (.iload_n 1, 1) := dk_27 (dk_at dksX2_chosen_1 2 rfl rfl)
theorem dX2_chosen_27 : decode cX2_chosen 27 = .ok (.invokevirtual 270, 3) := dk_182 1 14 (dk_at dksX2_chosen_1 3 rfl rfl)
theorem dX2_chosen_30 : decode cX2_chosen 30 = .ok (.ifCond .eq 29, 3) := dk_153 0 29 (dk_at dksX2_chosen_1 6 rfl rfl)
theorem dX2_chosen_33 : decode cX2_chosen 33 = .ok (.aload_n 0, 1) := dk_42 (dk_at dksX2_chosen_1 9 rfl rfl)
theorem dX2_chosen_34 : decode cX2_chosen 34 = .ok (.iload_n 1, 1) := dk_27 (dk_at dksX2_chosen_1 10 rfl rfl)
theorem dX2_chosen_35 : decode cX2_chosen 35 = .ok (.aload 4, 2) := dk_25 4 (dk_at dksX2_chosen_1 11 rfl rfl)
theorem dX2_chosen_37 : decode cX2_chosen 37 = .ok (.invokevirtual 273, 3) := dk_182 1 17 (dk_at dksX2_chosen_1 13 rfl rfl)
theorem dX2_chosen_40 : decode cX2_chosen 40 = .ok (.ifCond .eq 19, 3) := dk_153 0 19 (dk_at dksX2_chosen_1 16 rfl rfl)
theorem dX2_chosen_43 : decode cX2_chosen 43 = .ok (.aload_n 2, 1) := dk_44 (dk_at dksX2_chosen_1 19 rfl rfl)
theorem dX2_chosen_44 : decode cX2_chosen 44 = .ok (.ifnull 12, 3) := dk_198 0 12 (dk_at dksX2_chosen_1 20 rfl rfl)
theorem dX2_chosen_47 : decode cX2_chosen 47 = .ok (.aload 4, 2) := dk_25 4 (dk_at dksX2_chosen_2 0 rfl rfl)
theorem dX2_chosen_49 : decode cX2_chosen 49 = .ok (.aload_n 2, 1) := dk_44 (dk_at dksX2_chosen_2 2 rfl rfl)
theorem dX2_chosen_50 : decode cX2_chosen 50 = .ok (.invokevirtual 277, 3) := dk_182 1 21 (dk_at dksX2_chosen_2 3 rfl rfl)
theorem dX2_chosen_53 : decode cX2_chosen 53 = .ok (.ifCond .eq 6, 3) := dk_153 0 6 (dk_at dksX2_chosen_2 6 rfl rfl)
theorem dX2_chosen_56 : decode cX2_chosen 56 = .ok (.aload 4, 2) := dk_25 4 (dk_at dksX2_chosen_2 9 rfl rfl)
theorem dX2_chosen_58 : decode cX2_chosen 58 = .ok (.astore_n 2, 1) := dk_77 (dk_at dksX2_chosen_2 11 rfl rfl)
theorem dX2_chosen_59 : decode cX2_chosen 59 = .ok (.iinc 3 1, 3) := dk_132 3 1 (dk_at dksX2_chosen_2 12 rfl rfl)
theorem dX2_chosen_62 : decode cX2_chosen 62 = .ok (.goto (-58), 3) := dk_167 255 198 (dk_at dksX2_chosen_2 15 rfl rfl)
theorem dX2_chosen_65 : decode cX2_chosen 65 = .ok (.aload_n 2, 1) := dk_44 (dk_at dksX2_chosen_2 18 rfl rfl)
theorem dX2_chosen_66 : decode cX2_chosen 66 = .ok (.areturn, 1) := dk_176 (dk_at dksX2_chosen_2 19 rfl rfl)
abbrev cX2_canBe : ByteArray := prog_13_method_19_code
def yX2_canBe : MethodName := ⟨RX2, "canBe", "(ILWhistlePosts$Tune;)Z"⟩
def dkwX2_canBe_1 : List UInt8 := [180, 0, 231, 182, 0, 163, 2, 159, 0, 7, 4, 167, 0, 4, 3, 172]
abbrev dktX2_canBe_1 : List UInt8 := dkwX2_canBe_1 ++ []
def dkwX2_canBe_0 : List UInt8 := [42, 44, 180, 0, 218, 182, 0, 44, 180, 0, 116, 42, 27, 44, 182, 1, 11, 161, 0, 20, 42, 27, 44]
abbrev dktX2_canBe_0 : List UInt8 := dkwX2_canBe_0 ++ dktX2_canBe_1
theorem dksX2_canBe_0 : cX2_canBe.data.toList.drop 0 = dktX2_canBe_0 := by decide +kernel
theorem dksX2_canBe_1 : cX2_canBe.data.toList.drop 23 = dktX2_canBe_1 := dk_seg dksX2_canBe_0 23 rfl rfl
theorem dX2_canBe_0 : decode cX2_canBe 0 = .ok (.aload_n 0, 1) := dk_42 (dk_at dksX2_canBe_0 0 rfl rfl)
theorem dX2_canBe_1 : decode cX2_canBe 1 = .ok (.aload_n 2, 1) := dk_44 (dk_at dksX2_canBe_0 1 rfl rfl)
theorem dX2_canBe_2 : decode cX2_canBe 2 = .ok (.getfield 218, 3) := dk_180 0 218 (dk_at dksX2_canBe_0 2 rfl rfl)
theorem dX2_canBe_5 : decode cX2_canBe 5 = .ok (.invokevirtual 44, 3) := dk_182 0 44 (dk_at dksX2_canBe_0 5 rfl rfl)
theorem dX2_canBe_8 : decode cX2_canBe 8 = .ok (.getfield 116, 3) := dk_180 0 116 (dk_at dksX2_canBe_0 8 rfl rfl)
theorem dX2_canBe_11 : decode cX2_canBe 11 = .ok (.aload_n 0, 1) := dk_42 (dk_at dksX2_canBe_0 11 rfl rfl)
theorem dX2_canBe_12 : decode cX2_canBe 12 = .ok (.iload_n 1, 1) := dk_27 (dk_at dksX2_canBe_0 12 rfl rfl)
theorem dX2_canBe_13 : decode cX2_canBe 13 = .ok (.aload_n 2, 1) := dk_44 (dk_at dksX2_canBe_0 13 rfl rfl)
theorem dX2_canBe_14 : decode cX2_canBe 14 = .ok (.invokevirtual 267, 3) := dk_182 1 11 (dk_at dksX2_canBe_0 14 rfl rfl)
theorem dX2_canBe_17 : decode cX2_canBe 17 = .ok (.if_icmp .lt 20, 3) := dk_161 0 20 (dk_at dksX2_canBe_0 17 rfl rfl)
theorem dX2_canBe_20 : decode cX2_canBe 20 = .ok (.aload_n 0, 1) := dk_42 (dk_at dksX2_canBe_0 20 rfl rfl)
theorem dX2_canBe_21 : decode cX2_canBe 21 = .ok (.iload_n 1, 1) := dk_27 (dk_at dksX2_canBe_0 21 rfl rfl)
theorem dX2_canBe_22 : decode cX2_canBe 22 = .ok (.aload_n 2, 1) := dk_44 (dk_at dksX2_canBe_0 22 rfl rfl)
theorem dX2_canBe_23 : decode cX2_canBe 23 = .ok (.getfield 231, 3) := dk_180 0 231 (dk_at dksX2_canBe_1 0 rfl rfl)
theorem dX2_canBe_26 : decode cX2_canBe 26 = .ok (.invokevirtual 163, 3) := dk_182 0 163 (dk_at dksX2_canBe_1 3 rfl rfl)
theorem dX2_canBe_29 : decode cX2_canBe 29 = .ok (.iconst (-1), 1) := dk_2 (dk_at dksX2_canBe_1 6 rfl rfl)
theorem dX2_canBe_30 : decode cX2_canBe 30 = .ok (.if_icmp .eq 7, 3) := dk_159 0 7 (dk_at dksX2_canBe_1 7 rfl rfl)
theorem dX2_canBe_33 : decode cX2_canBe 33 = .ok (.iconst 1, 1) := dk_4 (dk_at dksX2_canBe_1 10 rfl rfl)
theorem dX2_canBe_34 : decode cX2_canBe 34 = .ok (.goto 4, 3) := dk_167 0 4 (dk_at dksX2_canBe_1 11 rfl rfl)
theorem dX2_canBe_37 : decode cX2_canBe 37 = .ok (.iconst 0, 1) := dk_3 (dk_at dksX2_canBe_1 14 rfl rfl)
theorem dX2_canBe_38 : decode cX2_canBe 38 = .ok (.ireturn, 1) := dk_172 (dk_at dksX2_canBe_1 15 rfl rfl)
abbrev cX2_fee : ByteArray := prog_13_method_18_code
def yX2_fee : MethodName := ⟨RX2, "fee", "(ILWhistlePosts$Tune;)I"⟩
def dkwX2_fee_0 : List UInt8 := [42, 27, 182, 0, 44, 180, 1, 5, 44, 182, 1, 8, 104, 172]
abbrev dktX2_fee_0 : List UInt8 := dkwX2_fee_0 ++ []
theorem dksX2_fee_0 : cX2_fee.data.toList.drop 0 = dktX2_fee_0 := by decide +kernel
theorem dX2_fee_0 : decode cX2_fee 0 = .ok (.aload_n 0, 1) := dk_42 (dk_at dksX2_fee_0 0 rfl rfl)
theorem dX2_fee_1 : decode cX2_fee 1 = .ok (.iload_n 1, 1) := dk_27 (dk_at dksX2_fee_0 1 rfl rfl)
theorem dX2_fee_2 : decode cX2_fee 2 = .ok (.invokevirtual 44, 3) := dk_182 0 44 (dk_at dksX2_fee_0 2 rfl rfl)
theorem dX2_fee_5 : decode cX2_fee 5 = .ok (.getfield 261, 3) := dk_180 1 5 (dk_at dksX2_fee_0 5 rfl rfl)
theorem dX2_fee_8 : decode cX2_fee 8 = .ok (.aload_n 2, 1) := dk_44 (dk_at dksX2_fee_0 8 rfl rfl)
theorem dX2_fee_9 : decode cX2_fee 9 = .ok (.invokevirtual 264, 3) := dk_182 1 8 (dk_at dksX2_fee_0 9 rfl rfl)
theorem dX2_fee_12 : decode cX2_fee 12 = .ok (.imul, 1) := dk_104 (dk_at dksX2_fee_0 12 rfl rfl)
theorem dX2_fee_13 : decode cX2_fee 13 = .ok (.ireturn, 1) := dk_172 (dk_at dksX2_fee_0 13 rfl rfl)
abbrev cX2_route : ByteArray := prog_13_method_10_code
def yX2_route : MethodName := ⟨RX2, "route", "(II)I"⟩
def dkwX2_route_0 : List UInt8 := [42, 182, 0, 160, 42, 180, 0, 100, 42, 180, 0, 14, 185, 0, 38, 1, 0, 27, 104, 28, 96, 46, 172]
abbrev dktX2_route_0 : List UInt8 := dkwX2_route_0 ++ []
theorem dksX2_route_0 : cX2_route.data.toList.drop 0 = dktX2_route_0 := by decide +kernel
theorem dX2_route_0 : decode cX2_route 0 = .ok (.aload_n 0, 1) := dk_42 (dk_at dksX2_route_0 0 rfl rfl)
theorem dX2_route_1 : decode cX2_route 1 = .ok (.invokevirtual 160, 3) := dk_182 0 160 (dk_at dksX2_route_0 1 rfl rfl)
theorem dX2_route_4 : decode cX2_route 4 = .ok (.aload_n 0, 1) := dk_42 (dk_at dksX2_route_0 4 rfl rfl)
theorem dX2_route_5 : decode cX2_route 5 = .ok (.getfield 100, 3) := dk_180 0 100 (dk_at dksX2_route_0 5 rfl rfl)
theorem dX2_route_8 : decode cX2_route 8 = .ok (.aload_n 0, 1) := dk_42 (dk_at dksX2_route_0 8 rfl rfl)
theorem dX2_route_9 : decode cX2_route 9 = .ok (.getfield 14, 3) := dk_180 0 14 (dk_at dksX2_route_0 9 rfl rfl)
theorem dX2_route_12 : decode cX2_route 12 = .ok (.invokeinterface 38 1, 5) := by decide +kernel
theorem dX2_route_17 : decode cX2_route 17 = .ok (.iload_n 1, 1) := dk_27 (dk_at dksX2_route_0 17 rfl rfl)
theorem dX2_route_18 : decode cX2_route 18 = .ok (.imul, 1) := dk_104 (dk_at dksX2_route_0 18 rfl rfl)
theorem dX2_route_19 : decode cX2_route 19 = .ok (.iload_n 2, 1) := dk_28 (dk_at dksX2_route_0 19 rfl rfl)
theorem dX2_route_20 : decode cX2_route 20 = .ok (.iadd, 1) := dk_96 (dk_at dksX2_route_0 20 rfl rfl)
theorem dX2_route_21 : decode cX2_route 21 = .ok (.iaload, 1) := dk_46 (dk_at dksX2_route_0 21 rfl rfl)
theorem dX2_route_22 : decode cX2_route 22 = .ok (.ireturn, 1) := dk_172 (dk_at dksX2_route_0 22 rfl rfl)
abbrev cX2_laysRoutes : ByteArray := prog_13_method_9_code
def yX2_laysRoutes : MethodName := ⟨RX2, "laysRoutes", "()V"⟩
def dkwX2_laysRoutes_3 : List UInt8 := [162, 0, 14, 42, 27, 182, 0, 157, 132, 1, 1, 167, 255, 235, 177]
abbrev dktX2_laysRoutes_3 : List UInt8 := dkwX2_laysRoutes_3 ++ []
def dkwX2_laysRoutes_2 : List UInt8 := [180, 0, 100, 27, 2, 79, 132, 1, 1, 167, 255, 237, 3, 60, 27, 42, 180, 0, 14, 185, 0, 38, 1, 0]
abbrev dktX2_laysRoutes_2 : List UInt8 := dkwX2_laysRoutes_2 ++ dktX2_laysRoutes_3
def dkwX2_laysRoutes_1 : List UInt8 := [185, 0, 38, 1, 0, 104, 188, 10, 181, 0, 100, 3, 60, 27, 42, 180, 0, 100, 190, 162, 0, 16, 42]
abbrev dktX2_laysRoutes_1 : List UInt8 := dkwX2_laysRoutes_1 ++ dktX2_laysRoutes_2
def dkwX2_laysRoutes_0 : List UInt8 := [42, 180, 0, 100, 198, 0, 4, 177, 42, 42, 180, 0, 14, 185, 0, 38, 1, 0, 42, 180, 0, 14]
abbrev dktX2_laysRoutes_0 : List UInt8 := dkwX2_laysRoutes_0 ++ dktX2_laysRoutes_1
theorem dksX2_laysRoutes_0 : cX2_laysRoutes.data.toList.drop 0 = dktX2_laysRoutes_0 := by decide +kernel
theorem dksX2_laysRoutes_1 : cX2_laysRoutes.data.toList.drop 22 = dktX2_laysRoutes_1 := dk_seg dksX2_laysRoutes_0 22 rfl rfl
theorem dksX2_laysRoutes_2 : cX2_laysRoutes.data.toList.drop 45 = dktX2_laysRoutes_2 := dk_seg dksX2_laysRoutes_1 23 rfl rfl
theorem dksX2_laysRoutes_3 : cX2_laysRoutes.data.toList.drop 69 = dktX2_laysRoutes_3 := dk_seg dksX2_laysRoutes_2 24 rfl rfl
theorem dX2_laysRoutes_0 : decode cX2_laysRoutes 0 = .ok (.aload_n 0, 1) := dk_42 (dk_at dksX2_laysRoutes_0 0 rfl rfl)
theorem dX2_laysRoutes_1 : decode cX2_laysRoutes 1 = .ok (.getfield 100, 3) := dk_180 0 100 (dk_at dksX2_laysRoutes_0 1 rfl rfl)
theorem dX2_laysRoutes_4 : decode cX2_laysRoutes 4 = .ok (.ifnull 4, 3) := dk_198 0 4 (dk_at dksX2_laysRoutes_0 4 rfl rfl)
theorem dX2_laysRoutes_7 : decode cX2_laysRoutes 7 = .ok (.return_, 1) := dk_177 (dk_at dksX2_laysRoutes_0 7 rfl rfl)
theorem dX2_laysRoutes_8 : decode cX2_laysRoutes 8 = .ok (.aload_n 0, 1) := dk_42 (dk_at dksX2_laysRoutes_0 8 rfl rfl)
theorem dX2_laysRoutes_9 : decode cX2_laysRoutes 9 = .ok (.aload_n 0, 1) := dk_42 (dk_at dksX2_laysRoutes_0 9 rfl rfl)
theorem dX2_laysRoutes_10 : decode cX2_laysRoutes 10 = .ok (.getfield 14, 3) := dk_180 0 14 (dk_at dksX2_laysRoutes_0 10 rfl rfl)
theorem dX2_laysRoutes_13 : decode cX2_laysRoutes 13 = .ok (.invokeinterface 38 1, 5) := by decide +kernel
theorem dX2_laysRoutes_18 : decode cX2_laysRoutes 18 = .ok (.aload_n 0, 1) := dk_42 (dk_at dksX2_laysRoutes_0 18 rfl rfl)
theorem dX2_laysRoutes_19 : decode cX2_laysRoutes 19 = .ok (.getfield 14, 3) := dk_180 0 14 (dk_at dksX2_laysRoutes_0 19 rfl rfl)
theorem dX2_laysRoutes_22 : decode cX2_laysRoutes 22 = .ok (.invokeinterface 38 1, 5) := by decide +kernel
theorem dX2_laysRoutes_27 : decode cX2_laysRoutes 27 = .ok (.imul, 1) := dk_104 (dk_at dksX2_laysRoutes_1 5 rfl rfl)
theorem dX2_laysRoutes_28 : decode cX2_laysRoutes 28 = .ok (.newarray .int, 2) := dk_188_10 (dk_at dksX2_laysRoutes_1 6 rfl rfl)
theorem dX2_laysRoutes_30 : decode cX2_laysRoutes 30 = .ok (.putfield 100, 3) := dk_181 0 100 (dk_at dksX2_laysRoutes_1 8 rfl rfl)
theorem dX2_laysRoutes_33 : decode cX2_laysRoutes 33 = .ok (.iconst 0, 1) := dk_3 (dk_at dksX2_laysRoutes_1 11 rfl rfl)
theorem dX2_laysRoutes_34 : decode cX2_laysRoutes 34 = .ok (.istore_n 1, 1) := dk_60 (dk_at dksX2_laysRoutes_1 12 rfl rfl)
theorem dX2_laysRoutes_35 : decode cX2_laysRoutes 35 = .ok (.iload_n 1, 1) := dk_27 (dk_at dksX2_laysRoutes_1 13 rfl rfl)
theorem dX2_laysRoutes_36 : decode cX2_laysRoutes 36 = .ok (.aload_n 0, 1) := dk_42 (dk_at dksX2_laysRoutes_1 14 rfl rfl)
theorem dX2_laysRoutes_37 : decode cX2_laysRoutes 37 = .ok (.getfield 100, 3) := dk_180 0 100 (dk_at dksX2_laysRoutes_1 15 rfl rfl)
theorem dX2_laysRoutes_40 : decode cX2_laysRoutes 40 = .ok (.arraylength, 1) := dk_190 (dk_at dksX2_laysRoutes_1 18 rfl rfl)
theorem dX2_laysRoutes_41 : decode cX2_laysRoutes 41 = .ok (.if_icmp .ge 16, 3) := dk_162 0 16 (dk_at dksX2_laysRoutes_1 19 rfl rfl)
theorem dX2_laysRoutes_44 : decode cX2_laysRoutes 44 = .ok (.aload_n 0, 1) := dk_42 (dk_at dksX2_laysRoutes_1 22 rfl rfl)
theorem dX2_laysRoutes_45 : decode cX2_laysRoutes 45 = .ok (.getfield 100, 3) := dk_180 0 100 (dk_at dksX2_laysRoutes_2 0 rfl rfl)
theorem dX2_laysRoutes_48 : decode cX2_laysRoutes 48 = .ok (.iload_n 1, 1) := dk_27 (dk_at dksX2_laysRoutes_2 3 rfl rfl)
theorem dX2_laysRoutes_49 : decode cX2_laysRoutes 49 = .ok (.iconst (-1), 1) := dk_2 (dk_at dksX2_laysRoutes_2 4 rfl rfl)
theorem dX2_laysRoutes_50 : decode cX2_laysRoutes 50 = .ok (.iastore, 1) := dk_79 (dk_at dksX2_laysRoutes_2 5 rfl rfl)
theorem dX2_laysRoutes_51 : decode cX2_laysRoutes 51 = .ok (.iinc 1 1, 3) := dk_132 1 1 (dk_at dksX2_laysRoutes_2 6 rfl rfl)
theorem dX2_laysRoutes_54 : decode cX2_laysRoutes 54 = .ok (.goto (-19), 3) := dk_167 255 237 (dk_at dksX2_laysRoutes_2 9 rfl rfl)
theorem dX2_laysRoutes_57 : decode cX2_laysRoutes 57 = .ok (.iconst 0, 1) := dk_3 (dk_at dksX2_laysRoutes_2 12 rfl rfl)
theorem dX2_laysRoutes_58 : decode cX2_laysRoutes 58 = .ok (.istore_n 1, 1) := dk_60 (dk_at dksX2_laysRoutes_2 13 rfl rfl)
theorem dX2_laysRoutes_59 : decode cX2_laysRoutes 59 = .ok (.iload_n 1, 1) := dk_27 (dk_at dksX2_laysRoutes_2 14 rfl rfl)
theorem dX2_laysRoutes_60 : decode cX2_laysRoutes 60 = .ok (.aload_n 0, 1) := dk_42 (dk_at dksX2_laysRoutes_2 15 rfl rfl)
theorem dX2_laysRoutes_61 : decode cX2_laysRoutes 61 = .ok (.getfield 14, 3) := dk_180 0 14 (dk_at dksX2_laysRoutes_2 16 rfl rfl)
theorem dX2_laysRoutes_64 : decode cX2_laysRoutes 64 = .ok (.invokeinterface 38 1, 5) := by decide +kernel
theorem dX2_laysRoutes_69 : decode cX2_laysRoutes 69 = .ok (.if_icmp .ge 14, 3) := dk_162 0 14 (dk_at dksX2_laysRoutes_3 0 rfl rfl)
theorem dX2_laysRoutes_72 : decode cX2_laysRoutes 72 = .ok (.aload_n 0, 1) := dk_42 (dk_at dksX2_laysRoutes_3 3 rfl rfl)
theorem dX2_laysRoutes_73 : decode cX2_laysRoutes 73 = .ok (.iload_n 1, 1) := dk_27 (dk_at dksX2_laysRoutes_3 4 rfl rfl)
theorem dX2_laysRoutes_74 : decode cX2_laysRoutes 74 = .ok (.invokevirtual 157, 3) := dk_182 0 157 (dk_at dksX2_laysRoutes_3 5 rfl rfl)
theorem dX2_laysRoutes_77 : decode cX2_laysRoutes 77 = .ok (.iinc 1 1, 3) := dk_132 1 1 (dk_at dksX2_laysRoutes_3 8 rfl rfl)
theorem dX2_laysRoutes_80 : decode cX2_laysRoutes 80 = .ok (.goto (-21), 3) := dk_167 255 235 (dk_at dksX2_laysRoutes_3 11 rfl rfl)
theorem dX2_laysRoutes_83 : decode cX2_laysRoutes 83 = .ok (.return_, 1) := dk_177 (dk_at dksX2_laysRoutes_3 14 rfl rfl)
abbrev cX2_laysFrom : ByteArray := prog_13_method_8_code
def yX2_laysFrom : MethodName := ⟨RX2, "laysFrom", "(I)V"⟩
def dkwX2_laysFrom_8 : List UInt8 := [96, 183, 0, 133, 182, 0, 136, 54, 4, 167, 255, 164, 167, 255, 96, 177]
abbrev dktX2_laysFrom_8 : List UInt8 := dkwX2_laysFrom_8 ++ []
def dkwX2_laysFrom_7 : List UInt8 := [187, 0, 131, 89, 25, 7, 25, 5, 182, 0, 143, 182, 0, 152, 25, 5, 182, 0, 145, 25, 7, 182, 0, 156]
abbrev dktX2_laysFrom_7 : List UInt8 := dkwX2_laysFrom_7 ++ dktX2_laysFrom_8
def dkwX2_laysFrom_6 : List UInt8 := [180, 0, 100, 28, 27, 104, 25, 7, 25, 5, 182, 0, 143, 182, 0, 152, 96, 46, 2, 160, 0, 37, 45]
abbrev dktX2_laysFrom_6 : List UInt8 := dkwX2_laysFrom_6 ++ dktX2_laysFrom_7
def dkwX2_laysFrom_5 : List UInt8 := [185, 0, 68, 1, 0, 192, 0, 72, 58, 7, 25, 7, 25, 5, 182, 0, 143, 182, 0, 148, 153, 0, 60, 42]
abbrev dktX2_laysFrom_5 : List UInt8 := dkwX2_laysFrom_5 ++ dktX2_laysFrom_6
def dkwX2_laysFrom_4 : List UInt8 := [79, 42, 180, 0, 23, 182, 0, 58, 58, 6, 25, 6, 185, 0, 62, 1, 0, 153, 0, 88, 25, 6]
abbrev dktX2_laysFrom_4 : List UInt8 := dkwX2_laysFrom_4 ++ dktX2_laysFrom_5
def dkwX2_laysFrom_3 : List UInt8 := [159, 0, 6, 167, 255, 222, 42, 180, 0, 100, 28, 27, 104, 25, 5, 182, 0, 143, 96, 25, 5, 182, 0, 145]
abbrev dktX2_laysFrom_3 : List UInt8 := dkwX2_laysFrom_3 ++ dktX2_laysFrom_4
def dkwX2_laysFrom_2 : List UInt8 := [182, 0, 140, 192, 0, 131, 58, 5, 42, 180, 0, 100, 28, 27, 104, 25, 5, 182, 0, 143, 96, 46, 2]
abbrev dktX2_laysFrom_2 : List UInt8 := dkwX2_laysFrom_2 ++ dktX2_laysFrom_3
def dkwX2_laysFrom_1 : List UInt8 := [78, 45, 187, 0, 131, 89, 27, 3, 183, 0, 133, 182, 0, 136, 54, 4, 45, 182, 0, 137, 154, 0, 159, 45]
abbrev dktX2_laysFrom_1 : List UInt8 := dkwX2_laysFrom_1 ++ dktX2_laysFrom_2
def dkwX2_laysFrom_0 : List UInt8 := [42, 180, 0, 14, 185, 0, 38, 1, 0, 61, 187, 0, 123, 89, 187, 0, 125, 89, 183, 0, 127, 183, 0, 128]
abbrev dktX2_laysFrom_0 : List UInt8 := dkwX2_laysFrom_0 ++ dktX2_laysFrom_1
theorem dksX2_laysFrom_0 : cX2_laysFrom.data.toList.drop 0 = dktX2_laysFrom_0 := by decide +kernel
theorem dksX2_laysFrom_1 : cX2_laysFrom.data.toList.drop 24 = dktX2_laysFrom_1 := dk_seg dksX2_laysFrom_0 24 rfl rfl
theorem dksX2_laysFrom_2 : cX2_laysFrom.data.toList.drop 48 = dktX2_laysFrom_2 := dk_seg dksX2_laysFrom_1 24 rfl rfl
theorem dksX2_laysFrom_3 : cX2_laysFrom.data.toList.drop 71 = dktX2_laysFrom_3 := dk_seg dksX2_laysFrom_2 23 rfl rfl
theorem dksX2_laysFrom_4 : cX2_laysFrom.data.toList.drop 95 = dktX2_laysFrom_4 := dk_seg dksX2_laysFrom_3 24 rfl rfl
theorem dksX2_laysFrom_5 : cX2_laysFrom.data.toList.drop 117 = dktX2_laysFrom_5 := dk_seg dksX2_laysFrom_4 22 rfl rfl
theorem dksX2_laysFrom_6 : cX2_laysFrom.data.toList.drop 141 = dktX2_laysFrom_6 := dk_seg dksX2_laysFrom_5 24 rfl rfl
theorem dksX2_laysFrom_7 : cX2_laysFrom.data.toList.drop 164 = dktX2_laysFrom_7 := dk_seg dksX2_laysFrom_6 23 rfl rfl
theorem dksX2_laysFrom_8 : cX2_laysFrom.data.toList.drop 188 = dktX2_laysFrom_8 := dk_seg dksX2_laysFrom_7 24 rfl rfl
theorem dX2_laysFrom_0 : decode cX2_laysFrom 0 = .ok (.aload_n 0, 1) := dk_42 (dk_at dksX2_laysFrom_0 0 rfl rfl)
theorem dX2_laysFrom_1 : decode cX2_laysFrom 1 = .ok (.getfield 14, 3) := dk_180 0 14 (dk_at dksX2_laysFrom_0 1 rfl rfl)
theorem dX2_laysFrom_4 : decode cX2_laysFrom 4 = .ok (.invokeinterface 38 1, 5) := by decide +kernel
theorem dX2_laysFrom_9 : decode cX2_laysFrom 9 = .ok (.istore_n 2, 1) := dk_61 (dk_at dksX2_laysFrom_0 9 rfl rfl)
theorem dX2_laysFrom_10 : decode cX2_laysFrom 10 = .ok (.new 123, 3) := dk_187 0 123 (dk_at dksX2_laysFrom_0 10 rfl rfl)
theorem dX2_laysFrom_13 : decode cX2_laysFrom 13 = .ok (.dup, 1) := dk_89 (dk_at dksX2_laysFrom_0 13 rfl rfl)
theorem dX2_laysFrom_14 : decode cX2_laysFrom 14 = .ok (.new 125, 3) := dk_187 0 125 (dk_at dksX2_laysFrom_0 14 rfl rfl)
theorem dX2_laysFrom_17 : decode cX2_laysFrom 17 = .ok (.dup, 1) := dk_89 (dk_at dksX2_laysFrom_0 17 rfl rfl)
theorem dX2_laysFrom_18 : decode cX2_laysFrom 18 = .ok (.invokespecial 127, 3) := dk_183 0 127 (dk_at dksX2_laysFrom_0 18 rfl rfl)
theorem dX2_laysFrom_21 : decode cX2_laysFrom 21 = .ok (.invokespecial 128, 3) := dk_183 0 128 (dk_at dksX2_laysFrom_0 21 rfl rfl)
theorem dX2_laysFrom_24 : decode cX2_laysFrom 24 = .ok (.astore_n 3, 1) := dk_78 (dk_at dksX2_laysFrom_1 0 rfl rfl)
theorem dX2_laysFrom_25 : decode cX2_laysFrom 25 = .ok (.aload_n 3, 1) := dk_45 (dk_at dksX2_laysFrom_1 1 rfl rfl)
theorem dX2_laysFrom_26 : decode cX2_laysFrom 26 = .ok (.new 131, 3) := dk_187 0 131 (dk_at dksX2_laysFrom_1 2 rfl rfl)
theorem dX2_laysFrom_29 : decode cX2_laysFrom 29 = .ok (.dup, 1) := dk_89 (dk_at dksX2_laysFrom_1 5 rfl rfl)
theorem dX2_laysFrom_30 : decode cX2_laysFrom 30 = .ok (.iload_n 1, 1) := dk_27 (dk_at dksX2_laysFrom_1 6 rfl rfl)
theorem dX2_laysFrom_31 : decode cX2_laysFrom 31 = .ok (.iconst 0, 1) := dk_3 (dk_at dksX2_laysFrom_1 7 rfl rfl)
theorem dX2_laysFrom_32 : decode cX2_laysFrom 32 = .ok (.invokespecial 133, 3) := dk_183 0 133 (dk_at dksX2_laysFrom_1 8 rfl rfl)
theorem dX2_laysFrom_35 : decode cX2_laysFrom 35 = .ok (.invokevirtual 136, 3) := dk_182 0 136 (dk_at dksX2_laysFrom_1 11 rfl rfl)
theorem dX2_laysFrom_38 : decode cX2_laysFrom 38 = .ok (.istore 4, 2) := dk_54 4 (dk_at dksX2_laysFrom_1 14 rfl rfl)
theorem dX2_laysFrom_40 : decode cX2_laysFrom 40 = .ok (.aload_n 3, 1) := dk_45 (dk_at dksX2_laysFrom_1 16 rfl rfl)
theorem dX2_laysFrom_41 : decode cX2_laysFrom 41 = .ok (.invokevirtual 137, 3) := dk_182 0 137 (dk_at dksX2_laysFrom_1 17 rfl rfl)
theorem dX2_laysFrom_44 : decode cX2_laysFrom 44 = .ok (.ifCond .ne 159, 3) := dk_154 0 159 (dk_at dksX2_laysFrom_1 20 rfl rfl)
theorem dX2_laysFrom_47 : decode cX2_laysFrom 47 = .ok (.aload_n 3, 1) := dk_45 (dk_at dksX2_laysFrom_1 23 rfl rfl)
theorem dX2_laysFrom_48 : decode cX2_laysFrom 48 = .ok (.invokevirtual 140, 3) := dk_182 0 140 (dk_at dksX2_laysFrom_2 0 rfl rfl)
theorem dX2_laysFrom_51 : decode cX2_laysFrom 51 = .ok (.checkcast 131, 3) := dk_192 0 131 (dk_at dksX2_laysFrom_2 3 rfl rfl)
theorem dX2_laysFrom_54 : decode cX2_laysFrom 54 = .ok (.astore 5, 2) := dk_58 5 (dk_at dksX2_laysFrom_2 6 rfl rfl)
theorem dX2_laysFrom_56 : decode cX2_laysFrom 56 = .ok (.aload_n 0, 1) := dk_42 (dk_at dksX2_laysFrom_2 8 rfl rfl)
theorem dX2_laysFrom_57 : decode cX2_laysFrom 57 = .ok (.getfield 100, 3) := dk_180 0 100 (dk_at dksX2_laysFrom_2 9 rfl rfl)
theorem dX2_laysFrom_60 : decode cX2_laysFrom 60 = .ok (.iload_n 2, 1) := dk_28 (dk_at dksX2_laysFrom_2 12 rfl rfl)
theorem dX2_laysFrom_61 : decode cX2_laysFrom 61 = .ok (.iload_n 1, 1) := dk_27 (dk_at dksX2_laysFrom_2 13 rfl rfl)
theorem dX2_laysFrom_62 : decode cX2_laysFrom 62 = .ok (.imul, 1) := dk_104 (dk_at dksX2_laysFrom_2 14 rfl rfl)
theorem dX2_laysFrom_63 : decode cX2_laysFrom 63 = .ok (.aload 5, 2) := dk_25 5 (dk_at dksX2_laysFrom_2 15 rfl rfl)
theorem dX2_laysFrom_65 : decode cX2_laysFrom 65 = .ok (.invokevirtual 143, 3) := dk_182 0 143 (dk_at dksX2_laysFrom_2 17 rfl rfl)
theorem dX2_laysFrom_68 : decode cX2_laysFrom 68 = .ok (.iadd, 1) := dk_96 (dk_at dksX2_laysFrom_2 20 rfl rfl)
theorem dX2_laysFrom_69 : decode cX2_laysFrom 69 = .ok (.iaload, 1) := dk_46 (dk_at dksX2_laysFrom_2 21 rfl rfl)
theorem dX2_laysFrom_70 : decode cX2_laysFrom 70 = .ok (.iconst (-1), 1) := dk_2 (dk_at dksX2_laysFrom_2 22 rfl rfl)
theorem dX2_laysFrom_71 : decode cX2_laysFrom 71 = .ok (.if_icmp .eq 6, 3) := dk_159 0 6 (dk_at dksX2_laysFrom_3 0 rfl rfl)
theorem dX2_laysFrom_74 : decode cX2_laysFrom 74 = .ok (.goto (-34), 3) := dk_167 255 222 (dk_at dksX2_laysFrom_3 3 rfl rfl)
theorem dX2_laysFrom_77 : decode cX2_laysFrom 77 = .ok (.aload_n 0, 1) := dk_42 (dk_at dksX2_laysFrom_3 6 rfl rfl)
theorem dX2_laysFrom_78 : decode cX2_laysFrom 78 = .ok (.getfield 100, 3) := dk_180 0 100 (dk_at dksX2_laysFrom_3 7 rfl rfl)
theorem dX2_laysFrom_81 : decode cX2_laysFrom 81 = .ok (.iload_n 2, 1) := dk_28 (dk_at dksX2_laysFrom_3 10 rfl rfl)
theorem dX2_laysFrom_82 : decode cX2_laysFrom 82 = .ok (.iload_n 1, 1) := dk_27 (dk_at dksX2_laysFrom_3 11 rfl rfl)
theorem dX2_laysFrom_83 : decode cX2_laysFrom 83 = .ok (.imul, 1) := dk_104 (dk_at dksX2_laysFrom_3 12 rfl rfl)
theorem dX2_laysFrom_84 : decode cX2_laysFrom 84 = .ok (.aload 5, 2) := dk_25 5 (dk_at dksX2_laysFrom_3 13 rfl rfl)
theorem dX2_laysFrom_86 : decode cX2_laysFrom 86 = .ok (.invokevirtual 143, 3) := dk_182 0 143 (dk_at dksX2_laysFrom_3 15 rfl rfl)
theorem dX2_laysFrom_89 : decode cX2_laysFrom 89 = .ok (.iadd, 1) := dk_96 (dk_at dksX2_laysFrom_3 18 rfl rfl)
theorem dX2_laysFrom_90 : decode cX2_laysFrom 90 = .ok (.aload 5, 2) := dk_25 5 (dk_at dksX2_laysFrom_3 19 rfl rfl)
theorem dX2_laysFrom_92 : decode cX2_laysFrom 92 = .ok (.invokevirtual 145, 3) := dk_182 0 145 (dk_at dksX2_laysFrom_3 21 rfl rfl)
theorem dX2_laysFrom_95 : decode cX2_laysFrom 95 = .ok (.iastore, 1) := dk_79 (dk_at dksX2_laysFrom_4 0 rfl rfl)
theorem dX2_laysFrom_96 : decode cX2_laysFrom 96 = .ok (.aload_n 0, 1) := dk_42 (dk_at dksX2_laysFrom_4 1 rfl rfl)
theorem dX2_laysFrom_97 : decode cX2_laysFrom 97 = .ok (.getfield 23, 3) := dk_180 0 23 (dk_at dksX2_laysFrom_4 2 rfl rfl)
theorem dX2_laysFrom_100 : decode cX2_laysFrom 100 = .ok (.invokevirtual 58, 3) := dk_182 0 58 (dk_at dksX2_laysFrom_4 5 rfl rfl)
theorem dX2_laysFrom_103 : decode cX2_laysFrom 103 = .ok (.astore 6, 2) := dk_58 6 (dk_at dksX2_laysFrom_4 8 rfl rfl)
theorem dX2_laysFrom_105 : decode cX2_laysFrom 105 = .ok (.aload 6, 2) := dk_25 6 (dk_at dksX2_laysFrom_4 10 rfl rfl)
theorem dX2_laysFrom_107 : decode cX2_laysFrom 107 = .ok (.invokeinterface 62 1, 5) := by decide +kernel
theorem dX2_laysFrom_112 : decode cX2_laysFrom 112 = .ok (.ifCond .eq 88, 3) := dk_153 0 88 (dk_at dksX2_laysFrom_4 17 rfl rfl)
theorem dX2_laysFrom_115 : decode cX2_laysFrom 115 = .ok (.aload 6, 2) := dk_25 6 (dk_at dksX2_laysFrom_4 20 rfl rfl)
theorem dX2_laysFrom_117 : decode cX2_laysFrom 117 = .ok (.invokeinterface 68 1, 5) := by decide +kernel
theorem dX2_laysFrom_122 : decode cX2_laysFrom 122 = .ok (.checkcast 72, 3) := dk_192 0 72 (dk_at dksX2_laysFrom_5 5 rfl rfl)
theorem dX2_laysFrom_125 : decode cX2_laysFrom 125 = .ok (.astore 7, 2) := dk_58 7 (dk_at dksX2_laysFrom_5 8 rfl rfl)
theorem dX2_laysFrom_127 : decode cX2_laysFrom 127 = .ok (.aload 7, 2) := dk_25 7 (dk_at dksX2_laysFrom_5 10 rfl rfl)
theorem dX2_laysFrom_129 : decode cX2_laysFrom 129 = .ok (.aload 5, 2) := dk_25 5 (dk_at dksX2_laysFrom_5 12 rfl rfl)
theorem dX2_laysFrom_131 : decode cX2_laysFrom 131 = .ok (.invokevirtual 143, 3) := dk_182 0 143 (dk_at dksX2_laysFrom_5 14 rfl rfl)
theorem dX2_laysFrom_134 : decode cX2_laysFrom 134 = .ok (.invokevirtual 148, 3) := dk_182 0 148 (dk_at dksX2_laysFrom_5 17 rfl rfl)
theorem dX2_laysFrom_137 : decode cX2_laysFrom 137 = .ok (.ifCond .eq 60, 3) := dk_153 0 60 (dk_at dksX2_laysFrom_5 20 rfl rfl)
theorem dX2_laysFrom_140 : decode cX2_laysFrom 140 = .ok (.aload_n 0, 1) := dk_42 (dk_at dksX2_laysFrom_5 23 rfl rfl)
theorem dX2_laysFrom_141 : decode cX2_laysFrom 141 = .ok (.getfield 100, 3) := dk_180 0 100 (dk_at dksX2_laysFrom_6 0 rfl rfl)
theorem dX2_laysFrom_144 : decode cX2_laysFrom 144 = .ok (.iload_n 2, 1) := dk_28 (dk_at dksX2_laysFrom_6 3 rfl rfl)
theorem dX2_laysFrom_145 : decode cX2_laysFrom 145 = .ok (.iload_n 1, 1) := dk_27 (dk_at dksX2_laysFrom_6 4 rfl rfl)
theorem dX2_laysFrom_146 : decode cX2_laysFrom 146 = .ok (.imul, 1) := dk_104 (dk_at dksX2_laysFrom_6 5 rfl rfl)
theorem dX2_laysFrom_147 : decode cX2_laysFrom 147 = .ok (.aload 7, 2) := dk_25 7 (dk_at dksX2_laysFrom_6 6 rfl rfl)
theorem dX2_laysFrom_149 : decode cX2_laysFrom 149 = .ok (.aload 5, 2) := dk_25 5 (dk_at dksX2_laysFrom_6 8 rfl rfl)
theorem dX2_laysFrom_151 : decode cX2_laysFrom 151 = .ok (.invokevirtual 143, 3) := dk_182 0 143 (dk_at dksX2_laysFrom_6 10 rfl rfl)
theorem dX2_laysFrom_154 : decode cX2_laysFrom 154 = .ok (.invokevirtual 152, 3) := dk_182 0 152 (dk_at dksX2_laysFrom_6 13 rfl rfl)
theorem dX2_laysFrom_157 : decode cX2_laysFrom 157 = .ok (.iadd, 1) := dk_96 (dk_at dksX2_laysFrom_6 16 rfl rfl)
theorem dX2_laysFrom_158 : decode cX2_laysFrom 158 = .ok (.iaload, 1) := dk_46 (dk_at dksX2_laysFrom_6 17 rfl rfl)
theorem dX2_laysFrom_159 : decode cX2_laysFrom 159 = .ok (.iconst (-1), 1) := dk_2 (dk_at dksX2_laysFrom_6 18 rfl rfl)
theorem dX2_laysFrom_160 : decode cX2_laysFrom 160 = .ok (.if_icmp .ne 37, 3) := dk_160 0 37 (dk_at dksX2_laysFrom_6 19 rfl rfl)
theorem dX2_laysFrom_163 : decode cX2_laysFrom 163 = .ok (.aload_n 3, 1) := dk_45 (dk_at dksX2_laysFrom_6 22 rfl rfl)
theorem dX2_laysFrom_164 : decode cX2_laysFrom 164 = .ok (.new 131, 3) := dk_187 0 131 (dk_at dksX2_laysFrom_7 0 rfl rfl)
theorem dX2_laysFrom_167 : decode cX2_laysFrom 167 = .ok (.dup, 1) := dk_89 (dk_at dksX2_laysFrom_7 3 rfl rfl)
theorem dX2_laysFrom_168 : decode cX2_laysFrom 168 = .ok (.aload 7, 2) := dk_25 7 (dk_at dksX2_laysFrom_7 4 rfl rfl)
theorem dX2_laysFrom_170 : decode cX2_laysFrom 170 = .ok (.aload 5, 2) := dk_25 5 (dk_at dksX2_laysFrom_7 6 rfl rfl)
theorem dX2_laysFrom_172 : decode cX2_laysFrom 172 = .ok (.invokevirtual 143, 3) := dk_182 0 143 (dk_at dksX2_laysFrom_7 8 rfl rfl)
theorem dX2_laysFrom_175 : decode cX2_laysFrom 175 = .ok (.invokevirtual 152, 3) := dk_182 0 152 (dk_at dksX2_laysFrom_7 11 rfl rfl)
theorem dX2_laysFrom_178 : decode cX2_laysFrom 178 = .ok (.aload 5, 2) := dk_25 5 (dk_at dksX2_laysFrom_7 14 rfl rfl)
theorem dX2_laysFrom_180 : decode cX2_laysFrom 180 = .ok (.invokevirtual 145, 3) := dk_182 0 145 (dk_at dksX2_laysFrom_7 16 rfl rfl)
theorem dX2_laysFrom_183 : decode cX2_laysFrom 183 = .ok (.aload 7, 2) := dk_25 7 (dk_at dksX2_laysFrom_7 19 rfl rfl)
theorem dX2_laysFrom_185 : decode cX2_laysFrom 185 = .ok (.invokevirtual 156, 3) := dk_182 0 156 (dk_at dksX2_laysFrom_7 21 rfl rfl)
theorem dX2_laysFrom_188 : decode cX2_laysFrom 188 = .ok (.iadd, 1) := dk_96 (dk_at dksX2_laysFrom_8 0 rfl rfl)
theorem dX2_laysFrom_189 : decode cX2_laysFrom 189 = .ok (.invokespecial 133, 3) := dk_183 0 133 (dk_at dksX2_laysFrom_8 1 rfl rfl)
theorem dX2_laysFrom_192 : decode cX2_laysFrom 192 = .ok (.invokevirtual 136, 3) := dk_182 0 136 (dk_at dksX2_laysFrom_8 4 rfl rfl)
theorem dX2_laysFrom_195 : decode cX2_laysFrom 195 = .ok (.istore 4, 2) := dk_54 4 (dk_at dksX2_laysFrom_8 7 rfl rfl)
theorem dX2_laysFrom_197 : decode cX2_laysFrom 197 = .ok (.goto (-92), 3) := dk_167 255 164 (dk_at dksX2_laysFrom_8 9 rfl rfl)
theorem dX2_laysFrom_200 : decode cX2_laysFrom 200 = .ok (.goto (-160), 3) := dk_167 255 96 (dk_at dksX2_laysFrom_8 12 rfl rfl)
theorem dX2_laysFrom_203 : decode cX2_laysFrom 203 = .ok (.return_, 1) := dk_177 (dk_at dksX2_laysFrom_8 15 rfl rfl)
abbrev cX2_next : ByteArray := prog_13_method_11_code
def yX2_next : MethodName := ⟨RX2, "next", "(II)I"⟩
def dkwX2_next_5 : List UInt8 := [167, 255, 166, 21, 4, 172]
abbrev dktX2_next_5 : List UInt8 := dkwX2_next_5 ++ []
def dkwX2_next_4 : List UInt8 := [159, 0, 14, 25, 6, 27, 182, 0, 152, 21, 4, 162, 0, 11, 25, 6, 27, 182, 0, 152, 54, 4]
abbrev dktX2_next_4 : List UInt8 := dkwX2_next_4 ++ dktX2_next_5
def dkwX2_next_3 : List UInt8 := [54, 7, 21, 7, 2, 159, 0, 40, 21, 7, 25, 6, 182, 0, 156, 96, 29, 160, 0, 28, 21, 4, 2]
abbrev dktX2_next_3 : List UInt8 := dkwX2_next_3 ++ dktX2_next_4
def dkwX2_next_2 : List UInt8 := [25, 6, 27, 182, 0, 148, 154, 0, 6, 167, 255, 225, 42, 25, 6, 27, 182, 0, 152, 28, 182, 0, 163]
abbrev dktX2_next_2 : List UInt8 := dkwX2_next_2 ++ dktX2_next_3
def dkwX2_next_1 : List UInt8 := [58, 5, 25, 5, 185, 0, 62, 1, 0, 153, 0, 86, 25, 5, 185, 0, 68, 1, 0, 192, 0, 72, 58, 6]
abbrev dktX2_next_1 : List UInt8 := dkwX2_next_1 ++ dktX2_next_2
def dkwX2_next_0 : List UInt8 := [42, 27, 28, 182, 0, 163, 62, 2, 54, 4, 29, 157, 0, 5, 2, 172, 42, 180, 0, 23, 182, 0, 58]
abbrev dktX2_next_0 : List UInt8 := dkwX2_next_0 ++ dktX2_next_1
theorem dksX2_next_0 : cX2_next.data.toList.drop 0 = dktX2_next_0 := by decide +kernel
theorem dksX2_next_1 : cX2_next.data.toList.drop 23 = dktX2_next_1 := dk_seg dksX2_next_0 23 rfl rfl
theorem dksX2_next_2 : cX2_next.data.toList.drop 47 = dktX2_next_2 := dk_seg dksX2_next_1 24 rfl rfl
theorem dksX2_next_3 : cX2_next.data.toList.drop 70 = dktX2_next_3 := dk_seg dksX2_next_2 23 rfl rfl
theorem dksX2_next_4 : cX2_next.data.toList.drop 93 = dktX2_next_4 := dk_seg dksX2_next_3 23 rfl rfl
theorem dksX2_next_5 : cX2_next.data.toList.drop 115 = dktX2_next_5 := dk_seg dksX2_next_4 22 rfl rfl
theorem dX2_next_0 : decode cX2_next 0 = .ok (.aload_n 0, 1) := dk_42 (dk_at dksX2_next_0 0 rfl rfl)
theorem dX2_next_1 : decode cX2_next 1 = .ok (.iload_n 1, 1) := dk_27 (dk_at dksX2_next_0 1 rfl rfl)
theorem dX2_next_2 : decode cX2_next 2 = .ok (.iload_n 2, 1) := dk_28 (dk_at dksX2_next_0 2 rfl rfl)
theorem dX2_next_3 : decode cX2_next 3 = .ok (.invokevirtual 163, 3) := dk_182 0 163 (dk_at dksX2_next_0 3 rfl rfl)
theorem dX2_next_6 : decode cX2_next 6 = .ok (.istore_n 3, 1) := dk_62 (dk_at dksX2_next_0 6 rfl rfl)
theorem dX2_next_7 : decode cX2_next 7 = .ok (.iconst (-1), 1) := dk_2 (dk_at dksX2_next_0 7 rfl rfl)
theorem dX2_next_8 : decode cX2_next 8 = .ok (.istore 4, 2) := dk_54 4 (dk_at dksX2_next_0 8 rfl rfl)
theorem dX2_next_10 : decode cX2_next 10 = .ok (.iload_n 3, 1) := dk_29 (dk_at dksX2_next_0 10 rfl rfl)
theorem dX2_next_11 : decode cX2_next 11 = .ok (.ifCond .gt 5, 3) := dk_157 0 5 (dk_at dksX2_next_0 11 rfl rfl)
theorem dX2_next_14 : decode cX2_next 14 = .ok (.iconst (-1), 1) := dk_2 (dk_at dksX2_next_0 14 rfl rfl)
theorem dX2_next_15 : decode cX2_next 15 = .ok (.ireturn, 1) := dk_172 (dk_at dksX2_next_0 15 rfl rfl)
theorem dX2_next_16 : decode cX2_next 16 = .ok (.aload_n 0, 1) := dk_42 (dk_at dksX2_next_0 16 rfl rfl)
theorem dX2_next_17 : decode cX2_next 17 = .ok (.getfield 23, 3) := dk_180 0 23 (dk_at dksX2_next_0 17 rfl rfl)
theorem dX2_next_20 : decode cX2_next 20 = .ok (.invokevirtual 58, 3) := dk_182 0 58 (dk_at dksX2_next_0 20 rfl rfl)
theorem dX2_next_23 : decode cX2_next 23 = .ok (.astore 5, 2) := dk_58 5 (dk_at dksX2_next_1 0 rfl rfl)
theorem dX2_next_25 : decode cX2_next 25 = .ok (.aload 5, 2) := dk_25 5 (dk_at dksX2_next_1 2 rfl rfl)
theorem dX2_next_27 : decode cX2_next 27 = .ok (.invokeinterface 62 1, 5) := by decide +kernel
theorem dX2_next_32 : decode cX2_next 32 = .ok (.ifCond .eq 86, 3) := dk_153 0 86 (dk_at dksX2_next_1 9 rfl rfl)
theorem dX2_next_35 : decode cX2_next 35 = .ok (.aload 5, 2) := dk_25 5 (dk_at dksX2_next_1 12 rfl rfl)
theorem dX2_next_37 : decode cX2_next 37 = .ok (.invokeinterface 68 1, 5) := by decide +kernel
theorem dX2_next_42 : decode cX2_next 42 = .ok (.checkcast 72, 3) := dk_192 0 72 (dk_at dksX2_next_1 19 rfl rfl)
theorem dX2_next_45 : decode cX2_next 45 = .ok (.astore 6, 2) := dk_58 6 (dk_at dksX2_next_1 22 rfl rfl)
theorem dX2_next_47 : decode cX2_next 47 = .ok (.aload 6, 2) := dk_25 6 (dk_at dksX2_next_2 0 rfl rfl)
theorem dX2_next_49 : decode cX2_next 49 = .ok (.iload_n 1, 1) := dk_27 (dk_at dksX2_next_2 2 rfl rfl)
theorem dX2_next_50 : decode cX2_next 50 = .ok (.invokevirtual 148, 3) := dk_182 0 148 (dk_at dksX2_next_2 3 rfl rfl)
theorem dX2_next_53 : decode cX2_next 53 = .ok (.ifCond .ne 6, 3) := dk_154 0 6 (dk_at dksX2_next_2 6 rfl rfl)
theorem dX2_next_56 : decode cX2_next 56 = .ok (.goto (-31), 3) := dk_167 255 225 (dk_at dksX2_next_2 9 rfl rfl)
theorem dX2_next_59 : decode cX2_next 59 = .ok (.aload_n 0, 1) := dk_42 (dk_at dksX2_next_2 12 rfl rfl)
theorem dX2_next_60 : decode cX2_next 60 = .ok (.aload 6, 2) := dk_25 6 (dk_at dksX2_next_2 13 rfl rfl)
theorem dX2_next_62 : decode cX2_next 62 = .ok (.iload_n 1, 1) := dk_27 (dk_at dksX2_next_2 15 rfl rfl)
theorem dX2_next_63 : decode cX2_next 63 = .ok (.invokevirtual 152, 3) := dk_182 0 152 (dk_at dksX2_next_2 16 rfl rfl)
theorem dX2_next_66 : decode cX2_next 66 = .ok (.iload_n 2, 1) := dk_28 (dk_at dksX2_next_2 19 rfl rfl)
theorem dX2_next_67 : decode cX2_next 67 = .ok (.invokevirtual 163, 3) := dk_182 0 163 (dk_at dksX2_next_2 20 rfl rfl)
theorem dX2_next_70 : decode cX2_next 70 = .ok (.istore 7, 2) := dk_54 7 (dk_at dksX2_next_3 0 rfl rfl)
theorem dX2_next_72 : decode cX2_next 72 = .ok (.iload 7, 2) := dk_21 7 (dk_at dksX2_next_3 2 rfl rfl)
theorem dX2_next_74 : decode cX2_next 74 = .ok (.iconst (-1), 1) := dk_2 (dk_at dksX2_next_3 4 rfl rfl)
theorem dX2_next_75 : decode cX2_next 75 = .ok (.if_icmp .eq 40, 3) := dk_159 0 40 (dk_at dksX2_next_3 5 rfl rfl)
theorem dX2_next_78 : decode cX2_next 78 = .ok (.iload 7, 2) := dk_21 7 (dk_at dksX2_next_3 8 rfl rfl)
theorem dX2_next_80 : decode cX2_next 80 = .ok (.aload 6, 2) := dk_25 6 (dk_at dksX2_next_3 10 rfl rfl)
theorem dX2_next_82 : decode cX2_next 82 = .ok (.invokevirtual 156, 3) := dk_182 0 156 (dk_at dksX2_next_3 12 rfl rfl)
theorem dX2_next_85 : decode cX2_next 85 = .ok (.iadd, 1) := dk_96 (dk_at dksX2_next_3 15 rfl rfl)
theorem dX2_next_86 : decode cX2_next 86 = .ok (.iload_n 3, 1) := dk_29 (dk_at dksX2_next_3 16 rfl rfl)
theorem dX2_next_87 : decode cX2_next 87 = .ok (.if_icmp .ne 28, 3) := dk_160 0 28 (dk_at dksX2_next_3 17 rfl rfl)
theorem dX2_next_90 : decode cX2_next 90 = .ok (.iload 4, 2) := dk_21 4 (dk_at dksX2_next_3 20 rfl rfl)
theorem dX2_next_92 : decode cX2_next 92 = .ok (.iconst (-1), 1) := dk_2 (dk_at dksX2_next_3 22 rfl rfl)
theorem dX2_next_93 : decode cX2_next 93 = .ok (.if_icmp .eq 14, 3) := dk_159 0 14 (dk_at dksX2_next_4 0 rfl rfl)
theorem dX2_next_96 : decode cX2_next 96 = .ok (.aload 6, 2) := dk_25 6 (dk_at dksX2_next_4 3 rfl rfl)
theorem dX2_next_98 : decode cX2_next 98 = .ok (.iload_n 1, 1) := dk_27 (dk_at dksX2_next_4 5 rfl rfl)
theorem dX2_next_99 : decode cX2_next 99 = .ok (.invokevirtual 152, 3) := dk_182 0 152 (dk_at dksX2_next_4 6 rfl rfl)
theorem dX2_next_102 : decode cX2_next 102 = .ok (.iload 4, 2) := dk_21 4 (dk_at dksX2_next_4 9 rfl rfl)
theorem dX2_next_104 : decode cX2_next 104 = .ok (.if_icmp .ge 11, 3) := dk_162 0 11 (dk_at dksX2_next_4 11 rfl rfl)
theorem dX2_next_107 : decode cX2_next 107 = .ok (.aload 6, 2) := dk_25 6 (dk_at dksX2_next_4 14 rfl rfl)
theorem dX2_next_109 : decode cX2_next 109 = .ok (.iload_n 1, 1) := dk_27 (dk_at dksX2_next_4 16 rfl rfl)
theorem dX2_next_110 : decode cX2_next 110 = .ok (.invokevirtual 152, 3) := dk_182 0 152 (dk_at dksX2_next_4 17 rfl rfl)
theorem dX2_next_113 : decode cX2_next 113 = .ok (.istore 4, 2) := dk_54 4 (dk_at dksX2_next_4 20 rfl rfl)
theorem dX2_next_115 : decode cX2_next 115 = .ok (.goto (-90), 3) := dk_167 255 166 (dk_at dksX2_next_5 0 rfl rfl)
theorem dX2_next_118 : decode cX2_next 118 = .ok (.iload 4, 2) := dk_21 4 (dk_at dksX2_next_5 3 rfl rfl)
theorem dX2_next_120 : decode cX2_next 120 = .ok (.ireturn, 1) := dk_172 (dk_at dksX2_next_5 5 rfl rfl)
abbrev cX2_gives : ByteArray := prog_13_method_25_code
def yX2_gives : MethodName := ⟨RX2, "gives", "(II)I"⟩
def dkwX2_gives_2 : List UInt8 := [79, 42, 27, 182, 0, 44, 180, 0, 116, 172]
abbrev dktX2_gives_2 : List UInt8 := dkwX2_gives_2 ++ []
def dkwX2_gives_1 : List UInt8 := [42, 27, 182, 0, 44, 89, 180, 0, 116, 28, 96, 181, 0, 116, 42, 180, 0, 34, 16, 10, 92, 46, 28, 96]
abbrev dktX2_gives_1 : List UInt8 := dkwX2_gives_1 ++ dktX2_gives_2
def dkwX2_gives_0 : List UInt8 := [42, 27, 182, 0, 44, 180, 0, 116, 28, 96, 17, 39, 15, 163, 0, 7, 4, 167, 0, 4, 3, 184, 0, 198]
abbrev dktX2_gives_0 : List UInt8 := dkwX2_gives_0 ++ dktX2_gives_1
theorem dksX2_gives_0 : cX2_gives.data.toList.drop 0 = dktX2_gives_0 := by decide +kernel
theorem dksX2_gives_1 : cX2_gives.data.toList.drop 24 = dktX2_gives_1 := dk_seg dksX2_gives_0 24 rfl rfl
theorem dksX2_gives_2 : cX2_gives.data.toList.drop 48 = dktX2_gives_2 := dk_seg dksX2_gives_1 24 rfl rfl
theorem dX2_gives_0 : decode cX2_gives 0 = .ok (.aload_n 0, 1) := dk_42 (dk_at dksX2_gives_0 0 rfl rfl)
theorem dX2_gives_1 : decode cX2_gives 1 = .ok (.iload_n 1, 1) := dk_27 (dk_at dksX2_gives_0 1 rfl rfl)
theorem dX2_gives_2 : decode cX2_gives 2 = .ok (.invokevirtual 44, 3) := dk_182 0 44 (dk_at dksX2_gives_0 2 rfl rfl)
theorem dX2_gives_5 : decode cX2_gives 5 = .ok (.getfield 116, 3) := dk_180 0 116 (dk_at dksX2_gives_0 5 rfl rfl)
theorem dX2_gives_8 : decode cX2_gives 8 = .ok (.iload_n 2, 1) := dk_28 (dk_at dksX2_gives_0 8 rfl rfl)
theorem dX2_gives_9 : decode cX2_gives 9 = .ok (.iadd, 1) := dk_96 (dk_at dksX2_gives_0 9 rfl rfl)
theorem dX2_gives_10 : decode cX2_gives 10 = .ok (.sipush 9999, 3) := dk_17 39 15 (dk_at dksX2_gives_0 10 rfl rfl)
theorem dX2_gives_13 : decode cX2_gives 13 = .ok (.if_icmp .gt 7, 3) := dk_163 0 7 (dk_at dksX2_gives_0 13 rfl rfl)
theorem dX2_gives_16 : decode cX2_gives 16 = .ok (.iconst 1, 1) := dk_4 (dk_at dksX2_gives_0 16 rfl rfl)
theorem dX2_gives_17 : decode cX2_gives 17 = .ok (.goto 4, 3) := dk_167 0 4 (dk_at dksX2_gives_0 17 rfl rfl)
theorem dX2_gives_20 : decode cX2_gives 20 = .ok (.iconst 0, 1) := dk_3 (dk_at dksX2_gives_0 20 rfl rfl)
theorem dX2_gives_21 : decode cX2_gives 21 = .ok (.invokestatic 198, 3) := dk_184 0 198 (dk_at dksX2_gives_0 21 rfl rfl)
theorem dX2_gives_24 : decode cX2_gives 24 = .ok (.aload_n 0, 1) := dk_42 (dk_at dksX2_gives_1 0 rfl rfl)
theorem dX2_gives_25 : decode cX2_gives 25 = .ok (.iload_n 1, 1) := dk_27 (dk_at dksX2_gives_1 1 rfl rfl)
theorem dX2_gives_26 : decode cX2_gives 26 = .ok (.invokevirtual 44, 3) := dk_182 0 44 (dk_at dksX2_gives_1 2 rfl rfl)
theorem dX2_gives_29 : decode cX2_gives 29 = .ok (.dup, 1) := dk_89 (dk_at dksX2_gives_1 5 rfl rfl)
theorem dX2_gives_30 : decode cX2_gives 30 = .ok (.getfield 116, 3) := dk_180 0 116 (dk_at dksX2_gives_1 6 rfl rfl)
theorem dX2_gives_33 : decode cX2_gives 33 = .ok (.iload_n 2, 1) := dk_28 (dk_at dksX2_gives_1 9 rfl rfl)
theorem dX2_gives_34 : decode cX2_gives 34 = .ok (.iadd, 1) := dk_96 (dk_at dksX2_gives_1 10 rfl rfl)
theorem dX2_gives_35 : decode cX2_gives 35 = .ok (.putfield 116, 3) := dk_181 0 116 (dk_at dksX2_gives_1 11 rfl rfl)
theorem dX2_gives_38 : decode cX2_gives 38 = .ok (.aload_n 0, 1) := dk_42 (dk_at dksX2_gives_1 14 rfl rfl)
theorem dX2_gives_39 : decode cX2_gives 39 = .ok (.getfield 34, 3) := dk_180 0 34 (dk_at dksX2_gives_1 15 rfl rfl)
theorem dX2_gives_42 : decode cX2_gives 42 = .ok (.bipush 10, 2) := dk_16 10 (dk_at dksX2_gives_1 18 rfl rfl)
theorem dX2_gives_44 : decode cX2_gives 44 = .ok (.dup2, 1) := dk_92 (dk_at dksX2_gives_1 20 rfl rfl)
theorem dX2_gives_45 : decode cX2_gives 45 = .ok (.iaload, 1) := dk_46 (dk_at dksX2_gives_1 21 rfl rfl)
theorem dX2_gives_46 : decode cX2_gives 46 = .ok (.iload_n 2, 1) := dk_28 (dk_at dksX2_gives_1 22 rfl rfl)
theorem dX2_gives_47 : decode cX2_gives 47 = .ok (.iadd, 1) := dk_96 (dk_at dksX2_gives_1 23 rfl rfl)
theorem dX2_gives_48 : decode cX2_gives 48 = .ok (.iastore, 1) := dk_79 (dk_at dksX2_gives_2 0 rfl rfl)
theorem dX2_gives_49 : decode cX2_gives 49 = .ok (.aload_n 0, 1) := dk_42 (dk_at dksX2_gives_2 1 rfl rfl)
theorem dX2_gives_50 : decode cX2_gives 50 = .ok (.iload_n 1, 1) := dk_27 (dk_at dksX2_gives_2 2 rfl rfl)
theorem dX2_gives_51 : decode cX2_gives 51 = .ok (.invokevirtual 44, 3) := dk_182 0 44 (dk_at dksX2_gives_2 3 rfl rfl)
theorem dX2_gives_54 : decode cX2_gives 54 = .ok (.getfield 116, 3) := dk_180 0 116 (dk_at dksX2_gives_2 6 rfl rfl)
theorem dX2_gives_57 : decode cX2_gives 57 = .ok (.ireturn, 1) := dk_172 (dk_at dksX2_gives_2 9 rfl rfl)
abbrev cX2_cuts : ByteArray := prog_13_method_26_code
def yX2_cuts : MethodName := ⟨RX2, "cuts", "(II)I"⟩
def dkwX2_cuts_3 : List UInt8 := [172]
abbrev dktX2_cuts_3 : List UInt8 := dkwX2_cuts_3 ++ []
def dkwX2_cuts_2 : List UInt8 := [153, 255, 233, 45, 185, 1, 58, 1, 0, 167, 255, 224, 42, 1, 181, 0, 100, 42, 180, 0, 23, 182, 1, 61]
abbrev dktX2_cuts_2 : List UInt8 := dkwX2_cuts_2 ++ dktX2_cuts_3
def dkwX2_cuts_1 : List UInt8 := [78, 45, 185, 0, 62, 1, 0, 153, 0, 29, 45, 185, 0, 68, 1, 0, 192, 0, 72, 27, 28, 182, 0, 119]
abbrev dktX2_cuts_1 : List UInt8 := dkwX2_cuts_1 ++ dktX2_cuts_2
def dkwX2_cuts_0 : List UInt8 := [42, 27, 28, 182, 1, 42, 198, 0, 7, 4, 167, 0, 4, 3, 184, 0, 198, 42, 180, 0, 23, 182, 0, 58]
abbrev dktX2_cuts_0 : List UInt8 := dkwX2_cuts_0 ++ dktX2_cuts_1
theorem dksX2_cuts_0 : cX2_cuts.data.toList.drop 0 = dktX2_cuts_0 := by decide +kernel
theorem dksX2_cuts_1 : cX2_cuts.data.toList.drop 24 = dktX2_cuts_1 := dk_seg dksX2_cuts_0 24 rfl rfl
theorem dksX2_cuts_2 : cX2_cuts.data.toList.drop 48 = dktX2_cuts_2 := dk_seg dksX2_cuts_1 24 rfl rfl
theorem dksX2_cuts_3 : cX2_cuts.data.toList.drop 72 = dktX2_cuts_3 := dk_seg dksX2_cuts_2 24 rfl rfl
theorem dX2_cuts_0 : decode cX2_cuts 0 = .ok (.aload_n 0, 1) := dk_42 (dk_at dksX2_cuts_0 0 rfl rfl)
theorem dX2_cuts_1 : decode cX2_cuts 1 = .ok (.iload_n 1, 1) := dk_27 (dk_at dksX2_cuts_0 1 rfl rfl)
theorem dX2_cuts_2 : decode cX2_cuts 2 = .ok (.iload_n 2, 1) := dk_28 (dk_at dksX2_cuts_0 2 rfl rfl)
theorem dX2_cuts_3 : decode cX2_cuts 3 = .ok (.invokevirtual 298, 3) := dk_182 1 42 (dk_at dksX2_cuts_0 3 rfl rfl)
theorem dX2_cuts_6 : decode cX2_cuts 6 = .ok (.ifnull 7, 3) := dk_198 0 7 (dk_at dksX2_cuts_0 6 rfl rfl)
theorem dX2_cuts_9 : decode cX2_cuts 9 = .ok (.iconst 1, 1) := dk_4 (dk_at dksX2_cuts_0 9 rfl rfl)
theorem dX2_cuts_10 : decode cX2_cuts 10 = .ok (.goto 4, 3) := dk_167 0 4 (dk_at dksX2_cuts_0 10 rfl rfl)
theorem dX2_cuts_13 : decode cX2_cuts 13 = .ok (.iconst 0, 1) := dk_3 (dk_at dksX2_cuts_0 13 rfl rfl)
theorem dX2_cuts_14 : decode cX2_cuts 14 = .ok (.invokestatic 198, 3) := dk_184 0 198 (dk_at dksX2_cuts_0 14 rfl rfl)
theorem dX2_cuts_17 : decode cX2_cuts 17 = .ok (.aload_n 0, 1) := dk_42 (dk_at dksX2_cuts_0 17 rfl rfl)
theorem dX2_cuts_18 : decode cX2_cuts 18 = .ok (.getfield 23, 3) := dk_180 0 23 (dk_at dksX2_cuts_0 18 rfl rfl)
theorem dX2_cuts_21 : decode cX2_cuts 21 = .ok (.invokevirtual 58, 3) := dk_182 0 58 (dk_at dksX2_cuts_0 21 rfl rfl)
theorem dX2_cuts_24 : decode cX2_cuts 24 = .ok (.astore_n 3, 1) := dk_78 (dk_at dksX2_cuts_1 0 rfl rfl)
theorem dX2_cuts_25 : decode cX2_cuts 25 = .ok (.aload_n 3, 1) := dk_45 (dk_at dksX2_cuts_1 1 rfl rfl)
theorem dX2_cuts_26 : decode cX2_cuts 26 = .ok (.invokeinterface 62 1, 5) := by decide +kernel
theorem dX2_cuts_31 : decode cX2_cuts 31 = .ok (.ifCond .eq 29, 3) := dk_153 0 29 (dk_at dksX2_cuts_1 7 rfl rfl)
theorem dX2_cuts_34 : decode cX2_cuts 34 = .ok (.aload_n 3, 1) := dk_45 (dk_at dksX2_cuts_1 10 rfl rfl)
theorem dX2_cuts_35 : decode cX2_cuts 35 = .ok (.invokeinterface 68 1, 5) := by decide +kernel
theorem dX2_cuts_40 : decode cX2_cuts 40 = .ok (.checkcast 72, 3) := dk_192 0 72 (dk_at dksX2_cuts_1 16 rfl rfl)
theorem dX2_cuts_43 : decode cX2_cuts 43 = .ok (.iload_n 1, 1) := dk_27 (dk_at dksX2_cuts_1 19 rfl rfl)
theorem dX2_cuts_44 : decode cX2_cuts 44 = .ok (.iload_n 2, 1) := dk_28 (dk_at dksX2_cuts_1 20 rfl rfl)
theorem dX2_cuts_45 : decode cX2_cuts 45 = .ok (.invokevirtual 119, 3) := dk_182 0 119 (dk_at dksX2_cuts_1 21 rfl rfl)
theorem dX2_cuts_48 : decode cX2_cuts 48 = .ok (.ifCond .eq (-23), 3) := dk_153 255 233 (dk_at dksX2_cuts_2 0 rfl rfl)
theorem dX2_cuts_51 : decode cX2_cuts 51 = .ok (.aload_n 3, 1) := dk_45 (dk_at dksX2_cuts_2 3 rfl rfl)
theorem dX2_cuts_52 : decode cX2_cuts 52 = .ok (.invokeinterface 314 1, 5) := by decide +kernel
theorem dX2_cuts_57 : decode cX2_cuts 57 = .ok (.goto (-32), 3) := dk_167 255 224 (dk_at dksX2_cuts_2 9 rfl rfl)
theorem dX2_cuts_60 : decode cX2_cuts 60 = .ok (.aload_n 0, 1) := dk_42 (dk_at dksX2_cuts_2 12 rfl rfl)
theorem dX2_cuts_61 : decode cX2_cuts 61 = .ok (.aconst_null, 1) := dk_1 (dk_at dksX2_cuts_2 13 rfl rfl)
theorem dX2_cuts_62 : decode cX2_cuts 62 = .ok (.putfield 100, 3) := dk_181 0 100 (dk_at dksX2_cuts_2 14 rfl rfl)
theorem dX2_cuts_65 : decode cX2_cuts 65 = .ok (.aload_n 0, 1) := dk_42 (dk_at dksX2_cuts_2 17 rfl rfl)
theorem dX2_cuts_66 : decode cX2_cuts 66 = .ok (.getfield 23, 3) := dk_180 0 23 (dk_at dksX2_cuts_2 18 rfl rfl)
theorem dX2_cuts_69 : decode cX2_cuts 69 = .ok (.invokevirtual 317, 3) := dk_182 1 61 (dk_at dksX2_cuts_2 21 rfl rfl)
theorem dX2_cuts_72 : decode cX2_cuts 72 = .ok (.ireturn, 1) := dk_172 (dk_at dksX2_cuts_3 0 rfl rfl)
abbrev cX2_copy : ByteArray := prog_13_method_2_code
def yX2_copy : MethodName := ⟨RX2, "copy", "()LWhistlePosts$World;"⟩
def dkwX2_copy_7 : List UInt8 := [181, 0, 93, 43, 42, 180, 0, 97, 181, 0, 97, 43, 42, 180, 0, 100, 181, 0, 100, 43, 176]
abbrev dktX2_copy_7 : List UInt8 := dkwX2_copy_7 ++ []
def dkwX2_copy_6 : List UInt8 := [184, 0, 87, 42, 180, 0, 34, 3, 43, 180, 0, 34, 3, 16, 11, 184, 0, 87, 43, 42, 180, 0, 93]
abbrev dktX2_copy_6 : List UInt8 := dkwX2_copy_6 ++ dktX2_copy_7
def dkwX2_copy_5 : List UInt8 := [185, 0, 54, 2, 0, 87, 132, 2, 1, 167, 255, 222, 42, 180, 0, 30, 3, 43, 180, 0, 30, 3, 6]
abbrev dktX2_copy_5 : List UInt8 := dkwX2_copy_5 ++ dktX2_copy_6
def dkwX2_copy_4 : List UInt8 := [185, 0, 38, 1, 0, 162, 0, 27, 43, 180, 0, 27, 42, 28, 182, 0, 78, 182, 0, 82]
abbrev dktX2_copy_4 : List UInt8 := dkwX2_copy_4 ++ dktX2_copy_5
def dkwX2_copy_3 : List UInt8 := [192, 0, 72, 78, 43, 180, 0, 23, 45, 182, 0, 74, 167, 255, 229, 3, 61, 28, 42, 180, 0, 27]
abbrev dktX2_copy_3 : List UInt8 := dkwX2_copy_3 ++ dktX2_copy_4
def dkwX2_copy_2 : List UInt8 := [180, 0, 23, 182, 0, 58, 77, 44, 185, 0, 62, 1, 0, 153, 0, 24, 44, 185, 0, 68, 1, 0]
abbrev dktX2_copy_2 : List UInt8 := dkwX2_copy_2 ++ dktX2_copy_3
def dkwX2_copy_1 : List UInt8 := [180, 0, 14, 42, 28, 182, 0, 44, 182, 0, 48, 185, 0, 54, 2, 0, 87, 132, 2, 1, 167, 255, 222, 42]
abbrev dktX2_copy_1 : List UInt8 := dkwX2_copy_1 ++ dktX2_copy_2
def dkwX2_copy_0 : List UInt8 := [187, 0, 15, 89, 183, 0, 37, 76, 3, 61, 28, 42, 180, 0, 14, 185, 0, 38, 1, 0, 162, 0, 27, 43]
abbrev dktX2_copy_0 : List UInt8 := dkwX2_copy_0 ++ dktX2_copy_1
theorem dksX2_copy_0 : cX2_copy.data.toList.drop 0 = dktX2_copy_0 := by decide +kernel
theorem dksX2_copy_1 : cX2_copy.data.toList.drop 24 = dktX2_copy_1 := dk_seg dksX2_copy_0 24 rfl rfl
theorem dksX2_copy_2 : cX2_copy.data.toList.drop 48 = dktX2_copy_2 := dk_seg dksX2_copy_1 24 rfl rfl
theorem dksX2_copy_3 : cX2_copy.data.toList.drop 70 = dktX2_copy_3 := dk_seg dksX2_copy_2 22 rfl rfl
theorem dksX2_copy_4 : cX2_copy.data.toList.drop 92 = dktX2_copy_4 := dk_seg dksX2_copy_3 22 rfl rfl
theorem dksX2_copy_5 : cX2_copy.data.toList.drop 112 = dktX2_copy_5 := dk_seg dksX2_copy_4 20 rfl rfl
theorem dksX2_copy_6 : cX2_copy.data.toList.drop 135 = dktX2_copy_6 := dk_seg dksX2_copy_5 23 rfl rfl
theorem dksX2_copy_7 : cX2_copy.data.toList.drop 158 = dktX2_copy_7 := dk_seg dksX2_copy_6 23 rfl rfl
theorem dX2_copy_0 : decode cX2_copy 0 = .ok (.new 15, 3) := dk_187 0 15 (dk_at dksX2_copy_0 0 rfl rfl)
theorem dX2_copy_3 : decode cX2_copy 3 = .ok (.dup, 1) := dk_89 (dk_at dksX2_copy_0 3 rfl rfl)
theorem dX2_copy_4 : decode cX2_copy 4 = .ok (.invokespecial 37, 3) := dk_183 0 37 (dk_at dksX2_copy_0 4 rfl rfl)
theorem dX2_copy_7 : decode cX2_copy 7 = .ok (.astore_n 1, 1) := dk_76 (dk_at dksX2_copy_0 7 rfl rfl)
theorem dX2_copy_8 : decode cX2_copy 8 = .ok (.iconst 0, 1) := dk_3 (dk_at dksX2_copy_0 8 rfl rfl)
theorem dX2_copy_9 : decode cX2_copy 9 = .ok (.istore_n 2, 1) := dk_61 (dk_at dksX2_copy_0 9 rfl rfl)
theorem dX2_copy_10 : decode cX2_copy 10 = .ok (.iload_n 2, 1) := dk_28 (dk_at dksX2_copy_0 10 rfl rfl)
theorem dX2_copy_11 : decode cX2_copy 11 = .ok (.aload_n 0, 1) := dk_42 (dk_at dksX2_copy_0 11 rfl rfl)
theorem dX2_copy_12 : decode cX2_copy 12 = .ok (.getfield 14, 3) := dk_180 0 14 (dk_at dksX2_copy_0 12 rfl rfl)
theorem dX2_copy_15 : decode cX2_copy 15 = .ok (.invokeinterface 38 1, 5) := by decide +kernel
theorem dX2_copy_20 : decode cX2_copy 20 = .ok (.if_icmp .ge 27, 3) := dk_162 0 27 (dk_at dksX2_copy_0 20 rfl rfl)
theorem dX2_copy_23 : decode cX2_copy 23 = .ok (.aload_n 1, 1) := dk_43 (dk_at dksX2_copy_0 23 rfl rfl)
theorem dX2_copy_24 : decode cX2_copy 24 = .ok (.getfield 14, 3) := dk_180 0 14 (dk_at dksX2_copy_1 0 rfl rfl)
theorem dX2_copy_27 : decode cX2_copy 27 = .ok (.aload_n 0, 1) := dk_42 (dk_at dksX2_copy_1 3 rfl rfl)
theorem dX2_copy_28 : decode cX2_copy 28 = .ok (.iload_n 2, 1) := dk_28 (dk_at dksX2_copy_1 4 rfl rfl)
theorem dX2_copy_29 : decode cX2_copy 29 = .ok (.invokevirtual 44, 3) := dk_182 0 44 (dk_at dksX2_copy_1 5 rfl rfl)
theorem dX2_copy_32 : decode cX2_copy 32 = .ok (.invokevirtual 48, 3) := dk_182 0 48 (dk_at dksX2_copy_1 8 rfl rfl)
theorem dX2_copy_35 : decode cX2_copy 35 = .ok (.invokeinterface 54 2, 5) := by decide +kernel
theorem dX2_copy_40 : decode cX2_copy 40 = .ok (.pop, 1) := dk_87 (dk_at dksX2_copy_1 16 rfl rfl)
theorem dX2_copy_41 : decode cX2_copy 41 = .ok (.iinc 2 1, 3) := dk_132 2 1 (dk_at dksX2_copy_1 17 rfl rfl)
theorem dX2_copy_44 : decode cX2_copy 44 = .ok (.goto (-34), 3) := dk_167 255 222 (dk_at dksX2_copy_1 20 rfl rfl)
theorem dX2_copy_47 : decode cX2_copy 47 = .ok (.aload_n 0, 1) := dk_42 (dk_at dksX2_copy_1 23 rfl rfl)
theorem dX2_copy_48 : decode cX2_copy 48 = .ok (.getfield 23, 3) := dk_180 0 23 (dk_at dksX2_copy_2 0 rfl rfl)
theorem dX2_copy_51 : decode cX2_copy 51 = .ok (.invokevirtual 58, 3) := dk_182 0 58 (dk_at dksX2_copy_2 3 rfl rfl)
theorem dX2_copy_54 : decode cX2_copy 54 = .ok (.astore_n 2, 1) := dk_77 (dk_at dksX2_copy_2 6 rfl rfl)
theorem dX2_copy_55 : decode cX2_copy 55 = .ok (.aload_n 2, 1) := dk_44 (dk_at dksX2_copy_2 7 rfl rfl)
theorem dX2_copy_56 : decode cX2_copy 56 = .ok (.invokeinterface 62 1, 5) := by decide +kernel
theorem dX2_copy_61 : decode cX2_copy 61 = .ok (.ifCond .eq 24, 3) := dk_153 0 24 (dk_at dksX2_copy_2 13 rfl rfl)
theorem dX2_copy_64 : decode cX2_copy 64 = .ok (.aload_n 2, 1) := dk_44 (dk_at dksX2_copy_2 16 rfl rfl)
theorem dX2_copy_65 : decode cX2_copy 65 = .ok (.invokeinterface 68 1, 5) := by decide +kernel
theorem dX2_copy_70 : decode cX2_copy 70 = .ok (.checkcast 72, 3) := dk_192 0 72 (dk_at dksX2_copy_3 0 rfl rfl)
theorem dX2_copy_73 : decode cX2_copy 73 = .ok (.astore_n 3, 1) := dk_78 (dk_at dksX2_copy_3 3 rfl rfl)
theorem dX2_copy_74 : decode cX2_copy 74 = .ok (.aload_n 1, 1) := dk_43 (dk_at dksX2_copy_3 4 rfl rfl)
theorem dX2_copy_75 : decode cX2_copy 75 = .ok (.getfield 23, 3) := dk_180 0 23 (dk_at dksX2_copy_3 5 rfl rfl)
theorem dX2_copy_78 : decode cX2_copy 78 = .ok (.aload_n 3, 1) := dk_45 (dk_at dksX2_copy_3 8 rfl rfl)
theorem dX2_copy_79 : decode cX2_copy 79 = .ok (.invokevirtual 74, 3) := dk_182 0 74 (dk_at dksX2_copy_3 9 rfl rfl)
theorem dX2_copy_82 : decode cX2_copy 82 = .ok (.goto (-27), 3) := dk_167 255 229 (dk_at dksX2_copy_3 12 rfl rfl)
theorem dX2_copy_85 : decode cX2_copy 85 = .ok (.iconst 0, 1) := dk_3 (dk_at dksX2_copy_3 15 rfl rfl)
theorem dX2_copy_86 : decode cX2_copy 86 = .ok (.istore_n 2, 1) := dk_61 (dk_at dksX2_copy_3 16 rfl rfl)
theorem dX2_copy_87 : decode cX2_copy 87 = .ok (.iload_n 2, 1) := dk_28 (dk_at dksX2_copy_3 17 rfl rfl)
theorem dX2_copy_88 : decode cX2_copy 88 = .ok (.aload_n 0, 1) := dk_42 (dk_at dksX2_copy_3 18 rfl rfl)
theorem dX2_copy_89 : decode cX2_copy 89 = .ok (.getfield 27, 3) := dk_180 0 27 (dk_at dksX2_copy_3 19 rfl rfl)
theorem dX2_copy_92 : decode cX2_copy 92 = .ok (.invokeinterface 38 1, 5) := by decide +kernel
theorem dX2_copy_97 : decode cX2_copy 97 = .ok (.if_icmp .ge 27, 3) := dk_162 0 27 (dk_at dksX2_copy_4 5 rfl rfl)
theorem dX2_copy_100 : decode cX2_copy 100 = .ok (.aload_n 1, 1) := dk_43 (dk_at dksX2_copy_4 8 rfl rfl)
theorem dX2_copy_101 : decode cX2_copy 101 = .ok (.getfield 27, 3) := dk_180 0 27 (dk_at dksX2_copy_4 9 rfl rfl)
theorem dX2_copy_104 : decode cX2_copy 104 = .ok (.aload_n 0, 1) := dk_42 (dk_at dksX2_copy_4 12 rfl rfl)
theorem dX2_copy_105 : decode cX2_copy 105 = .ok (.iload_n 2, 1) := dk_28 (dk_at dksX2_copy_4 13 rfl rfl)
theorem dX2_copy_106 : decode cX2_copy 106 = .ok (.invokevirtual 78, 3) := dk_182 0 78 (dk_at dksX2_copy_4 14 rfl rfl)
theorem dX2_copy_109 : decode cX2_copy 109 = .ok (.invokevirtual 82, 3) := dk_182 0 82 (dk_at dksX2_copy_4 17 rfl rfl)
theorem dX2_copy_112 : decode cX2_copy 112 = .ok (.invokeinterface 54 2, 5) := by decide +kernel
theorem dX2_copy_117 : decode cX2_copy 117 = .ok (.pop, 1) := dk_87 (dk_at dksX2_copy_5 5 rfl rfl)
theorem dX2_copy_118 : decode cX2_copy 118 = .ok (.iinc 2 1, 3) := dk_132 2 1 (dk_at dksX2_copy_5 6 rfl rfl)
theorem dX2_copy_121 : decode cX2_copy 121 = .ok (.goto (-34), 3) := dk_167 255 222 (dk_at dksX2_copy_5 9 rfl rfl)
theorem dX2_copy_124 : decode cX2_copy 124 = .ok (.aload_n 0, 1) := dk_42 (dk_at dksX2_copy_5 12 rfl rfl)
theorem dX2_copy_125 : decode cX2_copy 125 = .ok (.getfield 30, 3) := dk_180 0 30 (dk_at dksX2_copy_5 13 rfl rfl)
theorem dX2_copy_128 : decode cX2_copy 128 = .ok (.iconst 0, 1) := dk_3 (dk_at dksX2_copy_5 16 rfl rfl)
theorem dX2_copy_129 : decode cX2_copy 129 = .ok (.aload_n 1, 1) := dk_43 (dk_at dksX2_copy_5 17 rfl rfl)
theorem dX2_copy_130 : decode cX2_copy 130 = .ok (.getfield 30, 3) := dk_180 0 30 (dk_at dksX2_copy_5 18 rfl rfl)
theorem dX2_copy_133 : decode cX2_copy 133 = .ok (.iconst 0, 1) := dk_3 (dk_at dksX2_copy_5 21 rfl rfl)
theorem dX2_copy_134 : decode cX2_copy 134 = .ok (.iconst 3, 1) := dk_6 (dk_at dksX2_copy_5 22 rfl rfl)
theorem dX2_copy_135 : decode cX2_copy 135 = .ok (.invokestatic 87, 3) := dk_184 0 87 (dk_at dksX2_copy_6 0 rfl rfl)
theorem dX2_copy_138 : decode cX2_copy 138 = .ok (.aload_n 0, 1) := dk_42 (dk_at dksX2_copy_6 3 rfl rfl)
theorem dX2_copy_139 : decode cX2_copy 139 = .ok (.getfield 34, 3) := dk_180 0 34 (dk_at dksX2_copy_6 4 rfl rfl)
theorem dX2_copy_142 : decode cX2_copy 142 = .ok (.iconst 0, 1) := dk_3 (dk_at dksX2_copy_6 7 rfl rfl)
theorem dX2_copy_143 : decode cX2_copy 143 = .ok (.aload_n 1, 1) := dk_43 (dk_at dksX2_copy_6 8 rfl rfl)
theorem dX2_copy_144 : decode cX2_copy 144 = .ok (.getfield 34, 3) := dk_180 0 34 (dk_at dksX2_copy_6 9 rfl rfl)
theorem dX2_copy_147 : decode cX2_copy 147 = .ok (.iconst 0, 1) := dk_3 (dk_at dksX2_copy_6 12 rfl rfl)
theorem dX2_copy_148 : decode cX2_copy 148 = .ok (.bipush 11, 2) := dk_16 11 (dk_at dksX2_copy_6 13 rfl rfl)
theorem dX2_copy_150 : decode cX2_copy 150 = .ok (.invokestatic 87, 3) := dk_184 0 87 (dk_at dksX2_copy_6 15 rfl rfl)
theorem dX2_copy_153 : decode cX2_copy 153 = .ok (.aload_n 1, 1) := dk_43 (dk_at dksX2_copy_6 18 rfl rfl)
theorem dX2_copy_154 : decode cX2_copy 154 = .ok (.aload_n 0, 1) := dk_42 (dk_at dksX2_copy_6 19 rfl rfl)
theorem dX2_copy_155 : decode cX2_copy 155 = .ok (.getfield 93, 3) := dk_180 0 93 (dk_at dksX2_copy_6 20 rfl rfl)
theorem dX2_copy_158 : decode cX2_copy 158 = .ok (.putfield 93, 3) := dk_181 0 93 (dk_at dksX2_copy_7 0 rfl rfl)
theorem dX2_copy_161 : decode cX2_copy 161 = .ok (.aload_n 1, 1) := dk_43 (dk_at dksX2_copy_7 3 rfl rfl)
theorem dX2_copy_162 : decode cX2_copy 162 = .ok (.aload_n 0, 1) := dk_42 (dk_at dksX2_copy_7 4 rfl rfl)
theorem dX2_copy_163 : decode cX2_copy 163 = .ok (.getfield 97, 3) := dk_180 0 97 (dk_at dksX2_copy_7 5 rfl rfl)
theorem dX2_copy_166 : decode cX2_copy 166 = .ok (.putfield 97, 3) := dk_181 0 97 (dk_at dksX2_copy_7 8 rfl rfl)
theorem dX2_copy_169 : decode cX2_copy 169 = .ok (.aload_n 1, 1) := dk_43 (dk_at dksX2_copy_7 11 rfl rfl)
theorem dX2_copy_170 : decode cX2_copy 170 = .ok (.aload_n 0, 1) := dk_42 (dk_at dksX2_copy_7 12 rfl rfl)
theorem dX2_copy_171 : decode cX2_copy 171 = .ok (.getfield 100, 3) := dk_180 0 100 (dk_at dksX2_copy_7 13 rfl rfl)
theorem dX2_copy_174 : decode cX2_copy 174 = .ok (.putfield 100, 3) := dk_181 0 100 (dk_at dksX2_copy_7 16 rfl rfl)
theorem dX2_copy_177 : decode cX2_copy 177 = .ok (.aload_n 1, 1) := dk_43 (dk_at dksX2_copy_7 19 rfl rfl)
theorem dX2_copy_178 : decode cX2_copy 178 = .ok (.areturn, 1) := dk_176 (dk_at dksX2_copy_7 20 rfl rfl)
abbrev cX2_apart : ByteArray := prog_13_method_13_code
def yX2_apart : MethodName := ⟨RX2, "apart", "(LWhistlePosts$Way;)I"⟩
def dkwX2_apart_2 : List UInt8 := [5, 108, 172]
abbrev dktX2_apart_2 : List UInt8 := dkwX2_apart_2 ++ []
def dkwX2_apart_1 : List UInt8 := [185, 0, 38, 1, 0, 42, 29, 43, 182, 0, 183, 182, 0, 172, 100, 96, 61, 132, 3, 1, 167, 255, 218, 28]
abbrev dktX2_apart_1 : List UInt8 := dkwX2_apart_1 ++ dktX2_apart_2
def dkwX2_apart_0 : List UInt8 := [3, 61, 3, 62, 29, 42, 180, 0, 14, 185, 0, 38, 1, 0, 162, 0, 31, 28, 42, 180, 0, 14]
abbrev dktX2_apart_0 : List UInt8 := dkwX2_apart_0 ++ dktX2_apart_1
theorem dksX2_apart_0 : cX2_apart.data.toList.drop 0 = dktX2_apart_0 := by decide +kernel
theorem dksX2_apart_1 : cX2_apart.data.toList.drop 22 = dktX2_apart_1 := dk_seg dksX2_apart_0 22 rfl rfl
theorem dksX2_apart_2 : cX2_apart.data.toList.drop 46 = dktX2_apart_2 := dk_seg dksX2_apart_1 24 rfl rfl
theorem dX2_apart_0 : decode cX2_apart 0 = .ok (.iconst 0, 1) := dk_3 (dk_at dksX2_apart_0 0 rfl rfl)
theorem dX2_apart_1 : decode cX2_apart 1 = .ok (.istore_n 2, 1) := dk_61 (dk_at dksX2_apart_0 1 rfl rfl)
theorem dX2_apart_2 : decode cX2_apart 2 = .ok (.iconst 0, 1) := dk_3 (dk_at dksX2_apart_0 2 rfl rfl)
theorem dX2_apart_3 : decode cX2_apart 3 = .ok (.istore_n 3, 1) := dk_62 (dk_at dksX2_apart_0 3 rfl rfl)
theorem dX2_apart_4 : decode cX2_apart 4 = .ok (.iload_n 3, 1) := dk_29 (dk_at dksX2_apart_0 4 rfl rfl)
theorem dX2_apart_5 : decode cX2_apart 5 = .ok (.aload_n 0, 1) := dk_42 (dk_at dksX2_apart_0 5 rfl rfl)
theorem dX2_apart_6 : decode cX2_apart 6 = .ok (.getfield 14, 3) := dk_180 0 14 (dk_at dksX2_apart_0 6 rfl rfl)
theorem dX2_apart_9 : decode cX2_apart 9 = .ok (.invokeinterface 38 1, 5) := by decide +kernel
theorem dX2_apart_14 : decode cX2_apart 14 = .ok (.if_icmp .ge 31, 3) := dk_162 0 31 (dk_at dksX2_apart_0 14 rfl rfl)
theorem dX2_apart_17 : decode cX2_apart 17 = .ok (.iload_n 2, 1) := dk_28 (dk_at dksX2_apart_0 17 rfl rfl)
theorem dX2_apart_18 : decode cX2_apart 18 = .ok (.aload_n 0, 1) := dk_42 (dk_at dksX2_apart_0 18 rfl rfl)
theorem dX2_apart_19 : decode cX2_apart 19 = .ok (.getfield 14, 3) := dk_180 0 14 (dk_at dksX2_apart_0 19 rfl rfl)
theorem dX2_apart_22 : decode cX2_apart 22 = .ok (.invokeinterface 38 1, 5) := by decide +kernel
theorem dX2_apart_27 : decode cX2_apart 27 = .ok (.aload_n 0, 1) := dk_42 (dk_at dksX2_apart_1 5 rfl rfl)
theorem dX2_apart_28 : decode cX2_apart 28 = .ok (.iload_n 3, 1) := dk_29 (dk_at dksX2_apart_1 6 rfl rfl)
theorem dX2_apart_29 : decode cX2_apart 29 = .ok (.aload_n 1, 1) := dk_43 (dk_at dksX2_apart_1 7 rfl rfl)
theorem dX2_apart_30 : decode cX2_apart 30 = .ok (.invokevirtual 183, 3) := dk_182 0 183 (dk_at dksX2_apart_1 8 rfl rfl)
theorem dX2_apart_33 : decode cX2_apart 33 = .ok (.invokevirtual 172, 3) := dk_182 0 172 (dk_at dksX2_apart_1 11 rfl rfl)
theorem dX2_apart_36 : decode cX2_apart 36 = .ok (.isub, 1) := dk_100 (dk_at dksX2_apart_1 14 rfl rfl)
theorem dX2_apart_37 : decode cX2_apart 37 = .ok (.iadd, 1) := dk_96 (dk_at dksX2_apart_1 15 rfl rfl)
theorem dX2_apart_38 : decode cX2_apart 38 = .ok (.istore_n 2, 1) := dk_61 (dk_at dksX2_apart_1 16 rfl rfl)
theorem dX2_apart_39 : decode cX2_apart 39 = .ok (.iinc 3 1, 3) := dk_132 3 1 (dk_at dksX2_apart_1 17 rfl rfl)
theorem dX2_apart_42 : decode cX2_apart 42 = .ok (.goto (-38), 3) := dk_167 255 218 (dk_at dksX2_apart_1 20 rfl rfl)
theorem dX2_apart_45 : decode cX2_apart 45 = .ok (.iload_n 2, 1) := dk_28 (dk_at dksX2_apart_1 23 rfl rfl)
theorem dX2_apart_46 : decode cX2_apart 46 = .ok (.iconst 2, 1) := dk_5 (dk_at dksX2_apart_2 0 rfl rfl)
theorem dX2_apart_47 : decode cX2_apart 47 = .ok (.idiv, 1) := dk_108 (dk_at dksX2_apart_2 1 rfl rfl)
theorem dX2_apart_48 : decode cX2_apart 48 = .ok (.ireturn, 1) := dk_172 (dk_at dksX2_apart_2 2 rfl rfl)
abbrev cX2_reached : ByteArray := prog_13_method_12_code
def yX2_reached : MethodName := ⟨RX2, "reached", "(ILWhistlePosts$Way;)Ljava/util/BitSet;"⟩
def dkwX2_reached_5 : List UInt8 := [167, 255, 159, 45, 176]
abbrev dktX2_reached_5 : List UInt8 := dkwX2_reached_5 ++ []
def dkwX2_reached_4 : List UInt8 := [167, 255, 207, 45, 25, 6, 182, 0, 175, 182, 0, 170, 45, 25, 6, 182, 0, 180, 182, 0, 170, 167, 255, 186]
abbrev dktX2_reached_4 : List UInt8 := dkwX2_reached_4 ++ dktX2_reached_5
def dkwX2_reached_3 : List UInt8 := [165, 255, 231, 45, 25, 6, 182, 0, 175, 182, 0, 178, 45, 25, 6, 182, 0, 180, 182, 0, 178, 160, 0, 6]
abbrev dktX2_reached_3 : List UInt8 := dkwX2_reached_3 ++ dktX2_reached_4
def dkwX2_reached_2 : List UInt8 := [185, 0, 62, 1, 0, 153, 0, 66, 25, 5, 185, 0, 68, 1, 0, 192, 0, 72, 58, 6, 25, 6, 44]
abbrev dktX2_reached_2 : List UInt8 := dkwX2_reached_2 ++ dktX2_reached_3
def dkwX2_reached_1 : List UInt8 := [164, 0, 94, 45, 182, 0, 172, 54, 4, 42, 180, 0, 23, 182, 0, 58, 58, 5, 25, 5]
abbrev dktX2_reached_1 : List UInt8 := dkwX2_reached_1 ++ dktX2_reached_2
def dkwX2_reached_0 : List UInt8 := [187, 0, 167, 89, 16, 10, 183, 0, 169, 78, 45, 27, 182, 0, 170, 3, 54, 4, 45, 182, 0, 172, 21, 4]
abbrev dktX2_reached_0 : List UInt8 := dkwX2_reached_0 ++ dktX2_reached_1
theorem dksX2_reached_0 : cX2_reached.data.toList.drop 0 = dktX2_reached_0 := by decide +kernel
theorem dksX2_reached_1 : cX2_reached.data.toList.drop 24 = dktX2_reached_1 := dk_seg dksX2_reached_0 24 rfl rfl
theorem dksX2_reached_2 : cX2_reached.data.toList.drop 44 = dktX2_reached_2 := dk_seg dksX2_reached_1 20 rfl rfl
theorem dksX2_reached_3 : cX2_reached.data.toList.drop 67 = dktX2_reached_3 := dk_seg dksX2_reached_2 23 rfl rfl
theorem dksX2_reached_4 : cX2_reached.data.toList.drop 91 = dktX2_reached_4 := dk_seg dksX2_reached_3 24 rfl rfl
theorem dksX2_reached_5 : cX2_reached.data.toList.drop 115 = dktX2_reached_5 := dk_seg dksX2_reached_4 24 rfl rfl
theorem dX2_reached_0 : decode cX2_reached 0 = .ok (.new 167, 3) := dk_187 0 167 (dk_at dksX2_reached_0 0 rfl rfl)
theorem dX2_reached_3 : decode cX2_reached 3 = .ok (.dup, 1) := dk_89 (dk_at dksX2_reached_0 3 rfl rfl)
theorem dX2_reached_4 : decode cX2_reached 4 = .ok (.bipush 10, 2) := dk_16 10 (dk_at dksX2_reached_0 4 rfl rfl)
theorem dX2_reached_6 : decode cX2_reached 6 = .ok (.invokespecial 169, 3) := dk_183 0 169 (dk_at dksX2_reached_0 6 rfl rfl)
theorem dX2_reached_9 : decode cX2_reached 9 = .ok (.astore_n 3, 1) := dk_78 (dk_at dksX2_reached_0 9 rfl rfl)
theorem dX2_reached_10 : decode cX2_reached 10 = .ok (.aload_n 3, 1) := dk_45 (dk_at dksX2_reached_0 10 rfl rfl)
theorem dX2_reached_11 : decode cX2_reached 11 = .ok (.iload_n 1, 1) := dk_27 (dk_at dksX2_reached_0 11 rfl rfl)
theorem dX2_reached_12 : decode cX2_reached 12 = .ok (.invokevirtual 170, 3) := dk_182 0 170 (dk_at dksX2_reached_0 12 rfl rfl)
theorem dX2_reached_15 : decode cX2_reached 15 = .ok (.iconst 0, 1) := dk_3 (dk_at dksX2_reached_0 15 rfl rfl)
theorem dX2_reached_16 : decode cX2_reached 16 = .ok (.istore 4, 2) := dk_54 4 (dk_at dksX2_reached_0 16 rfl rfl)
theorem dX2_reached_18 : decode cX2_reached 18 = .ok (.aload_n 3, 1) := dk_45 (dk_at dksX2_reached_0 18 rfl rfl)
theorem dX2_reached_19 : decode cX2_reached 19 = .ok (.invokevirtual 172, 3) := dk_182 0 172 (dk_at dksX2_reached_0 19 rfl rfl)
theorem dX2_reached_22 : decode cX2_reached 22 = .ok (.iload 4, 2) := dk_21 4 (dk_at dksX2_reached_0 22 rfl rfl)
theorem dX2_reached_24 : decode cX2_reached 24 = .ok (.if_icmp .le 94, 3) := dk_164 0 94 (dk_at dksX2_reached_1 0 rfl rfl)
theorem dX2_reached_27 : decode cX2_reached 27 = .ok (.aload_n 3, 1) := dk_45 (dk_at dksX2_reached_1 3 rfl rfl)
theorem dX2_reached_28 : decode cX2_reached 28 = .ok (.invokevirtual 172, 3) := dk_182 0 172 (dk_at dksX2_reached_1 4 rfl rfl)
theorem dX2_reached_31 : decode cX2_reached 31 = .ok (.istore 4, 2) := dk_54 4 (dk_at dksX2_reached_1 7 rfl rfl)
theorem dX2_reached_33 : decode cX2_reached 33 = .ok (.aload_n 0, 1) := dk_42 (dk_at dksX2_reached_1 9 rfl rfl)
theorem dX2_reached_34 : decode cX2_reached 34 = .ok (.getfield 23, 3) := dk_180 0 23 (dk_at dksX2_reached_1 10 rfl rfl)
theorem dX2_reached_37 : decode cX2_reached 37 = .ok (.invokevirtual 58, 3) := dk_182 0 58 (dk_at dksX2_reached_1 13 rfl rfl)
theorem dX2_reached_40 : decode cX2_reached 40 = .ok (.astore 5, 2) := dk_58 5 (dk_at dksX2_reached_1 16 rfl rfl)
theorem dX2_reached_42 : decode cX2_reached 42 = .ok (.aload 5, 2) := dk_25 5 (dk_at dksX2_reached_1 18 rfl rfl)
theorem dX2_reached_44 : decode cX2_reached 44 = .ok (.invokeinterface 62 1, 5) := by decide +kernel
theorem dX2_reached_49 : decode cX2_reached 49 = .ok (.ifCond .eq 66, 3) := dk_153 0 66 (dk_at dksX2_reached_2 5 rfl rfl)
theorem dX2_reached_52 : decode cX2_reached 52 = .ok (.aload 5, 2) := dk_25 5 (dk_at dksX2_reached_2 8 rfl rfl)
theorem dX2_reached_54 : decode cX2_reached 54 = .ok (.invokeinterface 68 1, 5) := by decide +kernel
theorem dX2_reached_59 : decode cX2_reached 59 = .ok (.checkcast 72, 3) := dk_192 0 72 (dk_at dksX2_reached_2 15 rfl rfl)
theorem dX2_reached_62 : decode cX2_reached 62 = .ok (.astore 6, 2) := dk_58 6 (dk_at dksX2_reached_2 18 rfl rfl)
theorem dX2_reached_64 : decode cX2_reached 64 = .ok (.aload 6, 2) := dk_25 6 (dk_at dksX2_reached_2 20 rfl rfl)
theorem dX2_reached_66 : decode cX2_reached 66 = .ok (.aload_n 2, 1) := dk_44 (dk_at dksX2_reached_2 22 rfl rfl)
theorem dX2_reached_67 : decode cX2_reached 67 = .ok (.if_acmp .eq (-25), 3) := dk_165 255 231 (dk_at dksX2_reached_3 0 rfl rfl)
theorem dX2_reached_70 : decode cX2_reached 70 = .ok (.aload_n 3, 1) := dk_45 (dk_at dksX2_reached_3 3 rfl rfl)
theorem dX2_reached_71 : decode cX2_reached 71 = .ok (.aload 6, 2) := dk_25 6 (dk_at dksX2_reached_3 4 rfl rfl)
theorem dX2_reached_73 : decode cX2_reached 73 = .ok (.invokevirtual 175, 3) := dk_182 0 175 (dk_at dksX2_reached_3 6 rfl rfl)
theorem dX2_reached_76 : decode cX2_reached 76 = .ok (.invokevirtual 178, 3) := dk_182 0 178 (dk_at dksX2_reached_3 9 rfl rfl)
theorem dX2_reached_79 : decode cX2_reached 79 = .ok (.aload_n 3, 1) := dk_45 (dk_at dksX2_reached_3 12 rfl rfl)
theorem dX2_reached_80 : decode cX2_reached 80 = .ok (.aload 6, 2) := dk_25 6 (dk_at dksX2_reached_3 13 rfl rfl)
theorem dX2_reached_82 : decode cX2_reached 82 = .ok (.invokevirtual 180, 3) := dk_182 0 180 (dk_at dksX2_reached_3 15 rfl rfl)
theorem dX2_reached_85 : decode cX2_reached 85 = .ok (.invokevirtual 178, 3) := dk_182 0 178 (dk_at dksX2_reached_3 18 rfl rfl)
theorem dX2_reached_88 : decode cX2_reached 88 = .ok (.if_icmp .ne 6, 3) := dk_160 0 6 (dk_at dksX2_reached_3 21 rfl rfl)
theorem dX2_reached_91 : decode cX2_reached 91 = .ok (.goto (-49), 3) := dk_167 255 207 (dk_at dksX2_reached_4 0 rfl rfl)
theorem dX2_reached_94 : decode cX2_reached 94 = .ok (.aload_n 3, 1) := dk_45 (dk_at dksX2_reached_4 3 rfl rfl)
theorem dX2_reached_95 : decode cX2_reached 95 = .ok (.aload 6, 2) := dk_25 6 (dk_at dksX2_reached_4 4 rfl rfl)
theorem dX2_reached_97 : decode cX2_reached 97 = .ok (.invokevirtual 175, 3) := dk_182 0 175 (dk_at dksX2_reached_4 6 rfl rfl)
theorem dX2_reached_100 : decode cX2_reached 100 = .ok (.invokevirtual 170, 3) := dk_182 0 170 (dk_at dksX2_reached_4 9 rfl rfl)
theorem dX2_reached_103 : decode cX2_reached 103 = .ok (.aload_n 3, 1) := dk_45 (dk_at dksX2_reached_4 12 rfl rfl)
theorem dX2_reached_104 : decode cX2_reached 104 = .ok (.aload 6, 2) := dk_25 6 (dk_at dksX2_reached_4 13 rfl rfl)
theorem dX2_reached_106 : decode cX2_reached 106 = .ok (.invokevirtual 180, 3) := dk_182 0 180 (dk_at dksX2_reached_4 15 rfl rfl)
theorem dX2_reached_109 : decode cX2_reached 109 = .ok (.invokevirtual 170, 3) := dk_182 0 170 (dk_at dksX2_reached_4 18 rfl rfl)
theorem dX2_reached_112 : decode cX2_reached 112 = .ok (.goto (-70), 3) := dk_167 255 186 (dk_at dksX2_reached_4 21 rfl rfl)
theorem dX2_reached_115 : decode cX2_reached 115 = .ok (.goto (-97), 3) := dk_167 255 159 (dk_at dksX2_reached_5 0 rfl rfl)
theorem dX2_reached_118 : decode cX2_reached 118 = .ok (.aload_n 3, 1) := dk_45 (dk_at dksX2_reached_5 3 rfl rfl)
theorem dX2_reached_119 : decode cX2_reached 119 = .ok (.areturn, 1) := dk_176 (dk_at dksX2_reached_5 4 rfl rfl)
abbrev cX2_agrees : ByteArray := prog_13_method_30_code
def yX2_agrees : MethodName := ⟨RX2, "agrees", "()Z"⟩
def dkwX2_agrees_10 : List UInt8 := [16, 6, 46, 42, 180, 0, 34, 8, 46, 163, 0, 7, 4, 167, 0, 4, 3, 172]
abbrev dktX2_agrees_10 : List UInt8 := dkwX2_agrees_10 ++ []
def dkwX2_agrees_9 : List UInt8 := [46, 160, 0, 39, 29, 42, 180, 0, 97, 42, 180, 0, 34, 16, 10, 46, 96, 160, 0, 23, 42, 180, 0, 34]
abbrev dktX2_agrees_9 : List UInt8 := dkwX2_agrees_9 ++ dktX2_agrees_10
def dkwX2_agrees_8 : List UInt8 := [8, 46, 160, 0, 62, 43, 6, 46, 42, 180, 0, 34, 16, 8, 46, 160, 0, 49, 28, 42, 180, 0, 34, 6]
abbrev dktX2_agrees_8 : List UInt8 := dkwX2_agrees_8 ++ dktX2_agrees_9
def dkwX2_agrees_7 : List UInt8 := [180, 0, 34, 4, 46, 42, 180, 0, 27, 185, 0, 38, 1, 0, 160, 0, 74, 43, 5, 46, 42, 180, 0, 34]
abbrev dktX2_agrees_7 : List UInt8 := dkwX2_agrees_7 ++ dktX2_agrees_8
def dkwX2_agrees_6 : List UInt8 := [180, 0, 116, 96, 62, 42, 21, 4, 182, 1, 66, 154, 0, 5, 3, 172, 132, 4, 1, 167, 255, 216, 42]
abbrev dktX2_agrees_6 : List UInt8 := dkwX2_agrees_6 ++ dktX2_agrees_7
def dkwX2_agrees_5 : List UInt8 := [54, 4, 21, 4, 42, 180, 0, 14, 185, 0, 38, 1, 0, 162, 0, 32, 29, 42, 21, 4, 182, 0, 44]
abbrev dktX2_agrees_5 : List UInt8 := dkwX2_agrees_5 ++ dktX2_agrees_6
def dkwX2_agrees_4 : List UInt8 := [180, 0, 254, 2, 159, 0, 7, 4, 167, 0, 4, 3, 159, 0, 5, 3, 172, 132, 4, 1, 167, 255, 157, 3]
abbrev dktX2_agrees_4 : List UInt8 := dkwX2_agrees_4 ++ dktX2_agrees_5
def dkwX2_agrees_3 : List UInt8 := [180, 0, 231, 160, 0, 34, 25, 5, 180, 0, 224, 4, 160, 0, 7, 4, 167, 0, 4, 3, 25, 5]
abbrev dktX2_agrees_3 : List UInt8 := dkwX2_agrees_3 ++ dktX2_agrees_4
def dkwX2_agrees_2 : List UInt8 := [25, 5, 180, 1, 34, 96, 61, 25, 5, 180, 0, 224, 5, 160, 0, 16, 25, 5, 180, 0, 221, 25, 5]
abbrev dktX2_agrees_2 : List UInt8 := dkwX2_agrees_2 ++ dktX2_agrees_3
def dkwX2_agrees_1 : List UInt8 := [162, 0, 91, 42, 21, 4, 182, 0, 78, 58, 5, 43, 25, 5, 180, 0, 224, 92, 46, 4, 96, 79, 28]
abbrev dktX2_agrees_1 : List UInt8 := dkwX2_agrees_1 ++ dktX2_agrees_2
def dkwX2_agrees_0 : List UInt8 := [7, 188, 10, 76, 3, 61, 3, 62, 3, 54, 4, 21, 4, 42, 180, 0, 27, 185, 0, 38, 1, 0]
abbrev dktX2_agrees_0 : List UInt8 := dkwX2_agrees_0 ++ dktX2_agrees_1
theorem dksX2_agrees_0 : cX2_agrees.data.toList.drop 0 = dktX2_agrees_0 := by decide +kernel
theorem dksX2_agrees_1 : cX2_agrees.data.toList.drop 22 = dktX2_agrees_1 := dk_seg dksX2_agrees_0 22 rfl rfl
theorem dksX2_agrees_2 : cX2_agrees.data.toList.drop 45 = dktX2_agrees_2 := dk_seg dksX2_agrees_1 23 rfl rfl
theorem dksX2_agrees_3 : cX2_agrees.data.toList.drop 68 = dktX2_agrees_3 := dk_seg dksX2_agrees_2 23 rfl rfl
theorem dksX2_agrees_4 : cX2_agrees.data.toList.drop 90 = dktX2_agrees_4 := dk_seg dksX2_agrees_3 22 rfl rfl
theorem dksX2_agrees_5 : cX2_agrees.data.toList.drop 114 = dktX2_agrees_5 := dk_seg dksX2_agrees_4 24 rfl rfl
theorem dksX2_agrees_6 : cX2_agrees.data.toList.drop 137 = dktX2_agrees_6 := dk_seg dksX2_agrees_5 23 rfl rfl
theorem dksX2_agrees_7 : cX2_agrees.data.toList.drop 160 = dktX2_agrees_7 := dk_seg dksX2_agrees_6 23 rfl rfl
theorem dksX2_agrees_8 : cX2_agrees.data.toList.drop 184 = dktX2_agrees_8 := dk_seg dksX2_agrees_7 24 rfl rfl
theorem dksX2_agrees_9 : cX2_agrees.data.toList.drop 208 = dktX2_agrees_9 := dk_seg dksX2_agrees_8 24 rfl rfl
theorem dksX2_agrees_10 : cX2_agrees.data.toList.drop 232 = dktX2_agrees_10 := dk_seg dksX2_agrees_9 24 rfl rfl
theorem dX2_agrees_0 : decode cX2_agrees 0 = .ok (.iconst 4, 1) := dk_7 (dk_at dksX2_agrees_0 0 rfl rfl)
theorem dX2_agrees_1 : decode cX2_agrees 1 = .ok (.newarray .int, 2) := dk_188_10 (dk_at dksX2_agrees_0 1 rfl rfl)
theorem dX2_agrees_3 : decode cX2_agrees 3 = .ok (.astore_n 1, 1) := dk_76 (dk_at dksX2_agrees_0 3 rfl rfl)
theorem dX2_agrees_4 : decode cX2_agrees 4 = .ok (.iconst 0, 1) := dk_3 (dk_at dksX2_agrees_0 4 rfl rfl)
theorem dX2_agrees_5 : decode cX2_agrees 5 = .ok (.istore_n 2, 1) := dk_61 (dk_at dksX2_agrees_0 5 rfl rfl)
theorem dX2_agrees_6 : decode cX2_agrees 6 = .ok (.iconst 0, 1) := dk_3 (dk_at dksX2_agrees_0 6 rfl rfl)
theorem dX2_agrees_7 : decode cX2_agrees 7 = .ok (.istore_n 3, 1) := dk_62 (dk_at dksX2_agrees_0 7 rfl rfl)
theorem dX2_agrees_8 : decode cX2_agrees 8 = .ok (.iconst 0, 1) := dk_3 (dk_at dksX2_agrees_0 8 rfl rfl)
theorem dX2_agrees_9 : decode cX2_agrees 9 = .ok (.istore 4, 2) := dk_54 4 (dk_at dksX2_agrees_0 9 rfl rfl)
theorem dX2_agrees_11 : decode cX2_agrees 11 = .ok (.iload 4, 2) := dk_21 4 (dk_at dksX2_agrees_0 11 rfl rfl)
theorem dX2_agrees_13 : decode cX2_agrees 13 = .ok (.aload_n 0, 1) := dk_42 (dk_at dksX2_agrees_0 13 rfl rfl)
theorem dX2_agrees_14 : decode cX2_agrees 14 = .ok (.getfield 27, 3) := dk_180 0 27 (dk_at dksX2_agrees_0 14 rfl rfl)
theorem dX2_agrees_17 : decode cX2_agrees 17 = .ok (.invokeinterface 38 1, 5) := by decide +kernel
theorem dX2_agrees_22 : decode cX2_agrees 22 = .ok (.if_icmp .ge 91, 3) := dk_162 0 91 (dk_at dksX2_agrees_1 0 rfl rfl)
theorem dX2_agrees_25 : decode cX2_agrees 25 = .ok (.aload_n 0, 1) := dk_42 (dk_at dksX2_agrees_1 3 rfl rfl)
theorem dX2_agrees_26 : decode cX2_agrees 26 = .ok (.iload 4, 2) := dk_21 4 (dk_at dksX2_agrees_1 4 rfl rfl)
theorem dX2_agrees_28 : decode cX2_agrees 28 = .ok (.invokevirtual 78, 3) := dk_182 0 78 (dk_at dksX2_agrees_1 6 rfl rfl)
theorem dX2_agrees_31 : decode cX2_agrees 31 = .ok (.astore 5, 2) := dk_58 5 (dk_at dksX2_agrees_1 9 rfl rfl)
theorem dX2_agrees_33 : decode cX2_agrees 33 = .ok (.aload_n 1, 1) := dk_43 (dk_at dksX2_agrees_1 11 rfl rfl)
theorem dX2_agrees_34 : decode cX2_agrees 34 = .ok (.aload 5, 2) := dk_25 5 (dk_at dksX2_agrees_1 12 rfl rfl)
theorem dX2_agrees_36 : decode cX2_agrees 36 = .ok (.getfield 224, 3) := dk_180 0 224 (dk_at dksX2_agrees_1 14 rfl rfl)
theorem dX2_agrees_39 : decode cX2_agrees 39 = .ok (.dup2, 1) := dk_92 (dk_at dksX2_agrees_1 17 rfl rfl)
theorem dX2_agrees_40 : decode cX2_agrees 40 = .ok (.iaload, 1) := dk_46 (dk_at dksX2_agrees_1 18 rfl rfl)
theorem dX2_agrees_41 : decode cX2_agrees 41 = .ok (.iconst 1, 1) := dk_4 (dk_at dksX2_agrees_1 19 rfl rfl)
theorem dX2_agrees_42 : decode cX2_agrees 42 = .ok (.iadd, 1) := dk_96 (dk_at dksX2_agrees_1 20 rfl rfl)
theorem dX2_agrees_43 : decode cX2_agrees 43 = .ok (.iastore, 1) := dk_79 (dk_at dksX2_agrees_1 21 rfl rfl)
theorem dX2_agrees_44 : decode cX2_agrees 44 = .ok (.iload_n 2, 1) := dk_28 (dk_at dksX2_agrees_1 22 rfl rfl)
theorem dX2_agrees_45 : decode cX2_agrees 45 = .ok (.aload 5, 2) := dk_25 5 (dk_at dksX2_agrees_2 0 rfl rfl)
theorem dX2_agrees_47 : decode cX2_agrees 47 = .ok (.getfield 290, 3) := dk_180 1 34 (dk_at dksX2_agrees_2 2 rfl rfl)
theorem dX2_agrees_50 : decode cX2_agrees 50 = .ok (.iadd, 1) := dk_96 (dk_at dksX2_agrees_2 5 rfl rfl)
theorem dX2_agrees_51 : decode cX2_agrees 51 = .ok (.istore_n 2, 1) := dk_61 (dk_at dksX2_agrees_2 6 rfl rfl)
theorem dX2_agrees_52 : decode cX2_agrees 52 = .ok (.aload 5, 2) := dk_25 5 (dk_at dksX2_agrees_2 7 rfl rfl)
theorem dX2_agrees_54 : decode cX2_agrees 54 = .ok (.getfield 224, 3) := dk_180 0 224 (dk_at dksX2_agrees_2 9 rfl rfl)
theorem dX2_agrees_57 : decode cX2_agrees 57 = .ok (.iconst 2, 1) := dk_5 (dk_at dksX2_agrees_2 12 rfl rfl)
theorem dX2_agrees_58 : decode cX2_agrees 58 = .ok (.if_icmp .ne 16, 3) := dk_160 0 16 (dk_at dksX2_agrees_2 13 rfl rfl)
theorem dX2_agrees_61 : decode cX2_agrees 61 = .ok (.aload 5, 2) := dk_25 5 (dk_at dksX2_agrees_2 16 rfl rfl)
theorem dX2_agrees_63 : decode cX2_agrees 63 = .ok (.getfield 221, 3) := dk_180 0 221 (dk_at dksX2_agrees_2 18 rfl rfl)
theorem dX2_agrees_66 : decode cX2_agrees 66 = .ok (.aload 5, 2) := dk_25 5 (dk_at dksX2_agrees_2 21 rfl rfl)
theorem dX2_agrees_68 : decode cX2_agrees 68 = .ok (.getfield 231, 3) := dk_180 0 231 (dk_at dksX2_agrees_3 0 rfl rfl)
theorem dX2_agrees_71 : decode cX2_agrees 71 = .ok (.if_icmp .ne 34, 3) := dk_160 0 34 (dk_at dksX2_agrees_3 3 rfl rfl)
theorem dX2_agrees_74 : decode cX2_agrees 74 = .ok (.aload 5, 2) := dk_25 5 (dk_at dksX2_agrees_3 6 rfl rfl)
theorem dX2_agrees_76 : decode cX2_agrees 76 = .ok (.getfield 224, 3) := dk_180 0 224 (dk_at dksX2_agrees_3 8 rfl rfl)
theorem dX2_agrees_79 : decode cX2_agrees 79 = .ok (.iconst 1, 1) := dk_4 (dk_at dksX2_agrees_3 11 rfl rfl)
theorem dX2_agrees_80 : decode cX2_agrees 80 = .ok (.if_icmp .ne 7, 3) := dk_160 0 7 (dk_at dksX2_agrees_3 12 rfl rfl)
theorem dX2_agrees_83 : decode cX2_agrees 83 = .ok (.iconst 1, 1) := dk_4 (dk_at dksX2_agrees_3 15 rfl rfl)
theorem dX2_agrees_84 : decode cX2_agrees 84 = .ok (.goto 4, 3) := dk_167 0 4 (dk_at dksX2_agrees_3 16 rfl rfl)
theorem dX2_agrees_87 : decode cX2_agrees 87 = .ok (.iconst 0, 1) := dk_3 (dk_at dksX2_agrees_3 19 rfl rfl)
theorem dX2_agrees_88 : decode cX2_agrees 88 = .ok (.aload 5, 2) := dk_25 5 (dk_at dksX2_agrees_3 20 rfl rfl)
theorem dX2_agrees_90 : decode cX2_agrees 90 = .ok (.getfield 254, 3) := dk_180 0 254 (dk_at dksX2_agrees_4 0 rfl rfl)
theorem dX2_agrees_93 : decode cX2_agrees 93 = .ok (.iconst (-1), 1) := dk_2 (dk_at dksX2_agrees_4 3 rfl rfl)
theorem dX2_agrees_94 : decode cX2_agrees 94 = .ok (.if_icmp .eq 7, 3) := dk_159 0 7 (dk_at dksX2_agrees_4 4 rfl rfl)
theorem dX2_agrees_97 : decode cX2_agrees 97 = .ok (.iconst 1, 1) := dk_4 (dk_at dksX2_agrees_4 7 rfl rfl)
theorem dX2_agrees_98 : decode cX2_agrees 98 = .ok (.goto 4, 3) := dk_167 0 4 (dk_at dksX2_agrees_4 8 rfl rfl)
theorem dX2_agrees_101 : decode cX2_agrees 101 = .ok (.iconst 0, 1) := dk_3 (dk_at dksX2_agrees_4 11 rfl rfl)
theorem dX2_agrees_102 : decode cX2_agrees 102 = .ok (.if_icmp .eq 5, 3) := dk_159 0 5 (dk_at dksX2_agrees_4 12 rfl rfl)
theorem dX2_agrees_105 : decode cX2_agrees 105 = .ok (.iconst 0, 1) := dk_3 (dk_at dksX2_agrees_4 15 rfl rfl)
theorem dX2_agrees_106 : decode cX2_agrees 106 = .ok (.ireturn, 1) := dk_172 (dk_at dksX2_agrees_4 16 rfl rfl)
theorem dX2_agrees_107 : decode cX2_agrees 107 = .ok (.iinc 4 1, 3) := dk_132 4 1 (dk_at dksX2_agrees_4 17 rfl rfl)
theorem dX2_agrees_110 : decode cX2_agrees 110 = .ok (.goto (-99), 3) := dk_167 255 157 (dk_at dksX2_agrees_4 20 rfl rfl)
theorem dX2_agrees_113 : decode cX2_agrees 113 = .ok (.iconst 0, 1) := dk_3 (dk_at dksX2_agrees_4 23 rfl rfl)
theorem dX2_agrees_114 : decode cX2_agrees 114 = .ok (.istore 4, 2) := dk_54 4 (dk_at dksX2_agrees_5 0 rfl rfl)
theorem dX2_agrees_116 : decode cX2_agrees 116 = .ok (.iload 4, 2) := dk_21 4 (dk_at dksX2_agrees_5 2 rfl rfl)
theorem dX2_agrees_118 : decode cX2_agrees 118 = .ok (.aload_n 0, 1) := dk_42 (dk_at dksX2_agrees_5 4 rfl rfl)
theorem dX2_agrees_119 : decode cX2_agrees 119 = .ok (.getfield 14, 3) := dk_180 0 14 (dk_at dksX2_agrees_5 5 rfl rfl)
theorem dX2_agrees_122 : decode cX2_agrees 122 = .ok (.invokeinterface 38 1, 5) := by decide +kernel
theorem dX2_agrees_127 : decode cX2_agrees 127 = .ok (.if_icmp .ge 32, 3) := dk_162 0 32 (dk_at dksX2_agrees_5 13 rfl rfl)
theorem dX2_agrees_130 : decode cX2_agrees 130 = .ok (.iload_n 3, 1) := dk_29 (dk_at dksX2_agrees_5 16 rfl rfl)
theorem dX2_agrees_131 : decode cX2_agrees 131 = .ok (.aload_n 0, 1) := dk_42 (dk_at dksX2_agrees_5 17 rfl rfl)
theorem dX2_agrees_132 : decode cX2_agrees 132 = .ok (.iload 4, 2) := dk_21 4 (dk_at dksX2_agrees_5 18 rfl rfl)
theorem dX2_agrees_134 : decode cX2_agrees 134 = .ok (.invokevirtual 44, 3) := dk_182 0 44 (dk_at dksX2_agrees_5 20 rfl rfl)
theorem dX2_agrees_137 : decode cX2_agrees 137 = .ok (.getfield 116, 3) := dk_180 0 116 (dk_at dksX2_agrees_6 0 rfl rfl)
theorem dX2_agrees_140 : decode cX2_agrees 140 = .ok (.iadd, 1) := dk_96 (dk_at dksX2_agrees_6 3 rfl rfl)
theorem dX2_agrees_141 : decode cX2_agrees 141 = .ok (.istore_n 3, 1) := dk_62 (dk_at dksX2_agrees_6 4 rfl rfl)
theorem dX2_agrees_142 : decode cX2_agrees 142 = .ok (.aload_n 0, 1) := dk_42 (dk_at dksX2_agrees_6 5 rfl rfl)
theorem dX2_agrees_143 : decode cX2_agrees 143 = .ok (.iload 4, 2) := dk_21 4 (dk_at dksX2_agrees_6 6 rfl rfl)
theorem dX2_agrees_145 : decode cX2_agrees 145 = .ok (.invokevirtual 322, 3) := dk_182 1 66 (dk_at dksX2_agrees_6 8 rfl rfl)
theorem dX2_agrees_148 : decode cX2_agrees 148 = .ok (.ifCond .ne 5, 3) := dk_154 0 5 (dk_at dksX2_agrees_6 11 rfl rfl)
theorem dX2_agrees_151 : decode cX2_agrees 151 = .ok (.iconst 0, 1) := dk_3 (dk_at dksX2_agrees_6 14 rfl rfl)
theorem dX2_agrees_152 : decode cX2_agrees 152 = .ok (.ireturn, 1) := dk_172 (dk_at dksX2_agrees_6 15 rfl rfl)
theorem dX2_agrees_153 : decode cX2_agrees 153 = .ok (.iinc 4 1, 3) := dk_132 4 1 (dk_at dksX2_agrees_6 16 rfl rfl)
theorem dX2_agrees_156 : decode cX2_agrees 156 = .ok (.goto (-40), 3) := dk_167 255 216 (dk_at dksX2_agrees_6 19 rfl rfl)
theorem dX2_agrees_159 : decode cX2_agrees 159 = .ok (.aload_n 0, 1) := dk_42 (dk_at dksX2_agrees_6 22 rfl rfl)
theorem dX2_agrees_160 : decode cX2_agrees 160 = .ok (.getfield 34, 3) := dk_180 0 34 (dk_at dksX2_agrees_7 0 rfl rfl)
theorem dX2_agrees_163 : decode cX2_agrees 163 = .ok (.iconst 1, 1) := dk_4 (dk_at dksX2_agrees_7 3 rfl rfl)
theorem dX2_agrees_164 : decode cX2_agrees 164 = .ok (.iaload, 1) := dk_46 (dk_at dksX2_agrees_7 4 rfl rfl)
theorem dX2_agrees_165 : decode cX2_agrees 165 = .ok (.aload_n 0, 1) := dk_42 (dk_at dksX2_agrees_7 5 rfl rfl)
theorem dX2_agrees_166 : decode cX2_agrees 166 = .ok (.getfield 27, 3) := dk_180 0 27 (dk_at dksX2_agrees_7 6 rfl rfl)
theorem dX2_agrees_169 : decode cX2_agrees 169 = .ok (.invokeinterface 38 1, 5) := by decide +kernel
theorem dX2_agrees_174 : decode cX2_agrees 174 = .ok (.if_icmp .ne 74, 3) := dk_160 0 74 (dk_at dksX2_agrees_7 14 rfl rfl)
theorem dX2_agrees_177 : decode cX2_agrees 177 = .ok (.aload_n 1, 1) := dk_43 (dk_at dksX2_agrees_7 17 rfl rfl)
theorem dX2_agrees_178 : decode cX2_agrees 178 = .ok (.iconst 2, 1) := dk_5 (dk_at dksX2_agrees_7 18 rfl rfl)
theorem dX2_agrees_179 : decode cX2_agrees 179 = .ok (.iaload, 1) := dk_46 (dk_at dksX2_agrees_7 19 rfl rfl)
theorem dX2_agrees_180 : decode cX2_agrees 180 = .ok (.aload_n 0, 1) := dk_42 (dk_at dksX2_agrees_7 20 rfl rfl)
theorem dX2_agrees_181 : decode cX2_agrees 181 = .ok (.getfield 34, 3) := dk_180 0 34 (dk_at dksX2_agrees_7 21 rfl rfl)
theorem dX2_agrees_184 : decode cX2_agrees 184 = .ok (.iconst 5, 1) := dk_8 (dk_at dksX2_agrees_8 0 rfl rfl)
theorem dX2_agrees_185 : decode cX2_agrees 185 = .ok (.iaload, 1) := dk_46 (dk_at dksX2_agrees_8 1 rfl rfl)
theorem dX2_agrees_186 : decode cX2_agrees 186 = .ok (.if_icmp .ne 62, 3) := dk_160 0 62 (dk_at dksX2_agrees_8 2 rfl rfl)
theorem dX2_agrees_189 : decode cX2_agrees 189 = .ok (.aload_n 1, 1) := dk_43 (dk_at dksX2_agrees_8 5 rfl rfl)
theorem dX2_agrees_190 : decode cX2_agrees 190 = .ok (.iconst 3, 1) := dk_6 (dk_at dksX2_agrees_8 6 rfl rfl)
theorem dX2_agrees_191 : decode cX2_agrees 191 = .ok (.iaload, 1) := dk_46 (dk_at dksX2_agrees_8 7 rfl rfl)
theorem dX2_agrees_192 : decode cX2_agrees 192 = .ok (.aload_n 0, 1) := dk_42 (dk_at dksX2_agrees_8 8 rfl rfl)
theorem dX2_agrees_193 : decode cX2_agrees 193 = .ok (.getfield 34, 3) := dk_180 0 34 (dk_at dksX2_agrees_8 9 rfl rfl)
theorem dX2_agrees_196 : decode cX2_agrees 196 = .ok (.bipush 8, 2) := dk_16 8 (dk_at dksX2_agrees_8 12 rfl rfl)
theorem dX2_agrees_198 : decode cX2_agrees 198 = .ok (.iaload, 1) := dk_46 (dk_at dksX2_agrees_8 14 rfl rfl)
theorem dX2_agrees_199 : decode cX2_agrees 199 = .ok (.if_icmp .ne 49, 3) := dk_160 0 49 (dk_at dksX2_agrees_8 15 rfl rfl)
theorem dX2_agrees_202 : decode cX2_agrees 202 = .ok (.iload_n 2, 1) := dk_28 (dk_at dksX2_agrees_8 18 rfl rfl)
theorem dX2_agrees_203 : decode cX2_agrees 203 = .ok (.aload_n 0, 1) := dk_42 (dk_at dksX2_agrees_8 19 rfl rfl)
theorem dX2_agrees_204 : decode cX2_agrees 204 = .ok (.getfield 34, 3) := dk_180 0 34 (dk_at dksX2_agrees_8 20 rfl rfl)
theorem dX2_agrees_207 : decode cX2_agrees 207 = .ok (.iconst 3, 1) := dk_6 (dk_at dksX2_agrees_8 23 rfl rfl)
theorem dX2_agrees_208 : decode cX2_agrees 208 = .ok (.iaload, 1) := dk_46 (dk_at dksX2_agrees_9 0 rfl rfl)
theorem dX2_agrees_209 : decode cX2_agrees 209 = .ok (.if_icmp .ne 39, 3) := dk_160 0 39 (dk_at dksX2_agrees_9 1 rfl rfl)
theorem dX2_agrees_212 : decode cX2_agrees 212 = .ok (.iload_n 3, 1) := dk_29 (dk_at dksX2_agrees_9 4 rfl rfl)
theorem dX2_agrees_213 : decode cX2_agrees 213 = .ok (.aload_n 0, 1) := dk_42 (dk_at dksX2_agrees_9 5 rfl rfl)
theorem dX2_agrees_214 : decode cX2_agrees 214 = .ok (.getfield 97, 3) := dk_180 0 97 (dk_at dksX2_agrees_9 6 rfl rfl)
theorem dX2_agrees_217 : decode cX2_agrees 217 = .ok (.aload_n 0, 1) := dk_42 (dk_at dksX2_agrees_9 9 rfl rfl)
theorem dX2_agrees_218 : decode cX2_agrees 218 = .ok (.getfield 34, 3) := dk_180 0 34 (dk_at dksX2_agrees_9 10 rfl rfl)
theorem dX2_agrees_221 : decode cX2_agrees 221 = .ok (.bipush 10, 2) := dk_16 10 (dk_at dksX2_agrees_9 13 rfl rfl)
theorem dX2_agrees_223 : decode cX2_agrees 223 = .ok (.iaload, 1) := dk_46 (dk_at dksX2_agrees_9 15 rfl rfl)
theorem dX2_agrees_224 : decode cX2_agrees 224 = .ok (.iadd, 1) := dk_96 (dk_at dksX2_agrees_9 16 rfl rfl)
theorem dX2_agrees_225 : decode cX2_agrees 225 = .ok (.if_icmp .ne 23, 3) := dk_160 0 23 (dk_at dksX2_agrees_9 17 rfl rfl)
theorem dX2_agrees_228 : decode cX2_agrees 228 = .ok (.aload_n 0, 1) := dk_42 (dk_at dksX2_agrees_9 20 rfl rfl)
theorem dX2_agrees_229 : decode cX2_agrees 229 = .ok (.getfield 34, 3) := dk_180 0 34 (dk_at dksX2_agrees_9 21 rfl rfl)
theorem dX2_agrees_232 : decode cX2_agrees 232 = .ok (.bipush 6, 2) := dk_16 6 (dk_at dksX2_agrees_10 0 rfl rfl)
theorem dX2_agrees_234 : decode cX2_agrees 234 = .ok (.iaload, 1) := dk_46 (dk_at dksX2_agrees_10 2 rfl rfl)
theorem dX2_agrees_235 : decode cX2_agrees 235 = .ok (.aload_n 0, 1) := dk_42 (dk_at dksX2_agrees_10 3 rfl rfl)
theorem dX2_agrees_236 : decode cX2_agrees 236 = .ok (.getfield 34, 3) := dk_180 0 34 (dk_at dksX2_agrees_10 4 rfl rfl)
theorem dX2_agrees_239 : decode cX2_agrees 239 = .ok (.iconst 5, 1) := dk_8 (dk_at dksX2_agrees_10 7 rfl rfl)
theorem dX2_agrees_240 : decode cX2_agrees 240 = .ok (.iaload, 1) := dk_46 (dk_at dksX2_agrees_10 8 rfl rfl)
theorem dX2_agrees_241 : decode cX2_agrees 241 = .ok (.if_icmp .gt 7, 3) := dk_163 0 7 (dk_at dksX2_agrees_10 9 rfl rfl)
theorem dX2_agrees_244 : decode cX2_agrees 244 = .ok (.iconst 1, 1) := dk_4 (dk_at dksX2_agrees_10 12 rfl rfl)
theorem dX2_agrees_245 : decode cX2_agrees 245 = .ok (.goto 4, 3) := dk_167 0 4 (dk_at dksX2_agrees_10 13 rfl rfl)
theorem dX2_agrees_248 : decode cX2_agrees 248 = .ok (.iconst 0, 1) := dk_3 (dk_at dksX2_agrees_10 16 rfl rfl)
theorem dX2_agrees_249 : decode cX2_agrees 249 = .ok (.ireturn, 1) := dk_172 (dk_at dksX2_agrees_10 17 rfl rfl)
abbrev cX2_areRoutesRight : ByteArray := prog_13_method_28_code
def yX2_areRoutesRight : MethodName := ⟨RX2, "areRoutesRight", "(I)Z"⟩
def dkwX2_areRoutesRight_6 : List UInt8 := [27, 29, 182, 0, 163, 159, 0, 5, 3, 172, 132, 3, 1, 167, 255, 233, 4, 172]
abbrev dktX2_areRoutesRight_6 : List UInt8 := dkwX2_areRoutesRight_6 ++ []
def dkwX2_areRoutesRight_5 : List UInt8 := [184, 1, 62, 167, 255, 196, 132, 3, 1, 167, 255, 175, 3, 62, 29, 44, 190, 162, 0, 23, 44, 29, 46, 42]
abbrev dktX2_areRoutesRight_5 : List UInt8 := dkwX2_areRoutesRight_5 ++ dktX2_areRoutesRight_6
def dkwX2_areRoutesRight_4 : List UInt8 := [182, 0, 156, 184, 1, 62, 44, 25, 5, 182, 0, 180, 25, 5, 182, 0, 175, 25, 5, 182, 0, 156]
abbrev dktX2_areRoutesRight_4 : List UInt8 := dkwX2_areRoutesRight_4 ++ dktX2_areRoutesRight_5
def dkwX2_areRoutesRight_3 : List UInt8 := [185, 0, 68, 1, 0, 192, 0, 72, 58, 5, 44, 25, 5, 182, 0, 175, 25, 5, 182, 0, 180, 25, 5]
abbrev dktX2_areRoutesRight_3 : List UInt8 := dkwX2_areRoutesRight_3 ++ dktX2_areRoutesRight_4
def dkwX2_areRoutesRight_2 : List UInt8 := [180, 0, 23, 182, 0, 58, 58, 4, 25, 4, 185, 0, 62, 1, 0, 153, 0, 56, 25, 4]
abbrev dktX2_areRoutesRight_2 : List UInt8 := dkwX2_areRoutesRight_2 ++ dktX2_areRoutesRight_3
def dkwX2_areRoutesRight_1 : List UInt8 := [160, 0, 7, 3, 167, 0, 4, 2, 79, 132, 3, 1, 167, 255, 234, 3, 62, 29, 44, 190, 162, 0, 81, 42]
abbrev dktX2_areRoutesRight_1 : List UInt8 := dkwX2_areRoutesRight_1 ++ dktX2_areRoutesRight_2
def dkwX2_areRoutesRight_0 : List UInt8 := [42, 180, 0, 14, 185, 0, 38, 1, 0, 188, 10, 77, 3, 62, 29, 44, 190, 162, 0, 22, 44, 29, 29, 27]
abbrev dktX2_areRoutesRight_0 : List UInt8 := dkwX2_areRoutesRight_0 ++ dktX2_areRoutesRight_1
theorem dksX2_areRoutesRight_0 : cX2_areRoutesRight.data.toList.drop 0 = dktX2_areRoutesRight_0 := by decide +kernel
theorem dksX2_areRoutesRight_1 : cX2_areRoutesRight.data.toList.drop 24 = dktX2_areRoutesRight_1 := dk_seg dksX2_areRoutesRight_0 24 rfl rfl
theorem dksX2_areRoutesRight_2 : cX2_areRoutesRight.data.toList.drop 48 = dktX2_areRoutesRight_2 := dk_seg dksX2_areRoutesRight_1 24 rfl rfl
theorem dksX2_areRoutesRight_3 : cX2_areRoutesRight.data.toList.drop 68 = dktX2_areRoutesRight_3 := dk_seg dksX2_areRoutesRight_2 20 rfl rfl
theorem dksX2_areRoutesRight_4 : cX2_areRoutesRight.data.toList.drop 91 = dktX2_areRoutesRight_4 := dk_seg dksX2_areRoutesRight_3 23 rfl rfl
theorem dksX2_areRoutesRight_5 : cX2_areRoutesRight.data.toList.drop 113 = dktX2_areRoutesRight_5 := dk_seg dksX2_areRoutesRight_4 22 rfl rfl
theorem dksX2_areRoutesRight_6 : cX2_areRoutesRight.data.toList.drop 137 = dktX2_areRoutesRight_6 := dk_seg dksX2_areRoutesRight_5 24 rfl rfl
theorem dX2_areRoutesRight_0 : decode cX2_areRoutesRight 0 = .ok (.aload_n 0, 1) := dk_42 (dk_at dksX2_areRoutesRight_0 0 rfl rfl)
theorem dX2_areRoutesRight_1 : decode cX2_areRoutesRight 1 = .ok (.getfield 14, 3) := dk_180 0 14 (dk_at dksX2_areRoutesRight_0 1 rfl rfl)
theorem dX2_areRoutesRight_4 : decode cX2_areRoutesRight 4 = .ok (.invokeinterface 38 1, 5) := by decide +kernel
theorem dX2_areRoutesRight_9 : decode cX2_areRoutesRight 9 = .ok (.newarray .int, 2) := dk_188_10 (dk_at dksX2_areRoutesRight_0 9 rfl rfl)
theorem dX2_areRoutesRight_11 : decode cX2_areRoutesRight 11 = .ok (.astore_n 2, 1) := dk_77 (dk_at dksX2_areRoutesRight_0 11 rfl rfl)
theorem dX2_areRoutesRight_12 : decode cX2_areRoutesRight 12 = .ok (.iconst 0, 1) := dk_3 (dk_at dksX2_areRoutesRight_0 12 rfl rfl)
theorem dX2_areRoutesRight_13 : decode cX2_areRoutesRight 13 = .ok (.istore_n 3, 1) := dk_62 (dk_at dksX2_areRoutesRight_0 13 rfl rfl)
theorem dX2_areRoutesRight_14 : decode cX2_areRoutesRight 14 = .ok (.iload_n 3, 1) := dk_29 (dk_at dksX2_areRoutesRight_0 14 rfl rfl)
theorem dX2_areRoutesRight_15 : decode cX2_areRoutesRight 15 = .ok (.aload_n 2, 1) := dk_44 (dk_at dksX2_areRoutesRight_0 15 rfl rfl)
theorem dX2_areRoutesRight_16 : decode cX2_areRoutesRight 16 = .ok (.arraylength, 1) := dk_190 (dk_at dksX2_areRoutesRight_0 16 rfl rfl)
theorem dX2_areRoutesRight_17 : decode cX2_areRoutesRight 17 = .ok (.if_icmp .ge 22, 3) := dk_162 0 22 (dk_at dksX2_areRoutesRight_0 17 rfl rfl)
theorem dX2_areRoutesRight_20 : decode cX2_areRoutesRight 20 = .ok (.aload_n 2, 1) := dk_44 (dk_at dksX2_areRoutesRight_0 20 rfl rfl)
theorem dX2_areRoutesRight_21 : decode cX2_areRoutesRight 21 = .ok (.iload_n 3, 1) := dk_29 (dk_at dksX2_areRoutesRight_0 21 rfl rfl)
theorem dX2_areRoutesRight_22 : decode cX2_areRoutesRight 22 = .ok (.iload_n 3, 1) := dk_29 (dk_at dksX2_areRoutesRight_0 22 rfl rfl)
theorem dX2_areRoutesRight_23 : decode cX2_areRoutesRight 23 = .ok (.iload_n 1, 1) := dk_27 (dk_at dksX2_areRoutesRight_0 23 rfl rfl)
theorem dX2_areRoutesRight_24 : decode cX2_areRoutesRight 24 = .ok (.if_icmp .ne 7, 3) := dk_160 0 7 (dk_at dksX2_areRoutesRight_1 0 rfl rfl)
theorem dX2_areRoutesRight_27 : decode cX2_areRoutesRight 27 = .ok (.iconst 0, 1) := dk_3 (dk_at dksX2_areRoutesRight_1 3 rfl rfl)
theorem dX2_areRoutesRight_28 : decode cX2_areRoutesRight 28 = .ok (.goto 4, 3) := dk_167 0 4 (dk_at dksX2_areRoutesRight_1 4 rfl rfl)
theorem dX2_areRoutesRight_31 : decode cX2_areRoutesRight 31 = .ok (.iconst (-1), 1) := dk_2 (dk_at dksX2_areRoutesRight_1 7 rfl rfl)
theorem dX2_areRoutesRight_32 : decode cX2_areRoutesRight 32 = .ok (.iastore, 1) := dk_79 (dk_at dksX2_areRoutesRight_1 8 rfl rfl)
theorem dX2_areRoutesRight_33 : decode cX2_areRoutesRight 33 = .ok (.iinc 3 1, 3) := dk_132 3 1 (dk_at dksX2_areRoutesRight_1 9 rfl rfl)
theorem dX2_areRoutesRight_36 : decode cX2_areRoutesRight 36 = .ok (.goto (-22), 3) := dk_167 255 234 (dk_at dksX2_areRoutesRight_1 12 rfl rfl)
theorem dX2_areRoutesRight_39 : decode cX2_areRoutesRight 39 = .ok (.iconst 0, 1) := dk_3 (dk_at dksX2_areRoutesRight_1 15 rfl rfl)
theorem dX2_areRoutesRight_40 : decode cX2_areRoutesRight 40 = .ok (.istore_n 3, 1) := dk_62 (dk_at dksX2_areRoutesRight_1 16 rfl rfl)
theorem dX2_areRoutesRight_41 : decode cX2_areRoutesRight 41 = .ok (.iload_n 3, 1) := dk_29 (dk_at dksX2_areRoutesRight_1 17 rfl rfl)
theorem dX2_areRoutesRight_42 : decode cX2_areRoutesRight 42 = .ok (.aload_n 2, 1) := dk_44 (dk_at dksX2_areRoutesRight_1 18 rfl rfl)
theorem dX2_areRoutesRight_43 : decode cX2_areRoutesRight 43 = .ok (.arraylength, 1) := dk_190 (dk_at dksX2_areRoutesRight_1 19 rfl rfl)
theorem dX2_areRoutesRight_44 : decode cX2_areRoutesRight 44 = .ok (.if_icmp .ge 81, 3) := dk_162 0 81 (dk_at dksX2_areRoutesRight_1 20 rfl rfl)
theorem dX2_areRoutesRight_47 : decode cX2_areRoutesRight 47 = .ok (.aload_n 0, 1) := dk_42 (dk_at dksX2_areRoutesRight_1 23 rfl rfl)
theorem dX2_areRoutesRight_48 : decode cX2_areRoutesRight 48 = .ok (.getfield 23, 3) := dk_180 0 23 (dk_at dksX2_areRoutesRight_2 0 rfl rfl)
theorem dX2_areRoutesRight_51 : decode cX2_areRoutesRight 51 = .ok (.invokevirtual 58, 3) := dk_182 0 58 (dk_at dksX2_areRoutesRight_2 3 rfl rfl)
theorem dX2_areRoutesRight_54 : decode cX2_areRoutesRight 54 = .ok (.astore 4, 2) := dk_58 4 (dk_at dksX2_areRoutesRight_2 6 rfl rfl)
theorem dX2_areRoutesRight_56 : decode cX2_areRoutesRight 56 = .ok (.aload 4, 2) := dk_25 4 (dk_at dksX2_areRoutesRight_2 8 rfl rfl)
theorem dX2_areRoutesRight_58 : decode cX2_areRoutesRight 58 = .ok (.invokeinterface 62 1, 5) := by decide +kernel
theorem dX2_areRoutesRight_63 : decode cX2_areRoutesRight 63 = .ok (.ifCond .eq 56, 3) := dk_153 0 56 (dk_at dksX2_areRoutesRight_2 15 rfl rfl)
theorem dX2_areRoutesRight_66 : decode cX2_areRoutesRight 66 = .ok (.aload 4, 2) := dk_25 4 (dk_at dksX2_areRoutesRight_2 18 rfl rfl)
theorem dX2_areRoutesRight_68 : decode cX2_areRoutesRight 68 = .ok (.invokeinterface 68 1, 5) := by decide +kernel
theorem dX2_areRoutesRight_73 : decode cX2_areRoutesRight 73 = .ok (.checkcast 72, 3) := dk_192 0 72 (dk_at dksX2_areRoutesRight_3 5 rfl rfl)
theorem dX2_areRoutesRight_76 : decode cX2_areRoutesRight 76 = .ok (.astore 5, 2) := dk_58 5 (dk_at dksX2_areRoutesRight_3 8 rfl rfl)
theorem dX2_areRoutesRight_78 : decode cX2_areRoutesRight 78 = .ok (.aload_n 2, 1) := dk_44 (dk_at dksX2_areRoutesRight_3 10 rfl rfl)
theorem dX2_areRoutesRight_79 : decode cX2_areRoutesRight 79 = .ok (.aload 5, 2) := dk_25 5 (dk_at dksX2_areRoutesRight_3 11 rfl rfl)
theorem dX2_areRoutesRight_81 : decode cX2_areRoutesRight 81 = .ok (.invokevirtual 175, 3) := dk_182 0 175 (dk_at dksX2_areRoutesRight_3 13 rfl rfl)
theorem dX2_areRoutesRight_84 : decode cX2_areRoutesRight 84 = .ok (.aload 5, 2) := dk_25 5 (dk_at dksX2_areRoutesRight_3 16 rfl rfl)
theorem dX2_areRoutesRight_86 : decode cX2_areRoutesRight 86 = .ok (.invokevirtual 180, 3) := dk_182 0 180 (dk_at dksX2_areRoutesRight_3 18 rfl rfl)
theorem dX2_areRoutesRight_89 : decode cX2_areRoutesRight 89 = .ok (.aload 5, 2) := dk_25 5 (dk_at dksX2_areRoutesRight_3 21 rfl rfl)
theorem dX2_areRoutesRight_91 : decode cX2_areRoutesRight 91 = .ok (.invokevirtual 156, 3) := dk_182 0 156 (dk_at dksX2_areRoutesRight_4 0 rfl rfl)
theorem dX2_areRoutesRight_94 : decode cX2_areRoutesRight 94 = .ok (.invokestatic 318, 3) := dk_184 1 62 (dk_at dksX2_areRoutesRight_4 3 rfl rfl)
theorem dX2_areRoutesRight_97 : decode cX2_areRoutesRight 97 = .ok (.aload_n 2, 1) := dk_44 (dk_at dksX2_areRoutesRight_4 6 rfl rfl)
theorem dX2_areRoutesRight_98 : decode cX2_areRoutesRight 98 = .ok (.aload 5, 2) := dk_25 5 (dk_at dksX2_areRoutesRight_4 7 rfl rfl)
theorem dX2_areRoutesRight_100 : decode cX2_areRoutesRight 100 = .ok (.invokevirtual 180, 3) := dk_182 0 180 (dk_at dksX2_areRoutesRight_4 9 rfl rfl)
theorem dX2_areRoutesRight_103 : decode cX2_areRoutesRight 103 = .ok (.aload 5, 2) := dk_25 5 (dk_at dksX2_areRoutesRight_4 12 rfl rfl)
theorem dX2_areRoutesRight_105 : decode cX2_areRoutesRight 105 = .ok (.invokevirtual 175, 3) := dk_182 0 175 (dk_at dksX2_areRoutesRight_4 14 rfl rfl)
theorem dX2_areRoutesRight_108 : decode cX2_areRoutesRight 108 = .ok (.aload 5, 2) := dk_25 5 (dk_at dksX2_areRoutesRight_4 17 rfl rfl)
theorem dX2_areRoutesRight_110 : decode cX2_areRoutesRight 110 = .ok (.invokevirtual 156, 3) := dk_182 0 156 (dk_at dksX2_areRoutesRight_4 19 rfl rfl)
theorem dX2_areRoutesRight_113 : decode cX2_areRoutesRight 113 = .ok (.invokestatic 318, 3) := dk_184 1 62 (dk_at dksX2_areRoutesRight_5 0 rfl rfl)
theorem dX2_areRoutesRight_116 : decode cX2_areRoutesRight 116 = .ok (.goto (-60), 3) := dk_167 255 196 (dk_at dksX2_areRoutesRight_5 3 rfl rfl)
theorem dX2_areRoutesRight_119 : decode cX2_areRoutesRight 119 = .ok (.iinc 3 1, 3) := dk_132 3 1 (dk_at dksX2_areRoutesRight_5 6 rfl rfl)
theorem dX2_areRoutesRight_122 : decode cX2_areRoutesRight 122 = .ok (.goto (-81), 3) := dk_167 255 175 (dk_at dksX2_areRoutesRight_5 9 rfl rfl)
theorem dX2_areRoutesRight_125 : decode cX2_areRoutesRight 125 = .ok (.iconst 0, 1) := dk_3 (dk_at dksX2_areRoutesRight_5 12 rfl rfl)
theorem dX2_areRoutesRight_126 : decode cX2_areRoutesRight 126 = .ok (.istore_n 3, 1) := dk_62 (dk_at dksX2_areRoutesRight_5 13 rfl rfl)
theorem dX2_areRoutesRight_127 : decode cX2_areRoutesRight 127 = .ok (.iload_n 3, 1) := dk_29 (dk_at dksX2_areRoutesRight_5 14 rfl rfl)
theorem dX2_areRoutesRight_128 : decode cX2_areRoutesRight 128 = .ok (.aload_n 2, 1) := dk_44 (dk_at dksX2_areRoutesRight_5 15 rfl rfl)
theorem dX2_areRoutesRight_129 : decode cX2_areRoutesRight 129 = .ok (.arraylength, 1) := dk_190 (dk_at dksX2_areRoutesRight_5 16 rfl rfl)
theorem dX2_areRoutesRight_130 : decode cX2_areRoutesRight 130 = .ok (.if_icmp .ge 23, 3) := dk_162 0 23 (dk_at dksX2_areRoutesRight_5 17 rfl rfl)
theorem dX2_areRoutesRight_133 : decode cX2_areRoutesRight 133 = .ok (.aload_n 2, 1) := dk_44 (dk_at dksX2_areRoutesRight_5 20 rfl rfl)
theorem dX2_areRoutesRight_134 : decode cX2_areRoutesRight 134 = .ok (.iload_n 3, 1) := dk_29 (dk_at dksX2_areRoutesRight_5 21 rfl rfl)
theorem dX2_areRoutesRight_135 : decode cX2_areRoutesRight 135 = .ok (.iaload, 1) := dk_46 (dk_at dksX2_areRoutesRight_5 22 rfl rfl)
theorem dX2_areRoutesRight_136 : decode cX2_areRoutesRight 136 = .ok (.aload_n 0, 1) := dk_42 (dk_at dksX2_areRoutesRight_5 23 rfl rfl)
theorem dX2_areRoutesRight_137 : decode cX2_areRoutesRight 137 = .ok (.iload_n 1, 1) := dk_27 (dk_at dksX2_areRoutesRight_6 0 rfl rfl)
theorem dX2_areRoutesRight_138 : decode cX2_areRoutesRight 138 = .ok (.iload_n 3, 1) := dk_29 (dk_at dksX2_areRoutesRight_6 1 rfl rfl)
theorem dX2_areRoutesRight_139 : decode cX2_areRoutesRight 139 = .ok (.invokevirtual 163, 3) := dk_182 0 163 (dk_at dksX2_areRoutesRight_6 2 rfl rfl)
theorem dX2_areRoutesRight_142 : decode cX2_areRoutesRight 142 = .ok (.if_icmp .eq 5, 3) := dk_159 0 5 (dk_at dksX2_areRoutesRight_6 5 rfl rfl)
theorem dX2_areRoutesRight_145 : decode cX2_areRoutesRight 145 = .ok (.iconst 0, 1) := dk_3 (dk_at dksX2_areRoutesRight_6 8 rfl rfl)
theorem dX2_areRoutesRight_146 : decode cX2_areRoutesRight 146 = .ok (.ireturn, 1) := dk_172 (dk_at dksX2_areRoutesRight_6 9 rfl rfl)
theorem dX2_areRoutesRight_147 : decode cX2_areRoutesRight 147 = .ok (.iinc 3 1, 3) := dk_132 3 1 (dk_at dksX2_areRoutesRight_6 10 rfl rfl)
theorem dX2_areRoutesRight_150 : decode cX2_areRoutesRight 150 = .ok (.goto (-23), 3) := dk_167 255 233 (dk_at dksX2_areRoutesRight_6 13 rfl rfl)
theorem dX2_areRoutesRight_153 : decode cX2_areRoutesRight 153 = .ok (.iconst 1, 1) := dk_4 (dk_at dksX2_areRoutesRight_6 16 rfl rfl)
theorem dX2_areRoutesRight_154 : decode cX2_areRoutesRight 154 = .ok (.ireturn, 1) := dk_172 (dk_at dksX2_areRoutesRight_6 17 rfl rfl)
abbrev cX2_betters : ByteArray := prog_13_method_29_code
def yX2_betters : MethodName := ⟨RX2, "betters", "([IIII)V"⟩
def dkwX2_betters_1 : List UInt8 := [164, 0, 11, 42, 28, 42, 27, 46, 29, 96, 79, 177]
abbrev dktX2_betters_1 : List UInt8 := dkwX2_betters_1 ++ []
def dkwX2_betters_0 : List UInt8 := [42, 27, 46, 2, 159, 0, 29, 42, 28, 46, 2, 159, 0, 14, 42, 28, 46, 42, 27, 46, 29, 96]
abbrev dktX2_betters_0 : List UInt8 := dkwX2_betters_0 ++ dktX2_betters_1
theorem dksX2_betters_0 : cX2_betters.data.toList.drop 0 = dktX2_betters_0 := by decide +kernel
theorem dksX2_betters_1 : cX2_betters.data.toList.drop 22 = dktX2_betters_1 := dk_seg dksX2_betters_0 22 rfl rfl
theorem dX2_betters_0 : decode cX2_betters 0 = .ok (.aload_n 0, 1) := dk_42 (dk_at dksX2_betters_0 0 rfl rfl)
theorem dX2_betters_1 : decode cX2_betters 1 = .ok (.iload_n 1, 1) := dk_27 (dk_at dksX2_betters_0 1 rfl rfl)
theorem dX2_betters_2 : decode cX2_betters 2 = .ok (.iaload, 1) := dk_46 (dk_at dksX2_betters_0 2 rfl rfl)
theorem dX2_betters_3 : decode cX2_betters 3 = .ok (.iconst (-1), 1) := dk_2 (dk_at dksX2_betters_0 3 rfl rfl)
theorem dX2_betters_4 : decode cX2_betters 4 = .ok (.if_icmp .eq 29, 3) := dk_159 0 29 (dk_at dksX2_betters_0 4 rfl rfl)
theorem dX2_betters_7 : decode cX2_betters 7 = .ok (.aload_n 0, 1) := dk_42 (dk_at dksX2_betters_0 7 rfl rfl)
theorem dX2_betters_8 : decode cX2_betters 8 = .ok (.iload_n 2, 1) := dk_28 (dk_at dksX2_betters_0 8 rfl rfl)
theorem dX2_betters_9 : decode cX2_betters 9 = .ok (.iaload, 1) := dk_46 (dk_at dksX2_betters_0 9 rfl rfl)
theorem dX2_betters_10 : decode cX2_betters 10 = .ok (.iconst (-1), 1) := dk_2 (dk_at dksX2_betters_0 10 rfl rfl)
theorem dX2_betters_11 : decode cX2_betters 11 = .ok (.if_icmp .eq 14, 3) := dk_159 0 14 (dk_at dksX2_betters_0 11 rfl rfl)
theorem dX2_betters_14 : decode cX2_betters 14 = .ok (.aload_n 0, 1) := dk_42 (dk_at dksX2_betters_0 14 rfl rfl)
theorem dX2_betters_15 : decode cX2_betters 15 = .ok (.iload_n 2, 1) := dk_28 (dk_at dksX2_betters_0 15 rfl rfl)
theorem dX2_betters_16 : decode cX2_betters 16 = .ok (.iaload, 1) := dk_46 (dk_at dksX2_betters_0 16 rfl rfl)
theorem dX2_betters_17 : decode cX2_betters 17 = .ok (.aload_n 0, 1) := dk_42 (dk_at dksX2_betters_0 17 rfl rfl)
theorem dX2_betters_18 : decode cX2_betters 18 = .ok (.iload_n 1, 1) := dk_27 (dk_at dksX2_betters_0 18 rfl rfl)
theorem dX2_betters_19 : decode cX2_betters 19 = .ok (.iaload, 1) := dk_46 (dk_at dksX2_betters_0 19 rfl rfl)
theorem dX2_betters_20 : decode cX2_betters 20 = .ok (.iload_n 3, 1) := dk_29 (dk_at dksX2_betters_0 20 rfl rfl)
theorem dX2_betters_21 : decode cX2_betters 21 = .ok (.iadd, 1) := dk_96 (dk_at dksX2_betters_0 21 rfl rfl)
theorem dX2_betters_22 : decode cX2_betters 22 = .ok (.if_icmp .le 11, 3) := dk_164 0 11 (dk_at dksX2_betters_1 0 rfl rfl)
theorem dX2_betters_25 : decode cX2_betters 25 = .ok (.aload_n 0, 1) := dk_42 (dk_at dksX2_betters_1 3 rfl rfl)
theorem dX2_betters_26 : decode cX2_betters 26 = .ok (.iload_n 2, 1) := dk_28 (dk_at dksX2_betters_1 4 rfl rfl)
theorem dX2_betters_27 : decode cX2_betters 27 = .ok (.aload_n 0, 1) := dk_42 (dk_at dksX2_betters_1 5 rfl rfl)
theorem dX2_betters_28 : decode cX2_betters 28 = .ok (.iload_n 1, 1) := dk_27 (dk_at dksX2_betters_1 6 rfl rfl)
theorem dX2_betters_29 : decode cX2_betters 29 = .ok (.iaload, 1) := dk_46 (dk_at dksX2_betters_1 7 rfl rfl)
theorem dX2_betters_30 : decode cX2_betters 30 = .ok (.iload_n 3, 1) := dk_29 (dk_at dksX2_betters_1 8 rfl rfl)
theorem dX2_betters_31 : decode cX2_betters 31 = .ok (.iadd, 1) := dk_96 (dk_at dksX2_betters_1 9 rfl rfl)
theorem dX2_betters_32 : decode cX2_betters 32 = .ok (.iastore, 1) := dk_79 (dk_at dksX2_betters_1 10 rfl rfl)
theorem dX2_betters_33 : decode cX2_betters 33 = .ok (.return_, 1) := dk_177 (dk_at dksX2_betters_1 11 rfl rfl)
theorem q152 : (Jvm.Cond.initialized "WhistlePosts$World") ∈ lw_all := lw_g (lw_at lw_m1 2 rfl) rfl
theorem q217 : (Jvm.Cond.instantiable "WhistlePosts$World" (8 : Nat)) ∈ lw_all := lw_g (lw_at lw_m1 67 rfl) rfl
theorem q219 : (Jvm.Cond.instanceMethod ({ cls := "WhistlePosts$World", name := "<init>", desc := "()V" } : Jvm.MethodName)) ∈ lw_all := lw_g (lw_at lw_m1 69 rfl) rfl
theorem q220 : (Jvm.Cond.code ({ cls := "WhistlePosts$World", name := "<init>", desc := "()V" } : Jvm.MethodName) prog_13_method_1_code (1 : Nat) (Option.none : Option Jvm.ClassFile.FieldType)) ∈ lw_all := lw_g (lw_at lw_m1 70 rfl) rfl
theorem q221 : (Jvm.Cond.methodLink "WhistlePosts$World" (3 : Nat) ({ cls := "java/lang/Object", name := "<init>", desc := "()V" } : Jvm.MethodName)) ∈ lw_all := lw_g (lw_at lw_m1 71 rfl) rfl
theorem q222 : (Jvm.Cond.classLink "WhistlePosts$World" (9 : Nat) "java/util/ArrayList") ∈ lw_all := lw_g (lw_at lw_m1 72 rfl) rfl
theorem q224 : (Jvm.Cond.methodLink "WhistlePosts$World" (11 : Nat) ({ cls := "java/util/ArrayList", name := "<init>", desc := "(I)V" } : Jvm.MethodName)) ∈ lw_all := lw_g (lw_at lw_m1 74 rfl) rfl
theorem q577 : (Jvm.Cond.classLink "WhistlePosts$World" (20 : Nat) "java/util/LinkedList") ∈ lw_all := lw_g (lw_at lw_m2 187 rfl) rfl
theorem q579 : (Jvm.Cond.methodLink "WhistlePosts$World" (22 : Nat) ({ cls := "java/util/LinkedList", name := "<init>", desc := "()V" } : Jvm.MethodName)) ∈ lw_all := lw_g (lw_at lw_m2 189 rfl) rfl
theorem q598 : (Jvm.Cond.fieldLink "WhistlePosts$World" (14 : Nat) "WhistlePosts$World" "roofs" "Ljava/util/List;") ∈ lw_all := lw_g (lw_at lw_m2 208 rfl) rfl
theorem q601 : (Jvm.Cond.fieldLink "WhistlePosts$World" (23 : Nat) "WhistlePosts$World" "ways" "Ljava/util/LinkedList;") ∈ lw_all := lw_g (lw_at lw_m2 211 rfl) rfl
theorem q604 : (Jvm.Cond.fieldLink "WhistlePosts$World" (27 : Nat) "WhistlePosts$World" "tunes" "Ljava/util/List;") ∈ lw_all := lw_g (lw_at lw_m2 214 rfl) rfl
theorem q606 : (Jvm.Cond.fieldLink "WhistlePosts$World" (30 : Nat) "WhistlePosts$World" "set" "[I") ∈ lw_all := lw_g (lw_at lw_m2 216 rfl) rfl
theorem q608 : (Jvm.Cond.fieldLink "WhistlePosts$World" (34 : Nat) "WhistlePosts$World" "accounts" "[I") ∈ lw_all := lw_g (lw_at lw_m2 218 rfl) rfl
theorem q610 : (Jvm.Cond.fieldLink "WhistlePosts$World" (93 : Nat) "WhistlePosts$World" "time" "I") ∈ lw_all := lw_g (lw_at lw_m2 220 rfl) rfl
theorem q612 : (Jvm.Cond.fieldLink "WhistlePosts$World" (97 : Nat) "WhistlePosts$World" "coins" "I") ∈ lw_all := lw_g (lw_at lw_m2 222 rfl) rfl
theorem q613 : (Jvm.Cond.fieldLink "WhistlePosts$World" (100 : Nat) "WhistlePosts$World" "routes" "[I") ∈ lw_all := lw_g (lw_at lw_m2 223 rfl) rfl
theorem q614 : (Jvm.Cond.laysFinal "WhistlePosts$World" "WhistlePosts$World" "roofs" "Ljava/util/List;") ∈ lw_all := lw_g (lw_at lw_m2 224 rfl) rfl
theorem q615 : (Jvm.Cond.soleField "WhistlePosts$World" "roofs") ∈ lw_all := lw_g (lw_at lw_m2 225 rfl) rfl
theorem q616 : (Jvm.Cond.laysFinal "WhistlePosts$World" "WhistlePosts$World" "ways" "Ljava/util/LinkedList;") ∈ lw_all := lw_g (lw_at lw_m2 226 rfl) rfl
theorem q617 : (Jvm.Cond.soleField "WhistlePosts$World" "ways") ∈ lw_all := lw_g (lw_at lw_m2 227 rfl) rfl
theorem q618 : (Jvm.Cond.laysFinal "WhistlePosts$World" "WhistlePosts$World" "tunes" "Ljava/util/List;") ∈ lw_all := lw_g (lw_at lw_m2 228 rfl) rfl
theorem q619 : (Jvm.Cond.soleField "WhistlePosts$World" "tunes") ∈ lw_all := lw_g (lw_at lw_m2 229 rfl) rfl
theorem q620 : (Jvm.Cond.laysFinal "WhistlePosts$World" "WhistlePosts$World" "set" "[I") ∈ lw_all := lw_g (lw_at lw_m2 230 rfl) rfl
theorem q621 : (Jvm.Cond.soleField "WhistlePosts$World" "set") ∈ lw_all := lw_g (lw_at lw_m2 231 rfl) rfl
theorem q622 : (Jvm.Cond.laysFinal "WhistlePosts$World" "WhistlePosts$World" "accounts" "[I") ∈ lw_all := lw_g (lw_at lw_m2 232 rfl) rfl
theorem q623 : (Jvm.Cond.soleField "WhistlePosts$World" "accounts") ∈ lw_all := lw_g (lw_at lw_m2 233 rfl) rfl
theorem q624 : (Jvm.Cond.lays "WhistlePosts$World" "WhistlePosts$World" "time" "I") ∈ lw_all := lw_g (lw_at lw_m2 234 rfl) rfl
theorem q625 : (Jvm.Cond.soleField "WhistlePosts$World" "time") ∈ lw_all := lw_g (lw_at lw_m2 235 rfl) rfl
theorem q626 : (Jvm.Cond.lays "WhistlePosts$World" "WhistlePosts$World" "coins" "I") ∈ lw_all := lw_g (lw_at lw_m2 236 rfl) rfl
theorem q627 : (Jvm.Cond.soleField "WhistlePosts$World" "coins") ∈ lw_all := lw_g (lw_at lw_m2 237 rfl) rfl
theorem q628 : (Jvm.Cond.lays "WhistlePosts$World" "WhistlePosts$World" "routes" "[I") ∈ lw_all := lw_g (lw_at lw_m2 238 rfl) rfl
theorem q629 : (Jvm.Cond.soleField "WhistlePosts$World" "routes") ∈ lw_all := lw_g (lw_at lw_m2 239 rfl) rfl
theorem q630 : (Jvm.Cond.superclass "WhistlePosts$World" "java/lang/Object") ∈ lw_all := lw_g (lw_at lw_m3 0 rfl) rfl
theorem q640 : (Jvm.Cond.fieldLinkNest "WhistlePosts$World" (107 : Nat) "WhistlePosts$Roof" "name" "Ljava/lang/String;" "WhistlePosts") ∈ lw_tbl := lw_at lw_m3 10 rfl
theorem q643 : (Jvm.Cond.fieldLinkNest "WhistlePosts$World" (293 : Nat) "WhistlePosts$Roof" "breath" "I" "WhistlePosts") ∈ lw_tbl := lw_at lw_m3 13 rfl
theorem q646 : (Jvm.Cond.fieldLinkNest "WhistlePosts$World" (187 : Nat) "WhistlePosts$Roof" "ear" "I" "WhistlePosts") ∈ lw_tbl := lw_at lw_m3 16 rfl
theorem q649 : (Jvm.Cond.fieldLinkNest "WhistlePosts$World" (261 : Nat) "WhistlePosts$Roof" "fee" "I" "WhistlePosts") ∈ lw_tbl := lw_at lw_m3 19 rfl
theorem q652 : (Jvm.Cond.fieldLinkNest "WhistlePosts$World" (116 : Nat) "WhistlePosts$Roof" "purse" "I" "WhistlePosts") ∈ lw_tbl := lw_at lw_m3 22 rfl
theorem q655 : (Jvm.Cond.fieldLinkNest "WhistlePosts$World" (281 : Nat) "WhistlePosts$Roof" "busy" "I" "WhistlePosts") ∈ lw_tbl := lw_at lw_m3 25 rfl
theorem q658 : (Jvm.Cond.fieldLinkNest "WhistlePosts$World" (287 : Nat) "WhistlePosts$Roof" "whistled" "I" "WhistlePosts") ∈ lw_tbl := lw_at lw_m3 28 rfl
theorem q676 : (Jvm.Cond.instanceMethod ({ cls := "WhistlePosts$World", name := "adds", desc := "(LWhistlePosts$Roof;)V" } : Jvm.MethodName)) ∈ lw_all := lw_g (lw_at lw_m3 46 rfl) rfl
theorem q677 : (Jvm.Cond.selects "WhistlePosts$World" ({ cls := "WhistlePosts$World", name := "adds", desc := "(LWhistlePosts$Roof;)V" } : Jvm.MethodName) ({ cls := "WhistlePosts$World", name := "adds", desc := "(LWhistlePosts$Roof;)V" } : Jvm.MethodName)) ∈ lw_all := lw_g (lw_at lw_m3 47 rfl) rfl
theorem q678 : (Jvm.Cond.code ({ cls := "WhistlePosts$World", name := "adds", desc := "(LWhistlePosts$Roof;)V" } : Jvm.MethodName) prog_13_method_6_code (2 : Nat) (Option.none : Option Jvm.ClassFile.FieldType)) ∈ lw_all := lw_g (lw_at lw_m3 48 rfl) rfl
theorem q679 : (Jvm.Cond.interfaceEntry "WhistlePosts$World" (54 : Nat)) ∈ lw_tbl := lw_at lw_m3 49 rfl
theorem q680 : (Jvm.Cond.methodLink "WhistlePosts$World" (54 : Nat) ({ cls := "java/util/List", name := "add", desc := "(Ljava/lang/Object;)Z" } : Jvm.MethodName)) ∈ lw_all := lw_g (lw_at lw_m3 50 rfl) rfl
theorem q719 : (Jvm.Cond.selects "WhistlePosts$World" ({ cls := "java/lang/Object", name := "getClass", desc := "()Ljava/lang/Class;" } : Jvm.MethodName) ({ cls := "java/lang/Object", name := "getClass", desc := "()Ljava/lang/Class;" } : Jvm.MethodName)) ∈ lw_all := lw_g (lw_at lw_m3 89 rfl) rfl
theorem q1091 : (Jvm.Cond.instanceMethod ({ cls := "WhistlePosts$World", name := "named", desc := "(Ljava/lang/String;)I" } : Jvm.MethodName)) ∈ lw_all := lw_g (lw_at lw_m4 221 rfl) rfl
theorem q1092 : (Jvm.Cond.selects "WhistlePosts$World" ({ cls := "WhistlePosts$World", name := "named", desc := "(Ljava/lang/String;)I" } : Jvm.MethodName) ({ cls := "WhistlePosts$World", name := "named", desc := "(Ljava/lang/String;)I" } : Jvm.MethodName)) ∈ lw_all := lw_g (lw_at lw_m4 222 rfl) rfl
theorem q1093 : (Jvm.Cond.code ({ cls := "WhistlePosts$World", name := "named", desc := "(Ljava/lang/String;)I" } : Jvm.MethodName) prog_13_method_5_code (3 : Nat) (Option.some Jvm.ClassFile.FieldType.int)) ∈ lw_all := lw_g (lw_at lw_m4 223 rfl) rfl
theorem q1094 : (Jvm.Cond.interfaceEntry "WhistlePosts$World" (38 : Nat)) ∈ lw_tbl := lw_at lw_m4 224 rfl
theorem q1095 : (Jvm.Cond.methodLink "WhistlePosts$World" (38 : Nat) ({ cls := "java/util/List", name := "size", desc := "()I" } : Jvm.MethodName)) ∈ lw_all := lw_g (lw_at lw_m4 225 rfl) rfl
theorem q1096 : (Jvm.Cond.methodLink "WhistlePosts$World" (44 : Nat) ({ cls := "WhistlePosts$World", name := "roof", desc := "(I)LWhistlePosts$Roof;" } : Jvm.MethodName)) ∈ lw_all := lw_g (lw_at lw_m4 226 rfl) rfl
theorem q1097 : (Jvm.Cond.instanceMethod ({ cls := "WhistlePosts$World", name := "roof", desc := "(I)LWhistlePosts$Roof;" } : Jvm.MethodName)) ∈ lw_all := lw_g (lw_at lw_m4 227 rfl) rfl
theorem q1098 : (Jvm.Cond.selects "WhistlePosts$World" ({ cls := "WhistlePosts$World", name := "roof", desc := "(I)LWhistlePosts$Roof;" } : Jvm.MethodName) ({ cls := "WhistlePosts$World", name := "roof", desc := "(I)LWhistlePosts$Roof;" } : Jvm.MethodName)) ∈ lw_all := lw_g (lw_at lw_m4 228 rfl) rfl
theorem q1099 : (Jvm.Cond.code ({ cls := "WhistlePosts$World", name := "roof", desc := "(I)LWhistlePosts$Roof;" } : Jvm.MethodName) prog_13_method_3_code (2 : Nat) (Option.some (Jvm.ClassFile.FieldType.object "WhistlePosts$Roof"))) ∈ lw_all := lw_g (lw_at lw_m4 229 rfl) rfl
theorem q1100 : (Jvm.Cond.interfaceEntry "WhistlePosts$World" (103 : Nat)) ∈ lw_tbl := lw_at lw_m4 230 rfl
theorem q1101 : (Jvm.Cond.methodLink "WhistlePosts$World" (103 : Nat) ({ cls := "java/util/List", name := "get", desc := "(I)Ljava/lang/Object;" } : Jvm.MethodName)) ∈ lw_all := lw_g (lw_at lw_m4 231 rfl) rfl
theorem q1160 : (Jvm.Cond.classLink "WhistlePosts$World" (49 : Nat) "WhistlePosts$Roof") ∈ lw_all := lw_g (lw_at lw_m5 50 rfl) rfl
theorem q1161 : (Jvm.Cond.methodLink "WhistlePosts$World" (111 : Nat) ({ cls := "java/lang/String", name := "equals", desc := "(Ljava/lang/Object;)Z" } : Jvm.MethodName)) ∈ lw_all := lw_g (lw_at lw_m5 51 rfl) rfl
theorem q1187 : (Jvm.Cond.instanceMethod ({ cls := "WhistlePosts$World", name := "between", desc := "(II)LWhistlePosts$Way;" } : Jvm.MethodName)) ∈ lw_all := lw_g (lw_at lw_m5 77 rfl) rfl
theorem q1188 : (Jvm.Cond.selects "WhistlePosts$World" ({ cls := "WhistlePosts$World", name := "between", desc := "(II)LWhistlePosts$Way;" } : Jvm.MethodName) ({ cls := "WhistlePosts$World", name := "between", desc := "(II)LWhistlePosts$Way;" } : Jvm.MethodName)) ∈ lw_all := lw_g (lw_at lw_m5 78 rfl) rfl
theorem q1189 : (Jvm.Cond.code ({ cls := "WhistlePosts$World", name := "between", desc := "(II)LWhistlePosts$Way;" } : Jvm.MethodName) prog_13_method_7_code (5 : Nat) (Option.some (Jvm.ClassFile.FieldType.object "WhistlePosts$Way"))) ∈ lw_all := lw_g (lw_at lw_m5 79 rfl) rfl
theorem q1190 : (Jvm.Cond.methodLink "WhistlePosts$World" (58 : Nat) ({ cls := "java/util/LinkedList", name := "iterator", desc := "()Ljava/util/Iterator;" } : Jvm.MethodName)) ∈ lw_all := lw_g (lw_at lw_m5 80 rfl) rfl
theorem q1282 : (Jvm.Cond.interfaceEntry "WhistlePosts$World" (62 : Nat)) ∈ lw_tbl := lw_at lw_m5 172 rfl
theorem q1283 : (Jvm.Cond.methodLink "WhistlePosts$World" (62 : Nat) ({ cls := "java/util/Iterator", name := "hasNext", desc := "()Z" } : Jvm.MethodName)) ∈ lw_all := lw_g (lw_at lw_m5 173 rfl) rfl
theorem q1312 : (Jvm.Cond.interfaceEntry "WhistlePosts$World" (68 : Nat)) ∈ lw_tbl := lw_at lw_m5 202 rfl
theorem q1313 : (Jvm.Cond.methodLink "WhistlePosts$World" (68 : Nat) ({ cls := "java/util/Iterator", name := "next", desc := "()Ljava/lang/Object;" } : Jvm.MethodName)) ∈ lw_all := lw_g (lw_at lw_m5 203 rfl) rfl
theorem q1432 : (Jvm.Cond.classLink "WhistlePosts$World" (72 : Nat) "WhistlePosts$Way") ∈ lw_all := lw_g (lw_at lw_m6 82 rfl) rfl
theorem q1433 : (Jvm.Cond.methodLink "WhistlePosts$World" (119 : Nat) ({ cls := "WhistlePosts$Way", name := "joins", desc := "(II)Z" } : Jvm.MethodName)) ∈ lw_all := lw_g (lw_at lw_m6 83 rfl) rfl
theorem q1455 : (Jvm.Cond.instanceMethod ({ cls := "WhistlePosts$World", name := "sets", desc := "(II)I" } : Jvm.MethodName)) ∈ lw_all := lw_g (lw_at lw_m6 105 rfl) rfl
theorem q1456 : (Jvm.Cond.selects "WhistlePosts$World" ({ cls := "WhistlePosts$World", name := "sets", desc := "(II)I" } : Jvm.MethodName) ({ cls := "WhistlePosts$World", name := "sets", desc := "(II)I" } : Jvm.MethodName)) ∈ lw_all := lw_g (lw_at lw_m6 106 rfl) rfl
theorem q1457 : (Jvm.Cond.code ({ cls := "WhistlePosts$World", name := "sets", desc := "(II)I" } : Jvm.MethodName) prog_13_method_27_code (4 : Nat) (Option.some Jvm.ClassFile.FieldType.int)) ∈ lw_all := lw_g (lw_at lw_m6 107 rfl) rfl
theorem q1537 : (Jvm.Cond.instanceMethod ({ cls := "WhistlePosts$World", name := "sends", desc := "(IIZZ[I)I" } : Jvm.MethodName)) ∈ lw_all := lw_g (lw_at lw_m6 187 rfl) rfl
theorem q1538 : (Jvm.Cond.selects "WhistlePosts$World" ({ cls := "WhistlePosts$World", name := "sends", desc := "(IIZZ[I)I" } : Jvm.MethodName) ({ cls := "WhistlePosts$World", name := "sends", desc := "(IIZZ[I)I" } : Jvm.MethodName)) ∈ lw_all := lw_g (lw_at lw_m6 188 rfl) rfl
theorem q1539 : (Jvm.Cond.code ({ cls := "WhistlePosts$World", name := "sends", desc := "(IIZZ[I)I" } : Jvm.MethodName) prog_13_method_15_code (6 : Nat) (Option.some Jvm.ClassFile.FieldType.int)) ∈ lw_all := lw_g (lw_at lw_m6 189 rfl) rfl
theorem q1540 : (Jvm.Cond.methodLinkNest "WhistlePosts$World" (198 : Nat) ({ cls := "WhistlePosts", name := "needState", desc := "(Z)V" } : Jvm.MethodName) "WhistlePosts") ∈ lw_tbl := lw_at lw_m6 190 rfl
theorem q1558 : (Jvm.Cond.classLink "WhistlePosts$World" (83 : Nat) "WhistlePosts$Tune") ∈ lw_all := lw_g (lw_at lw_m6 208 rfl) rfl
theorem q1560 : (Jvm.Cond.methodLink "WhistlePosts$World" (202 : Nat) ({ cls := "WhistlePosts$Tune", name := "<init>", desc := "(IIIZZ[I)V" } : Jvm.MethodName)) ∈ lw_all := lw_g (lw_at lw_m6 210 rfl) rfl
theorem q1572 : (Jvm.Cond.fieldLinkNest "WhistlePosts$World" (218 : Nat) "WhistlePosts$Tune" "sender" "I" "WhistlePosts") ∈ lw_tbl := lw_at lw_m6 222 rfl
theorem q1575 : (Jvm.Cond.fieldLinkNest "WhistlePosts$World" (231 : Nat) "WhistlePosts$Tune" "goal" "I" "WhistlePosts") ∈ lw_tbl := lw_at lw_m6 225 rfl
theorem q1584 : (Jvm.Cond.fieldLinkNest "WhistlePosts$World" (227 : Nat) "WhistlePosts$Tune" "wants" "Z" "WhistlePosts") ∈ lw_tbl := lw_at lw_m6 234 rfl
theorem q1587 : (Jvm.Cond.fieldLinkNest "WhistlePosts$World" (221 : Nat) "WhistlePosts$Tune" "at" "I" "WhistlePosts") ∈ lw_tbl := lw_at lw_m6 237 rfl
theorem q1590 : (Jvm.Cond.fieldLinkNest "WhistlePosts$World" (224 : Nat) "WhistlePosts$Tune" "state" "I" "WhistlePosts") ∈ lw_tbl := lw_at lw_m7 0 rfl
theorem q1593 : (Jvm.Cond.fieldLinkNest "WhistlePosts$World" (254 : Nat) "WhistlePosts$Tune" "end" "I" "WhistlePosts") ∈ lw_tbl := lw_at lw_m7 3 rfl
theorem q1596 : (Jvm.Cond.fieldLinkNest "WhistlePosts$World" (242 : Nat) "WhistlePosts$Tune" "far" "I" "WhistlePosts") ∈ lw_tbl := lw_at lw_m7 6 rfl
theorem q1598 : (Jvm.Cond.fieldLinkNest "WhistlePosts$World" (212 : Nat) "WhistlePosts$Tune" "tries" "I" "WhistlePosts") ∈ lw_tbl := lw_at lw_m7 8 rfl
theorem q1601 : (Jvm.Cond.fieldLinkNest "WhistlePosts$World" (290 : Nat) "WhistlePosts$Tune" "hops" "I" "WhistlePosts") ∈ lw_tbl := lw_at lw_m7 11 rfl
theorem q1630 : (Jvm.Cond.methodLinkNest "WhistlePosts$World" (205 : Nat) ({ cls := "WhistlePosts", name := "one", desc := "(Z)I" } : Jvm.MethodName) "WhistlePosts") ∈ lw_tbl := lw_at lw_m7 40 rfl
theorem q1640 : (Jvm.Cond.instanceMethod ({ cls := "WhistlePosts$World", name := "ticksNow", desc := "(I)I" } : Jvm.MethodName)) ∈ lw_all := lw_g (lw_at lw_m7 50 rfl) rfl
theorem q1641 : (Jvm.Cond.selects "WhistlePosts$World" ({ cls := "WhistlePosts$World", name := "ticksNow", desc := "(I)I" } : Jvm.MethodName) ({ cls := "WhistlePosts$World", name := "ticksNow", desc := "(I)I" } : Jvm.MethodName)) ∈ lw_all := lw_g (lw_at lw_m7 51 rfl) rfl
theorem q1642 : (Jvm.Cond.code ({ cls := "WhistlePosts$World", name := "ticksNow", desc := "(I)I" } : Jvm.MethodName) prog_13_method_24_code (2 : Nat) (Option.some Jvm.ClassFile.FieldType.int)) ∈ lw_all := lw_g (lw_at lw_m7 52 rfl) rfl
theorem q1643 : (Jvm.Cond.methodLink "WhistlePosts$World" (311 : Nat) ({ cls := "WhistlePosts$World", name := "ticksMany", desc := "(I)I" } : Jvm.MethodName)) ∈ lw_all := lw_g (lw_at lw_m7 53 rfl) rfl
theorem q1644 : (Jvm.Cond.instanceMethod ({ cls := "WhistlePosts$World", name := "ticksMany", desc := "(I)I" } : Jvm.MethodName)) ∈ lw_all := lw_g (lw_at lw_m7 54 rfl) rfl
theorem q1645 : (Jvm.Cond.selects "WhistlePosts$World" ({ cls := "WhistlePosts$World", name := "ticksMany", desc := "(I)I" } : Jvm.MethodName) ({ cls := "WhistlePosts$World", name := "ticksMany", desc := "(I)I" } : Jvm.MethodName)) ∈ lw_all := lw_g (lw_at lw_m7 55 rfl) rfl
theorem q1646 : (Jvm.Cond.code ({ cls := "WhistlePosts$World", name := "ticksMany", desc := "(I)I" } : Jvm.MethodName) prog_13_method_23_code (4 : Nat) (Option.some Jvm.ClassFile.FieldType.int)) ∈ lw_all := lw_g (lw_at lw_m7 56 rfl) rfl
theorem q1647 : (Jvm.Cond.methodLink "WhistlePosts$World" (308 : Nat) ({ cls := "WhistlePosts$World", name := "ticks", desc := "()V" } : Jvm.MethodName)) ∈ lw_all := lw_g (lw_at lw_m7 57 rfl) rfl
theorem q1648 : (Jvm.Cond.instanceMethod ({ cls := "WhistlePosts$World", name := "ticks", desc := "()V" } : Jvm.MethodName)) ∈ lw_all := lw_g (lw_at lw_m7 58 rfl) rfl
theorem q1649 : (Jvm.Cond.selects "WhistlePosts$World" ({ cls := "WhistlePosts$World", name := "ticks", desc := "()V" } : Jvm.MethodName) ({ cls := "WhistlePosts$World", name := "ticks", desc := "()V" } : Jvm.MethodName)) ∈ lw_all := lw_g (lw_at lw_m7 59 rfl) rfl
theorem q1650 : (Jvm.Cond.code ({ cls := "WhistlePosts$World", name := "ticks", desc := "()V" } : Jvm.MethodName) prog_13_method_22_code (4 : Nat) (Option.none : Option Jvm.ClassFile.FieldType)) ∈ lw_all := lw_g (lw_at lw_m7 60 rfl) rfl
theorem q1651 : (Jvm.Cond.methodLink "WhistlePosts$World" (78 : Nat) ({ cls := "WhistlePosts$World", name := "tune", desc := "(I)LWhistlePosts$Tune;" } : Jvm.MethodName)) ∈ lw_all := lw_g (lw_at lw_m7 61 rfl) rfl
theorem q1652 : (Jvm.Cond.instanceMethod ({ cls := "WhistlePosts$World", name := "tune", desc := "(I)LWhistlePosts$Tune;" } : Jvm.MethodName)) ∈ lw_all := lw_g (lw_at lw_m7 62 rfl) rfl
theorem q1653 : (Jvm.Cond.selects "WhistlePosts$World" ({ cls := "WhistlePosts$World", name := "tune", desc := "(I)LWhistlePosts$Tune;" } : Jvm.MethodName) ({ cls := "WhistlePosts$World", name := "tune", desc := "(I)LWhistlePosts$Tune;" } : Jvm.MethodName)) ∈ lw_all := lw_g (lw_at lw_m7 63 rfl) rfl
theorem q1654 : (Jvm.Cond.code ({ cls := "WhistlePosts$World", name := "tune", desc := "(I)LWhistlePosts$Tune;" } : Jvm.MethodName) prog_13_method_4_code (2 : Nat) (Option.some (Jvm.ClassFile.FieldType.object "WhistlePosts$Tune"))) ∈ lw_all := lw_g (lw_at lw_m7 64 rfl) rfl
theorem q1655 : (Jvm.Cond.methodLink "WhistlePosts$World" (302 : Nat) ({ cls := "WhistlePosts$World", name := "lands", desc := "(LWhistlePosts$Tune;)V" } : Jvm.MethodName)) ∈ lw_all := lw_g (lw_at lw_m7 65 rfl) rfl
theorem q1656 : (Jvm.Cond.privateMethod ({ cls := "WhistlePosts$World", name := "lands", desc := "(LWhistlePosts$Tune;)V" } : Jvm.MethodName)) ∈ lw_tbl := lw_at lw_m7 66 rfl
theorem q1657 : (Jvm.Cond.instanceMethod ({ cls := "WhistlePosts$World", name := "lands", desc := "(LWhistlePosts$Tune;)V" } : Jvm.MethodName)) ∈ lw_all := lw_g (lw_at lw_m7 67 rfl) rfl
theorem q1658 : (Jvm.Cond.code ({ cls := "WhistlePosts$World", name := "lands", desc := "(LWhistlePosts$Tune;)V" } : Jvm.MethodName) prog_13_method_17_code (3 : Nat) (Option.none : Option Jvm.ClassFile.FieldType)) ∈ lw_all := lw_g (lw_at lw_m7 68 rfl) rfl
theorem q1659 : (Jvm.Cond.methodLink "WhistlePosts$World" (244 : Nat) ({ cls := "WhistlePosts$Tune", name := "notes", desc := "()I" } : Jvm.MethodName)) ∈ lw_all := lw_g (lw_at lw_m7 69 rfl) rfl
theorem q1663 : (Jvm.Cond.methodLink "WhistlePosts$World" (247 : Nat) ({ cls := "WhistlePosts$World", name := "wrongBy", desc := "(IIII)I" } : Jvm.MethodName)) ∈ lw_all := lw_g (lw_at lw_m7 73 rfl) rfl
theorem q1664 : (Jvm.Cond.instanceMethod ({ cls := "WhistlePosts$World", name := "wrongBy", desc := "(IIII)I" } : Jvm.MethodName)) ∈ lw_all := lw_g (lw_at lw_m7 74 rfl) rfl
theorem q1665 : (Jvm.Cond.selects "WhistlePosts$World" ({ cls := "WhistlePosts$World", name := "wrongBy", desc := "(IIII)I" } : Jvm.MethodName) ({ cls := "WhistlePosts$World", name := "wrongBy", desc := "(IIII)I" } : Jvm.MethodName)) ∈ lw_all := lw_g (lw_at lw_m7 75 rfl) rfl
theorem q1666 : (Jvm.Cond.code ({ cls := "WhistlePosts$World", name := "wrongBy", desc := "(IIII)I" } : Jvm.MethodName) prog_13_method_14_code (5 : Nat) (Option.some Jvm.ClassFile.FieldType.int)) ∈ lw_all := lw_g (lw_at lw_m7 76 rfl) rfl
theorem q1667 : (Jvm.Cond.methodLink "WhistlePosts$World" (190 : Nat) ({ cls := "java/lang/Math", name := "max", desc := "(II)I" } : Jvm.MethodName)) ∈ lw_all := lw_g (lw_at lw_m7 77 rfl) rfl
theorem q1668 : (Jvm.Cond.methodLink "WhistlePosts$World" (195 : Nat) ({ cls := "java/lang/Math", name := "min", desc := "(II)I" } : Jvm.MethodName)) ∈ lw_all := lw_g (lw_at lw_m7 78 rfl) rfl
theorem q1669 : (Jvm.Cond.methodLink "WhistlePosts$World" (251 : Nat) ({ cls := "WhistlePosts$Tune", name := "blurs", desc := "(I)V" } : Jvm.MethodName)) ∈ lw_all := lw_g (lw_at lw_m7 79 rfl) rfl
theorem q1674 : (Jvm.Cond.methodLink "WhistlePosts$World" (257 : Nat) ({ cls := "WhistlePosts$World", name := "arrives", desc := "(LWhistlePosts$Tune;)V" } : Jvm.MethodName)) ∈ lw_all := lw_g (lw_at lw_m7 84 rfl) rfl
theorem q1675 : (Jvm.Cond.privateMethod ({ cls := "WhistlePosts$World", name := "arrives", desc := "(LWhistlePosts$Tune;)V" } : Jvm.MethodName)) ∈ lw_tbl := lw_at lw_m7 85 rfl
theorem q1676 : (Jvm.Cond.instanceMethod ({ cls := "WhistlePosts$World", name := "arrives", desc := "(LWhistlePosts$Tune;)V" } : Jvm.MethodName)) ∈ lw_all := lw_g (lw_at lw_m7 86 rfl) rfl
theorem q1677 : (Jvm.Cond.code ({ cls := "WhistlePosts$World", name := "arrives", desc := "(LWhistlePosts$Tune;)V" } : Jvm.MethodName) prog_13_method_16_code (4 : Nat) (Option.none : Option Jvm.ClassFile.FieldType)) ∈ lw_all := lw_g (lw_at lw_m7 87 rfl) rfl
theorem q1678 : (Jvm.Cond.methodLink "WhistlePosts$World" (209 : Nat) ({ cls := "WhistlePosts$Tune", name := "unlike", desc := "()I" } : Jvm.MethodName)) ∈ lw_all := lw_g (lw_at lw_m7 88 rfl) rfl
theorem q1683 : (Jvm.Cond.methodLink "WhistlePosts$World" (215 : Nat) ({ cls := "WhistlePosts$Tune", name := "begins", desc := "()V" } : Jvm.MethodName)) ∈ lw_all := lw_g (lw_at lw_m7 93 rfl) rfl
theorem q1684 : (Jvm.Cond.methodLink "WhistlePosts$World" (234 : Nat) ({ cls := "WhistlePosts$Tune", name := "backwards", desc := "()[I" } : Jvm.MethodName)) ∈ lw_all := lw_g (lw_at lw_m7 94 rfl) rfl
theorem q1688 : (Jvm.Cond.methodLink "WhistlePosts$World" (238 : Nat) ({ cls := "WhistlePosts$World", name := "sends", desc := "(IIZZ[I)I" } : Jvm.MethodName)) ∈ lw_all := lw_g (lw_at lw_m7 98 rfl) rfl
theorem q1689 : (Jvm.Cond.methodLink "WhistlePosts$World" (305 : Nat) ({ cls := "WhistlePosts$World", name := "whistles", desc := "(I)V" } : Jvm.MethodName)) ∈ lw_all := lw_g (lw_at lw_m7 99 rfl) rfl
theorem q1690 : (Jvm.Cond.privateMethod ({ cls := "WhistlePosts$World", name := "whistles", desc := "(I)V" } : Jvm.MethodName)) ∈ lw_tbl := lw_at lw_m7 100 rfl
theorem q1691 : (Jvm.Cond.instanceMethod ({ cls := "WhistlePosts$World", name := "whistles", desc := "(I)V" } : Jvm.MethodName)) ∈ lw_all := lw_g (lw_at lw_m7 101 rfl) rfl
theorem q1692 : (Jvm.Cond.code ({ cls := "WhistlePosts$World", name := "whistles", desc := "(I)V" } : Jvm.MethodName) prog_13_method_21_code (6 : Nat) (Option.none : Option Jvm.ClassFile.FieldType)) ∈ lw_all := lw_g (lw_at lw_m7 102 rfl) rfl
theorem q1693 : (Jvm.Cond.methodLink "WhistlePosts$World" (284 : Nat) ({ cls := "WhistlePosts$World", name := "chosen", desc := "(I)LWhistlePosts$Tune;" } : Jvm.MethodName)) ∈ lw_all := lw_g (lw_at lw_m7 103 rfl) rfl
theorem q1694 : (Jvm.Cond.instanceMethod ({ cls := "WhistlePosts$World", name := "chosen", desc := "(I)LWhistlePosts$Tune;" } : Jvm.MethodName)) ∈ lw_all := lw_g (lw_at lw_m7 104 rfl) rfl
theorem q1695 : (Jvm.Cond.selects "WhistlePosts$World" ({ cls := "WhistlePosts$World", name := "chosen", desc := "(I)LWhistlePosts$Tune;" } : Jvm.MethodName) ({ cls := "WhistlePosts$World", name := "chosen", desc := "(I)LWhistlePosts$Tune;" } : Jvm.MethodName)) ∈ lw_all := lw_g (lw_at lw_m7 105 rfl) rfl
theorem q1696 : (Jvm.Cond.code ({ cls := "WhistlePosts$World", name := "chosen", desc := "(I)LWhistlePosts$Tune;" } : Jvm.MethodName) prog_13_method_20_code (5 : Nat) (Option.some (Jvm.ClassFile.FieldType.object "WhistlePosts$Tune"))) ∈ lw_all := lw_g (lw_at lw_m7 106 rfl) rfl
theorem q1697 : (Jvm.Cond.methodLink "WhistlePosts$World" (270 : Nat) ({ cls := "WhistlePosts$Tune", name := "waitsAt", desc := "(I)Z" } : Jvm.MethodName)) ∈ lw_all := lw_g (lw_at lw_m7 107 rfl) rfl
theorem q1701 : (Jvm.Cond.methodLink "WhistlePosts$World" (273 : Nat) ({ cls := "WhistlePosts$World", name := "canBe", desc := "(ILWhistlePosts$Tune;)Z" } : Jvm.MethodName)) ∈ lw_all := lw_g (lw_at lw_m7 111 rfl) rfl
theorem q1702 : (Jvm.Cond.instanceMethod ({ cls := "WhistlePosts$World", name := "canBe", desc := "(ILWhistlePosts$Tune;)Z" } : Jvm.MethodName)) ∈ lw_all := lw_g (lw_at lw_m7 112 rfl) rfl
theorem q1703 : (Jvm.Cond.selects "WhistlePosts$World" ({ cls := "WhistlePosts$World", name := "canBe", desc := "(ILWhistlePosts$Tune;)Z" } : Jvm.MethodName) ({ cls := "WhistlePosts$World", name := "canBe", desc := "(ILWhistlePosts$Tune;)Z" } : Jvm.MethodName)) ∈ lw_all := lw_g (lw_at lw_m7 113 rfl) rfl
theorem q1704 : (Jvm.Cond.code ({ cls := "WhistlePosts$World", name := "canBe", desc := "(ILWhistlePosts$Tune;)Z" } : Jvm.MethodName) prog_13_method_19_code (3 : Nat) (Option.some Jvm.ClassFile.FieldType.boolean)) ∈ lw_all := lw_g (lw_at lw_m7 114 rfl) rfl
theorem q1705 : (Jvm.Cond.methodLink "WhistlePosts$World" (267 : Nat) ({ cls := "WhistlePosts$World", name := "fee", desc := "(ILWhistlePosts$Tune;)I" } : Jvm.MethodName)) ∈ lw_all := lw_g (lw_at lw_m7 115 rfl) rfl
theorem q1706 : (Jvm.Cond.instanceMethod ({ cls := "WhistlePosts$World", name := "fee", desc := "(ILWhistlePosts$Tune;)I" } : Jvm.MethodName)) ∈ lw_all := lw_g (lw_at lw_m7 116 rfl) rfl
theorem q1707 : (Jvm.Cond.selects "WhistlePosts$World" ({ cls := "WhistlePosts$World", name := "fee", desc := "(ILWhistlePosts$Tune;)I" } : Jvm.MethodName) ({ cls := "WhistlePosts$World", name := "fee", desc := "(ILWhistlePosts$Tune;)I" } : Jvm.MethodName)) ∈ lw_all := lw_g (lw_at lw_m7 117 rfl) rfl
theorem q1708 : (Jvm.Cond.code ({ cls := "WhistlePosts$World", name := "fee", desc := "(ILWhistlePosts$Tune;)I" } : Jvm.MethodName) prog_13_method_18_code (3 : Nat) (Option.some Jvm.ClassFile.FieldType.int)) ∈ lw_all := lw_g (lw_at lw_m7 118 rfl) rfl
theorem q1709 : (Jvm.Cond.methodLink "WhistlePosts$World" (264 : Nat) ({ cls := "WhistlePosts$Tune", name := "bars", desc := "()I" } : Jvm.MethodName)) ∈ lw_all := lw_g (lw_at lw_m7 119 rfl) rfl
theorem q1713 : (Jvm.Cond.methodLink "WhistlePosts$World" (163 : Nat) ({ cls := "WhistlePosts$World", name := "route", desc := "(II)I" } : Jvm.MethodName)) ∈ lw_all := lw_g (lw_at lw_m7 123 rfl) rfl
theorem q1714 : (Jvm.Cond.instanceMethod ({ cls := "WhistlePosts$World", name := "route", desc := "(II)I" } : Jvm.MethodName)) ∈ lw_all := lw_g (lw_at lw_m7 124 rfl) rfl
theorem q1715 : (Jvm.Cond.selects "WhistlePosts$World" ({ cls := "WhistlePosts$World", name := "route", desc := "(II)I" } : Jvm.MethodName) ({ cls := "WhistlePosts$World", name := "route", desc := "(II)I" } : Jvm.MethodName)) ∈ lw_all := lw_g (lw_at lw_m7 125 rfl) rfl
theorem q1716 : (Jvm.Cond.code ({ cls := "WhistlePosts$World", name := "route", desc := "(II)I" } : Jvm.MethodName) prog_13_method_10_code (3 : Nat) (Option.some Jvm.ClassFile.FieldType.int)) ∈ lw_all := lw_g (lw_at lw_m7 126 rfl) rfl
theorem q1717 : (Jvm.Cond.methodLink "WhistlePosts$World" (160 : Nat) ({ cls := "WhistlePosts$World", name := "laysRoutes", desc := "()V" } : Jvm.MethodName)) ∈ lw_all := lw_g (lw_at lw_m7 127 rfl) rfl
theorem q1718 : (Jvm.Cond.privateMethod ({ cls := "WhistlePosts$World", name := "laysRoutes", desc := "()V" } : Jvm.MethodName)) ∈ lw_tbl := lw_at lw_m7 128 rfl
theorem q1719 : (Jvm.Cond.instanceMethod ({ cls := "WhistlePosts$World", name := "laysRoutes", desc := "()V" } : Jvm.MethodName)) ∈ lw_all := lw_g (lw_at lw_m7 129 rfl) rfl
theorem q1720 : (Jvm.Cond.code ({ cls := "WhistlePosts$World", name := "laysRoutes", desc := "()V" } : Jvm.MethodName) prog_13_method_9_code (2 : Nat) (Option.none : Option Jvm.ClassFile.FieldType)) ∈ lw_all := lw_g (lw_at lw_m7 130 rfl) rfl
theorem q1721 : (Jvm.Cond.methodLink "WhistlePosts$World" (157 : Nat) ({ cls := "WhistlePosts$World", name := "laysFrom", desc := "(I)V" } : Jvm.MethodName)) ∈ lw_all := lw_g (lw_at lw_m7 131 rfl) rfl
theorem q1722 : (Jvm.Cond.privateMethod ({ cls := "WhistlePosts$World", name := "laysFrom", desc := "(I)V" } : Jvm.MethodName)) ∈ lw_tbl := lw_at lw_m7 132 rfl
theorem q1723 : (Jvm.Cond.instanceMethod ({ cls := "WhistlePosts$World", name := "laysFrom", desc := "(I)V" } : Jvm.MethodName)) ∈ lw_all := lw_g (lw_at lw_m7 133 rfl) rfl
theorem q1724 : (Jvm.Cond.code ({ cls := "WhistlePosts$World", name := "laysFrom", desc := "(I)V" } : Jvm.MethodName) prog_13_method_8_code (8 : Nat) (Option.none : Option Jvm.ClassFile.FieldType)) ∈ lw_all := lw_g (lw_at lw_m7 134 rfl) rfl
theorem q1725 : (Jvm.Cond.classLink "WhistlePosts$World" (123 : Nat) "java/util/PriorityQueue") ∈ lw_all := lw_g (lw_at lw_m7 135 rfl) rfl
theorem q1727 : (Jvm.Cond.classLink "WhistlePosts$World" (125 : Nat) "WhistlePosts$Nearest") ∈ lw_all := lw_g (lw_at lw_m7 137 rfl) rfl
theorem q1729 : (Jvm.Cond.methodLinkNest "WhistlePosts$World" (127 : Nat) ({ cls := "WhistlePosts$Nearest", name := "<init>", desc := "()V" } : Jvm.MethodName) "WhistlePosts") ∈ lw_tbl := lw_at lw_m7 139 rfl
theorem q1734 : (Jvm.Cond.methodLink "WhistlePosts$World" (128 : Nat) ({ cls := "java/util/PriorityQueue", name := "<init>", desc := "(Ljava/util/Comparator;)V" } : Jvm.MethodName)) ∈ lw_all := lw_g (lw_at lw_m7 144 rfl) rfl
theorem q1763 : (Jvm.Cond.classLink "WhistlePosts$World" (131 : Nat) "WhistlePosts$Stop") ∈ lw_all := lw_g (lw_at lw_m7 173 rfl) rfl
theorem q1765 : (Jvm.Cond.methodLinkNest "WhistlePosts$World" (133 : Nat) ({ cls := "WhistlePosts$Stop", name := "<init>", desc := "(II)V" } : Jvm.MethodName) "WhistlePosts") ∈ lw_tbl := lw_at lw_m7 175 rfl
theorem q1776 : (Jvm.Cond.methodLink "WhistlePosts$World" (136 : Nat) ({ cls := "java/util/PriorityQueue", name := "add", desc := "(Ljava/lang/Object;)Z" } : Jvm.MethodName)) ∈ lw_all := lw_g (lw_at lw_m7 186 rfl) rfl
theorem q2036 : (Jvm.Cond.methodLink "WhistlePosts$World" (137 : Nat) ({ cls := "java/util/PriorityQueue", name := "isEmpty", desc := "()Z" } : Jvm.MethodName)) ∈ lw_all := lw_g (lw_at lw_m8 206 rfl) rfl
theorem q2050 : (Jvm.Cond.methodLink "WhistlePosts$World" (140 : Nat) ({ cls := "java/util/PriorityQueue", name := "poll", desc := "()Ljava/lang/Object;" } : Jvm.MethodName)) ∈ lw_all := lw_g (lw_at lw_m8 220 rfl) rfl
theorem q2060 : (Jvm.Cond.methodLink "WhistlePosts$World" (143 : Nat) ({ cls := "WhistlePosts$Stop", name := "roof", desc := "()I" } : Jvm.MethodName)) ∈ lw_all := lw_g (lw_at lw_m8 230 rfl) rfl
theorem q2061 : (Jvm.Cond.methodLink "WhistlePosts$World" (145 : Nat) ({ cls := "WhistlePosts$Stop", name := "far", desc := "()I" } : Jvm.MethodName)) ∈ lw_all := lw_g (lw_at lw_m8 231 rfl) rfl
theorem q2062 : (Jvm.Cond.methodLink "WhistlePosts$World" (148 : Nat) ({ cls := "WhistlePosts$Way", name := "ends", desc := "(I)Z" } : Jvm.MethodName)) ∈ lw_all := lw_g (lw_at lw_m8 232 rfl) rfl
theorem q2066 : (Jvm.Cond.methodLink "WhistlePosts$World" (152 : Nat) ({ cls := "WhistlePosts$Way", name := "beyond", desc := "(I)I" } : Jvm.MethodName)) ∈ lw_all := lw_g (lw_at lw_m8 236 rfl) rfl
theorem q2070 : (Jvm.Cond.methodLink "WhistlePosts$World" (156 : Nat) ({ cls := "WhistlePosts$Way", name := "far", desc := "()I" } : Jvm.MethodName)) ∈ lw_all := lw_g (lw_at lw_m9 0 rfl) rfl
theorem q2074 : (Jvm.Cond.methodLink "WhistlePosts$World" (277 : Nat) ({ cls := "WhistlePosts$Tune", name := "isDearer", desc := "(LWhistlePosts$Tune;)Z" } : Jvm.MethodName)) ∈ lw_all := lw_g (lw_at lw_m9 4 rfl) rfl
theorem q2075 : (Jvm.Cond.methodLink "WhistlePosts$World" (296 : Nat) ({ cls := "WhistlePosts$World", name := "next", desc := "(II)I" } : Jvm.MethodName)) ∈ lw_all := lw_g (lw_at lw_m9 5 rfl) rfl
theorem q2076 : (Jvm.Cond.instanceMethod ({ cls := "WhistlePosts$World", name := "next", desc := "(II)I" } : Jvm.MethodName)) ∈ lw_all := lw_g (lw_at lw_m9 6 rfl) rfl
theorem q2077 : (Jvm.Cond.selects "WhistlePosts$World" ({ cls := "WhistlePosts$World", name := "next", desc := "(II)I" } : Jvm.MethodName) ({ cls := "WhistlePosts$World", name := "next", desc := "(II)I" } : Jvm.MethodName)) ∈ lw_all := lw_g (lw_at lw_m9 7 rfl) rfl
theorem q2078 : (Jvm.Cond.code ({ cls := "WhistlePosts$World", name := "next", desc := "(II)I" } : Jvm.MethodName) prog_13_method_11_code (8 : Nat) (Option.some Jvm.ClassFile.FieldType.int)) ∈ lw_all := lw_g (lw_at lw_m9 8 rfl) rfl
theorem q2079 : (Jvm.Cond.methodLink "WhistlePosts$World" (298 : Nat) ({ cls := "WhistlePosts$World", name := "between", desc := "(II)LWhistlePosts$Way;" } : Jvm.MethodName)) ∈ lw_all := lw_g (lw_at lw_m9 9 rfl) rfl
theorem q2087 : (Jvm.Cond.instanceMethod ({ cls := "WhistlePosts$World", name := "gives", desc := "(II)I" } : Jvm.MethodName)) ∈ lw_all := lw_g (lw_at lw_m9 17 rfl) rfl
theorem q2088 : (Jvm.Cond.selects "WhistlePosts$World" ({ cls := "WhistlePosts$World", name := "gives", desc := "(II)I" } : Jvm.MethodName) ({ cls := "WhistlePosts$World", name := "gives", desc := "(II)I" } : Jvm.MethodName)) ∈ lw_all := lw_g (lw_at lw_m9 18 rfl) rfl
theorem q2089 : (Jvm.Cond.code ({ cls := "WhistlePosts$World", name := "gives", desc := "(II)I" } : Jvm.MethodName) prog_13_method_25_code (3 : Nat) (Option.some Jvm.ClassFile.FieldType.int)) ∈ lw_all := lw_g (lw_at lw_m9 19 rfl) rfl
theorem q2097 : (Jvm.Cond.instanceMethod ({ cls := "WhistlePosts$World", name := "cuts", desc := "(II)I" } : Jvm.MethodName)) ∈ lw_all := lw_g (lw_at lw_m9 27 rfl) rfl
theorem q2098 : (Jvm.Cond.selects "WhistlePosts$World" ({ cls := "WhistlePosts$World", name := "cuts", desc := "(II)I" } : Jvm.MethodName) ({ cls := "WhistlePosts$World", name := "cuts", desc := "(II)I" } : Jvm.MethodName)) ∈ lw_all := lw_g (lw_at lw_m9 28 rfl) rfl
theorem q2099 : (Jvm.Cond.code ({ cls := "WhistlePosts$World", name := "cuts", desc := "(II)I" } : Jvm.MethodName) prog_13_method_26_code (4 : Nat) (Option.some Jvm.ClassFile.FieldType.int)) ∈ lw_all := lw_g (lw_at lw_m9 29 rfl) rfl
theorem q2100 : (Jvm.Cond.interfaceEntry "WhistlePosts$World" (314 : Nat)) ∈ lw_tbl := lw_at lw_m9 30 rfl
theorem q2101 : (Jvm.Cond.methodLink "WhistlePosts$World" (314 : Nat) ({ cls := "java/util/Iterator", name := "remove", desc := "()V" } : Jvm.MethodName)) ∈ lw_all := lw_g (lw_at lw_m9 31 rfl) rfl
theorem q2165 : (Jvm.Cond.methodLink "WhistlePosts$World" (317 : Nat) ({ cls := "java/util/LinkedList", name := "size", desc := "()I" } : Jvm.MethodName)) ∈ lw_all := lw_g (lw_at lw_m9 95 rfl) rfl
theorem q2173 : (Jvm.Cond.instanceMethod ({ cls := "WhistlePosts$World", name := "copy", desc := "()LWhistlePosts$World;" } : Jvm.MethodName)) ∈ lw_all := lw_g (lw_at lw_m9 103 rfl) rfl
theorem q2174 : (Jvm.Cond.selects "WhistlePosts$World" ({ cls := "WhistlePosts$World", name := "copy", desc := "()LWhistlePosts$World;" } : Jvm.MethodName) ({ cls := "WhistlePosts$World", name := "copy", desc := "()LWhistlePosts$World;" } : Jvm.MethodName)) ∈ lw_all := lw_g (lw_at lw_m9 104 rfl) rfl
theorem q2175 : (Jvm.Cond.code ({ cls := "WhistlePosts$World", name := "copy", desc := "()LWhistlePosts$World;" } : Jvm.MethodName) prog_13_method_2_code (4 : Nat) (Option.some (Jvm.ClassFile.FieldType.object "WhistlePosts$World"))) ∈ lw_all := lw_g (lw_at lw_m9 105 rfl) rfl
theorem q2176 : (Jvm.Cond.classLink "WhistlePosts$World" (15 : Nat) "WhistlePosts$World") ∈ lw_all := lw_g (lw_at lw_m9 106 rfl) rfl
theorem q2177 : (Jvm.Cond.methodLink "WhistlePosts$World" (37 : Nat) ({ cls := "WhistlePosts$World", name := "<init>", desc := "()V" } : Jvm.MethodName)) ∈ lw_all := lw_g (lw_at lw_m9 107 rfl) rfl
theorem q2178 : (Jvm.Cond.methodLink "WhistlePosts$World" (48 : Nat) ({ cls := "WhistlePosts$Roof", name := "copy", desc := "()LWhistlePosts$Roof;" } : Jvm.MethodName)) ∈ lw_all := lw_g (lw_at lw_m9 108 rfl) rfl
theorem q2184 : (Jvm.Cond.methodLink "WhistlePosts$World" (74 : Nat) ({ cls := "java/util/LinkedList", name := "addLast", desc := "(Ljava/lang/Object;)V" } : Jvm.MethodName)) ∈ lw_all := lw_g (lw_at lw_m9 114 rfl) rfl
theorem q2185 : (Jvm.Cond.methodLink "WhistlePosts$World" (82 : Nat) ({ cls := "WhistlePosts$Tune", name := "copy", desc := "()LWhistlePosts$Tune;" } : Jvm.MethodName)) ∈ lw_all := lw_g (lw_at lw_m9 115 rfl) rfl
theorem q2191 : (Jvm.Cond.methodLink "WhistlePosts$World" (87 : Nat) ({ cls := "java/lang/System", name := "arraycopy", desc := "(Ljava/lang/Object;ILjava/lang/Object;II)V" } : Jvm.MethodName)) ∈ lw_all := lw_g (lw_at lw_m9 121 rfl) rfl
theorem q2259 : (Jvm.Cond.instanceMethod ({ cls := "WhistlePosts$World", name := "apart", desc := "(LWhistlePosts$Way;)I" } : Jvm.MethodName)) ∈ lw_all := lw_g (lw_at lw_m9 189 rfl) rfl
theorem q2260 : (Jvm.Cond.selects "WhistlePosts$World" ({ cls := "WhistlePosts$World", name := "apart", desc := "(LWhistlePosts$Way;)I" } : Jvm.MethodName) ({ cls := "WhistlePosts$World", name := "apart", desc := "(LWhistlePosts$Way;)I" } : Jvm.MethodName)) ∈ lw_all := lw_g (lw_at lw_m9 190 rfl) rfl
theorem q2261 : (Jvm.Cond.code ({ cls := "WhistlePosts$World", name := "apart", desc := "(LWhistlePosts$Way;)I" } : Jvm.MethodName) prog_13_method_13_code (4 : Nat) (Option.some Jvm.ClassFile.FieldType.int)) ∈ lw_all := lw_g (lw_at lw_m9 191 rfl) rfl
theorem q2262 : (Jvm.Cond.methodLink "WhistlePosts$World" (183 : Nat) ({ cls := "WhistlePosts$World", name := "reached", desc := "(ILWhistlePosts$Way;)Ljava/util/BitSet;" } : Jvm.MethodName)) ∈ lw_all := lw_g (lw_at lw_m9 192 rfl) rfl
theorem q2263 : (Jvm.Cond.privateMethod ({ cls := "WhistlePosts$World", name := "reached", desc := "(ILWhistlePosts$Way;)Ljava/util/BitSet;" } : Jvm.MethodName)) ∈ lw_tbl := lw_at lw_m9 193 rfl
theorem q2264 : (Jvm.Cond.instanceMethod ({ cls := "WhistlePosts$World", name := "reached", desc := "(ILWhistlePosts$Way;)Ljava/util/BitSet;" } : Jvm.MethodName)) ∈ lw_all := lw_g (lw_at lw_m9 194 rfl) rfl
theorem q2265 : (Jvm.Cond.code ({ cls := "WhistlePosts$World", name := "reached", desc := "(ILWhistlePosts$Way;)Ljava/util/BitSet;" } : Jvm.MethodName) prog_13_method_12_code (7 : Nat) (Option.some (Jvm.ClassFile.FieldType.object "java/util/BitSet"))) ∈ lw_all := lw_g (lw_at lw_m9 195 rfl) rfl
theorem q2266 : (Jvm.Cond.classLink "WhistlePosts$World" (167 : Nat) "java/util/BitSet") ∈ lw_all := lw_g (lw_at lw_m9 196 rfl) rfl
theorem q2268 : (Jvm.Cond.methodLink "WhistlePosts$World" (169 : Nat) ({ cls := "java/util/BitSet", name := "<init>", desc := "(I)V" } : Jvm.MethodName)) ∈ lw_all := lw_g (lw_at lw_m9 198 rfl) rfl
theorem q2290 : (Jvm.Cond.methodLink "WhistlePosts$World" (170 : Nat) ({ cls := "java/util/BitSet", name := "set", desc := "(I)V" } : Jvm.MethodName)) ∈ lw_all := lw_g (lw_at lw_m9 220 rfl) rfl
theorem q2325 : (Jvm.Cond.methodLink "WhistlePosts$World" (172 : Nat) ({ cls := "java/util/BitSet", name := "cardinality", desc := "()I" } : Jvm.MethodName)) ∈ lw_all := lw_g (lw_at lw_m10 15 rfl) rfl
theorem q2335 : (Jvm.Cond.methodLink "WhistlePosts$World" (175 : Nat) ({ cls := "WhistlePosts$Way", name := "first", desc := "()I" } : Jvm.MethodName)) ∈ lw_all := lw_g (lw_at lw_m10 25 rfl) rfl
theorem q2339 : (Jvm.Cond.methodLink "WhistlePosts$World" (178 : Nat) ({ cls := "java/util/BitSet", name := "get", desc := "(I)Z" } : Jvm.MethodName)) ∈ lw_all := lw_g (lw_at lw_m10 29 rfl) rfl
theorem q2343 : (Jvm.Cond.methodLink "WhistlePosts$World" (180 : Nat) ({ cls := "WhistlePosts$Way", name := "second", desc := "()I" } : Jvm.MethodName)) ∈ lw_all := lw_g (lw_at lw_m10 33 rfl) rfl
theorem q2353 : (Jvm.Cond.instanceMethod ({ cls := "WhistlePosts$World", name := "agrees", desc := "()Z" } : Jvm.MethodName)) ∈ lw_all := lw_g (lw_at lw_m10 43 rfl) rfl
theorem q2354 : (Jvm.Cond.selects "WhistlePosts$World" ({ cls := "WhistlePosts$World", name := "agrees", desc := "()Z" } : Jvm.MethodName) ({ cls := "WhistlePosts$World", name := "agrees", desc := "()Z" } : Jvm.MethodName)) ∈ lw_all := lw_g (lw_at lw_m10 44 rfl) rfl
theorem q2355 : (Jvm.Cond.code ({ cls := "WhistlePosts$World", name := "agrees", desc := "()Z" } : Jvm.MethodName) prog_13_method_30_code (6 : Nat) (Option.some Jvm.ClassFile.FieldType.boolean)) ∈ lw_all := lw_g (lw_at lw_m10 45 rfl) rfl
theorem q2356 : (Jvm.Cond.methodLink "WhistlePosts$World" (322 : Nat) ({ cls := "WhistlePosts$World", name := "areRoutesRight", desc := "(I)Z" } : Jvm.MethodName)) ∈ lw_all := lw_g (lw_at lw_m10 46 rfl) rfl
theorem q2357 : (Jvm.Cond.privateMethod ({ cls := "WhistlePosts$World", name := "areRoutesRight", desc := "(I)Z" } : Jvm.MethodName)) ∈ lw_tbl := lw_at lw_m10 47 rfl
theorem q2358 : (Jvm.Cond.instanceMethod ({ cls := "WhistlePosts$World", name := "areRoutesRight", desc := "(I)Z" } : Jvm.MethodName)) ∈ lw_all := lw_g (lw_at lw_m10 48 rfl) rfl
theorem q2359 : (Jvm.Cond.code ({ cls := "WhistlePosts$World", name := "areRoutesRight", desc := "(I)Z" } : Jvm.MethodName) prog_13_method_28_code (6 : Nat) (Option.some Jvm.ClassFile.FieldType.boolean)) ∈ lw_all := lw_g (lw_at lw_m10 49 rfl) rfl
theorem q2360 : (Jvm.Cond.methodLink "WhistlePosts$World" (318 : Nat) ({ cls := "WhistlePosts$World", name := "betters", desc := "([IIII)V" } : Jvm.MethodName)) ∈ lw_all := lw_g (lw_at lw_m10 50 rfl) rfl
theorem q2361 : (Jvm.Cond.static ({ cls := "WhistlePosts$World", name := "betters", desc := "([IIII)V" } : Jvm.MethodName)) ∈ lw_all := lw_g (lw_at lw_m10 51 rfl) rfl
theorem q2362 : (Jvm.Cond.code ({ cls := "WhistlePosts$World", name := "betters", desc := "([IIII)V" } : Jvm.MethodName) prog_13_method_29_code (4 : Nat) (Option.none : Option Jvm.ClassFile.FieldType)) ∈ lw_all := lw_g (lw_at lw_m10 52 rfl) rfl
theorem q3492 : (Jvm.Cond.castable "WhistlePosts$World" "java/lang/Object") ∈ lw_tbl := lw_at lw_m14 222 rfl
theorem in_X2 : ∀ w ∈ wsX20, w ∈ lw_all := lw_in wsX20 [614, 616, 618, 620, 622, 624, 626, 628] (by decide +kernel) (by decide +kernel)

def RX3 : String := "WhistlePosts$Roof"
def TX3 : u_T := fun k => match k with
  | 0 => ("WhistlePosts$Roof", "name", "Ljava/lang/String;", true)
  | 1 => ("WhistlePosts$Roof", "breath", "I", true)
  | 2 => ("WhistlePosts$Roof", "ear", "I", true)
  | 3 => ("WhistlePosts$Roof", "fee", "I", true)
  | 4 => ("WhistlePosts$Roof", "purse", "I", false)
  | 5 => ("WhistlePosts$Roof", "busy", "I", false)
  | _ => ("WhistlePosts$Roof", "whistled", "I", false)
def tyX3 : Nat → FieldType := fun k => match k with
  | 0 => .object "java/lang/String"
  | 1 => .int
  | 2 => .int
  | 3 => .int
  | 4 => .int
  | 5 => .int
  | _ => .int
abbrev wsX30 : List Cond := u_ws RX3 TX3 7
theorem nmX3 : ∀ a, a < 7 → ∀ b, b < 7 → a ≠ b → (TX3 a).2.1 ≠ (TX3 b).2.1 := by decide +kernel
theorem tyX3_ok : ∀ k, k < 7 → parseFieldDescriptor (TX3 k).2.2.1 = some (tyX3 k) := by decide +kernel
abbrev cX3_init : ByteArray := prog_7_method_1_code
def yX3_init : MethodName := ⟨RX3, "<init>", "(Ljava/lang/String;IIII)V"⟩
def dkwX3_init_1 : List UInt8 := [181, 0, 20, 42, 21, 5, 181, 0, 23, 177]
abbrev dktX3_init_1 : List UInt8 := dkwX3_init_1 ++ []
def dkwX3_init_0 : List UInt8 := [42, 183, 0, 1, 42, 43, 181, 0, 7, 42, 28, 181, 0, 13, 42, 29, 181, 0, 17, 42, 21, 4]
abbrev dktX3_init_0 : List UInt8 := dkwX3_init_0 ++ dktX3_init_1
theorem dksX3_init_0 : cX3_init.data.toList.drop 0 = dktX3_init_0 := by decide +kernel
theorem dksX3_init_1 : cX3_init.data.toList.drop 22 = dktX3_init_1 := dk_seg dksX3_init_0 22 rfl rfl
theorem dX3_init_0 : decode cX3_init 0 = .ok (.aload_n 0, 1) := dk_42 (dk_at dksX3_init_0 0 rfl rfl)
theorem dX3_init_1 : decode cX3_init 1 = .ok (.invokespecial 1, 3) := dk_183 0 1 (dk_at dksX3_init_0 1 rfl rfl)
theorem dX3_init_4 : decode cX3_init 4 = .ok (.aload_n 0, 1) := dk_42 (dk_at dksX3_init_0 4 rfl rfl)
theorem dX3_init_5 : decode cX3_init 5 = .ok (.aload_n 1, 1) := dk_43 (dk_at dksX3_init_0 5 rfl rfl)
theorem dX3_init_6 : decode cX3_init 6 = .ok (.putfield 7, 3) := dk_181 0 7 (dk_at dksX3_init_0 6 rfl rfl)
theorem dX3_init_9 : decode cX3_init 9 = .ok (.aload_n 0, 1) := dk_42 (dk_at dksX3_init_0 9 rfl rfl)
theorem dX3_init_10 : decode cX3_init 10 = .ok (.iload_n 2, 1) := dk_28 (dk_at dksX3_init_0 10 rfl rfl)
theorem dX3_init_11 : decode cX3_init 11 = .ok (.putfield 13, 3) := dk_181 0 13 (dk_at dksX3_init_0 11 rfl rfl)
theorem dX3_init_14 : decode cX3_init 14 = .ok (.aload_n 0, 1) := dk_42 (dk_at dksX3_init_0 14 rfl rfl)
theorem dX3_init_15 : decode cX3_init 15 = .ok (.iload_n 3, 1) := dk_29 (dk_at dksX3_init_0 15 rfl rfl)
theorem dX3_init_16 : decode cX3_init 16 = .ok (.putfield 17, 3) := dk_181 0 17 (dk_at dksX3_init_0 16 rfl rfl)
theorem dX3_init_19 : decode cX3_init 19 = .ok (.aload_n 0, 1) := dk_42 (dk_at dksX3_init_0 19 rfl rfl)
theorem dX3_init_20 : decode cX3_init 20 = .ok (.iload 4, 2) := dk_21 4 (dk_at dksX3_init_0 20 rfl rfl)
theorem dX3_init_22 : decode cX3_init 22 = .ok (.putfield 20, 3) := dk_181 0 20 (dk_at dksX3_init_1 0 rfl rfl)
theorem dX3_init_25 : decode cX3_init 25 = .ok (.aload_n 0, 1) := dk_42 (dk_at dksX3_init_1 3 rfl rfl)
theorem dX3_init_26 : decode cX3_init 26 = .ok (.iload 5, 2) := dk_21 5 (dk_at dksX3_init_1 4 rfl rfl)
theorem dX3_init_28 : decode cX3_init 28 = .ok (.putfield 23, 3) := dk_181 0 23 (dk_at dksX3_init_1 6 rfl rfl)
theorem dX3_init_31 : decode cX3_init 31 = .ok (.return_, 1) := dk_177 (dk_at dksX3_init_1 9 rfl rfl)
abbrev cX3_copy : ByteArray := prog_7_method_2_code
def yX3_copy : MethodName := ⟨RX3, "copy", "()LWhistlePosts$Roof;"⟩
def dkwX3_copy_1 : List UInt8 := [183, 0, 26, 76, 43, 42, 180, 0, 29, 181, 0, 29, 43, 42, 180, 0, 32, 181, 0, 32, 43, 176]
abbrev dktX3_copy_1 : List UInt8 := dkwX3_copy_1 ++ []
def dkwX3_copy_0 : List UInt8 := [187, 0, 8, 89, 42, 180, 0, 7, 42, 180, 0, 13, 42, 180, 0, 17, 42, 180, 0, 20, 42, 180, 0, 23]
abbrev dktX3_copy_0 : List UInt8 := dkwX3_copy_0 ++ dktX3_copy_1
theorem dksX3_copy_0 : cX3_copy.data.toList.drop 0 = dktX3_copy_0 := by decide +kernel
theorem dksX3_copy_1 : cX3_copy.data.toList.drop 24 = dktX3_copy_1 := dk_seg dksX3_copy_0 24 rfl rfl
theorem dX3_copy_0 : decode cX3_copy 0 = .ok (.new 8, 3) := dk_187 0 8 (dk_at dksX3_copy_0 0 rfl rfl)
theorem dX3_copy_3 : decode cX3_copy 3 = .ok (.dup, 1) := dk_89 (dk_at dksX3_copy_0 3 rfl rfl)
theorem dX3_copy_4 : decode cX3_copy 4 = .ok (.aload_n 0, 1) := dk_42 (dk_at dksX3_copy_0 4 rfl rfl)
theorem dX3_copy_5 : decode cX3_copy 5 = .ok (.getfield 7, 3) := dk_180 0 7 (dk_at dksX3_copy_0 5 rfl rfl)
theorem dX3_copy_8 : decode cX3_copy 8 = .ok (.aload_n 0, 1) := dk_42 (dk_at dksX3_copy_0 8 rfl rfl)
theorem dX3_copy_9 : decode cX3_copy 9 = .ok (.getfield 13, 3) := dk_180 0 13 (dk_at dksX3_copy_0 9 rfl rfl)
theorem dX3_copy_12 : decode cX3_copy 12 = .ok (.aload_n 0, 1) := dk_42 (dk_at dksX3_copy_0 12 rfl rfl)
theorem dX3_copy_13 : decode cX3_copy 13 = .ok (.getfield 17, 3) := dk_180 0 17 (dk_at dksX3_copy_0 13 rfl rfl)
theorem dX3_copy_16 : decode cX3_copy 16 = .ok (.aload_n 0, 1) := dk_42 (dk_at dksX3_copy_0 16 rfl rfl)
theorem dX3_copy_17 : decode cX3_copy 17 = .ok (.getfield 20, 3) := dk_180 0 20 (dk_at dksX3_copy_0 17 rfl rfl)
theorem dX3_copy_20 : decode cX3_copy 20 = .ok (.aload_n 0, 1) := dk_42 (dk_at dksX3_copy_0 20 rfl rfl)
theorem dX3_copy_21 : decode cX3_copy 21 = .ok (.getfield 23, 3) := dk_180 0 23 (dk_at dksX3_copy_0 21 rfl rfl)
theorem dX3_copy_24 : decode cX3_copy 24 = .ok (.invokespecial 26, 3) := dk_183 0 26 (dk_at dksX3_copy_1 0 rfl rfl)
theorem dX3_copy_27 : decode cX3_copy 27 = .ok (.astore_n 1, 1) := dk_76 (dk_at dksX3_copy_1 3 rfl rfl)
theorem dX3_copy_28 : decode cX3_copy 28 = .ok (.aload_n 1, 1) := dk_43 (dk_at dksX3_copy_1 4 rfl rfl)
theorem dX3_copy_29 : decode cX3_copy 29 = .ok (.aload_n 0, 1) := dk_42 (dk_at dksX3_copy_1 5 rfl rfl)
theorem dX3_copy_30 : decode cX3_copy 30 = .ok (.getfield 29, 3) := dk_180 0 29 (dk_at dksX3_copy_1 6 rfl rfl)
theorem dX3_copy_33 : decode cX3_copy 33 = .ok (.putfield 29, 3) := dk_181 0 29 (dk_at dksX3_copy_1 9 rfl rfl)
theorem dX3_copy_36 : decode cX3_copy 36 = .ok (.aload_n 1, 1) := dk_43 (dk_at dksX3_copy_1 12 rfl rfl)
theorem dX3_copy_37 : decode cX3_copy 37 = .ok (.aload_n 0, 1) := dk_42 (dk_at dksX3_copy_1 13 rfl rfl)
theorem dX3_copy_38 : decode cX3_copy 38 = .ok (.getfield 32, 3) := dk_180 0 32 (dk_at dksX3_copy_1 14 rfl rfl)
theorem dX3_copy_41 : decode cX3_copy 41 = .ok (.putfield 32, 3) := dk_181 0 32 (dk_at dksX3_copy_1 17 rfl rfl)
theorem dX3_copy_44 : decode cX3_copy 44 = .ok (.aload_n 1, 1) := dk_43 (dk_at dksX3_copy_1 20 rfl rfl)
theorem dX3_copy_45 : decode cX3_copy 45 = .ok (.areturn, 1) := dk_176 (dk_at dksX3_copy_1 21 rfl rfl)
theorem q174 : (Jvm.Cond.initialized "WhistlePosts$Roof") ∈ lw_all := lw_g (lw_at lw_m1 24 rfl) rfl
theorem q633 : (Jvm.Cond.instantiable "WhistlePosts$Roof" (7 : Nat)) ∈ lw_all := lw_g (lw_at lw_m3 3 rfl) rfl
theorem q636 : (Jvm.Cond.instanceMethod ({ cls := "WhistlePosts$Roof", name := "<init>", desc := "(Ljava/lang/String;IIII)V" } : Jvm.MethodName)) ∈ lw_all := lw_g (lw_at lw_m3 6 rfl) rfl
theorem q637 : (Jvm.Cond.code ({ cls := "WhistlePosts$Roof", name := "<init>", desc := "(Ljava/lang/String;IIII)V" } : Jvm.MethodName) prog_7_method_1_code (6 : Nat) (Option.none : Option Jvm.ClassFile.FieldType)) ∈ lw_all := lw_g (lw_at lw_m3 7 rfl) rfl
theorem q638 : (Jvm.Cond.methodLink "WhistlePosts$Roof" (1 : Nat) ({ cls := "java/lang/Object", name := "<init>", desc := "()V" } : Jvm.MethodName)) ∈ lw_all := lw_g (lw_at lw_m3 8 rfl) rfl
theorem q639 : (Jvm.Cond.fieldLink "WhistlePosts$Roof" (7 : Nat) "WhistlePosts$Roof" "name" "Ljava/lang/String;") ∈ lw_all := lw_g (lw_at lw_m3 9 rfl) rfl
theorem q642 : (Jvm.Cond.fieldLink "WhistlePosts$Roof" (13 : Nat) "WhistlePosts$Roof" "breath" "I") ∈ lw_all := lw_g (lw_at lw_m3 12 rfl) rfl
theorem q645 : (Jvm.Cond.fieldLink "WhistlePosts$Roof" (17 : Nat) "WhistlePosts$Roof" "ear" "I") ∈ lw_all := lw_g (lw_at lw_m3 15 rfl) rfl
theorem q648 : (Jvm.Cond.fieldLink "WhistlePosts$Roof" (20 : Nat) "WhistlePosts$Roof" "fee" "I") ∈ lw_all := lw_g (lw_at lw_m3 18 rfl) rfl
theorem q651 : (Jvm.Cond.fieldLink "WhistlePosts$Roof" (23 : Nat) "WhistlePosts$Roof" "purse" "I") ∈ lw_all := lw_g (lw_at lw_m3 21 rfl) rfl
theorem q654 : (Jvm.Cond.fieldLink "WhistlePosts$Roof" (29 : Nat) "WhistlePosts$Roof" "busy" "I") ∈ lw_all := lw_g (lw_at lw_m3 24 rfl) rfl
theorem q657 : (Jvm.Cond.fieldLink "WhistlePosts$Roof" (32 : Nat) "WhistlePosts$Roof" "whistled" "I") ∈ lw_all := lw_g (lw_at lw_m3 27 rfl) rfl
theorem q660 : (Jvm.Cond.laysFinal "WhistlePosts$Roof" "WhistlePosts$Roof" "name" "Ljava/lang/String;") ∈ lw_all := lw_g (lw_at lw_m3 30 rfl) rfl
theorem q661 : (Jvm.Cond.soleField "WhistlePosts$Roof" "name") ∈ lw_all := lw_g (lw_at lw_m3 31 rfl) rfl
theorem q662 : (Jvm.Cond.laysFinal "WhistlePosts$Roof" "WhistlePosts$Roof" "breath" "I") ∈ lw_all := lw_g (lw_at lw_m3 32 rfl) rfl
theorem q663 : (Jvm.Cond.soleField "WhistlePosts$Roof" "breath") ∈ lw_all := lw_g (lw_at lw_m3 33 rfl) rfl
theorem q664 : (Jvm.Cond.laysFinal "WhistlePosts$Roof" "WhistlePosts$Roof" "ear" "I") ∈ lw_all := lw_g (lw_at lw_m3 34 rfl) rfl
theorem q665 : (Jvm.Cond.soleField "WhistlePosts$Roof" "ear") ∈ lw_all := lw_g (lw_at lw_m3 35 rfl) rfl
theorem q666 : (Jvm.Cond.laysFinal "WhistlePosts$Roof" "WhistlePosts$Roof" "fee" "I") ∈ lw_all := lw_g (lw_at lw_m3 36 rfl) rfl
theorem q667 : (Jvm.Cond.soleField "WhistlePosts$Roof" "fee") ∈ lw_all := lw_g (lw_at lw_m3 37 rfl) rfl
theorem q668 : (Jvm.Cond.lays "WhistlePosts$Roof" "WhistlePosts$Roof" "purse" "I") ∈ lw_all := lw_g (lw_at lw_m3 38 rfl) rfl
theorem q669 : (Jvm.Cond.soleField "WhistlePosts$Roof" "purse") ∈ lw_all := lw_g (lw_at lw_m3 39 rfl) rfl
theorem q670 : (Jvm.Cond.lays "WhistlePosts$Roof" "WhistlePosts$Roof" "busy" "I") ∈ lw_all := lw_g (lw_at lw_m3 40 rfl) rfl
theorem q671 : (Jvm.Cond.soleField "WhistlePosts$Roof" "busy") ∈ lw_all := lw_g (lw_at lw_m3 41 rfl) rfl
theorem q672 : (Jvm.Cond.lays "WhistlePosts$Roof" "WhistlePosts$Roof" "whistled" "I") ∈ lw_all := lw_g (lw_at lw_m3 42 rfl) rfl
theorem q673 : (Jvm.Cond.soleField "WhistlePosts$Roof" "whistled") ∈ lw_all := lw_g (lw_at lw_m3 43 rfl) rfl
theorem q674 : (Jvm.Cond.superclass "WhistlePosts$Roof" "java/lang/Object") ∈ lw_all := lw_g (lw_at lw_m3 44 rfl) rfl
theorem q714 : (Jvm.Cond.selects "WhistlePosts$Roof" ({ cls := "java/lang/Object", name := "getClass", desc := "()Ljava/lang/Class;" } : Jvm.MethodName) ({ cls := "java/lang/Object", name := "getClass", desc := "()Ljava/lang/Class;" } : Jvm.MethodName)) ∈ lw_all := lw_g (lw_at lw_m3 84 rfl) rfl
theorem q2179 : (Jvm.Cond.instanceMethod ({ cls := "WhistlePosts$Roof", name := "copy", desc := "()LWhistlePosts$Roof;" } : Jvm.MethodName)) ∈ lw_all := lw_g (lw_at lw_m9 109 rfl) rfl
theorem q2180 : (Jvm.Cond.selects "WhistlePosts$Roof" ({ cls := "WhistlePosts$Roof", name := "copy", desc := "()LWhistlePosts$Roof;" } : Jvm.MethodName) ({ cls := "WhistlePosts$Roof", name := "copy", desc := "()LWhistlePosts$Roof;" } : Jvm.MethodName)) ∈ lw_all := lw_g (lw_at lw_m9 110 rfl) rfl
theorem q2181 : (Jvm.Cond.code ({ cls := "WhistlePosts$Roof", name := "copy", desc := "()LWhistlePosts$Roof;" } : Jvm.MethodName) prog_7_method_2_code (2 : Nat) (Option.some (Jvm.ClassFile.FieldType.object "WhistlePosts$Roof"))) ∈ lw_all := lw_g (lw_at lw_m9 111 rfl) rfl
theorem q2182 : (Jvm.Cond.classLink "WhistlePosts$Roof" (8 : Nat) "WhistlePosts$Roof") ∈ lw_all := lw_g (lw_at lw_m9 112 rfl) rfl
theorem q2183 : (Jvm.Cond.methodLink "WhistlePosts$Roof" (26 : Nat) ({ cls := "WhistlePosts$Roof", name := "<init>", desc := "(Ljava/lang/String;IIII)V" } : Jvm.MethodName)) ∈ lw_all := lw_g (lw_at lw_m9 113 rfl) rfl
theorem q3498 : (Jvm.Cond.castable "WhistlePosts$Roof" "java/lang/Object") ∈ lw_tbl := lw_at lw_m14 228 rfl
theorem in_X3 : ∀ w ∈ wsX30, w ∈ lw_all := lw_in wsX30 [660, 662, 664, 666, 668, 670, 672] (by decide +kernel) (by decide +kernel)

def RX4 : String := "WhistlePosts$Way"
def TX4 : u_T := fun k => match k with
  | 0 => ("WhistlePosts$Way", "first", "I", true)
  | 1 => ("WhistlePosts$Way", "second", "I", true)
  | _ => ("WhistlePosts$Way", "far", "I", true)
def tyX4 : Nat → FieldType := fun k => match k with
  | 0 => .int
  | 1 => .int
  | _ => .int
abbrev wsX40 : List Cond := u_ws RX4 TX4 3
theorem nmX4 : ∀ a, a < 3 → ∀ b, b < 3 → a ≠ b → (TX4 a).2.1 ≠ (TX4 b).2.1 := by decide +kernel
theorem tyX4_ok : ∀ k, k < 3 → parseFieldDescriptor (TX4 k).2.2.1 = some (tyX4 k) := by decide +kernel
abbrev cX4_init : ByteArray := prog_12_method_1_code
def yX4_init : MethodName := ⟨RX4, "<init>", "(III)V"⟩
def dkwX4_init_0 : List UInt8 := [42, 183, 0, 1, 42, 27, 181, 0, 7, 42, 28, 181, 0, 13, 42, 29, 181, 0, 16, 177]
abbrev dktX4_init_0 : List UInt8 := dkwX4_init_0 ++ []
theorem dksX4_init_0 : cX4_init.data.toList.drop 0 = dktX4_init_0 := by decide +kernel
theorem dX4_init_0 : decode cX4_init 0 = .ok (.aload_n 0, 1) := dk_42 (dk_at dksX4_init_0 0 rfl rfl)
theorem dX4_init_1 : decode cX4_init 1 = .ok (.invokespecial 1, 3) := dk_183 0 1 (dk_at dksX4_init_0 1 rfl rfl)
theorem dX4_init_4 : decode cX4_init 4 = .ok (.aload_n 0, 1) := dk_42 (dk_at dksX4_init_0 4 rfl rfl)
theorem dX4_init_5 : decode cX4_init 5 = .ok (.iload_n 1, 1) := dk_27 (dk_at dksX4_init_0 5 rfl rfl)
theorem dX4_init_6 : decode cX4_init 6 = .ok (.putfield 7, 3) := dk_181 0 7 (dk_at dksX4_init_0 6 rfl rfl)
theorem dX4_init_9 : decode cX4_init 9 = .ok (.aload_n 0, 1) := dk_42 (dk_at dksX4_init_0 9 rfl rfl)
theorem dX4_init_10 : decode cX4_init 10 = .ok (.iload_n 2, 1) := dk_28 (dk_at dksX4_init_0 10 rfl rfl)
theorem dX4_init_11 : decode cX4_init 11 = .ok (.putfield 13, 3) := dk_181 0 13 (dk_at dksX4_init_0 11 rfl rfl)
theorem dX4_init_14 : decode cX4_init 14 = .ok (.aload_n 0, 1) := dk_42 (dk_at dksX4_init_0 14 rfl rfl)
theorem dX4_init_15 : decode cX4_init 15 = .ok (.iload_n 3, 1) := dk_29 (dk_at dksX4_init_0 15 rfl rfl)
theorem dX4_init_16 : decode cX4_init 16 = .ok (.putfield 16, 3) := dk_181 0 16 (dk_at dksX4_init_0 16 rfl rfl)
theorem dX4_init_19 : decode cX4_init 19 = .ok (.return_, 1) := dk_177 (dk_at dksX4_init_0 19 rfl rfl)
abbrev cX4_joins : ByteArray := prog_12_method_2_code
def yX4_joins : MethodName := ⟨RX4, "joins", "(II)Z"⟩
def dkwX4_joins_1 : List UInt8 := [42, 180, 0, 13, 27, 160, 0, 7, 4, 167, 0, 4, 3, 172]
abbrev dktX4_joins_1 : List UInt8 := dkwX4_joins_1 ++ []
def dkwX4_joins_0 : List UInt8 := [42, 180, 0, 7, 27, 160, 0, 11, 42, 180, 0, 13, 28, 159, 0, 19, 42, 180, 0, 7, 28, 160, 0, 15]
abbrev dktX4_joins_0 : List UInt8 := dkwX4_joins_0 ++ dktX4_joins_1
theorem dksX4_joins_0 : cX4_joins.data.toList.drop 0 = dktX4_joins_0 := by decide +kernel
theorem dksX4_joins_1 : cX4_joins.data.toList.drop 24 = dktX4_joins_1 := dk_seg dksX4_joins_0 24 rfl rfl
theorem dX4_joins_0 : decode cX4_joins 0 = .ok (.aload_n 0, 1) := dk_42 (dk_at dksX4_joins_0 0 rfl rfl)
theorem dX4_joins_1 : decode cX4_joins 1 = .ok (.getfield 7, 3) := dk_180 0 7 (dk_at dksX4_joins_0 1 rfl rfl)
theorem dX4_joins_4 : decode cX4_joins 4 = .ok (.iload_n 1, 1) := dk_27 (dk_at dksX4_joins_0 4 rfl rfl)
theorem dX4_joins_5 : decode cX4_joins 5 = .ok (.if_icmp .ne 11, 3) := dk_160 0 11 (dk_at dksX4_joins_0 5 rfl rfl)
theorem dX4_joins_8 : decode cX4_joins 8 = .ok (.aload_n 0, 1) := dk_42 (dk_at dksX4_joins_0 8 rfl rfl)
theorem dX4_joins_9 : decode cX4_joins 9 = .ok (.getfield 13, 3) := dk_180 0 13 (dk_at dksX4_joins_0 9 rfl rfl)
theorem dX4_joins_12 : decode cX4_joins 12 = .ok (.iload_n 2, 1) := dk_28 (dk_at dksX4_joins_0 12 rfl rfl)
theorem dX4_joins_13 : decode cX4_joins 13 = .ok (.if_icmp .eq 19, 3) := dk_159 0 19 (dk_at dksX4_joins_0 13 rfl rfl)
theorem dX4_joins_16 : decode cX4_joins 16 = .ok (.aload_n 0, 1) := dk_42 (dk_at dksX4_joins_0 16 rfl rfl)
theorem dX4_joins_17 : decode cX4_joins 17 = .ok (.getfield 7, 3) := dk_180 0 7 (dk_at dksX4_joins_0 17 rfl rfl)
theorem dX4_joins_20 : decode cX4_joins 20 = .ok (.iload_n 2, 1) := dk_28 (dk_at dksX4_joins_0 20 rfl rfl)
theorem dX4_joins_21 : decode cX4_joins 21 = .ok (.if_icmp .ne 15, 3) := dk_160 0 15 (dk_at dksX4_joins_0 21 rfl rfl)
theorem dX4_joins_24 : decode cX4_joins 24 = .ok (.aload_n 0, 1) := dk_42 (dk_at dksX4_joins_1 0 rfl rfl)
theorem dX4_joins_25 : decode cX4_joins 25 = .ok (.getfield 13, 3) := dk_180 0 13 (dk_at dksX4_joins_1 1 rfl rfl)
theorem dX4_joins_28 : decode cX4_joins 28 = .ok (.iload_n 1, 1) := dk_27 (dk_at dksX4_joins_1 4 rfl rfl)
theorem dX4_joins_29 : decode cX4_joins 29 = .ok (.if_icmp .ne 7, 3) := dk_160 0 7 (dk_at dksX4_joins_1 5 rfl rfl)
theorem dX4_joins_32 : decode cX4_joins 32 = .ok (.iconst 1, 1) := dk_4 (dk_at dksX4_joins_1 8 rfl rfl)
theorem dX4_joins_33 : decode cX4_joins 33 = .ok (.goto 4, 3) := dk_167 0 4 (dk_at dksX4_joins_1 9 rfl rfl)
theorem dX4_joins_36 : decode cX4_joins 36 = .ok (.iconst 0, 1) := dk_3 (dk_at dksX4_joins_1 12 rfl rfl)
theorem dX4_joins_37 : decode cX4_joins 37 = .ok (.ireturn, 1) := dk_172 (dk_at dksX4_joins_1 13 rfl rfl)
abbrev cX4_ends : ByteArray := prog_12_method_3_code
def yX4_ends : MethodName := ⟨RX4, "ends", "(I)Z"⟩
def dkwX4_ends_0 : List UInt8 := [42, 180, 0, 7, 27, 159, 0, 11, 42, 180, 0, 13, 27, 160, 0, 7, 4, 167, 0, 4, 3, 172]
abbrev dktX4_ends_0 : List UInt8 := dkwX4_ends_0 ++ []
theorem dksX4_ends_0 : cX4_ends.data.toList.drop 0 = dktX4_ends_0 := by decide +kernel
theorem dX4_ends_0 : decode cX4_ends 0 = .ok (.aload_n 0, 1) := dk_42 (dk_at dksX4_ends_0 0 rfl rfl)
theorem dX4_ends_1 : decode cX4_ends 1 = .ok (.getfield 7, 3) := dk_180 0 7 (dk_at dksX4_ends_0 1 rfl rfl)
theorem dX4_ends_4 : decode cX4_ends 4 = .ok (.iload_n 1, 1) := dk_27 (dk_at dksX4_ends_0 4 rfl rfl)
theorem dX4_ends_5 : decode cX4_ends 5 = .ok (.if_icmp .eq 11, 3) := dk_159 0 11 (dk_at dksX4_ends_0 5 rfl rfl)
theorem dX4_ends_8 : decode cX4_ends 8 = .ok (.aload_n 0, 1) := dk_42 (dk_at dksX4_ends_0 8 rfl rfl)
theorem dX4_ends_9 : decode cX4_ends 9 = .ok (.getfield 13, 3) := dk_180 0 13 (dk_at dksX4_ends_0 9 rfl rfl)
theorem dX4_ends_12 : decode cX4_ends 12 = .ok (.iload_n 1, 1) := dk_27 (dk_at dksX4_ends_0 12 rfl rfl)
theorem dX4_ends_13 : decode cX4_ends 13 = .ok (.if_icmp .ne 7, 3) := dk_160 0 7 (dk_at dksX4_ends_0 13 rfl rfl)
theorem dX4_ends_16 : decode cX4_ends 16 = .ok (.iconst 1, 1) := dk_4 (dk_at dksX4_ends_0 16 rfl rfl)
theorem dX4_ends_17 : decode cX4_ends 17 = .ok (.goto 4, 3) := dk_167 0 4 (dk_at dksX4_ends_0 17 rfl rfl)
theorem dX4_ends_20 : decode cX4_ends 20 = .ok (.iconst 0, 1) := dk_3 (dk_at dksX4_ends_0 20 rfl rfl)
theorem dX4_ends_21 : decode cX4_ends 21 = .ok (.ireturn, 1) := dk_172 (dk_at dksX4_ends_0 21 rfl rfl)
abbrev cX4_beyond : ByteArray := prog_12_method_4_code
def yX4_beyond : MethodName := ⟨RX4, "beyond", "(I)I"⟩
def dkwX4_beyond_0 : List UInt8 := [42, 180, 0, 7, 27, 160, 0, 10, 42, 180, 0, 13, 167, 0, 7, 42, 180, 0, 7, 172]
abbrev dktX4_beyond_0 : List UInt8 := dkwX4_beyond_0 ++ []
theorem dksX4_beyond_0 : cX4_beyond.data.toList.drop 0 = dktX4_beyond_0 := by decide +kernel
theorem dX4_beyond_0 : decode cX4_beyond 0 = .ok (.aload_n 0, 1) := dk_42 (dk_at dksX4_beyond_0 0 rfl rfl)
theorem dX4_beyond_1 : decode cX4_beyond 1 = .ok (.getfield 7, 3) := dk_180 0 7 (dk_at dksX4_beyond_0 1 rfl rfl)
theorem dX4_beyond_4 : decode cX4_beyond 4 = .ok (.iload_n 1, 1) := dk_27 (dk_at dksX4_beyond_0 4 rfl rfl)
theorem dX4_beyond_5 : decode cX4_beyond 5 = .ok (.if_icmp .ne 10, 3) := dk_160 0 10 (dk_at dksX4_beyond_0 5 rfl rfl)
theorem dX4_beyond_8 : decode cX4_beyond 8 = .ok (.aload_n 0, 1) := dk_42 (dk_at dksX4_beyond_0 8 rfl rfl)
theorem dX4_beyond_9 : decode cX4_beyond 9 = .ok (.getfield 13, 3) := dk_180 0 13 (dk_at dksX4_beyond_0 9 rfl rfl)
theorem dX4_beyond_12 : decode cX4_beyond 12 = .ok (.goto 7, 3) := dk_167 0 7 (dk_at dksX4_beyond_0 12 rfl rfl)
theorem dX4_beyond_15 : decode cX4_beyond 15 = .ok (.aload_n 0, 1) := dk_42 (dk_at dksX4_beyond_0 15 rfl rfl)
theorem dX4_beyond_16 : decode cX4_beyond 16 = .ok (.getfield 7, 3) := dk_180 0 7 (dk_at dksX4_beyond_0 16 rfl rfl)
theorem dX4_beyond_19 : decode cX4_beyond 19 = .ok (.ireturn, 1) := dk_172 (dk_at dksX4_beyond_0 19 rfl rfl)
abbrev cX4_far : ByteArray := prog_12_method_10_code
def yX4_far : MethodName := ⟨RX4, "far", "()I"⟩
theorem dX4_far_0 : decode cX4_far 0 = .ok (.aload_n 0, 1) := by decide +kernel
theorem dX4_far_1 : decode cX4_far 1 = .ok (.getfield 16, 3) := by decide +kernel
theorem dX4_far_4 : decode cX4_far 4 = .ok (.ireturn, 1) := by decide +kernel
abbrev cX4_first : ByteArray := prog_12_method_8_code
def yX4_first : MethodName := ⟨RX4, "first", "()I"⟩
theorem dX4_first_0 : decode cX4_first 0 = .ok (.aload_n 0, 1) := by decide +kernel
theorem dX4_first_1 : decode cX4_first 1 = .ok (.getfield 7, 3) := by decide +kernel
theorem dX4_first_4 : decode cX4_first 4 = .ok (.ireturn, 1) := by decide +kernel
abbrev cX4_second : ByteArray := prog_12_method_9_code
def yX4_second : MethodName := ⟨RX4, "second", "()I"⟩
theorem dX4_second_0 : decode cX4_second 0 = .ok (.aload_n 0, 1) := by decide +kernel
theorem dX4_second_1 : decode cX4_second 1 = .ok (.getfield 13, 3) := by decide +kernel
theorem dX4_second_4 : decode cX4_second 4 = .ok (.ireturn, 1) := by decide +kernel
theorem q177 : (Jvm.Cond.initialized "WhistlePosts$Way") ∈ lw_all := lw_g (lw_at lw_m1 27 rfl) rfl
theorem q718 : (Jvm.Cond.selects "WhistlePosts$Way" ({ cls := "java/lang/Object", name := "getClass", desc := "()Ljava/lang/Class;" } : Jvm.MethodName) ({ cls := "java/lang/Object", name := "getClass", desc := "()Ljava/lang/Class;" } : Jvm.MethodName)) ∈ lw_all := lw_g (lw_at lw_m3 88 rfl) rfl
theorem q785 : (Jvm.Cond.instantiable "WhistlePosts$Way" (3 : Nat)) ∈ lw_all := lw_g (lw_at lw_m3 155 rfl) rfl
theorem q787 : (Jvm.Cond.instanceMethod ({ cls := "WhistlePosts$Way", name := "<init>", desc := "(III)V" } : Jvm.MethodName)) ∈ lw_all := lw_g (lw_at lw_m3 157 rfl) rfl
theorem q788 : (Jvm.Cond.code ({ cls := "WhistlePosts$Way", name := "<init>", desc := "(III)V" } : Jvm.MethodName) prog_12_method_1_code (4 : Nat) (Option.none : Option Jvm.ClassFile.FieldType)) ∈ lw_all := lw_g (lw_at lw_m3 158 rfl) rfl
theorem q789 : (Jvm.Cond.methodLink "WhistlePosts$Way" (1 : Nat) ({ cls := "java/lang/Record", name := "<init>", desc := "()V" } : Jvm.MethodName)) ∈ lw_all := lw_g (lw_at lw_m3 159 rfl) rfl
theorem q793 : (Jvm.Cond.fieldLink "WhistlePosts$Way" (7 : Nat) "WhistlePosts$Way" "first" "I") ∈ lw_all := lw_g (lw_at lw_m3 163 rfl) rfl
theorem q794 : (Jvm.Cond.fieldLink "WhistlePosts$Way" (13 : Nat) "WhistlePosts$Way" "second" "I") ∈ lw_all := lw_g (lw_at lw_m3 164 rfl) rfl
theorem q795 : (Jvm.Cond.fieldLink "WhistlePosts$Way" (16 : Nat) "WhistlePosts$Way" "far" "I") ∈ lw_all := lw_g (lw_at lw_m3 165 rfl) rfl
theorem q796 : (Jvm.Cond.laysFinal "WhistlePosts$Way" "WhistlePosts$Way" "first" "I") ∈ lw_all := lw_g (lw_at lw_m3 166 rfl) rfl
theorem q797 : (Jvm.Cond.soleField "WhistlePosts$Way" "first") ∈ lw_all := lw_g (lw_at lw_m3 167 rfl) rfl
theorem q798 : (Jvm.Cond.laysFinal "WhistlePosts$Way" "WhistlePosts$Way" "second" "I") ∈ lw_all := lw_g (lw_at lw_m3 168 rfl) rfl
theorem q799 : (Jvm.Cond.soleField "WhistlePosts$Way" "second") ∈ lw_all := lw_g (lw_at lw_m3 169 rfl) rfl
theorem q800 : (Jvm.Cond.laysFinal "WhistlePosts$Way" "WhistlePosts$Way" "far" "I") ∈ lw_all := lw_g (lw_at lw_m3 170 rfl) rfl
theorem q801 : (Jvm.Cond.soleField "WhistlePosts$Way" "far") ∈ lw_all := lw_g (lw_at lw_m3 171 rfl) rfl
theorem q802 : (Jvm.Cond.superclass "WhistlePosts$Way" "java/lang/Record") ∈ lw_all := lw_g (lw_at lw_m3 172 rfl) rfl
theorem q1434 : (Jvm.Cond.instanceMethod ({ cls := "WhistlePosts$Way", name := "joins", desc := "(II)Z" } : Jvm.MethodName)) ∈ lw_all := lw_g (lw_at lw_m6 84 rfl) rfl
theorem q1435 : (Jvm.Cond.selects "WhistlePosts$Way" ({ cls := "WhistlePosts$Way", name := "joins", desc := "(II)Z" } : Jvm.MethodName) ({ cls := "WhistlePosts$Way", name := "joins", desc := "(II)Z" } : Jvm.MethodName)) ∈ lw_all := lw_g (lw_at lw_m6 85 rfl) rfl
theorem q1436 : (Jvm.Cond.code ({ cls := "WhistlePosts$Way", name := "joins", desc := "(II)Z" } : Jvm.MethodName) prog_12_method_2_code (3 : Nat) (Option.some Jvm.ClassFile.FieldType.boolean)) ∈ lw_all := lw_g (lw_at lw_m6 86 rfl) rfl
theorem q2063 : (Jvm.Cond.instanceMethod ({ cls := "WhistlePosts$Way", name := "ends", desc := "(I)Z" } : Jvm.MethodName)) ∈ lw_all := lw_g (lw_at lw_m8 233 rfl) rfl
theorem q2064 : (Jvm.Cond.selects "WhistlePosts$Way" ({ cls := "WhistlePosts$Way", name := "ends", desc := "(I)Z" } : Jvm.MethodName) ({ cls := "WhistlePosts$Way", name := "ends", desc := "(I)Z" } : Jvm.MethodName)) ∈ lw_all := lw_g (lw_at lw_m8 234 rfl) rfl
theorem q2065 : (Jvm.Cond.code ({ cls := "WhistlePosts$Way", name := "ends", desc := "(I)Z" } : Jvm.MethodName) prog_12_method_3_code (2 : Nat) (Option.some Jvm.ClassFile.FieldType.boolean)) ∈ lw_all := lw_g (lw_at lw_m8 235 rfl) rfl
theorem q2067 : (Jvm.Cond.instanceMethod ({ cls := "WhistlePosts$Way", name := "beyond", desc := "(I)I" } : Jvm.MethodName)) ∈ lw_all := lw_g (lw_at lw_m8 237 rfl) rfl
theorem q2068 : (Jvm.Cond.selects "WhistlePosts$Way" ({ cls := "WhistlePosts$Way", name := "beyond", desc := "(I)I" } : Jvm.MethodName) ({ cls := "WhistlePosts$Way", name := "beyond", desc := "(I)I" } : Jvm.MethodName)) ∈ lw_all := lw_g (lw_at lw_m8 238 rfl) rfl
theorem q2069 : (Jvm.Cond.code ({ cls := "WhistlePosts$Way", name := "beyond", desc := "(I)I" } : Jvm.MethodName) prog_12_method_4_code (2 : Nat) (Option.some Jvm.ClassFile.FieldType.int)) ∈ lw_all := lw_g (lw_at lw_m8 239 rfl) rfl
theorem q2071 : (Jvm.Cond.instanceMethod ({ cls := "WhistlePosts$Way", name := "far", desc := "()I" } : Jvm.MethodName)) ∈ lw_all := lw_g (lw_at lw_m9 1 rfl) rfl
theorem q2072 : (Jvm.Cond.selects "WhistlePosts$Way" ({ cls := "WhistlePosts$Way", name := "far", desc := "()I" } : Jvm.MethodName) ({ cls := "WhistlePosts$Way", name := "far", desc := "()I" } : Jvm.MethodName)) ∈ lw_all := lw_g (lw_at lw_m9 2 rfl) rfl
theorem q2073 : (Jvm.Cond.code ({ cls := "WhistlePosts$Way", name := "far", desc := "()I" } : Jvm.MethodName) prog_12_method_10_code (1 : Nat) (Option.some Jvm.ClassFile.FieldType.int)) ∈ lw_all := lw_g (lw_at lw_m9 3 rfl) rfl
theorem q2336 : (Jvm.Cond.instanceMethod ({ cls := "WhistlePosts$Way", name := "first", desc := "()I" } : Jvm.MethodName)) ∈ lw_all := lw_g (lw_at lw_m10 26 rfl) rfl
theorem q2337 : (Jvm.Cond.selects "WhistlePosts$Way" ({ cls := "WhistlePosts$Way", name := "first", desc := "()I" } : Jvm.MethodName) ({ cls := "WhistlePosts$Way", name := "first", desc := "()I" } : Jvm.MethodName)) ∈ lw_all := lw_g (lw_at lw_m10 27 rfl) rfl
theorem q2338 : (Jvm.Cond.code ({ cls := "WhistlePosts$Way", name := "first", desc := "()I" } : Jvm.MethodName) prog_12_method_8_code (1 : Nat) (Option.some Jvm.ClassFile.FieldType.int)) ∈ lw_all := lw_g (lw_at lw_m10 28 rfl) rfl
theorem q2344 : (Jvm.Cond.instanceMethod ({ cls := "WhistlePosts$Way", name := "second", desc := "()I" } : Jvm.MethodName)) ∈ lw_all := lw_g (lw_at lw_m10 34 rfl) rfl
theorem q2345 : (Jvm.Cond.selects "WhistlePosts$Way" ({ cls := "WhistlePosts$Way", name := "second", desc := "()I" } : Jvm.MethodName) ({ cls := "WhistlePosts$Way", name := "second", desc := "()I" } : Jvm.MethodName)) ∈ lw_all := lw_g (lw_at lw_m10 35 rfl) rfl
theorem q2346 : (Jvm.Cond.code ({ cls := "WhistlePosts$Way", name := "second", desc := "()I" } : Jvm.MethodName) prog_12_method_9_code (1 : Nat) (Option.some Jvm.ClassFile.FieldType.int)) ∈ lw_all := lw_g (lw_at lw_m10 36 rfl) rfl
theorem q3500 : (Jvm.Cond.castable "WhistlePosts$Way" "java/lang/Object") ∈ lw_tbl := lw_at lw_m14 230 rfl
theorem in_X4 : ∀ w ∈ wsX40, w ∈ lw_all := lw_in wsX40 [796, 798, 800] (by decide +kernel) (by decide +kernel)

def RX6 : String := "WhistlePosts$Reader"
def TX6 : u_T := fun k => match k with
  | 0 => ("WhistlePosts$Reader", "size", "I", true)
  | 1 => ("WhistlePosts$Reader", "made", "LWhistlePosts$World;", true)
  | 2 => ("WhistlePosts$Reader", "at", "I", false)
  | 3 => ("WhistlePosts$Reader", "next", "I", false)
  | 4 => ("WhistlePosts$Reader", "value", "I", false)
  | 5 => ("WhistlePosts$Reader", "token", "I", false)
  | 6 => ("WhistlePosts$Reader", "word", "Ljava/lang/String;", false)
  | _ => ("WhistlePosts$Reader", "this$0", "LWhistlePosts;", true)
def tyX6 : Nat → FieldType := fun k => match k with
  | 0 => .int
  | 1 => .object "WhistlePosts$World"
  | 2 => .int
  | 3 => .int
  | 4 => .int
  | 5 => .int
  | 6 => .object "java/lang/String"
  | _ => .object "WhistlePosts"
abbrev wsX60 : List Cond := u_ws RX6 TX6 8
theorem nmX6 : ∀ a, a < 8 → ∀ b, b < 8 → a ≠ b → (TX6 a).2.1 ≠ (TX6 b).2.1 := by decide +kernel
theorem tyX6_ok : ∀ k, k < 8 → parseFieldDescriptor (TX6 k).2.2.1 = some (tyX6 k) := by decide +kernel
abbrev cX6_init : ByteArray := prog_6_method_1_code
def yX6_init : MethodName := ⟨RX6, "<init>", "(LWhistlePosts;LWhistlePosts$World;)V"⟩
def dkwX6_init_1 : List UInt8 := [181, 0, 24, 42, 44, 181, 0, 28, 42, 182, 0, 32, 177]
abbrev dktX6_init_1 : List UInt8 := dkwX6_init_1 ++ []
def dkwX6_init_0 : List UInt8 := [42, 43, 181, 0, 3, 42, 183, 0, 9, 42, 42, 180, 0, 3, 180, 0, 15, 181, 0, 19, 42, 18, 22]
abbrev dktX6_init_0 : List UInt8 := dkwX6_init_0 ++ dktX6_init_1
theorem dksX6_init_0 : cX6_init.data.toList.drop 0 = dktX6_init_0 := by decide +kernel
theorem dksX6_init_1 : cX6_init.data.toList.drop 23 = dktX6_init_1 := dk_seg dksX6_init_0 23 rfl rfl
theorem dX6_init_0 : decode cX6_init 0 = .ok (.aload_n 0, 1) := dk_42 (dk_at dksX6_init_0 0 rfl rfl)
theorem dX6_init_1 : decode cX6_init 1 = .ok (.aload_n 1, 1) := dk_43 (dk_at dksX6_init_0 1 rfl rfl)
theorem dX6_init_2 : decode cX6_init 2 = .ok (.putfield 3, 3) := dk_181 0 3 (dk_at dksX6_init_0 2 rfl rfl)
theorem dX6_init_5 : decode cX6_init 5 = .ok (.aload_n 0, 1) := dk_42 (dk_at dksX6_init_0 5 rfl rfl)
theorem dX6_init_6 : decode cX6_init 6 = .ok (.invokespecial 9, 3) := dk_183 0 9 (dk_at dksX6_init_0 6 rfl rfl)
theorem dX6_init_9 : decode cX6_init 9 = .ok (.aload_n 0, 1) := dk_42 (dk_at dksX6_init_0 9 rfl rfl)
theorem dX6_init_10 : decode cX6_init 10 = .ok (.aload_n 0, 1) := dk_42 (dk_at dksX6_init_0 10 rfl rfl)
theorem dX6_init_11 : decode cX6_init 11 = .ok (.getfield 3, 3) := dk_180 0 3 (dk_at dksX6_init_0 11 rfl rfl)
theorem dX6_init_14 : decode cX6_init 14 = .ok (.getfield 15, 3) := dk_180 0 15 (dk_at dksX6_init_0 14 rfl rfl)
theorem dX6_init_17 : decode cX6_init 17 = .ok (.putfield 19, 3) := dk_181 0 19 (dk_at dksX6_init_0 17 rfl rfl)
theorem dX6_init_20 : decode cX6_init 20 = .ok (.aload_n 0, 1) := dk_42 (dk_at dksX6_init_0 20 rfl rfl)
theorem dX6_init_21 : decode cX6_init 21 = .ok (.ldc 22, 2) := dk_18 22 (dk_at dksX6_init_0 21 rfl rfl)
theorem dX6_init_23 : decode cX6_init 23 = .ok (.putfield 24, 3) := dk_181 0 24 (dk_at dksX6_init_1 0 rfl rfl)
theorem dX6_init_26 : decode cX6_init 26 = .ok (.aload_n 0, 1) := dk_42 (dk_at dksX6_init_1 3 rfl rfl)
theorem dX6_init_27 : decode cX6_init 27 = .ok (.aload_n 2, 1) := dk_44 (dk_at dksX6_init_1 4 rfl rfl)
theorem dX6_init_28 : decode cX6_init 28 = .ok (.putfield 28, 3) := dk_181 0 28 (dk_at dksX6_init_1 5 rfl rfl)
theorem dX6_init_31 : decode cX6_init 31 = .ok (.aload_n 0, 1) := dk_42 (dk_at dksX6_init_1 8 rfl rfl)
theorem dX6_init_32 : decode cX6_init 32 = .ok (.invokevirtual 32, 3) := dk_182 0 32 (dk_at dksX6_init_1 9 rfl rfl)
theorem dX6_init_35 : decode cX6_init 35 = .ok (.return_, 1) := dk_177 (dk_at dksX6_init_1 12 rfl rfl)
abbrev cX6_moves : ByteArray := prog_6_method_3_code
def yX6_moves : MethodName := ⟨RX6, "moves", "()V"⟩
def dkwX6_moves_7 : List UInt8 := [160, 0, 7, 42, 182, 0, 70, 177]
abbrev dktX6_moves_7 : List UInt8 := dkwX6_moves_7 ++ []
def dkwX6_moves_6 : List UInt8 := [4, 96, 181, 0, 39, 42, 180, 0, 64, 4, 160, 0, 7, 42, 182, 0, 67, 42, 180, 0, 64, 5]
abbrev dktX6_moves_6 : List UInt8 := dkwX6_moves_6 ++ dktX6_moves_7
def dkwX6_moves_5 : List UInt8 := [160, 0, 7, 6, 167, 0, 4, 7, 181, 0, 64, 42, 180, 0, 64, 6, 161, 0, 13, 42, 89, 180, 0, 39]
abbrev dktX6_moves_5 : List UInt8 := dkwX6_moves_5 ++ dktX6_moves_6
def dkwX6_moves_4 : List UInt8 := [167, 0, 32, 27, 133, 20, 0, 60, 20, 0, 62, 184, 0, 56, 153, 0, 7, 5, 167, 0, 14, 27, 16, 59]
abbrev dktX6_moves_4 : List UInt8 := dkwX6_moves_4 ++ dktX6_moves_5
def dkwX6_moves_3 : List UInt8 := [160, 0, 7, 3, 167, 0, 50, 27, 133, 20, 0, 52, 20, 0, 54, 184, 0, 56, 153, 0, 7, 4]
abbrev dktX6_moves_3 : List UInt8 := dkwX6_moves_3 ++ dktX6_moves_4
def dkwX6_moves_2 : List UInt8 := [42, 3, 181, 0, 49, 42, 18, 22, 181, 0, 24, 42, 42, 180, 0, 39, 182, 0, 42, 60, 42, 27, 2]
abbrev dktX6_moves_2 : List UInt8 := dkwX6_moves_2 ++ dktX6_moves_3
def dkwX6_moves_1 : List UInt8 := [160, 0, 16, 42, 89, 180, 0, 39, 4, 96, 181, 0, 39, 167, 255, 220, 42, 42, 180, 0, 39, 181, 0, 46]
abbrev dktX6_moves_1 : List UInt8 := dkwX6_moves_1 ++ dktX6_moves_2
def dkwX6_moves_0 : List UInt8 := [42, 42, 180, 0, 39, 182, 0, 42, 16, 32, 159, 0, 16, 42, 42, 180, 0, 39, 182, 0, 42, 16, 10]
abbrev dktX6_moves_0 : List UInt8 := dkwX6_moves_0 ++ dktX6_moves_1
theorem dksX6_moves_0 : cX6_moves.data.toList.drop 0 = dktX6_moves_0 := by decide +kernel
theorem dksX6_moves_1 : cX6_moves.data.toList.drop 23 = dktX6_moves_1 := dk_seg dksX6_moves_0 23 rfl rfl
theorem dksX6_moves_2 : cX6_moves.data.toList.drop 47 = dktX6_moves_2 := dk_seg dksX6_moves_1 24 rfl rfl
theorem dksX6_moves_3 : cX6_moves.data.toList.drop 70 = dktX6_moves_3 := dk_seg dksX6_moves_2 23 rfl rfl
theorem dksX6_moves_4 : cX6_moves.data.toList.drop 92 = dktX6_moves_4 := dk_seg dksX6_moves_3 22 rfl rfl
theorem dksX6_moves_5 : cX6_moves.data.toList.drop 116 = dktX6_moves_5 := dk_seg dksX6_moves_4 24 rfl rfl
theorem dksX6_moves_6 : cX6_moves.data.toList.drop 140 = dktX6_moves_6 := dk_seg dksX6_moves_5 24 rfl rfl
theorem dksX6_moves_7 : cX6_moves.data.toList.drop 162 = dktX6_moves_7 := dk_seg dksX6_moves_6 22 rfl rfl
theorem dX6_moves_0 : decode cX6_moves 0 = .ok (.aload_n 0, 1) := dk_42 (dk_at dksX6_moves_0 0 rfl rfl)
theorem dX6_moves_1 : decode cX6_moves 1 = .ok (.aload_n 0, 1) := dk_42 (dk_at dksX6_moves_0 1 rfl rfl)
theorem dX6_moves_2 : decode cX6_moves 2 = .ok (.getfield 39, 3) := dk_180 0 39 (dk_at dksX6_moves_0 2 rfl rfl)
theorem dX6_moves_5 : decode cX6_moves 5 = .ok (.invokevirtual 42, 3) := dk_182 0 42 (dk_at dksX6_moves_0 5 rfl rfl)
theorem dX6_moves_8 : decode cX6_moves 8 = .ok (.bipush 32, 2) := dk_16 32 (dk_at dksX6_moves_0 8 rfl rfl)
theorem dX6_moves_10 : decode cX6_moves 10 = .ok (.if_icmp .eq 16, 3) := dk_159 0 16 (dk_at dksX6_moves_0 10 rfl rfl)
theorem dX6_moves_13 : decode cX6_moves 13 = .ok (.aload_n 0, 1) := dk_42 (dk_at dksX6_moves_0 13 rfl rfl)
theorem dX6_moves_14 : decode cX6_moves 14 = .ok (.aload_n 0, 1) := dk_42 (dk_at dksX6_moves_0 14 rfl rfl)
theorem dX6_moves_15 : decode cX6_moves 15 = .ok (.getfield 39, 3) := dk_180 0 39 (dk_at dksX6_moves_0 15 rfl rfl)
theorem dX6_moves_18 : decode cX6_moves 18 = .ok (.invokevirtual 42, 3) := dk_182 0 42 (dk_at dksX6_moves_0 18 rfl rfl)
theorem dX6_moves_21 : decode cX6_moves 21 = .ok (.bipush 10, 2) := dk_16 10 (dk_at dksX6_moves_0 21 rfl rfl)
theorem dX6_moves_23 : decode cX6_moves 23 = .ok (.if_icmp .ne 16, 3) := dk_160 0 16 (dk_at dksX6_moves_1 0 rfl rfl)
theorem dX6_moves_26 : decode cX6_moves 26 = .ok (.aload_n 0, 1) := dk_42 (dk_at dksX6_moves_1 3 rfl rfl)
theorem dX6_moves_27 : decode cX6_moves 27 = .ok (.dup, 1) := dk_89 (dk_at dksX6_moves_1 4 rfl rfl)
theorem dX6_moves_28 : decode cX6_moves 28 = .ok (.getfield 39, 3) := dk_180 0 39 (dk_at dksX6_moves_1 5 rfl rfl)
theorem dX6_moves_31 : decode cX6_moves 31 = .ok (.iconst 1, 1) := dk_4 (dk_at dksX6_moves_1 8 rfl rfl)
theorem dX6_moves_32 : decode cX6_moves 32 = .ok (.iadd, 1) := dk_96 (dk_at dksX6_moves_1 9 rfl rfl)
theorem dX6_moves_33 : decode cX6_moves 33 = .ok (.putfield 39, 3) := dk_181 0 39 (dk_at dksX6_moves_1 10 rfl rfl)
theorem dX6_moves_36 : decode cX6_moves 36 = .ok (.goto (-36), 3) := dk_167 255 220 (dk_at dksX6_moves_1 13 rfl rfl)
theorem dX6_moves_39 : decode cX6_moves 39 = .ok (.aload_n 0, 1) := dk_42 (dk_at dksX6_moves_1 16 rfl rfl)
theorem dX6_moves_40 : decode cX6_moves 40 = .ok (.aload_n 0, 1) := dk_42 (dk_at dksX6_moves_1 17 rfl rfl)
theorem dX6_moves_41 : decode cX6_moves 41 = .ok (.getfield 39, 3) := dk_180 0 39 (dk_at dksX6_moves_1 18 rfl rfl)
theorem dX6_moves_44 : decode cX6_moves 44 = .ok (.putfield 46, 3) := dk_181 0 46 (dk_at dksX6_moves_1 21 rfl rfl)
theorem dX6_moves_47 : decode cX6_moves 47 = .ok (.aload_n 0, 1) := dk_42 (dk_at dksX6_moves_2 0 rfl rfl)
theorem dX6_moves_48 : decode cX6_moves 48 = .ok (.iconst 0, 1) := dk_3 (dk_at dksX6_moves_2 1 rfl rfl)
theorem dX6_moves_49 : decode cX6_moves 49 = .ok (.putfield 49, 3) := dk_181 0 49 (dk_at dksX6_moves_2 2 rfl rfl)
theorem dX6_moves_52 : decode cX6_moves 52 = .ok (.aload_n 0, 1) := dk_42 (dk_at dksX6_moves_2 5 rfl rfl)
theorem dX6_moves_53 : decode cX6_moves 53 = .ok (.ldc 22, 2) := dk_18 22 (dk_at dksX6_moves_2 6 rfl rfl)
theorem dX6_moves_55 : decode cX6_moves 55 = .ok (.putfield 24, 3) := dk_181 0 24 (dk_at dksX6_moves_2 8 rfl rfl)
theorem dX6_moves_58 : decode cX6_moves 58 = .ok (.aload_n 0, 1) := dk_42 (dk_at dksX6_moves_2 11 rfl rfl)
theorem dX6_moves_59 : decode cX6_moves 59 = .ok (.aload_n 0, 1) := dk_42 (dk_at dksX6_moves_2 12 rfl rfl)
theorem dX6_moves_60 : decode cX6_moves 60 = .ok (.getfield 39, 3) := dk_180 0 39 (dk_at dksX6_moves_2 13 rfl rfl)
theorem dX6_moves_63 : decode cX6_moves 63 = .ok (.invokevirtual 42, 3) := dk_182 0 42 (dk_at dksX6_moves_2 16 rfl rfl)
theorem dX6_moves_66 : decode cX6_moves 66 = .ok (.istore_n 1, 1) := dk_60 (dk_at dksX6_moves_2 19 rfl rfl)
theorem dX6_moves_67 : decode cX6_moves 67 = .ok (.aload_n 0, 1) := dk_42 (dk_at dksX6_moves_2 20 rfl rfl)
theorem dX6_moves_68 : decode cX6_moves 68 = .ok (.iload_n 1, 1) := dk_27 (dk_at dksX6_moves_2 21 rfl rfl)
theorem dX6_moves_69 : decode cX6_moves 69 = .ok (.iconst (-1), 1) := dk_2 (dk_at dksX6_moves_2 22 rfl rfl)
theorem dX6_moves_70 : decode cX6_moves 70 = .ok (.if_icmp .ne 7, 3) := dk_160 0 7 (dk_at dksX6_moves_3 0 rfl rfl)
theorem dX6_moves_73 : decode cX6_moves 73 = .ok (.iconst 0, 1) := dk_3 (dk_at dksX6_moves_3 3 rfl rfl)
theorem dX6_moves_74 : decode cX6_moves 74 = .ok (.goto 50, 3) := dk_167 0 50 (dk_at dksX6_moves_3 4 rfl rfl)
theorem dX6_moves_77 : decode cX6_moves 77 = .ok (.iload_n 1, 1) := dk_27 (dk_at dksX6_moves_3 7 rfl rfl)
theorem dX6_moves_78 : decode cX6_moves 78 = .ok (.i2l, 1) := dk_133 (dk_at dksX6_moves_3 8 rfl rfl)
theorem dX6_moves_79 : decode cX6_moves 79 = .ok (.ldc2_w 52, 3) := dk_20 0 52 (dk_at dksX6_moves_3 9 rfl rfl)
theorem dX6_moves_82 : decode cX6_moves 82 = .ok (.ldc2_w 54, 3) := dk_20 0 54 (dk_at dksX6_moves_3 12 rfl rfl)
theorem dX6_moves_85 : decode cX6_moves 85 = .ok (.invokestatic 56, 3) := dk_184 0 56 (dk_at dksX6_moves_3 15 rfl rfl)
theorem dX6_moves_88 : decode cX6_moves 88 = .ok (.ifCond .eq 7, 3) := dk_153 0 7 (dk_at dksX6_moves_3 18 rfl rfl)
theorem dX6_moves_91 : decode cX6_moves 91 = .ok (.iconst 1, 1) := dk_4 (dk_at dksX6_moves_3 21 rfl rfl)
theorem dX6_moves_92 : decode cX6_moves 92 = .ok (.goto 32, 3) := dk_167 0 32 (dk_at dksX6_moves_4 0 rfl rfl)
theorem dX6_moves_95 : decode cX6_moves 95 = .ok (.iload_n 1, 1) := dk_27 (dk_at dksX6_moves_4 3 rfl rfl)
theorem dX6_moves_96 : decode cX6_moves 96 = .ok (.i2l, 1) := dk_133 (dk_at dksX6_moves_4 4 rfl rfl)
theorem dX6_moves_97 : decode cX6_moves 97 = .ok (.ldc2_w 60, 3) := dk_20 0 60 (dk_at dksX6_moves_4 5 rfl rfl)
theorem dX6_moves_100 : decode cX6_moves 100 = .ok (.ldc2_w 62, 3) := dk_20 0 62 (dk_at dksX6_moves_4 8 rfl rfl)
theorem dX6_moves_103 : decode cX6_moves 103 = .ok (.invokestatic 56, 3) := dk_184 0 56 (dk_at dksX6_moves_4 11 rfl rfl)
theorem dX6_moves_106 : decode cX6_moves 106 = .ok (.ifCond .eq 7, 3) := dk_153 0 7 (dk_at dksX6_moves_4 14 rfl rfl)
theorem dX6_moves_109 : decode cX6_moves 109 = .ok (.iconst 2, 1) := dk_5 (dk_at dksX6_moves_4 17 rfl rfl)
theorem dX6_moves_110 : decode cX6_moves 110 = .ok (.goto 14, 3) := dk_167 0 14 (dk_at dksX6_moves_4 18 rfl rfl)
theorem dX6_moves_113 : decode cX6_moves 113 = .ok (.iload_n 1, 1) := dk_27 (dk_at dksX6_moves_4 21 rfl rfl)
theorem dX6_moves_114 : decode cX6_moves 114 = .ok (.bipush 59, 2) := dk_16 59 (dk_at dksX6_moves_4 22 rfl rfl)
theorem dX6_moves_116 : decode cX6_moves 116 = .ok (.if_icmp .ne 7, 3) := dk_160 0 7 (dk_at dksX6_moves_5 0 rfl rfl)
theorem dX6_moves_119 : decode cX6_moves 119 = .ok (.iconst 3, 1) := dk_6 (dk_at dksX6_moves_5 3 rfl rfl)
theorem dX6_moves_120 : decode cX6_moves 120 = .ok (.goto 4, 3) := dk_167 0 4 (dk_at dksX6_moves_5 4 rfl rfl)
theorem dX6_moves_123 : decode cX6_moves 123 = .ok (.iconst 4, 1) := dk_7 (dk_at dksX6_moves_5 7 rfl rfl)
theorem dX6_moves_124 : decode cX6_moves 124 = .ok (.putfield 64, 3) := dk_181 0 64 (dk_at dksX6_moves_5 8 rfl rfl)
theorem dX6_moves_127 : decode cX6_moves 127 = .ok (.aload_n 0, 1) := dk_42 (dk_at dksX6_moves_5 11 rfl rfl)
theorem dX6_moves_128 : decode cX6_moves 128 = .ok (.getfield 64, 3) := dk_180 0 64 (dk_at dksX6_moves_5 12 rfl rfl)
theorem dX6_moves_131 : decode cX6_moves 131 = .ok (.iconst 3, 1) := dk_6 (dk_at dksX6_moves_5 15 rfl rfl)
theorem dX6_moves_132 : decode cX6_moves 132 = .ok (.if_icmp .lt 13, 3) := dk_161 0 13 (dk_at dksX6_moves_5 16 rfl rfl)
theorem dX6_moves_135 : decode cX6_moves 135 = .ok (.aload_n 0, 1) := dk_42 (dk_at dksX6_moves_5 19 rfl rfl)
theorem dX6_moves_136 : decode cX6_moves 136 = .ok (.dup, 1) := dk_89 (dk_at dksX6_moves_5 20 rfl rfl)
theorem dX6_moves_137 : decode cX6_moves 137 = .ok (.getfield 39, 3) := dk_180 0 39 (dk_at dksX6_moves_5 21 rfl rfl)
theorem dX6_moves_140 : decode cX6_moves 140 = .ok (.iconst 1, 1) := dk_4 (dk_at dksX6_moves_6 0 rfl rfl)
theorem dX6_moves_141 : decode cX6_moves 141 = .ok (.iadd, 1) := dk_96 (dk_at dksX6_moves_6 1 rfl rfl)
theorem dX6_moves_142 : decode cX6_moves 142 = .ok (.putfield 39, 3) := dk_181 0 39 (dk_at dksX6_moves_6 2 rfl rfl)
theorem dX6_moves_145 : decode cX6_moves 145 = .ok (.aload_n 0, 1) := dk_42 (dk_at dksX6_moves_6 5 rfl rfl)
theorem dX6_moves_146 : decode cX6_moves 146 = .ok (.getfield 64, 3) := dk_180 0 64 (dk_at dksX6_moves_6 6 rfl rfl)
theorem dX6_moves_149 : decode cX6_moves 149 = .ok (.iconst 1, 1) := dk_4 (dk_at dksX6_moves_6 9 rfl rfl)
theorem dX6_moves_150 : decode cX6_moves 150 = .ok (.if_icmp .ne 7, 3) := dk_160 0 7 (dk_at dksX6_moves_6 10 rfl rfl)
theorem dX6_moves_153 : decode cX6_moves 153 = .ok (.aload_n 0, 1) := dk_42 (dk_at dksX6_moves_6 13 rfl rfl)
theorem dX6_moves_154 : decode cX6_moves 154 = .ok (.invokevirtual 67, 3) := dk_182 0 67 (dk_at dksX6_moves_6 14 rfl rfl)
theorem dX6_moves_157 : decode cX6_moves 157 = .ok (.aload_n 0, 1) := dk_42 (dk_at dksX6_moves_6 17 rfl rfl)
theorem dX6_moves_158 : decode cX6_moves 158 = .ok (.getfield 64, 3) := dk_180 0 64 (dk_at dksX6_moves_6 18 rfl rfl)
theorem dX6_moves_161 : decode cX6_moves 161 = .ok (.iconst 2, 1) := dk_5 (dk_at dksX6_moves_6 21 rfl rfl)
theorem dX6_moves_162 : decode cX6_moves 162 = .ok (.if_icmp .ne 7, 3) := dk_160 0 7 (dk_at dksX6_moves_7 0 rfl rfl)
theorem dX6_moves_165 : decode cX6_moves 165 = .ok (.aload_n 0, 1) := dk_42 (dk_at dksX6_moves_7 3 rfl rfl)
theorem dX6_moves_166 : decode cX6_moves 166 = .ok (.invokevirtual 70, 3) := dk_182 0 70 (dk_at dksX6_moves_7 4 rfl rfl)
theorem dX6_moves_169 : decode cX6_moves 169 = .ok (.return_, 1) := dk_177 (dk_at dksX6_moves_7 7 rfl rfl)
abbrev cX6_byteAt : ByteArray := prog_6_method_2_code
def yX6_byteAt : MethodName := ⟨RX6, "byteAt", "(I)I"⟩
def dkwX6_byteAt_1 : List UInt8 := [2, 172]
abbrev dktX6_byteAt_1 : List UInt8 := dkwX6_byteAt_1 ++ []
def dkwX6_byteAt_0 : List UInt8 := [27, 42, 180, 0, 19, 162, 0, 19, 42, 180, 0, 3, 180, 0, 35, 27, 51, 17, 0, 255, 126, 167, 0, 4]
abbrev dktX6_byteAt_0 : List UInt8 := dkwX6_byteAt_0 ++ dktX6_byteAt_1
theorem dksX6_byteAt_0 : cX6_byteAt.data.toList.drop 0 = dktX6_byteAt_0 := by decide +kernel
theorem dksX6_byteAt_1 : cX6_byteAt.data.toList.drop 24 = dktX6_byteAt_1 := dk_seg dksX6_byteAt_0 24 rfl rfl
theorem dX6_byteAt_0 : decode cX6_byteAt 0 = .ok (.iload_n 1, 1) := dk_27 (dk_at dksX6_byteAt_0 0 rfl rfl)
theorem dX6_byteAt_1 : decode cX6_byteAt 1 = .ok (.aload_n 0, 1) := dk_42 (dk_at dksX6_byteAt_0 1 rfl rfl)
theorem dX6_byteAt_2 : decode cX6_byteAt 2 = .ok (.getfield 19, 3) := dk_180 0 19 (dk_at dksX6_byteAt_0 2 rfl rfl)
theorem dX6_byteAt_5 : decode cX6_byteAt 5 = .ok (.if_icmp .ge 19, 3) := dk_162 0 19 (dk_at dksX6_byteAt_0 5 rfl rfl)
theorem dX6_byteAt_8 : decode cX6_byteAt 8 = .ok (.aload_n 0, 1) := dk_42 (dk_at dksX6_byteAt_0 8 rfl rfl)
theorem dX6_byteAt_9 : decode cX6_byteAt 9 = .ok (.getfield 3, 3) := dk_180 0 3 (dk_at dksX6_byteAt_0 9 rfl rfl)
theorem dX6_byteAt_12 : decode cX6_byteAt 12 = .ok (.getfield 35, 3) := dk_180 0 35 (dk_at dksX6_byteAt_0 12 rfl rfl)
theorem dX6_byteAt_15 : decode cX6_byteAt 15 = .ok (.iload_n 1, 1) := dk_27 (dk_at dksX6_byteAt_0 15 rfl rfl)
theorem dX6_byteAt_16 : decode cX6_byteAt 16 = .ok (.baload, 1) := dk_51 (dk_at dksX6_byteAt_0 16 rfl rfl)
theorem dX6_byteAt_17 : decode cX6_byteAt 17 = .ok (.sipush 255, 3) := dk_17 0 255 (dk_at dksX6_byteAt_0 17 rfl rfl)
theorem dX6_byteAt_20 : decode cX6_byteAt 20 = .ok (.iand, 1) := dk_126 (dk_at dksX6_byteAt_0 20 rfl rfl)
theorem dX6_byteAt_21 : decode cX6_byteAt 21 = .ok (.goto 4, 3) := dk_167 0 4 (dk_at dksX6_byteAt_0 21 rfl rfl)
theorem dX6_byteAt_24 : decode cX6_byteAt 24 = .ok (.iconst (-1), 1) := dk_2 (dk_at dksX6_byteAt_1 0 rfl rfl)
theorem dX6_byteAt_25 : decode cX6_byteAt 25 = .ok (.ireturn, 1) := dk_172 (dk_at dksX6_byteAt_1 1 rfl rfl)
abbrev cX6_letters : ByteArray := prog_6_method_4_code
def yX6_letters : MethodName := ⟨RX6, "letters", "()V"⟩
def dkwX6_letters_3 : List UInt8 := [164, 0, 11, 42, 7, 181, 0, 64, 167, 0, 11, 42, 43, 182, 0, 80, 181, 0, 24, 177]
abbrev dktX6_letters_3 : List UInt8 := dkwX6_letters_3 ++ []
def dkwX6_letters_2 : List UInt8 := [180, 0, 39, 4, 96, 181, 0, 39, 167, 255, 211, 42, 180, 0, 39, 42, 180, 0, 46, 100, 16, 8]
abbrev dktX6_letters_2 : List UInt8 := dkwX6_letters_2 ++ dktX6_letters_3
def dkwX6_letters_1 : List UInt8 := [184, 0, 56, 153, 0, 30, 43, 42, 42, 180, 0, 39, 182, 0, 42, 146, 182, 0, 76, 87, 42, 89]
abbrev dktX6_letters_1 : List UInt8 := dkwX6_letters_1 ++ dktX6_letters_2
def dkwX6_letters_0 : List UInt8 := [187, 0, 73, 89, 183, 0, 75, 76, 42, 42, 180, 0, 39, 182, 0, 42, 133, 20, 0, 52, 20, 0, 54]
abbrev dktX6_letters_0 : List UInt8 := dkwX6_letters_0 ++ dktX6_letters_1
theorem dksX6_letters_0 : cX6_letters.data.toList.drop 0 = dktX6_letters_0 := by decide +kernel
theorem dksX6_letters_1 : cX6_letters.data.toList.drop 23 = dktX6_letters_1 := dk_seg dksX6_letters_0 23 rfl rfl
theorem dksX6_letters_2 : cX6_letters.data.toList.drop 45 = dktX6_letters_2 := dk_seg dksX6_letters_1 22 rfl rfl
theorem dksX6_letters_3 : cX6_letters.data.toList.drop 67 = dktX6_letters_3 := dk_seg dksX6_letters_2 22 rfl rfl
theorem dX6_letters_0 : decode cX6_letters 0 = .ok (.new 73, 3) := dk_187 0 73 (dk_at dksX6_letters_0 0 rfl rfl)
theorem dX6_letters_3 : decode cX6_letters 3 = .ok (.dup, 1) := dk_89 (dk_at dksX6_letters_0 3 rfl rfl)
theorem dX6_letters_4 : decode cX6_letters 4 = .ok (.invokespecial 75, 3) := dk_183 0 75 (dk_at dksX6_letters_0 4 rfl rfl)
theorem dX6_letters_7 : decode cX6_letters 7 = .ok (.astore_n 1, 1) := dk_76 (dk_at dksX6_letters_0 7 rfl rfl)
theorem dX6_letters_8 : decode cX6_letters 8 = .ok (.aload_n 0, 1) := dk_42 (dk_at dksX6_letters_0 8 rfl rfl)
theorem dX6_letters_9 : decode cX6_letters 9 = .ok (.aload_n 0, 1) := dk_42 (dk_at dksX6_letters_0 9 rfl rfl)
theorem dX6_letters_10 : decode cX6_letters 10 = .ok (.getfield 39, 3) := dk_180 0 39 (dk_at dksX6_letters_0 10 rfl rfl)
theorem dX6_letters_13 : decode cX6_letters 13 = .ok (.invokevirtual 42, 3) := dk_182 0 42 (dk_at dksX6_letters_0 13 rfl rfl)
theorem dX6_letters_16 : decode cX6_letters 16 = .ok (.i2l, 1) := dk_133 (dk_at dksX6_letters_0 16 rfl rfl)
theorem dX6_letters_17 : decode cX6_letters 17 = .ok (.ldc2_w 52, 3) := dk_20 0 52 (dk_at dksX6_letters_0 17 rfl rfl)
theorem dX6_letters_20 : decode cX6_letters 20 = .ok (.ldc2_w 54, 3) := dk_20 0 54 (dk_at dksX6_letters_0 20 rfl rfl)
theorem dX6_letters_23 : decode cX6_letters 23 = .ok (.invokestatic 56, 3) := dk_184 0 56 (dk_at dksX6_letters_1 0 rfl rfl)
theorem dX6_letters_26 : decode cX6_letters 26 = .ok (.ifCond .eq 30, 3) := dk_153 0 30 (dk_at dksX6_letters_1 3 rfl rfl)
theorem dX6_letters_29 : decode cX6_letters 29 = .ok (.aload_n 1, 1) := dk_43 (dk_at dksX6_letters_1 6 rfl rfl)
theorem dX6_letters_30 : decode cX6_letters 30 = .ok (.aload_n 0, 1) := dk_42 (dk_at dksX6_letters_1 7 rfl rfl)
theorem dX6_letters_31 : decode cX6_letters 31 = .ok (.aload_n 0, 1) := dk_42 (dk_at dksX6_letters_1 8 rfl rfl)
theorem dX6_letters_32 : decode cX6_letters 32 = .ok (.getfield 39, 3) := dk_180 0 39 (dk_at dksX6_letters_1 9 rfl rfl)
theorem dX6_letters_35 : decode cX6_letters 35 = .ok (.invokevirtual 42, 3) := dk_182 0 42 (dk_at dksX6_letters_1 12 rfl rfl)
theorem dX6_letters_38 : decode cX6_letters 38 = .ok (.i2c, 1) := dk_146 (dk_at dksX6_letters_1 15 rfl rfl)
theorem dX6_letters_39 : decode cX6_letters 39 = .ok (.invokevirtual 76, 3) := dk_182 0 76 (dk_at dksX6_letters_1 16 rfl rfl)
theorem dX6_letters_42 : decode cX6_letters 42 = .ok (.pop, 1) := dk_87 (dk_at dksX6_letters_1 19 rfl rfl)
theorem dX6_letters_43 : decode cX6_letters 43 = .ok (.aload_n 0, 1) := dk_42 (dk_at dksX6_letters_1 20 rfl rfl)
theorem dX6_letters_44 : decode cX6_letters 44 = .ok (.dup, 1) := dk_89 (dk_at dksX6_letters_1 21 rfl rfl)
theorem dX6_letters_45 : decode cX6_letters 45 = .ok (.getfield 39, 3) := dk_180 0 39 (dk_at dksX6_letters_2 0 rfl rfl)
theorem dX6_letters_48 : decode cX6_letters 48 = .ok (.iconst 1, 1) := dk_4 (dk_at dksX6_letters_2 3 rfl rfl)
theorem dX6_letters_49 : decode cX6_letters 49 = .ok (.iadd, 1) := dk_96 (dk_at dksX6_letters_2 4 rfl rfl)
theorem dX6_letters_50 : decode cX6_letters 50 = .ok (.putfield 39, 3) := dk_181 0 39 (dk_at dksX6_letters_2 5 rfl rfl)
theorem dX6_letters_53 : decode cX6_letters 53 = .ok (.goto (-45), 3) := dk_167 255 211 (dk_at dksX6_letters_2 8 rfl rfl)
theorem dX6_letters_56 : decode cX6_letters 56 = .ok (.aload_n 0, 1) := dk_42 (dk_at dksX6_letters_2 11 rfl rfl)
theorem dX6_letters_57 : decode cX6_letters 57 = .ok (.getfield 39, 3) := dk_180 0 39 (dk_at dksX6_letters_2 12 rfl rfl)
theorem dX6_letters_60 : decode cX6_letters 60 = .ok (.aload_n 0, 1) := dk_42 (dk_at dksX6_letters_2 15 rfl rfl)
theorem dX6_letters_61 : decode cX6_letters 61 = .ok (.getfield 46, 3) := dk_180 0 46 (dk_at dksX6_letters_2 16 rfl rfl)
theorem dX6_letters_64 : decode cX6_letters 64 = .ok (.isub, 1) := dk_100 (dk_at dksX6_letters_2 19 rfl rfl)
theorem dX6_letters_65 : decode cX6_letters 65 = .ok (.bipush 8, 2) := dk_16 8 (dk_at dksX6_letters_2 20 rfl rfl)
theorem dX6_letters_67 : decode cX6_letters 67 = .ok (.if_icmp .le 11, 3) := dk_164 0 11 (dk_at dksX6_letters_3 0 rfl rfl)
theorem dX6_letters_70 : decode cX6_letters 70 = .ok (.aload_n 0, 1) := dk_42 (dk_at dksX6_letters_3 3 rfl rfl)
theorem dX6_letters_71 : decode cX6_letters 71 = .ok (.iconst 4, 1) := dk_7 (dk_at dksX6_letters_3 4 rfl rfl)
theorem dX6_letters_72 : decode cX6_letters 72 = .ok (.putfield 64, 3) := dk_181 0 64 (dk_at dksX6_letters_3 5 rfl rfl)
theorem dX6_letters_75 : decode cX6_letters 75 = .ok (.goto 11, 3) := dk_167 0 11 (dk_at dksX6_letters_3 8 rfl rfl)
theorem dX6_letters_78 : decode cX6_letters 78 = .ok (.aload_n 0, 1) := dk_42 (dk_at dksX6_letters_3 11 rfl rfl)
theorem dX6_letters_79 : decode cX6_letters 79 = .ok (.aload_n 1, 1) := dk_43 (dk_at dksX6_letters_3 12 rfl rfl)
theorem dX6_letters_80 : decode cX6_letters 80 = .ok (.invokevirtual 80, 3) := dk_182 0 80 (dk_at dksX6_letters_3 13 rfl rfl)
theorem dX6_letters_83 : decode cX6_letters 83 = .ok (.putfield 24, 3) := dk_181 0 24 (dk_at dksX6_letters_3 16 rfl rfl)
theorem dX6_letters_86 : decode cX6_letters 86 = .ok (.return_, 1) := dk_177 (dk_at dksX6_letters_3 19 rfl rfl)
abbrev cX6_digits : ByteArray := prog_6_method_5_code
def yX6_digits : MethodName := ⟨RX6, "digits", "()V"⟩
def dkwX6_digits_4 : List UInt8 := [177]
abbrev dktX6_digits_4 : List UInt8 := dkwX6_digits_4 ++ []
def dkwX6_digits_3 : List UInt8 := [181, 0, 39, 167, 255, 182, 42, 180, 0, 39, 42, 180, 0, 46, 100, 6, 164, 0, 8, 42, 7, 181, 0, 64]
abbrev dktX6_digits_3 : List UInt8 := dkwX6_digits_3 ++ dktX6_digits_4
def dkwX6_digits_2 : List UInt8 := [182, 0, 42, 96, 16, 48, 100, 167, 0, 7, 42, 180, 0, 49, 181, 0, 49, 42, 89, 180, 0, 39, 4, 96]
abbrev dktX6_digits_2 : List UInt8 := dkwX6_digits_2 ++ dktX6_digits_3
def dkwX6_digits_1 : List UInt8 := [180, 0, 39, 42, 180, 0, 46, 100, 6, 162, 0, 25, 16, 10, 42, 180, 0, 49, 104, 42, 42, 180, 0, 39]
abbrev dktX6_digits_1 : List UInt8 := dkwX6_digits_1 ++ dktX6_digits_2
def dkwX6_digits_0 : List UInt8 := [42, 42, 180, 0, 39, 182, 0, 42, 133, 20, 0, 60, 20, 0, 62, 184, 0, 56, 153, 0, 59, 42, 42]
abbrev dktX6_digits_0 : List UInt8 := dkwX6_digits_0 ++ dktX6_digits_1
theorem dksX6_digits_0 : cX6_digits.data.toList.drop 0 = dktX6_digits_0 := by decide +kernel
theorem dksX6_digits_1 : cX6_digits.data.toList.drop 23 = dktX6_digits_1 := dk_seg dksX6_digits_0 23 rfl rfl
theorem dksX6_digits_2 : cX6_digits.data.toList.drop 47 = dktX6_digits_2 := dk_seg dksX6_digits_1 24 rfl rfl
theorem dksX6_digits_3 : cX6_digits.data.toList.drop 71 = dktX6_digits_3 := dk_seg dksX6_digits_2 24 rfl rfl
theorem dksX6_digits_4 : cX6_digits.data.toList.drop 95 = dktX6_digits_4 := dk_seg dksX6_digits_3 24 rfl rfl
theorem dX6_digits_0 : decode cX6_digits 0 = .ok (.aload_n 0, 1) := dk_42 (dk_at dksX6_digits_0 0 rfl rfl)
theorem dX6_digits_1 : decode cX6_digits 1 = .ok (.aload_n 0, 1) := dk_42 (dk_at dksX6_digits_0 1 rfl rfl)
theorem dX6_digits_2 : decode cX6_digits 2 = .ok (.getfield 39, 3) := dk_180 0 39 (dk_at dksX6_digits_0 2 rfl rfl)
theorem dX6_digits_5 : decode cX6_digits 5 = .ok (.invokevirtual 42, 3) := dk_182 0 42 (dk_at dksX6_digits_0 5 rfl rfl)
theorem dX6_digits_8 : decode cX6_digits 8 = .ok (.i2l, 1) := dk_133 (dk_at dksX6_digits_0 8 rfl rfl)
theorem dX6_digits_9 : decode cX6_digits 9 = .ok (.ldc2_w 60, 3) := dk_20 0 60 (dk_at dksX6_digits_0 9 rfl rfl)
theorem dX6_digits_12 : decode cX6_digits 12 = .ok (.ldc2_w 62, 3) := dk_20 0 62 (dk_at dksX6_digits_0 12 rfl rfl)
theorem dX6_digits_15 : decode cX6_digits 15 = .ok (.invokestatic 56, 3) := dk_184 0 56 (dk_at dksX6_digits_0 15 rfl rfl)
theorem dX6_digits_18 : decode cX6_digits 18 = .ok (.ifCond .eq 59, 3) := dk_153 0 59 (dk_at dksX6_digits_0 18 rfl rfl)
theorem dX6_digits_21 : decode cX6_digits 21 = .ok (.aload_n 0, 1) := dk_42 (dk_at dksX6_digits_0 21 rfl rfl)
theorem dX6_digits_22 : decode cX6_digits 22 = .ok (.aload_n 0, 1) := dk_42 (dk_at dksX6_digits_0 22 rfl rfl)
theorem dX6_digits_23 : decode cX6_digits 23 = .ok (.getfield 39, 3) := dk_180 0 39 (dk_at dksX6_digits_1 0 rfl rfl)
theorem dX6_digits_26 : decode cX6_digits 26 = .ok (.aload_n 0, 1) := dk_42 (dk_at dksX6_digits_1 3 rfl rfl)
theorem dX6_digits_27 : decode cX6_digits 27 = .ok (.getfield 46, 3) := dk_180 0 46 (dk_at dksX6_digits_1 4 rfl rfl)
theorem dX6_digits_30 : decode cX6_digits 30 = .ok (.isub, 1) := dk_100 (dk_at dksX6_digits_1 7 rfl rfl)
theorem dX6_digits_31 : decode cX6_digits 31 = .ok (.iconst 3, 1) := dk_6 (dk_at dksX6_digits_1 8 rfl rfl)
theorem dX6_digits_32 : decode cX6_digits 32 = .ok (.if_icmp .ge 25, 3) := dk_162 0 25 (dk_at dksX6_digits_1 9 rfl rfl)
theorem dX6_digits_35 : decode cX6_digits 35 = .ok (.bipush 10, 2) := dk_16 10 (dk_at dksX6_digits_1 12 rfl rfl)
theorem dX6_digits_37 : decode cX6_digits 37 = .ok (.aload_n 0, 1) := dk_42 (dk_at dksX6_digits_1 14 rfl rfl)
theorem dX6_digits_38 : decode cX6_digits 38 = .ok (.getfield 49, 3) := dk_180 0 49 (dk_at dksX6_digits_1 15 rfl rfl)
theorem dX6_digits_41 : decode cX6_digits 41 = .ok (.imul, 1) := dk_104 (dk_at dksX6_digits_1 18 rfl rfl)
theorem dX6_digits_42 : decode cX6_digits 42 = .ok (.aload_n 0, 1) := dk_42 (dk_at dksX6_digits_1 19 rfl rfl)
theorem dX6_digits_43 : decode cX6_digits 43 = .ok (.aload_n 0, 1) := dk_42 (dk_at dksX6_digits_1 20 rfl rfl)
theorem dX6_digits_44 : decode cX6_digits 44 = .ok (.getfield 39, 3) := dk_180 0 39 (dk_at dksX6_digits_1 21 rfl rfl)
theorem dX6_digits_47 : decode cX6_digits 47 = .ok (.invokevirtual 42, 3) := dk_182 0 42 (dk_at dksX6_digits_2 0 rfl rfl)
theorem dX6_digits_50 : decode cX6_digits 50 = .ok (.iadd, 1) := dk_96 (dk_at dksX6_digits_2 3 rfl rfl)
theorem dX6_digits_51 : decode cX6_digits 51 = .ok (.bipush 48, 2) := dk_16 48 (dk_at dksX6_digits_2 4 rfl rfl)
theorem dX6_digits_53 : decode cX6_digits 53 = .ok (.isub, 1) := dk_100 (dk_at dksX6_digits_2 6 rfl rfl)
theorem dX6_digits_54 : decode cX6_digits 54 = .ok (.goto 7, 3) := dk_167 0 7 (dk_at dksX6_digits_2 7 rfl rfl)
theorem dX6_digits_57 : decode cX6_digits 57 = .ok (.aload_n 0, 1) := dk_42 (dk_at dksX6_digits_2 10 rfl rfl)
theorem dX6_digits_58 : decode cX6_digits 58 = .ok (.getfield 49, 3) := dk_180 0 49 (dk_at dksX6_digits_2 11 rfl rfl)
theorem dX6_digits_61 : decode cX6_digits 61 = .ok (.putfield 49, 3) := dk_181 0 49 (dk_at dksX6_digits_2 14 rfl rfl)
theorem dX6_digits_64 : decode cX6_digits 64 = .ok (.aload_n 0, 1) := dk_42 (dk_at dksX6_digits_2 17 rfl rfl)
theorem dX6_digits_65 : decode cX6_digits 65 = .ok (.dup, 1) := dk_89 (dk_at dksX6_digits_2 18 rfl rfl)
theorem dX6_digits_66 : decode cX6_digits 66 = .ok (.getfield 39, 3) := dk_180 0 39 (dk_at dksX6_digits_2 19 rfl rfl)
theorem dX6_digits_69 : decode cX6_digits 69 = .ok (.iconst 1, 1) := dk_4 (dk_at dksX6_digits_2 22 rfl rfl)
theorem dX6_digits_70 : decode cX6_digits 70 = .ok (.iadd, 1) := dk_96 (dk_at dksX6_digits_2 23 rfl rfl)
theorem dX6_digits_71 : decode cX6_digits 71 = .ok (.putfield 39, 3) := dk_181 0 39 (dk_at dksX6_digits_3 0 rfl rfl)
theorem dX6_digits_74 : decode cX6_digits 74 = .ok (.goto (-74), 3) := dk_167 255 182 (dk_at dksX6_digits_3 3 rfl rfl)
theorem dX6_digits_77 : decode cX6_digits 77 = .ok (.aload_n 0, 1) := dk_42 (dk_at dksX6_digits_3 6 rfl rfl)
theorem dX6_digits_78 : decode cX6_digits 78 = .ok (.getfield 39, 3) := dk_180 0 39 (dk_at dksX6_digits_3 7 rfl rfl)
theorem dX6_digits_81 : decode cX6_digits 81 = .ok (.aload_n 0, 1) := dk_42 (dk_at dksX6_digits_3 10 rfl rfl)
theorem dX6_digits_82 : decode cX6_digits 82 = .ok (.getfield 46, 3) := dk_180 0 46 (dk_at dksX6_digits_3 11 rfl rfl)
theorem dX6_digits_85 : decode cX6_digits 85 = .ok (.isub, 1) := dk_100 (dk_at dksX6_digits_3 14 rfl rfl)
theorem dX6_digits_86 : decode cX6_digits 86 = .ok (.iconst 3, 1) := dk_6 (dk_at dksX6_digits_3 15 rfl rfl)
theorem dX6_digits_87 : decode cX6_digits 87 = .ok (.if_icmp .le 8, 3) := dk_164 0 8 (dk_at dksX6_digits_3 16 rfl rfl)
theorem dX6_digits_90 : decode cX6_digits 90 = .ok (.aload_n 0, 1) := dk_42 (dk_at dksX6_digits_3 19 rfl rfl)
theorem dX6_digits_91 : decode cX6_digits 91 = .ok (.iconst 4, 1) := dk_7 (dk_at dksX6_digits_3 20 rfl rfl)
theorem dX6_digits_92 : decode cX6_digits 92 = .ok (.putfield 64, 3) := dk_181 0 64 (dk_at dksX6_digits_3 21 rfl rfl)
theorem dX6_digits_95 : decode cX6_digits 95 = .ok (.return_, 1) := dk_177 (dk_at dksX6_digits_4 0 rfl rfl)
abbrev cX6_setup : ByteArray := prog_6_method_18_code
def yX6_setup : MethodName := ⟨RX6, "setup", "()LWhistlePosts$World;"⟩
def dkwX6_setup_3 : List UInt8 := [191]
abbrev dktX6_setup_3 : List UInt8 := dkwX6_setup_3 ++ []
def dkwX6_setup_2 : List UInt8 := [180, 0, 28, 76, 42, 180, 0, 3, 3, 181, 0, 15, 43, 176, 77, 42, 180, 0, 3, 3, 181, 0, 15, 44]
abbrev dktX6_setup_2 : List UInt8 := dkwX6_setup_2 ++ dktX6_setup_3
def dkwX6_setup_1 : List UInt8 := [180, 0, 135, 185, 0, 139, 1, 0, 5, 161, 0, 7, 4, 167, 0, 4, 3, 16, 6, 182, 0, 89, 42]
abbrev dktX6_setup_1 : List UInt8 := dkwX6_setup_1 ++ dktX6_setup_2
def dkwX6_setup_0 : List UInt8 := [42, 180, 0, 64, 153, 0, 14, 42, 182, 0, 196, 42, 182, 0, 199, 167, 255, 241, 42, 42, 180, 0, 28]
abbrev dktX6_setup_0 : List UInt8 := dkwX6_setup_0 ++ dktX6_setup_1
theorem dksX6_setup_0 : cX6_setup.data.toList.drop 0 = dktX6_setup_0 := by decide +kernel
theorem dksX6_setup_1 : cX6_setup.data.toList.drop 23 = dktX6_setup_1 := dk_seg dksX6_setup_0 23 rfl rfl
theorem dksX6_setup_2 : cX6_setup.data.toList.drop 46 = dktX6_setup_2 := dk_seg dksX6_setup_1 23 rfl rfl
theorem dksX6_setup_3 : cX6_setup.data.toList.drop 70 = dktX6_setup_3 := dk_seg dksX6_setup_2 24 rfl rfl
theorem dX6_setup_0 : decode cX6_setup 0 = .ok (.aload_n 0, 1) := dk_42 (dk_at dksX6_setup_0 0 rfl rfl)
theorem dX6_setup_1 : decode cX6_setup 1 = .ok (.getfield 64, 3) := dk_180 0 64 (dk_at dksX6_setup_0 1 rfl rfl)
theorem dX6_setup_4 : decode cX6_setup 4 = .ok (.ifCond .eq 14, 3) := dk_153 0 14 (dk_at dksX6_setup_0 4 rfl rfl)
theorem dX6_setup_7 : decode cX6_setup 7 = .ok (.aload_n 0, 1) := dk_42 (dk_at dksX6_setup_0 7 rfl rfl)
theorem dX6_setup_8 : decode cX6_setup 8 = .ok (.invokevirtual 196, 3) := dk_182 0 196 (dk_at dksX6_setup_0 8 rfl rfl)
theorem dX6_setup_11 : decode cX6_setup 11 = .ok (.aload_n 0, 1) := dk_42 (dk_at dksX6_setup_0 11 rfl rfl)
theorem dX6_setup_12 : decode cX6_setup 12 = .ok (.invokevirtual 199, 3) := dk_182 0 199 (dk_at dksX6_setup_0 12 rfl rfl)
theorem dX6_setup_15 : decode cX6_setup 15 = .ok (.goto (-15), 3) := dk_167 255 241 (dk_at dksX6_setup_0 15 rfl rfl)
theorem dX6_setup_18 : decode cX6_setup 18 = .ok (.aload_n 0, 1) := dk_42 (dk_at dksX6_setup_0 18 rfl rfl)
theorem dX6_setup_19 : decode cX6_setup 19 = .ok (.aload_n 0, 1) := dk_42 (dk_at dksX6_setup_0 19 rfl rfl)
theorem dX6_setup_20 : decode cX6_setup 20 = .ok (.getfield 28, 3) := dk_180 0 28 (dk_at dksX6_setup_0 20 rfl rfl)
theorem dX6_setup_23 : decode cX6_setup 23 = .ok (.getfield 135, 3) := dk_180 0 135 (dk_at dksX6_setup_1 0 rfl rfl)
theorem dX6_setup_26 : decode cX6_setup 26 = .ok (.invokeinterface 139 1, 5) := by decide +kernel
theorem dX6_setup_31 : decode cX6_setup 31 = .ok (.iconst 2, 1) := dk_5 (dk_at dksX6_setup_1 8 rfl rfl)
theorem dX6_setup_32 : decode cX6_setup 32 = .ok (.if_icmp .lt 7, 3) := dk_161 0 7 (dk_at dksX6_setup_1 9 rfl rfl)
theorem dX6_setup_35 : decode cX6_setup 35 = .ok (.iconst 1, 1) := dk_4 (dk_at dksX6_setup_1 12 rfl rfl)
theorem dX6_setup_36 : decode cX6_setup 36 = .ok (.goto 4, 3) := dk_167 0 4 (dk_at dksX6_setup_1 13 rfl rfl)
theorem dX6_setup_39 : decode cX6_setup 39 = .ok (.iconst 0, 1) := dk_3 (dk_at dksX6_setup_1 16 rfl rfl)
theorem dX6_setup_40 : decode cX6_setup 40 = .ok (.bipush 6, 2) := dk_16 6 (dk_at dksX6_setup_1 17 rfl rfl)
theorem dX6_setup_42 : decode cX6_setup 42 = .ok (.invokevirtual 89, 3) := dk_182 0 89 (dk_at dksX6_setup_1 19 rfl rfl)
theorem dX6_setup_45 : decode cX6_setup 45 = .ok (.aload_n 0, 1) := dk_42 (dk_at dksX6_setup_1 22 rfl rfl)
theorem dX6_setup_46 : decode cX6_setup 46 = .ok (.getfield 28, 3) := dk_180 0 28 (dk_at dksX6_setup_2 0 rfl rfl)
theorem dX6_setup_49 : decode cX6_setup 49 = .ok (.astore_n 1, 1) := dk_76 (dk_at dksX6_setup_2 3 rfl rfl)
theorem dX6_setup_50 : decode cX6_setup 50 = .ok (.aload_n 0, 1) := dk_42 (dk_at dksX6_setup_2 4 rfl rfl)
theorem dX6_setup_51 : decode cX6_setup 51 = .ok (.getfield 3, 3) := dk_180 0 3 (dk_at dksX6_setup_2 5 rfl rfl)
theorem dX6_setup_54 : decode cX6_setup 54 = .ok (.iconst 0, 1) := dk_3 (dk_at dksX6_setup_2 8 rfl rfl)
theorem dX6_setup_55 : decode cX6_setup 55 = .ok (.putfield 15, 3) := dk_181 0 15 (dk_at dksX6_setup_2 9 rfl rfl)
theorem dX6_setup_58 : decode cX6_setup 58 = .ok (.aload_n 1, 1) := dk_43 (dk_at dksX6_setup_2 12 rfl rfl)
theorem dX6_setup_59 : decode cX6_setup 59 = .ok (.areturn, 1) := dk_176 (dk_at dksX6_setup_2 13 rfl rfl)
theorem dX6_setup_60 : decode cX6_setup 60 = .ok (.astore_n 2, 1) := dk_77 (dk_at dksX6_setup_2 14 rfl rfl)
theorem dX6_setup_61 : decode cX6_setup 61 = .ok (.aload_n 0, 1) := dk_42 (dk_at dksX6_setup_2 15 rfl rfl)
theorem dX6_setup_62 : decode cX6_setup 62 = .ok (.getfield 3, 3) := dk_180 0 3 (dk_at dksX6_setup_2 16 rfl rfl)
theorem dX6_setup_65 : decode cX6_setup 65 = .ok (.iconst 0, 1) := dk_3 (dk_at dksX6_setup_2 19 rfl rfl)
theorem dX6_setup_66 : decode cX6_setup 66 = .ok (.putfield 15, 3) := dk_181 0 15 (dk_at dksX6_setup_2 20 rfl rfl)
theorem dX6_setup_69 : decode cX6_setup 69 = .ok (.aload_n 2, 1) := dk_44 (dk_at dksX6_setup_2 23 rfl rfl)
theorem dX6_setup_70 : decode cX6_setup 70 = .ok (.athrow, 1) := dk_191 (dk_at dksX6_setup_3 0 rfl rfl)
abbrev cX6_statement : ByteArray := prog_6_method_17_code
def yX6_statement : MethodName := ⟨RX6, "statement", "()V"⟩
def dkwX6_statement_7 : List UInt8 := [182, 0, 190, 182, 0, 193, 54, 4, 177]
abbrev dktX6_statement_7 : List UInt8 := dkwX6_statement_7 ++ []
def dkwX6_statement_6 : List UInt8 := [2, 159, 0, 7, 4, 167, 0, 4, 3, 4, 182, 0, 89, 42, 182, 0, 32, 42, 180, 0, 28, 29, 42, 29]
abbrev dktX6_statement_6 : List UInt8 := dkwX6_statement_6 ++ dktX6_statement_7
def dkwX6_statement_5 : List UInt8 := [42, 182, 0, 181, 167, 0, 52, 42, 182, 0, 184, 167, 0, 45, 42, 180, 0, 24, 184, 0, 187, 62, 42, 29]
abbrev dktX6_statement_5 : List UInt8 := dkwX6_statement_5 ++ dktX6_statement_6
def dkwX6_statement_4 : List UInt8 := [171, 0, 0, 0, 0, 40, 0, 0, 0, 2, 0, 0, 0, 0, 0, 0, 0, 26, 0, 0, 0, 1, 0, 0, 0, 33]
abbrev dktX6_statement_4 : List UInt8 := dkwX6_statement_4 ++ dktX6_statement_5
def dkwX6_statement_3 : List UInt8 := [61, 28]
abbrev dktX6_statement_3 : List UInt8 := dkwX6_statement_3 ++ dktX6_statement_4
def dkwX6_statement_2 : List UInt8 := [43, 18, 178, 182, 0, 116, 153, 0, 19, 3, 61, 167, 0, 14, 43, 18, 179, 182, 0, 116, 153, 0, 5, 4]
abbrev dktX6_statement_2 : List UInt8 := dkwX6_statement_2 ++ dktX6_statement_3
def dkwX6_statement_1 : List UInt8 := [171, 0, 0, 0, 50, 0, 0, 0, 2, 0, 1, 202, 239, 0, 0, 0, 39, 0, 53, 128, 212, 0, 0, 0, 25]
abbrev dktX6_statement_1 : List UInt8 := dkwX6_statement_1 ++ dktX6_statement_2
def dkwX6_statement_0 : List UInt8 := [42, 180, 0, 24, 76, 2, 61, 43, 182, 0, 111]
abbrev dktX6_statement_0 : List UInt8 := dkwX6_statement_0 ++ dktX6_statement_1
theorem dksX6_statement_0 : cX6_statement.data.toList.drop 0 = dktX6_statement_0 := by decide +kernel
theorem dksX6_statement_1 : cX6_statement.data.toList.drop 11 = dktX6_statement_1 := dk_seg dksX6_statement_0 11 rfl rfl
theorem dksX6_statement_2 : cX6_statement.data.toList.drop 36 = dktX6_statement_2 := dk_seg dksX6_statement_1 25 rfl rfl
theorem dksX6_statement_3 : cX6_statement.data.toList.drop 60 = dktX6_statement_3 := dk_seg dksX6_statement_2 24 rfl rfl
theorem dksX6_statement_4 : cX6_statement.data.toList.drop 62 = dktX6_statement_4 := dk_seg dksX6_statement_3 2 rfl rfl
theorem dksX6_statement_5 : cX6_statement.data.toList.drop 88 = dktX6_statement_5 := dk_seg dksX6_statement_4 26 rfl rfl
theorem dksX6_statement_6 : cX6_statement.data.toList.drop 112 = dktX6_statement_6 := dk_seg dksX6_statement_5 24 rfl rfl
theorem dksX6_statement_7 : cX6_statement.data.toList.drop 136 = dktX6_statement_7 := dk_seg dksX6_statement_6 24 rfl rfl
theorem dX6_statement_0 : decode cX6_statement 0 = .ok (.aload_n 0, 1) := dk_42 (dk_at dksX6_statement_0 0 rfl rfl)
theorem dX6_statement_1 : decode cX6_statement 1 = .ok (.getfield 24, 3) := dk_180 0 24 (dk_at dksX6_statement_0 1 rfl rfl)
theorem dX6_statement_4 : decode cX6_statement 4 = .ok (.astore_n 1, 1) := dk_76 (dk_at dksX6_statement_0 4 rfl rfl)
theorem dX6_statement_5 : decode cX6_statement 5 = .ok (.iconst (-1), 1) := dk_2 (dk_at dksX6_statement_0 5 rfl rfl)
theorem dX6_statement_6 : decode cX6_statement 6 = .ok (.istore_n 2, 1) := dk_61 (dk_at dksX6_statement_0 6 rfl rfl)
theorem dX6_statement_7 : decode cX6_statement 7 = .ok (.aload_n 1, 1) := dk_43 (dk_at dksX6_statement_0 7 rfl rfl)
theorem dX6_statement_8 : decode cX6_statement 8 = .ok (.invokevirtual 111, 3) := dk_182 0 111 (dk_at dksX6_statement_0 8 rfl rfl)
theorem dX6_statement_11 : decode cX6_statement 11 = .ok (.lookupswitch 50 #[(117487, 39), (3506388, 25)], 25) := by decide +kernel
theorem dX6_statement_36 : decode cX6_statement 36 = .ok (.aload_n 1, 1) := dk_43 (dk_at dksX6_statement_2 0 rfl rfl)
theorem dX6_statement_37 : decode cX6_statement 37 = .ok (.ldc 178, 2) := dk_18 178 (dk_at dksX6_statement_2 1 rfl rfl)
theorem dX6_statement_39 : decode cX6_statement 39 = .ok (.invokevirtual 116, 3) := dk_182 0 116 (dk_at dksX6_statement_2 3 rfl rfl)
theorem dX6_statement_42 : decode cX6_statement 42 = .ok (.ifCond .eq 19, 3) := dk_153 0 19 (dk_at dksX6_statement_2 6 rfl rfl)
theorem dX6_statement_45 : decode cX6_statement 45 = .ok (.iconst 0, 1) := dk_3 (dk_at dksX6_statement_2 9 rfl rfl)
theorem dX6_statement_46 : decode cX6_statement 46 = .ok (.istore_n 2, 1) := dk_61 (dk_at dksX6_statement_2 10 rfl rfl)
theorem dX6_statement_47 : decode cX6_statement 47 = .ok (.goto 14, 3) := dk_167 0 14 (dk_at dksX6_statement_2 11 rfl rfl)
theorem dX6_statement_50 : decode cX6_statement 50 = .ok (.aload_n 1, 1) := dk_43 (dk_at dksX6_statement_2 14 rfl rfl)
theorem dX6_statement_51 : decode cX6_statement 51 = .ok (.ldc 179, 2) := dk_18 179 (dk_at dksX6_statement_2 15 rfl rfl)
theorem dX6_statement_53 : decode cX6_statement 53 = .ok (.invokevirtual 116, 3) := dk_182 0 116 (dk_at dksX6_statement_2 17 rfl rfl)
theorem dX6_statement_56 : decode cX6_statement 56 = .ok (.ifCond .eq 5, 3) := dk_153 0 5 (dk_at dksX6_statement_2 20 rfl rfl)
theorem dX6_statement_59 : decode cX6_statement 59 = .ok (.iconst 1, 1) := dk_4 (dk_at dksX6_statement_2 23 rfl rfl)
theorem dX6_statement_60 : decode cX6_statement 60 = .ok (.istore_n 2, 1) := dk_61 (dk_at dksX6_statement_3 0 rfl rfl)
theorem dX6_statement_61 : decode cX6_statement 61 = .ok (.iload_n 2, 1) := dk_28 (dk_at dksX6_statement_3 1 rfl rfl)
theorem dX6_statement_62 : decode cX6_statement 62 = .ok (.lookupswitch 40 #[(0, 26), (1, 33)], 26) := by decide +kernel
theorem dX6_statement_88 : decode cX6_statement 88 = .ok (.aload_n 0, 1) := dk_42 (dk_at dksX6_statement_5 0 rfl rfl)
theorem dX6_statement_89 : decode cX6_statement 89 = .ok (.invokevirtual 181, 3) := dk_182 0 181 (dk_at dksX6_statement_5 1 rfl rfl)
theorem dX6_statement_92 : decode cX6_statement 92 = .ok (.goto 52, 3) := dk_167 0 52 (dk_at dksX6_statement_5 4 rfl rfl)
theorem dX6_statement_95 : decode cX6_statement 95 = .ok (.aload_n 0, 1) := dk_42 (dk_at dksX6_statement_5 7 rfl rfl)
theorem dX6_statement_96 : decode cX6_statement 96 = .ok (.invokevirtual 184, 3) := dk_182 0 184 (dk_at dksX6_statement_5 8 rfl rfl)
theorem dX6_statement_99 : decode cX6_statement 99 = .ok (.goto 45, 3) := dk_167 0 45 (dk_at dksX6_statement_5 11 rfl rfl)
theorem dX6_statement_102 : decode cX6_statement 102 = .ok (.aload_n 0, 1) := dk_42 (dk_at dksX6_statement_5 14 rfl rfl)
theorem dX6_statement_103 : decode cX6_statement 103 = .ok (.getfield 24, 3) := dk_180 0 24 (dk_at dksX6_statement_5 15 rfl rfl)
theorem dX6_statement_106 : decode cX6_statement 106 = .ok (.invokestatic 187, 3) := dk_184 0 187 (dk_at dksX6_statement_5 18 rfl rfl)
theorem dX6_statement_109 : decode cX6_statement 109 = .ok (.istore_n 3, 1) := dk_62 (dk_at dksX6_statement_5 21 rfl rfl)
theorem dX6_statement_110 : decode cX6_statement 110 = .ok (.aload_n 0, 1) := dk_42 (dk_at dksX6_statement_5 22 rfl rfl)
theorem dX6_statement_111 : decode cX6_statement 111 = .ok (.iload_n 3, 1) := dk_29 (dk_at dksX6_statement_5 23 rfl rfl)
theorem dX6_statement_112 : decode cX6_statement 112 = .ok (.iconst (-1), 1) := dk_2 (dk_at dksX6_statement_6 0 rfl rfl)
theorem dX6_statement_113 : decode cX6_statement 113 = .ok (.if_icmp .eq 7, 3) := dk_159 0 7 (dk_at dksX6_statement_6 1 rfl rfl)
theorem dX6_statement_116 : decode cX6_statement 116 = .ok (.iconst 1, 1) := dk_4 (dk_at dksX6_statement_6 4 rfl rfl)
theorem dX6_statement_117 : decode cX6_statement 117 = .ok (.goto 4, 3) := dk_167 0 4 (dk_at dksX6_statement_6 5 rfl rfl)
theorem dX6_statement_120 : decode cX6_statement 120 = .ok (.iconst 0, 1) := dk_3 (dk_at dksX6_statement_6 8 rfl rfl)
theorem dX6_statement_121 : decode cX6_statement 121 = .ok (.iconst 1, 1) := dk_4 (dk_at dksX6_statement_6 9 rfl rfl)
theorem dX6_statement_122 : decode cX6_statement 122 = .ok (.invokevirtual 89, 3) := dk_182 0 89 (dk_at dksX6_statement_6 10 rfl rfl)
theorem dX6_statement_125 : decode cX6_statement 125 = .ok (.aload_n 0, 1) := dk_42 (dk_at dksX6_statement_6 13 rfl rfl)
theorem dX6_statement_126 : decode cX6_statement 126 = .ok (.invokevirtual 32, 3) := dk_182 0 32 (dk_at dksX6_statement_6 14 rfl rfl)
theorem dX6_statement_129 : decode cX6_statement 129 = .ok (.aload_n 0, 1) := dk_42 (dk_at dksX6_statement_6 17 rfl rfl)
theorem dX6_statement_130 : decode cX6_statement 130 = .ok (.getfield 28, 3) := dk_180 0 28 (dk_at dksX6_statement_6 18 rfl rfl)
theorem dX6_statement_133 : decode cX6_statement 133 = .ok (.iload_n 3, 1) := dk_29 (dk_at dksX6_statement_6 21 rfl rfl)
theorem dX6_statement_134 : decode cX6_statement 134 = .ok (.aload_n 0, 1) := dk_42 (dk_at dksX6_statement_6 22 rfl rfl)
theorem dX6_statement_135 : decode cX6_statement 135 = .ok (.iload_n 3, 1) := dk_29 (dk_at dksX6_statement_6 23 rfl rfl)
theorem dX6_statement_136 : decode cX6_statement 136 = .ok (.invokevirtual 190, 3) := dk_182 0 190 (dk_at dksX6_statement_7 0 rfl rfl)
theorem dX6_statement_139 : decode cX6_statement 139 = .ok (.invokevirtual 193, 3) := dk_182 0 193 (dk_at dksX6_statement_7 3 rfl rfl)
theorem dX6_statement_142 : decode cX6_statement 142 = .ok (.istore 4, 2) := dk_54 4 (dk_at dksX6_statement_7 6 rfl rfl)
theorem dX6_statement_144 : decode cX6_statement 144 = .ok (.return_, 1) := dk_177 (dk_at dksX6_statement_7 8 rfl rfl)
abbrev cX6_roofing : ByteArray := prog_6_method_15_code
def yX6_roofing : MethodName := ⟨RX6, "roofing", "()V"⟩
def dkwX6_roofing_4 : List UInt8 := [89, 43, 28, 29, 21, 4, 42, 3, 17, 3, 231, 182, 0, 131, 183, 0, 145, 182, 0, 148, 177]
abbrev dktX6_roofing_4 : List UInt8 := dkwX6_roofing_4 ++ []
def dkwX6_roofing_3 : List UInt8 := [42, 3, 16, 9, 182, 0, 131, 62, 42, 3, 16, 9, 182, 0, 131, 54, 4, 42, 180, 0, 28, 187, 0, 143]
abbrev dktX6_roofing_3 : List UInt8 := dkwX6_roofing_3 ++ dktX6_roofing_4
def dkwX6_roofing_2 : List UInt8 := [160, 0, 7, 4, 167, 0, 4, 3, 6, 182, 0, 89, 42, 182, 0, 32, 42, 4, 16, 8, 182, 0, 131, 61]
abbrev dktX6_roofing_2 : List UInt8 := dkwX6_roofing_2 ++ dktX6_roofing_3
def dkwX6_roofing_1 : List UInt8 := [182, 0, 89, 42, 182, 0, 32, 42, 182, 0, 99, 76, 42, 42, 180, 0, 28, 43, 182, 0, 102, 2]
abbrev dktX6_roofing_1 : List UInt8 := dkwX6_roofing_1 ++ dktX6_roofing_2
def dkwX6_roofing_0 : List UInt8 := [42, 42, 180, 0, 28, 180, 0, 135, 185, 0, 139, 1, 0, 16, 10, 162, 0, 7, 4, 167, 0, 4, 3, 8]
abbrev dktX6_roofing_0 : List UInt8 := dkwX6_roofing_0 ++ dktX6_roofing_1
theorem dksX6_roofing_0 : cX6_roofing.data.toList.drop 0 = dktX6_roofing_0 := by decide +kernel
theorem dksX6_roofing_1 : cX6_roofing.data.toList.drop 24 = dktX6_roofing_1 := dk_seg dksX6_roofing_0 24 rfl rfl
theorem dksX6_roofing_2 : cX6_roofing.data.toList.drop 46 = dktX6_roofing_2 := dk_seg dksX6_roofing_1 22 rfl rfl
theorem dksX6_roofing_3 : cX6_roofing.data.toList.drop 70 = dktX6_roofing_3 := dk_seg dksX6_roofing_2 24 rfl rfl
theorem dksX6_roofing_4 : cX6_roofing.data.toList.drop 94 = dktX6_roofing_4 := dk_seg dksX6_roofing_3 24 rfl rfl
theorem dX6_roofing_0 : decode cX6_roofing 0 = .ok (.aload_n 0, 1) := dk_42 (dk_at dksX6_roofing_0 0 rfl rfl)
theorem dX6_roofing_1 : decode cX6_roofing 1 = .ok (.aload_n 0, 1) := dk_42 (dk_at dksX6_roofing_0 1 rfl rfl)
theorem dX6_roofing_2 : decode cX6_roofing 2 = .ok (.getfield 28, 3) := dk_180 0 28 (dk_at dksX6_roofing_0 2 rfl rfl)
theorem dX6_roofing_5 : decode cX6_roofing 5 = .ok (.getfield 135, 3) := dk_180 0 135 (dk_at dksX6_roofing_0 5 rfl rfl)
theorem dX6_roofing_8 : decode cX6_roofing 8 = .ok (.invokeinterface 139 1, 5) := by decide +kernel
theorem dX6_roofing_13 : decode cX6_roofing 13 = .ok (.bipush 10, 2) := dk_16 10 (dk_at dksX6_roofing_0 13 rfl rfl)
theorem dX6_roofing_15 : decode cX6_roofing 15 = .ok (.if_icmp .ge 7, 3) := dk_162 0 7 (dk_at dksX6_roofing_0 15 rfl rfl)
theorem dX6_roofing_18 : decode cX6_roofing 18 = .ok (.iconst 1, 1) := dk_4 (dk_at dksX6_roofing_0 18 rfl rfl)
theorem dX6_roofing_19 : decode cX6_roofing 19 = .ok (.goto 4, 3) := dk_167 0 4 (dk_at dksX6_roofing_0 19 rfl rfl)
theorem dX6_roofing_22 : decode cX6_roofing 22 = .ok (.iconst 0, 1) := dk_3 (dk_at dksX6_roofing_0 22 rfl rfl)
theorem dX6_roofing_23 : decode cX6_roofing 23 = .ok (.iconst 5, 1) := dk_8 (dk_at dksX6_roofing_0 23 rfl rfl)
theorem dX6_roofing_24 : decode cX6_roofing 24 = .ok (.invokevirtual 89, 3) := dk_182 0 89 (dk_at dksX6_roofing_1 0 rfl rfl)
theorem dX6_roofing_27 : decode cX6_roofing 27 = .ok (.aload_n 0, 1) := dk_42 (dk_at dksX6_roofing_1 3 rfl rfl)
theorem dX6_roofing_28 : decode cX6_roofing 28 = .ok (.invokevirtual 32, 3) := dk_182 0 32 (dk_at dksX6_roofing_1 4 rfl rfl)
theorem dX6_roofing_31 : decode cX6_roofing 31 = .ok (.aload_n 0, 1) := dk_42 (dk_at dksX6_roofing_1 7 rfl rfl)
theorem dX6_roofing_32 : decode cX6_roofing 32 = .ok (.invokevirtual 99, 3) := dk_182 0 99 (dk_at dksX6_roofing_1 8 rfl rfl)
theorem dX6_roofing_35 : decode cX6_roofing 35 = .ok (.astore_n 1, 1) := dk_76 (dk_at dksX6_roofing_1 11 rfl rfl)
theorem dX6_roofing_36 : decode cX6_roofing 36 = .ok (.aload_n 0, 1) := dk_42 (dk_at dksX6_roofing_1 12 rfl rfl)
theorem dX6_roofing_37 : decode cX6_roofing 37 = .ok (.aload_n 0, 1) := dk_42 (dk_at dksX6_roofing_1 13 rfl rfl)
theorem dX6_roofing_38 : decode cX6_roofing 38 = .ok (.getfield 28, 3) := dk_180 0 28 (dk_at dksX6_roofing_1 14 rfl rfl)
theorem dX6_roofing_41 : decode cX6_roofing 41 = .ok (.aload_n 1, 1) := dk_43 (dk_at dksX6_roofing_1 17 rfl rfl)
theorem dX6_roofing_42 : decode cX6_roofing 42 = .ok (.invokevirtual 102, 3) := dk_182 0 102 (dk_at dksX6_roofing_1 18 rfl rfl)
theorem dX6_roofing_45 : decode cX6_roofing 45 = .ok (.iconst (-1), 1) := dk_2 (dk_at dksX6_roofing_1 21 rfl rfl)
theorem dX6_roofing_46 : decode cX6_roofing 46 = .ok (.if_icmp .ne 7, 3) := dk_160 0 7 (dk_at dksX6_roofing_2 0 rfl rfl)
theorem dX6_roofing_49 : decode cX6_roofing 49 = .ok (.iconst 1, 1) := dk_4 (dk_at dksX6_roofing_2 3 rfl rfl)
theorem dX6_roofing_50 : decode cX6_roofing 50 = .ok (.goto 4, 3) := dk_167 0 4 (dk_at dksX6_roofing_2 4 rfl rfl)
theorem dX6_roofing_53 : decode cX6_roofing 53 = .ok (.iconst 0, 1) := dk_3 (dk_at dksX6_roofing_2 7 rfl rfl)
theorem dX6_roofing_54 : decode cX6_roofing 54 = .ok (.iconst 3, 1) := dk_6 (dk_at dksX6_roofing_2 8 rfl rfl)
theorem dX6_roofing_55 : decode cX6_roofing 55 = .ok (.invokevirtual 89, 3) := dk_182 0 89 (dk_at dksX6_roofing_2 9 rfl rfl)
theorem dX6_roofing_58 : decode cX6_roofing 58 = .ok (.aload_n 0, 1) := dk_42 (dk_at dksX6_roofing_2 12 rfl rfl)
theorem dX6_roofing_59 : decode cX6_roofing 59 = .ok (.invokevirtual 32, 3) := dk_182 0 32 (dk_at dksX6_roofing_2 13 rfl rfl)
theorem dX6_roofing_62 : decode cX6_roofing 62 = .ok (.aload_n 0, 1) := dk_42 (dk_at dksX6_roofing_2 16 rfl rfl)
theorem dX6_roofing_63 : decode cX6_roofing 63 = .ok (.iconst 1, 1) := dk_4 (dk_at dksX6_roofing_2 17 rfl rfl)
theorem dX6_roofing_64 : decode cX6_roofing 64 = .ok (.bipush 8, 2) := dk_16 8 (dk_at dksX6_roofing_2 18 rfl rfl)
theorem dX6_roofing_66 : decode cX6_roofing 66 = .ok (.invokevirtual 131, 3) := dk_182 0 131 (dk_at dksX6_roofing_2 20 rfl rfl)
theorem dX6_roofing_69 : decode cX6_roofing 69 = .ok (.istore_n 2, 1) := dk_61 (dk_at dksX6_roofing_2 23 rfl rfl)
theorem dX6_roofing_70 : decode cX6_roofing 70 = .ok (.aload_n 0, 1) := dk_42 (dk_at dksX6_roofing_3 0 rfl rfl)
theorem dX6_roofing_71 : decode cX6_roofing 71 = .ok (.iconst 0, 1) := dk_3 (dk_at dksX6_roofing_3 1 rfl rfl)
theorem dX6_roofing_72 : decode cX6_roofing 72 = .ok (.bipush 9, 2) := dk_16 9 (dk_at dksX6_roofing_3 2 rfl rfl)
theorem dX6_roofing_74 : decode cX6_roofing 74 = .ok (.invokevirtual 131, 3) := dk_182 0 131 (dk_at dksX6_roofing_3 4 rfl rfl)
theorem dX6_roofing_77 : decode cX6_roofing 77 = .ok (.istore_n 3, 1) := dk_62 (dk_at dksX6_roofing_3 7 rfl rfl)
theorem dX6_roofing_78 : decode cX6_roofing 78 = .ok (.aload_n 0, 1) := dk_42 (dk_at dksX6_roofing_3 8 rfl rfl)
theorem dX6_roofing_79 : decode cX6_roofing 79 = .ok (.iconst 0, 1) := dk_3 (dk_at dksX6_roofing_3 9 rfl rfl)
theorem dX6_roofing_80 : decode cX6_roofing 80 = .ok (.bipush 9, 2) := dk_16 9 (dk_at dksX6_roofing_3 10 rfl rfl)
theorem dX6_roofing_82 : decode cX6_roofing 82 = .ok (.invokevirtual 131, 3) := dk_182 0 131 (dk_at dksX6_roofing_3 12 rfl rfl)
theorem dX6_roofing_85 : decode cX6_roofing 85 = .ok (.istore 4, 2) := dk_54 4 (dk_at dksX6_roofing_3 15 rfl rfl)
theorem dX6_roofing_87 : decode cX6_roofing 87 = .ok (.aload_n 0, 1) := dk_42 (dk_at dksX6_roofing_3 17 rfl rfl)
theorem dX6_roofing_88 : decode cX6_roofing 88 = .ok (.getfield 28, 3) := dk_180 0 28 (dk_at dksX6_roofing_3 18 rfl rfl)
theorem dX6_roofing_91 : decode cX6_roofing 91 = .ok (.new 143, 3) := dk_187 0 143 (dk_at dksX6_roofing_3 21 rfl rfl)
theorem dX6_roofing_94 : decode cX6_roofing 94 = .ok (.dup, 1) := dk_89 (dk_at dksX6_roofing_4 0 rfl rfl)
theorem dX6_roofing_95 : decode cX6_roofing 95 = .ok (.aload_n 1, 1) := dk_43 (dk_at dksX6_roofing_4 1 rfl rfl)
theorem dX6_roofing_96 : decode cX6_roofing 96 = .ok (.iload_n 2, 1) := dk_28 (dk_at dksX6_roofing_4 2 rfl rfl)
theorem dX6_roofing_97 : decode cX6_roofing 97 = .ok (.iload_n 3, 1) := dk_29 (dk_at dksX6_roofing_4 3 rfl rfl)
theorem dX6_roofing_98 : decode cX6_roofing 98 = .ok (.iload 4, 2) := dk_21 4 (dk_at dksX6_roofing_4 4 rfl rfl)
theorem dX6_roofing_100 : decode cX6_roofing 100 = .ok (.aload_n 0, 1) := dk_42 (dk_at dksX6_roofing_4 6 rfl rfl)
theorem dX6_roofing_101 : decode cX6_roofing 101 = .ok (.iconst 0, 1) := dk_3 (dk_at dksX6_roofing_4 7 rfl rfl)
theorem dX6_roofing_102 : decode cX6_roofing 102 = .ok (.sipush 999, 3) := dk_17 3 231 (dk_at dksX6_roofing_4 8 rfl rfl)
theorem dX6_roofing_105 : decode cX6_roofing 105 = .ok (.invokevirtual 131, 3) := dk_182 0 131 (dk_at dksX6_roofing_4 11 rfl rfl)
theorem dX6_roofing_108 : decode cX6_roofing 108 = .ok (.invokespecial 145, 3) := dk_183 0 145 (dk_at dksX6_roofing_4 14 rfl rfl)
theorem dX6_roofing_111 : decode cX6_roofing 111 = .ok (.invokevirtual 148, 3) := dk_182 0 148 (dk_at dksX6_roofing_4 17 rfl rfl)
theorem dX6_roofing_114 : decode cX6_roofing 114 = .ok (.return_, 1) := dk_177 (dk_at dksX6_roofing_4 20 rfl rfl)
abbrev cX6_must : ByteArray := prog_6_method_6_code
def yX6_must : MethodName := ⟨RX6, "must", "(ZI)V"⟩
def dkwX6_must_0 : List UInt8 := [27, 154, 0, 16, 187, 0, 84, 89, 28, 42, 180, 0, 46, 183, 0, 86, 191, 177]
abbrev dktX6_must_0 : List UInt8 := dkwX6_must_0 ++ []
theorem dksX6_must_0 : cX6_must.data.toList.drop 0 = dktX6_must_0 := by decide +kernel
theorem dX6_must_0 : decode cX6_must 0 = .ok (.iload_n 1, 1) := dk_27 (dk_at dksX6_must_0 0 rfl rfl)
theorem dX6_must_1 : decode cX6_must 1 = .ok (.ifCond .ne 16, 3) := dk_154 0 16 (dk_at dksX6_must_0 1 rfl rfl)
theorem dX6_must_4 : decode cX6_must 4 = .ok (.new 84, 3) := dk_187 0 84 (dk_at dksX6_must_0 4 rfl rfl)
theorem dX6_must_7 : decode cX6_must 7 = .ok (.dup, 1) := dk_89 (dk_at dksX6_must_0 7 rfl rfl)
theorem dX6_must_8 : decode cX6_must 8 = .ok (.iload_n 2, 1) := dk_28 (dk_at dksX6_must_0 8 rfl rfl)
theorem dX6_must_9 : decode cX6_must 9 = .ok (.aload_n 0, 1) := dk_42 (dk_at dksX6_must_0 9 rfl rfl)
theorem dX6_must_10 : decode cX6_must 10 = .ok (.getfield 46, 3) := dk_180 0 46 (dk_at dksX6_must_0 10 rfl rfl)
theorem dX6_must_13 : decode cX6_must 13 = .ok (.invokespecial 86, 3) := dk_183 0 86 (dk_at dksX6_must_0 13 rfl rfl)
theorem dX6_must_16 : decode cX6_must 16 = .ok (.athrow, 1) := dk_191 (dk_at dksX6_must_0 16 rfl rfl)
theorem dX6_must_17 : decode cX6_must 17 = .ok (.return_, 1) := dk_177 (dk_at dksX6_must_0 17 rfl rfl)
abbrev cX6_name : ByteArray := prog_6_method_9_code
def yX6_name : MethodName := ⟨RX6, "name", "()Ljava/lang/String;"⟩
def dkwX6_name_1 : List UInt8 := [167, 0, 4, 3, 4, 182, 0, 89, 42, 180, 0, 24, 176]
abbrev dktX6_name_1 : List UInt8 := dkwX6_name_1 ++ []
def dkwX6_name_0 : List UInt8 := [42, 42, 180, 0, 64, 4, 160, 0, 19, 42, 180, 0, 24, 182, 0, 93, 16, 6, 163, 0, 7, 4]
abbrev dktX6_name_0 : List UInt8 := dkwX6_name_0 ++ dktX6_name_1
theorem dksX6_name_0 : cX6_name.data.toList.drop 0 = dktX6_name_0 := by decide +kernel
theorem dksX6_name_1 : cX6_name.data.toList.drop 22 = dktX6_name_1 := dk_seg dksX6_name_0 22 rfl rfl
theorem dX6_name_0 : decode cX6_name 0 = .ok (.aload_n 0, 1) := dk_42 (dk_at dksX6_name_0 0 rfl rfl)
theorem dX6_name_1 : decode cX6_name 1 = .ok (.aload_n 0, 1) := dk_42 (dk_at dksX6_name_0 1 rfl rfl)
theorem dX6_name_2 : decode cX6_name 2 = .ok (.getfield 64, 3) := dk_180 0 64 (dk_at dksX6_name_0 2 rfl rfl)
theorem dX6_name_5 : decode cX6_name 5 = .ok (.iconst 1, 1) := dk_4 (dk_at dksX6_name_0 5 rfl rfl)
theorem dX6_name_6 : decode cX6_name 6 = .ok (.if_icmp .ne 19, 3) := dk_160 0 19 (dk_at dksX6_name_0 6 rfl rfl)
theorem dX6_name_9 : decode cX6_name 9 = .ok (.aload_n 0, 1) := dk_42 (dk_at dksX6_name_0 9 rfl rfl)
theorem dX6_name_10 : decode cX6_name 10 = .ok (.getfield 24, 3) := dk_180 0 24 (dk_at dksX6_name_0 10 rfl rfl)
theorem dX6_name_13 : decode cX6_name 13 = .ok (.invokevirtual 93, 3) := dk_182 0 93 (dk_at dksX6_name_0 13 rfl rfl)
theorem dX6_name_16 : decode cX6_name 16 = .ok (.bipush 6, 2) := dk_16 6 (dk_at dksX6_name_0 16 rfl rfl)
theorem dX6_name_18 : decode cX6_name 18 = .ok (.if_icmp .gt 7, 3) := dk_163 0 7 (dk_at dksX6_name_0 18 rfl rfl)
theorem dX6_name_21 : decode cX6_name 21 = .ok (.iconst 1, 1) := dk_4 (dk_at dksX6_name_0 21 rfl rfl)
theorem dX6_name_22 : decode cX6_name 22 = .ok (.goto 4, 3) := dk_167 0 4 (dk_at dksX6_name_1 0 rfl rfl)
theorem dX6_name_25 : decode cX6_name 25 = .ok (.iconst 0, 1) := dk_3 (dk_at dksX6_name_1 3 rfl rfl)
theorem dX6_name_26 : decode cX6_name 26 = .ok (.iconst 1, 1) := dk_4 (dk_at dksX6_name_1 4 rfl rfl)
theorem dX6_name_27 : decode cX6_name 27 = .ok (.invokevirtual 89, 3) := dk_182 0 89 (dk_at dksX6_name_1 5 rfl rfl)
theorem dX6_name_30 : decode cX6_name 30 = .ok (.aload_n 0, 1) := dk_42 (dk_at dksX6_name_1 8 rfl rfl)
theorem dX6_name_31 : decode cX6_name 31 = .ok (.getfield 24, 3) := dk_180 0 24 (dk_at dksX6_name_1 9 rfl rfl)
theorem dX6_name_34 : decode cX6_name 34 = .ok (.areturn, 1) := dk_176 (dk_at dksX6_name_1 12 rfl rfl)
abbrev cX6_number : ByteArray := prog_6_method_7_code
def yX6_number : MethodName := ⟨RX6, "number", "(II)I"⟩
def dkwX6_number_1 : List UInt8 := [27, 133, 28, 133, 184, 0, 56, 5, 182, 0, 89, 42, 180, 0, 49, 62, 42, 182, 0, 32, 29, 172]
abbrev dktX6_number_1 : List UInt8 := dkwX6_number_1 ++ []
def dkwX6_number_0 : List UInt8 := [42, 42, 180, 0, 64, 5, 160, 0, 7, 4, 167, 0, 4, 3, 4, 182, 0, 89, 42, 42, 180, 0, 49, 133]
abbrev dktX6_number_0 : List UInt8 := dkwX6_number_0 ++ dktX6_number_1
theorem dksX6_number_0 : cX6_number.data.toList.drop 0 = dktX6_number_0 := by decide +kernel
theorem dksX6_number_1 : cX6_number.data.toList.drop 24 = dktX6_number_1 := dk_seg dksX6_number_0 24 rfl rfl
theorem dX6_number_0 : decode cX6_number 0 = .ok (.aload_n 0, 1) := dk_42 (dk_at dksX6_number_0 0 rfl rfl)
theorem dX6_number_1 : decode cX6_number 1 = .ok (.aload_n 0, 1) := dk_42 (dk_at dksX6_number_0 1 rfl rfl)
theorem dX6_number_2 : decode cX6_number 2 = .ok (.getfield 64, 3) := dk_180 0 64 (dk_at dksX6_number_0 2 rfl rfl)
theorem dX6_number_5 : decode cX6_number 5 = .ok (.iconst 2, 1) := dk_5 (dk_at dksX6_number_0 5 rfl rfl)
theorem dX6_number_6 : decode cX6_number 6 = .ok (.if_icmp .ne 7, 3) := dk_160 0 7 (dk_at dksX6_number_0 6 rfl rfl)
theorem dX6_number_9 : decode cX6_number 9 = .ok (.iconst 1, 1) := dk_4 (dk_at dksX6_number_0 9 rfl rfl)
theorem dX6_number_10 : decode cX6_number 10 = .ok (.goto 4, 3) := dk_167 0 4 (dk_at dksX6_number_0 10 rfl rfl)
theorem dX6_number_13 : decode cX6_number 13 = .ok (.iconst 0, 1) := dk_3 (dk_at dksX6_number_0 13 rfl rfl)
theorem dX6_number_14 : decode cX6_number 14 = .ok (.iconst 1, 1) := dk_4 (dk_at dksX6_number_0 14 rfl rfl)
theorem dX6_number_15 : decode cX6_number 15 = .ok (.invokevirtual 89, 3) := dk_182 0 89 (dk_at dksX6_number_0 15 rfl rfl)
theorem dX6_number_18 : decode cX6_number 18 = .ok (.aload_n 0, 1) := dk_42 (dk_at dksX6_number_0 18 rfl rfl)
theorem dX6_number_19 : decode cX6_number 19 = .ok (.aload_n 0, 1) := dk_42 (dk_at dksX6_number_0 19 rfl rfl)
theorem dX6_number_20 : decode cX6_number 20 = .ok (.getfield 49, 3) := dk_180 0 49 (dk_at dksX6_number_0 20 rfl rfl)
theorem dX6_number_23 : decode cX6_number 23 = .ok (.i2l, 1) := dk_133 (dk_at dksX6_number_0 23 rfl rfl)
theorem dX6_number_24 : decode cX6_number 24 = .ok (.iload_n 1, 1) := dk_27 (dk_at dksX6_number_1 0 rfl rfl)
theorem dX6_number_25 : decode cX6_number 25 = .ok (.i2l, 1) := dk_133 (dk_at dksX6_number_1 1 rfl rfl)
theorem dX6_number_26 : decode cX6_number 26 = .ok (.iload_n 2, 1) := dk_28 (dk_at dksX6_number_1 2 rfl rfl)
theorem dX6_number_27 : decode cX6_number 27 = .ok (.i2l, 1) := dk_133 (dk_at dksX6_number_1 3 rfl rfl)
theorem dX6_number_28 : decode cX6_number 28 = .ok (.invokestatic 56, 3) := dk_184 0 56 (dk_at dksX6_number_1 4 rfl rfl)
theorem dX6_number_31 : decode cX6_number 31 = .ok (.iconst 2, 1) := dk_5 (dk_at dksX6_number_1 7 rfl rfl)
theorem dX6_number_32 : decode cX6_number 32 = .ok (.invokevirtual 89, 3) := dk_182 0 89 (dk_at dksX6_number_1 8 rfl rfl)
theorem dX6_number_35 : decode cX6_number 35 = .ok (.aload_n 0, 1) := dk_42 (dk_at dksX6_number_1 11 rfl rfl)
theorem dX6_number_36 : decode cX6_number 36 = .ok (.getfield 49, 3) := dk_180 0 49 (dk_at dksX6_number_1 12 rfl rfl)
theorem dX6_number_39 : decode cX6_number 39 = .ok (.istore_n 3, 1) := dk_62 (dk_at dksX6_number_1 15 rfl rfl)
theorem dX6_number_40 : decode cX6_number 40 = .ok (.aload_n 0, 1) := dk_42 (dk_at dksX6_number_1 16 rfl rfl)
theorem dX6_number_41 : decode cX6_number 41 = .ok (.invokevirtual 32, 3) := dk_182 0 32 (dk_at dksX6_number_1 17 rfl rfl)
theorem dX6_number_44 : decode cX6_number 44 = .ok (.iload_n 3, 1) := dk_29 (dk_at dksX6_number_1 20 rfl rfl)
theorem dX6_number_45 : decode cX6_number 45 = .ok (.ireturn, 1) := dk_172 (dk_at dksX6_number_1 21 rfl rfl)
abbrev cX6_joining : ByteArray := prog_6_method_16_code
def yX6_joining : MethodName := ⟨RX6, "joining", "()V"⟩
def dkwX6_joining_3 : List UInt8 := [180, 0, 152, 187, 0, 169, 89, 27, 28, 42, 4, 16, 9, 182, 0, 131, 183, 0, 171, 182, 0, 174, 177]
abbrev dktX6_joining_3 : List UInt8 := dkwX6_joining_3 ++ []
def dkwX6_joining_2 : List UInt8 := [28, 182, 0, 165, 199, 0, 7, 4, 167, 0, 4, 3, 7, 182, 0, 89, 42, 182, 0, 32, 42, 180, 0, 28]
abbrev dktX6_joining_2 : List UInt8 := dkwX6_joining_2 ++ dktX6_joining_3
def dkwX6_joining_1 : List UInt8 := [182, 0, 89, 42, 182, 0, 32, 42, 182, 0, 159, 60, 42, 27, 182, 0, 162, 61, 42, 42, 180, 0, 28, 27]
abbrev dktX6_joining_1 : List UInt8 := dkwX6_joining_1 ++ dktX6_joining_2
def dkwX6_joining_0 : List UInt8 := [42, 42, 180, 0, 28, 180, 0, 152, 182, 0, 156, 16, 20, 162, 0, 7, 4, 167, 0, 4, 3, 8]
abbrev dktX6_joining_0 : List UInt8 := dkwX6_joining_0 ++ dktX6_joining_1
theorem dksX6_joining_0 : cX6_joining.data.toList.drop 0 = dktX6_joining_0 := by decide +kernel
theorem dksX6_joining_1 : cX6_joining.data.toList.drop 22 = dktX6_joining_1 := dk_seg dksX6_joining_0 22 rfl rfl
theorem dksX6_joining_2 : cX6_joining.data.toList.drop 46 = dktX6_joining_2 := dk_seg dksX6_joining_1 24 rfl rfl
theorem dksX6_joining_3 : cX6_joining.data.toList.drop 70 = dktX6_joining_3 := dk_seg dksX6_joining_2 24 rfl rfl
theorem dX6_joining_0 : decode cX6_joining 0 = .ok (.aload_n 0, 1) := dk_42 (dk_at dksX6_joining_0 0 rfl rfl)
theorem dX6_joining_1 : decode cX6_joining 1 = .ok (.aload_n 0, 1) := dk_42 (dk_at dksX6_joining_0 1 rfl rfl)
theorem dX6_joining_2 : decode cX6_joining 2 = .ok (.getfield 28, 3) := dk_180 0 28 (dk_at dksX6_joining_0 2 rfl rfl)
theorem dX6_joining_5 : decode cX6_joining 5 = .ok (.getfield 152, 3) := dk_180 0 152 (dk_at dksX6_joining_0 5 rfl rfl)
theorem dX6_joining_8 : decode cX6_joining 8 = .ok (.invokevirtual 156, 3) := dk_182 0 156 (dk_at dksX6_joining_0 8 rfl rfl)
theorem dX6_joining_11 : decode cX6_joining 11 = .ok (.bipush 20, 2) := dk_16 20 (dk_at dksX6_joining_0 11 rfl rfl)
theorem dX6_joining_13 : decode cX6_joining 13 = .ok (.if_icmp .ge 7, 3) := dk_162 0 7 (dk_at dksX6_joining_0 13 rfl rfl)
theorem dX6_joining_16 : decode cX6_joining 16 = .ok (.iconst 1, 1) := dk_4 (dk_at dksX6_joining_0 16 rfl rfl)
theorem dX6_joining_17 : decode cX6_joining 17 = .ok (.goto 4, 3) := dk_167 0 4 (dk_at dksX6_joining_0 17 rfl rfl)
theorem dX6_joining_20 : decode cX6_joining 20 = .ok (.iconst 0, 1) := dk_3 (dk_at dksX6_joining_0 20 rfl rfl)
theorem dX6_joining_21 : decode cX6_joining 21 = .ok (.iconst 5, 1) := dk_8 (dk_at dksX6_joining_0 21 rfl rfl)
theorem dX6_joining_22 : decode cX6_joining 22 = .ok (.invokevirtual 89, 3) := dk_182 0 89 (dk_at dksX6_joining_1 0 rfl rfl)
theorem dX6_joining_25 : decode cX6_joining 25 = .ok (.aload_n 0, 1) := dk_42 (dk_at dksX6_joining_1 3 rfl rfl)
theorem dX6_joining_26 : decode cX6_joining 26 = .ok (.invokevirtual 32, 3) := dk_182 0 32 (dk_at dksX6_joining_1 4 rfl rfl)
theorem dX6_joining_29 : decode cX6_joining 29 = .ok (.aload_n 0, 1) := dk_42 (dk_at dksX6_joining_1 7 rfl rfl)
theorem dX6_joining_30 : decode cX6_joining 30 = .ok (.invokevirtual 159, 3) := dk_182 0 159 (dk_at dksX6_joining_1 8 rfl rfl)
theorem dX6_joining_33 : decode cX6_joining 33 = .ok (.istore_n 1, 1) := dk_60 (dk_at dksX6_joining_1 11 rfl rfl)
theorem dX6_joining_34 : decode cX6_joining 34 = .ok (.aload_n 0, 1) := dk_42 (dk_at dksX6_joining_1 12 rfl rfl)
theorem dX6_joining_35 : decode cX6_joining 35 = .ok (.iload_n 1, 1) := dk_27 (dk_at dksX6_joining_1 13 rfl rfl)
theorem dX6_joining_36 : decode cX6_joining 36 = .ok (.invokevirtual 162, 3) := dk_182 0 162 (dk_at dksX6_joining_1 14 rfl rfl)
theorem dX6_joining_39 : decode cX6_joining 39 = .ok (.istore_n 2, 1) := dk_61 (dk_at dksX6_joining_1 17 rfl rfl)
theorem dX6_joining_40 : decode cX6_joining 40 = .ok (.aload_n 0, 1) := dk_42 (dk_at dksX6_joining_1 18 rfl rfl)
theorem dX6_joining_41 : decode cX6_joining 41 = .ok (.aload_n 0, 1) := dk_42 (dk_at dksX6_joining_1 19 rfl rfl)
theorem dX6_joining_42 : decode cX6_joining 42 = .ok (.getfield 28, 3) := dk_180 0 28 (dk_at dksX6_joining_1 20 rfl rfl)
theorem dX6_joining_45 : decode cX6_joining 45 = .ok (.iload_n 1, 1) := dk_27 (dk_at dksX6_joining_1 23 rfl rfl)
theorem dX6_joining_46 : decode cX6_joining 46 = .ok (.iload_n 2, 1) := dk_28 (dk_at dksX6_joining_2 0 rfl rfl)
theorem dX6_joining_47 : decode cX6_joining 47 = .ok (.invokevirtual 165, 3) := dk_182 0 165 (dk_at dksX6_joining_2 1 rfl rfl)
theorem dX6_joining_50 : decode cX6_joining 50 = .ok (.ifnonnull 7, 3) := dk_199 0 7 (dk_at dksX6_joining_2 4 rfl rfl)
theorem dX6_joining_53 : decode cX6_joining 53 = .ok (.iconst 1, 1) := dk_4 (dk_at dksX6_joining_2 7 rfl rfl)
theorem dX6_joining_54 : decode cX6_joining 54 = .ok (.goto 4, 3) := dk_167 0 4 (dk_at dksX6_joining_2 8 rfl rfl)
theorem dX6_joining_57 : decode cX6_joining 57 = .ok (.iconst 0, 1) := dk_3 (dk_at dksX6_joining_2 11 rfl rfl)
theorem dX6_joining_58 : decode cX6_joining 58 = .ok (.iconst 4, 1) := dk_7 (dk_at dksX6_joining_2 12 rfl rfl)
theorem dX6_joining_59 : decode cX6_joining 59 = .ok (.invokevirtual 89, 3) := dk_182 0 89 (dk_at dksX6_joining_2 13 rfl rfl)
theorem dX6_joining_62 : decode cX6_joining 62 = .ok (.aload_n 0, 1) := dk_42 (dk_at dksX6_joining_2 16 rfl rfl)
theorem dX6_joining_63 : decode cX6_joining 63 = .ok (.invokevirtual 32, 3) := dk_182 0 32 (dk_at dksX6_joining_2 17 rfl rfl)
theorem dX6_joining_66 : decode cX6_joining 66 = .ok (.aload_n 0, 1) := dk_42 (dk_at dksX6_joining_2 20 rfl rfl)
theorem dX6_joining_67 : decode cX6_joining 67 = .ok (.getfield 28, 3) := dk_180 0 28 (dk_at dksX6_joining_2 21 rfl rfl)
theorem dX6_joining_70 : decode cX6_joining 70 = .ok (.getfield 152, 3) := dk_180 0 152 (dk_at dksX6_joining_3 0 rfl rfl)
theorem dX6_joining_73 : decode cX6_joining 73 = .ok (.new 169, 3) := dk_187 0 169 (dk_at dksX6_joining_3 3 rfl rfl)
theorem dX6_joining_76 : decode cX6_joining 76 = .ok (.dup, 1) := dk_89 (dk_at dksX6_joining_3 6 rfl rfl)
theorem dX6_joining_77 : decode cX6_joining 77 = .ok (.iload_n 1, 1) := dk_27 (dk_at dksX6_joining_3 7 rfl rfl)
theorem dX6_joining_78 : decode cX6_joining 78 = .ok (.iload_n 2, 1) := dk_28 (dk_at dksX6_joining_3 8 rfl rfl)
theorem dX6_joining_79 : decode cX6_joining 79 = .ok (.aload_n 0, 1) := dk_42 (dk_at dksX6_joining_3 9 rfl rfl)
theorem dX6_joining_80 : decode cX6_joining 80 = .ok (.iconst 1, 1) := dk_4 (dk_at dksX6_joining_3 10 rfl rfl)
theorem dX6_joining_81 : decode cX6_joining 81 = .ok (.bipush 9, 2) := dk_16 9 (dk_at dksX6_joining_3 11 rfl rfl)
theorem dX6_joining_83 : decode cX6_joining 83 = .ok (.invokevirtual 131, 3) := dk_182 0 131 (dk_at dksX6_joining_3 13 rfl rfl)
theorem dX6_joining_86 : decode cX6_joining 86 = .ok (.invokespecial 171, 3) := dk_183 0 171 (dk_at dksX6_joining_3 16 rfl rfl)
theorem dX6_joining_89 : decode cX6_joining 89 = .ok (.invokevirtual 174, 3) := dk_182 0 174 (dk_at dksX6_joining_3 19 rfl rfl)
theorem dX6_joining_92 : decode cX6_joining 92 = .ok (.return_, 1) := dk_177 (dk_at dksX6_joining_3 22 rfl rfl)
abbrev cX6_roof : ByteArray := prog_6_method_11_code
def yX6_roof : MethodName := ⟨RX6, "roof", "()I"⟩
def dkwX6_roof_0 : List UInt8 := [42, 182, 0, 108, 60, 42, 182, 0, 32, 27, 172]
abbrev dktX6_roof_0 : List UInt8 := dkwX6_roof_0 ++ []
theorem dksX6_roof_0 : cX6_roof.data.toList.drop 0 = dktX6_roof_0 := by decide +kernel
theorem dX6_roof_0 : decode cX6_roof 0 = .ok (.aload_n 0, 1) := dk_42 (dk_at dksX6_roof_0 0 rfl rfl)
theorem dX6_roof_1 : decode cX6_roof 1 = .ok (.invokevirtual 108, 3) := dk_182 0 108 (dk_at dksX6_roof_0 1 rfl rfl)
theorem dX6_roof_4 : decode cX6_roof 4 = .ok (.istore_n 1, 1) := dk_60 (dk_at dksX6_roof_0 4 rfl rfl)
theorem dX6_roof_5 : decode cX6_roof 5 = .ok (.aload_n 0, 1) := dk_42 (dk_at dksX6_roof_0 5 rfl rfl)
theorem dX6_roof_6 : decode cX6_roof 6 = .ok (.invokevirtual 32, 3) := dk_182 0 32 (dk_at dksX6_roof_0 6 rfl rfl)
theorem dX6_roof_9 : decode cX6_roof 9 = .ok (.iload_n 1, 1) := dk_27 (dk_at dksX6_roof_0 9 rfl rfl)
theorem dX6_roof_10 : decode cX6_roof 10 = .ok (.ireturn, 1) := dk_172 (dk_at dksX6_roof_0 10 rfl rfl)
abbrev cX6_seen : ByteArray := prog_6_method_10_code
def yX6_seen : MethodName := ⟨RX6, "seen", "()I"⟩
def dkwX6_seen_1 : List UInt8 := [182, 0, 89, 27, 172]
abbrev dktX6_seen_1 : List UInt8 := dkwX6_seen_1 ++ []
def dkwX6_seen_0 : List UInt8 := [42, 180, 0, 28, 42, 182, 0, 99, 182, 0, 102, 60, 42, 27, 2, 159, 0, 7, 4, 167, 0, 4, 3, 6]
abbrev dktX6_seen_0 : List UInt8 := dkwX6_seen_0 ++ dktX6_seen_1
theorem dksX6_seen_0 : cX6_seen.data.toList.drop 0 = dktX6_seen_0 := by decide +kernel
theorem dksX6_seen_1 : cX6_seen.data.toList.drop 24 = dktX6_seen_1 := dk_seg dksX6_seen_0 24 rfl rfl
theorem dX6_seen_0 : decode cX6_seen 0 = .ok (.aload_n 0, 1) := dk_42 (dk_at dksX6_seen_0 0 rfl rfl)
theorem dX6_seen_1 : decode cX6_seen 1 = .ok (.getfield 28, 3) := dk_180 0 28 (dk_at dksX6_seen_0 1 rfl rfl)
theorem dX6_seen_4 : decode cX6_seen 4 = .ok (.aload_n 0, 1) := dk_42 (dk_at dksX6_seen_0 4 rfl rfl)
theorem dX6_seen_5 : decode cX6_seen 5 = .ok (.invokevirtual 99, 3) := dk_182 0 99 (dk_at dksX6_seen_0 5 rfl rfl)
theorem dX6_seen_8 : decode cX6_seen 8 = .ok (.invokevirtual 102, 3) := dk_182 0 102 (dk_at dksX6_seen_0 8 rfl rfl)
theorem dX6_seen_11 : decode cX6_seen 11 = .ok (.istore_n 1, 1) := dk_60 (dk_at dksX6_seen_0 11 rfl rfl)
theorem dX6_seen_12 : decode cX6_seen 12 = .ok (.aload_n 0, 1) := dk_42 (dk_at dksX6_seen_0 12 rfl rfl)
theorem dX6_seen_13 : decode cX6_seen 13 = .ok (.iload_n 1, 1) := dk_27 (dk_at dksX6_seen_0 13 rfl rfl)
theorem dX6_seen_14 : decode cX6_seen 14 = .ok (.iconst (-1), 1) := dk_2 (dk_at dksX6_seen_0 14 rfl rfl)
theorem dX6_seen_15 : decode cX6_seen 15 = .ok (.if_icmp .eq 7, 3) := dk_159 0 7 (dk_at dksX6_seen_0 15 rfl rfl)
theorem dX6_seen_18 : decode cX6_seen 18 = .ok (.iconst 1, 1) := dk_4 (dk_at dksX6_seen_0 18 rfl rfl)
theorem dX6_seen_19 : decode cX6_seen 19 = .ok (.goto 4, 3) := dk_167 0 4 (dk_at dksX6_seen_0 19 rfl rfl)
theorem dX6_seen_22 : decode cX6_seen 22 = .ok (.iconst 0, 1) := dk_3 (dk_at dksX6_seen_0 22 rfl rfl)
theorem dX6_seen_23 : decode cX6_seen 23 = .ok (.iconst 3, 1) := dk_6 (dk_at dksX6_seen_0 23 rfl rfl)
theorem dX6_seen_24 : decode cX6_seen 24 = .ok (.invokevirtual 89, 3) := dk_182 0 89 (dk_at dksX6_seen_1 0 rfl rfl)
theorem dX6_seen_27 : decode cX6_seen 27 = .ok (.iload_n 1, 1) := dk_27 (dk_at dksX6_seen_1 3 rfl rfl)
theorem dX6_seen_28 : decode cX6_seen 28 = .ok (.ireturn, 1) := dk_172 (dk_at dksX6_seen_1 4 rfl rfl)
abbrev cX6_other : ByteArray := prog_6_method_12_code
def yX6_other : MethodName := ⟨RX6, "other", "(I)I"⟩
def dkwX6_other_0 : List UInt8 := [42, 182, 0, 108, 61, 42, 28, 27, 159, 0, 7, 4, 167, 0, 4, 3, 6, 182, 0, 89, 28, 172]
abbrev dktX6_other_0 : List UInt8 := dkwX6_other_0 ++ []
theorem dksX6_other_0 : cX6_other.data.toList.drop 0 = dktX6_other_0 := by decide +kernel
theorem dX6_other_0 : decode cX6_other 0 = .ok (.aload_n 0, 1) := dk_42 (dk_at dksX6_other_0 0 rfl rfl)
theorem dX6_other_1 : decode cX6_other 1 = .ok (.invokevirtual 108, 3) := dk_182 0 108 (dk_at dksX6_other_0 1 rfl rfl)
theorem dX6_other_4 : decode cX6_other 4 = .ok (.istore_n 2, 1) := dk_61 (dk_at dksX6_other_0 4 rfl rfl)
theorem dX6_other_5 : decode cX6_other 5 = .ok (.aload_n 0, 1) := dk_42 (dk_at dksX6_other_0 5 rfl rfl)
theorem dX6_other_6 : decode cX6_other 6 = .ok (.iload_n 2, 1) := dk_28 (dk_at dksX6_other_0 6 rfl rfl)
theorem dX6_other_7 : decode cX6_other 7 = .ok (.iload_n 1, 1) := dk_27 (dk_at dksX6_other_0 7 rfl rfl)
theorem dX6_other_8 : decode cX6_other 8 = .ok (.if_icmp .eq 7, 3) := dk_159 0 7 (dk_at dksX6_other_0 8 rfl rfl)
theorem dX6_other_11 : decode cX6_other 11 = .ok (.iconst 1, 1) := dk_4 (dk_at dksX6_other_0 11 rfl rfl)
theorem dX6_other_12 : decode cX6_other 12 = .ok (.goto 4, 3) := dk_167 0 4 (dk_at dksX6_other_0 12 rfl rfl)
theorem dX6_other_15 : decode cX6_other 15 = .ok (.iconst 0, 1) := dk_3 (dk_at dksX6_other_0 15 rfl rfl)
theorem dX6_other_16 : decode cX6_other 16 = .ok (.iconst 3, 1) := dk_6 (dk_at dksX6_other_0 16 rfl rfl)
theorem dX6_other_17 : decode cX6_other 17 = .ok (.invokevirtual 89, 3) := dk_182 0 89 (dk_at dksX6_other_0 17 rfl rfl)
theorem dX6_other_20 : decode cX6_other 20 = .ok (.iload_n 2, 1) := dk_28 (dk_at dksX6_other_0 20 rfl rfl)
theorem dX6_other_21 : decode cX6_other 21 = .ok (.ireturn, 1) := dk_172 (dk_at dksX6_other_0 21 rfl rfl)
abbrev cX6_settingOf : ByteArray := prog_6_method_13_code
def yX6_settingOf : MethodName := ⟨RX6, "settingOf", "(Ljava/lang/String;)I"⟩
def dkwX6_settingOf_5 : List UInt8 := [3, 167, 0, 12, 4, 167, 0, 8, 5, 167, 0, 4, 2, 172]
abbrev dktX6_settingOf_5 : List UInt8 := dkwX6_settingOf_5 ++ []
def dkwX6_settingOf_4 : List UInt8 := [170, 0, 0, 0, 0, 0, 0, 40, 0, 0, 0, 0, 0, 0, 0, 2, 0, 0, 0, 28, 0, 0, 0, 32, 0, 0, 0, 36]
abbrev dktX6_settingOf_4 : List UInt8 := dkwX6_settingOf_4 ++ dktX6_settingOf_5
def dkwX6_settingOf_3 : List UInt8 := [61, 167, 0, 14, 43, 18, 122, 182, 0, 116, 153, 0, 5, 5, 61, 28]
abbrev dktX6_settingOf_3 : List UInt8 := dkwX6_settingOf_3 ++ dktX6_settingOf_4
def dkwX6_settingOf_2 : List UInt8 := [43, 18, 114, 182, 0, 116, 153, 0, 33, 3, 61, 167, 0, 28, 43, 18, 120, 182, 0, 116, 153, 0, 19, 4]
abbrev dktX6_settingOf_2 : List UInt8 := dkwX6_settingOf_2 ++ dktX6_settingOf_3
def dkwX6_settingOf_1 : List UInt8 := [171, 0, 0, 0, 0, 0, 0, 75, 0, 0, 0, 3, 0, 47, 58, 169, 0, 0, 0, 50, 0, 55, 176, 8, 0, 0, 0, 36, 5, 135, 51, 96, 0, 0, 0, 64]
abbrev dktX6_settingOf_1 : List UInt8 := dkwX6_settingOf_1 ++ dktX6_settingOf_2
def dkwX6_settingOf_0 : List UInt8 := [42, 76, 2, 61, 43, 182, 0, 111]
abbrev dktX6_settingOf_0 : List UInt8 := dkwX6_settingOf_0 ++ dktX6_settingOf_1
theorem dksX6_settingOf_0 : cX6_settingOf.data.toList.drop 0 = dktX6_settingOf_0 := by decide +kernel
theorem dksX6_settingOf_1 : cX6_settingOf.data.toList.drop 8 = dktX6_settingOf_1 := dk_seg dksX6_settingOf_0 8 rfl rfl
theorem dksX6_settingOf_2 : cX6_settingOf.data.toList.drop 44 = dktX6_settingOf_2 := dk_seg dksX6_settingOf_1 36 rfl rfl
theorem dksX6_settingOf_3 : cX6_settingOf.data.toList.drop 68 = dktX6_settingOf_3 := dk_seg dksX6_settingOf_2 24 rfl rfl
theorem dksX6_settingOf_4 : cX6_settingOf.data.toList.drop 84 = dktX6_settingOf_4 := dk_seg dksX6_settingOf_3 16 rfl rfl
theorem dksX6_settingOf_5 : cX6_settingOf.data.toList.drop 112 = dktX6_settingOf_5 := dk_seg dksX6_settingOf_4 28 rfl rfl
theorem dX6_settingOf_0 : decode cX6_settingOf 0 = .ok (.aload_n 0, 1) := dk_42 (dk_at dksX6_settingOf_0 0 rfl rfl)
theorem dX6_settingOf_1 : decode cX6_settingOf 1 = .ok (.astore_n 1, 1) := dk_76 (dk_at dksX6_settingOf_0 1 rfl rfl)
theorem dX6_settingOf_2 : decode cX6_settingOf 2 = .ok (.iconst (-1), 1) := dk_2 (dk_at dksX6_settingOf_0 2 rfl rfl)
theorem dX6_settingOf_3 : decode cX6_settingOf 3 = .ok (.istore_n 2, 1) := dk_61 (dk_at dksX6_settingOf_0 3 rfl rfl)
theorem dX6_settingOf_4 : decode cX6_settingOf 4 = .ok (.aload_n 1, 1) := dk_43 (dk_at dksX6_settingOf_0 4 rfl rfl)
theorem dX6_settingOf_5 : decode cX6_settingOf 5 = .ok (.invokevirtual 111, 3) := dk_182 0 111 (dk_at dksX6_settingOf_0 5 rfl rfl)
theorem dX6_settingOf_8 : decode cX6_settingOf 8 = .ok (.lookupswitch 75 #[(3095209, 50), (3649544, 36), (92746592, 64)], 36) := by decide +kernel
theorem dX6_settingOf_44 : decode cX6_settingOf 44 = .ok (.aload_n 1, 1) := dk_43 (dk_at dksX6_settingOf_2 0 rfl rfl)
theorem dX6_settingOf_45 : decode cX6_settingOf 45 = .ok (.ldc 114, 2) := dk_18 114 (dk_at dksX6_settingOf_2 1 rfl rfl)
theorem dX6_settingOf_47 : decode cX6_settingOf 47 = .ok (.invokevirtual 116, 3) := dk_182 0 116 (dk_at dksX6_settingOf_2 3 rfl rfl)
theorem dX6_settingOf_50 : decode cX6_settingOf 50 = .ok (.ifCond .eq 33, 3) := dk_153 0 33 (dk_at dksX6_settingOf_2 6 rfl rfl)
theorem dX6_settingOf_53 : decode cX6_settingOf 53 = .ok (.iconst 0, 1) := dk_3 (dk_at dksX6_settingOf_2 9 rfl rfl)
theorem dX6_settingOf_54 : decode cX6_settingOf 54 = .ok (.istore_n 2, 1) := dk_61 (dk_at dksX6_settingOf_2 10 rfl rfl)
theorem dX6_settingOf_55 : decode cX6_settingOf 55 = .ok (.goto 28, 3) := dk_167 0 28 (dk_at dksX6_settingOf_2 11 rfl rfl)
theorem dX6_settingOf_58 : decode cX6_settingOf 58 = .ok (.aload_n 1, 1) := dk_43 (dk_at dksX6_settingOf_2 14 rfl rfl)
theorem dX6_settingOf_59 : decode cX6_settingOf 59 = .ok (.ldc 120, 2) := dk_18 120 (dk_at dksX6_settingOf_2 15 rfl rfl)
theorem dX6_settingOf_61 : decode cX6_settingOf 61 = .ok (.invokevirtual 116, 3) := dk_182 0 116 (dk_at dksX6_settingOf_2 17 rfl rfl)
theorem dX6_settingOf_64 : decode cX6_settingOf 64 = .ok (.ifCond .eq 19, 3) := dk_153 0 19 (dk_at dksX6_settingOf_2 20 rfl rfl)
theorem dX6_settingOf_67 : decode cX6_settingOf 67 = .ok (.iconst 1, 1) := dk_4 (dk_at dksX6_settingOf_2 23 rfl rfl)
theorem dX6_settingOf_68 : decode cX6_settingOf 68 = .ok (.istore_n 2, 1) := dk_61 (dk_at dksX6_settingOf_3 0 rfl rfl)
theorem dX6_settingOf_69 : decode cX6_settingOf 69 = .ok (.goto 14, 3) := dk_167 0 14 (dk_at dksX6_settingOf_3 1 rfl rfl)
theorem dX6_settingOf_72 : decode cX6_settingOf 72 = .ok (.aload_n 1, 1) := dk_43 (dk_at dksX6_settingOf_3 4 rfl rfl)
theorem dX6_settingOf_73 : decode cX6_settingOf 73 = .ok (.ldc 122, 2) := dk_18 122 (dk_at dksX6_settingOf_3 5 rfl rfl)
theorem dX6_settingOf_75 : decode cX6_settingOf 75 = .ok (.invokevirtual 116, 3) := dk_182 0 116 (dk_at dksX6_settingOf_3 7 rfl rfl)
theorem dX6_settingOf_78 : decode cX6_settingOf 78 = .ok (.ifCond .eq 5, 3) := dk_153 0 5 (dk_at dksX6_settingOf_3 10 rfl rfl)
theorem dX6_settingOf_81 : decode cX6_settingOf 81 = .ok (.iconst 2, 1) := dk_5 (dk_at dksX6_settingOf_3 13 rfl rfl)
theorem dX6_settingOf_82 : decode cX6_settingOf 82 = .ok (.istore_n 2, 1) := dk_61 (dk_at dksX6_settingOf_3 14 rfl rfl)
theorem dX6_settingOf_83 : decode cX6_settingOf 83 = .ok (.iload_n 2, 1) := dk_28 (dk_at dksX6_settingOf_3 15 rfl rfl)
theorem dX6_settingOf_84 : decode cX6_settingOf 84 = .ok (.tableswitch 40 0 2 #[28, 32, 36], 28) := by decide +kernel
theorem dX6_settingOf_112 : decode cX6_settingOf 112 = .ok (.iconst 0, 1) := dk_3 (dk_at dksX6_settingOf_5 0 rfl rfl)
theorem dX6_settingOf_113 : decode cX6_settingOf 113 = .ok (.goto 12, 3) := dk_167 0 12 (dk_at dksX6_settingOf_5 1 rfl rfl)
theorem dX6_settingOf_116 : decode cX6_settingOf 116 = .ok (.iconst 1, 1) := dk_4 (dk_at dksX6_settingOf_5 4 rfl rfl)
theorem dX6_settingOf_117 : decode cX6_settingOf 117 = .ok (.goto 8, 3) := dk_167 0 8 (dk_at dksX6_settingOf_5 5 rfl rfl)
theorem dX6_settingOf_120 : decode cX6_settingOf 120 = .ok (.iconst 2, 1) := dk_5 (dk_at dksX6_settingOf_5 8 rfl rfl)
theorem dX6_settingOf_121 : decode cX6_settingOf 121 = .ok (.goto 4, 3) := dk_167 0 4 (dk_at dksX6_settingOf_5 9 rfl rfl)
theorem dX6_settingOf_124 : decode cX6_settingOf 124 = .ok (.iconst (-1), 1) := dk_2 (dk_at dksX6_settingOf_5 12 rfl rfl)
theorem dX6_settingOf_125 : decode cX6_settingOf 125 = .ok (.ireturn, 1) := dk_172 (dk_at dksX6_settingOf_5 13 rfl rfl)
abbrev cX6_setting : ByteArray := prog_6_method_14_code
def yX6_setting : MethodName := ⟨RX6, "setting", "(I)I"⟩
def dkwX6_setting_0 : List UInt8 := [42, 178, 0, 124, 27, 46, 178, 0, 128, 27, 46, 182, 0, 131, 172]
abbrev dktX6_setting_0 : List UInt8 := dkwX6_setting_0 ++ []
theorem dksX6_setting_0 : cX6_setting.data.toList.drop 0 = dktX6_setting_0 := by decide +kernel
theorem dX6_setting_0 : decode cX6_setting 0 = .ok (.aload_n 0, 1) := dk_42 (dk_at dksX6_setting_0 0 rfl rfl)
theorem dX6_setting_1 : decode cX6_setting 1 = .ok (.getstatic 124, 3) := dk_178 0 124 (dk_at dksX6_setting_0 1 rfl rfl)
theorem dX6_setting_4 : decode cX6_setting 4 = .ok (.iload_n 1, 1) := dk_27 (dk_at dksX6_setting_0 4 rfl rfl)
theorem dX6_setting_5 : decode cX6_setting 5 = .ok (.iaload, 1) := dk_46 (dk_at dksX6_setting_0 5 rfl rfl)
theorem dX6_setting_6 : decode cX6_setting 6 = .ok (.getstatic 128, 3) := dk_178 0 128 (dk_at dksX6_setting_0 6 rfl rfl)
theorem dX6_setting_9 : decode cX6_setting 9 = .ok (.iload_n 1, 1) := dk_27 (dk_at dksX6_setting_0 9 rfl rfl)
theorem dX6_setting_10 : decode cX6_setting 10 = .ok (.iaload, 1) := dk_46 (dk_at dksX6_setting_0 10 rfl rfl)
theorem dX6_setting_11 : decode cX6_setting 11 = .ok (.invokevirtual 131, 3) := dk_182 0 131 (dk_at dksX6_setting_0 11 rfl rfl)
theorem dX6_setting_14 : decode cX6_setting 14 = .ok (.ireturn, 1) := dk_172 (dk_at dksX6_setting_0 14 rfl rfl)
abbrev cX6_semicolon : ByteArray := prog_6_method_8_code
def yX6_semicolon : MethodName := ⟨RX6, "semicolon", "()V"⟩
def dkwX6_semicolon_0 : List UInt8 := [42, 42, 180, 0, 64, 6, 160, 0, 7, 4, 167, 0, 4, 3, 4, 182, 0, 89, 42, 182, 0, 32, 177]
abbrev dktX6_semicolon_0 : List UInt8 := dkwX6_semicolon_0 ++ []
theorem dksX6_semicolon_0 : cX6_semicolon.data.toList.drop 0 = dktX6_semicolon_0 := by decide +kernel
theorem dX6_semicolon_0 : decode cX6_semicolon 0 = .ok (.aload_n 0, 1) := dk_42 (dk_at dksX6_semicolon_0 0 rfl rfl)
theorem dX6_semicolon_1 : decode cX6_semicolon 1 = .ok (.aload_n 0, 1) := dk_42 (dk_at dksX6_semicolon_0 1 rfl rfl)
theorem dX6_semicolon_2 : decode cX6_semicolon 2 = .ok (.getfield 64, 3) := dk_180 0 64 (dk_at dksX6_semicolon_0 2 rfl rfl)
theorem dX6_semicolon_5 : decode cX6_semicolon 5 = .ok (.iconst 3, 1) := dk_6 (dk_at dksX6_semicolon_0 5 rfl rfl)
theorem dX6_semicolon_6 : decode cX6_semicolon 6 = .ok (.if_icmp .ne 7, 3) := dk_160 0 7 (dk_at dksX6_semicolon_0 6 rfl rfl)
theorem dX6_semicolon_9 : decode cX6_semicolon 9 = .ok (.iconst 1, 1) := dk_4 (dk_at dksX6_semicolon_0 9 rfl rfl)
theorem dX6_semicolon_10 : decode cX6_semicolon 10 = .ok (.goto 4, 3) := dk_167 0 4 (dk_at dksX6_semicolon_0 10 rfl rfl)
theorem dX6_semicolon_13 : decode cX6_semicolon 13 = .ok (.iconst 0, 1) := dk_3 (dk_at dksX6_semicolon_0 13 rfl rfl)
theorem dX6_semicolon_14 : decode cX6_semicolon 14 = .ok (.iconst 1, 1) := dk_4 (dk_at dksX6_semicolon_0 14 rfl rfl)
theorem dX6_semicolon_15 : decode cX6_semicolon 15 = .ok (.invokevirtual 89, 3) := dk_182 0 89 (dk_at dksX6_semicolon_0 15 rfl rfl)
theorem dX6_semicolon_18 : decode cX6_semicolon 18 = .ok (.aload_n 0, 1) := dk_42 (dk_at dksX6_semicolon_0 18 rfl rfl)
theorem dX6_semicolon_19 : decode cX6_semicolon 19 = .ok (.invokevirtual 32, 3) := dk_182 0 32 (dk_at dksX6_semicolon_0 19 rfl rfl)
theorem dX6_semicolon_22 : decode cX6_semicolon 22 = .ok (.return_, 1) := dk_177 (dk_at dksX6_semicolon_0 22 rfl rfl)
abbrev cX6_script : ByteArray := prog_6_method_26_code
def yX6_script : MethodName := ⟨RX6, "script", "()[LWhistlePosts$Deed;"⟩
def dkwX6_script_2 : List UInt8 := [42, 180, 0, 3, 3, 181, 0, 15, 25, 4, 191]
abbrev dktX6_script_2 : List UInt8 := dkwX6_script_2 ++ []
def dkwX6_script_1 : List UInt8 := [132, 2, 1, 42, 182, 0, 199, 167, 255, 234, 43, 78, 42, 180, 0, 3, 3, 181, 0, 15, 45, 176, 58, 4]
abbrev dktX6_script_1 : List UInt8 := dkwX6_script_1 ++ dktX6_script_2
def dkwX6_script_0 : List UInt8 := [16, 31, 189, 1, 14, 76, 3, 61, 42, 180, 0, 64, 153, 0, 21, 43, 28, 42, 28, 182, 1, 16, 83]
abbrev dktX6_script_0 : List UInt8 := dkwX6_script_0 ++ dktX6_script_1
theorem dksX6_script_0 : cX6_script.data.toList.drop 0 = dktX6_script_0 := by decide +kernel
theorem dksX6_script_1 : cX6_script.data.toList.drop 23 = dktX6_script_1 := dk_seg dksX6_script_0 23 rfl rfl
theorem dksX6_script_2 : cX6_script.data.toList.drop 47 = dktX6_script_2 := dk_seg dksX6_script_1 24 rfl rfl
theorem dX6_script_0 : decode cX6_script 0 = .ok (.bipush 31, 2) := dk_16 31 (dk_at dksX6_script_0 0 rfl rfl)
theorem dX6_script_2 : decode cX6_script 2 = .ok (.anewarray 270, 3) := dk_189 1 14 (dk_at dksX6_script_0 2 rfl rfl)
theorem dX6_script_5 : decode cX6_script 5 = .ok (.astore_n 1, 1) := dk_76 (dk_at dksX6_script_0 5 rfl rfl)
theorem dX6_script_6 : decode cX6_script 6 = .ok (.iconst 0, 1) := dk_3 (dk_at dksX6_script_0 6 rfl rfl)
theorem dX6_script_7 : decode cX6_script 7 = .ok (.istore_n 2, 1) := dk_61 (dk_at dksX6_script_0 7 rfl rfl)
theorem dX6_script_8 : decode cX6_script 8 = .ok (.aload_n 0, 1) := dk_42 (dk_at dksX6_script_0 8 rfl rfl)
theorem dX6_script_9 : decode cX6_script 9 = .ok (.getfield 64, 3) := dk_180 0 64 (dk_at dksX6_script_0 9 rfl rfl)
theorem dX6_script_12 : decode cX6_script 12 = .ok (.ifCond .eq 21, 3) := dk_153 0 21 (dk_at dksX6_script_0 12 rfl rfl)
theorem dX6_script_15 : decode cX6_script 15 = .ok (.aload_n 1, 1) := dk_43 (dk_at dksX6_script_0 15 rfl rfl)
theorem dX6_script_16 : decode cX6_script 16 = .ok (.iload_n 2, 1) := dk_28 (dk_at dksX6_script_0 16 rfl rfl)
theorem dX6_script_17 : decode cX6_script 17 = .ok (.aload_n 0, 1) := dk_42 (dk_at dksX6_script_0 17 rfl rfl)
theorem dX6_script_18 : decode cX6_script 18 = .ok (.iload_n 2, 1) := dk_28 (dk_at dksX6_script_0 18 rfl rfl)
theorem dX6_script_19 : decode cX6_script 19 = .ok (.invokevirtual 272, 3) := dk_182 1 16 (dk_at dksX6_script_0 19 rfl rfl)
theorem dX6_script_22 : decode cX6_script 22 = .ok (.aastore, 1) := dk_83 (dk_at dksX6_script_0 22 rfl rfl)
theorem dX6_script_23 : decode cX6_script 23 = .ok (.iinc 2 1, 3) := dk_132 2 1 (dk_at dksX6_script_1 0 rfl rfl)
theorem dX6_script_26 : decode cX6_script 26 = .ok (.aload_n 0, 1) := dk_42 (dk_at dksX6_script_1 3 rfl rfl)
theorem dX6_script_27 : decode cX6_script 27 = .ok (.invokevirtual 199, 3) := dk_182 0 199 (dk_at dksX6_script_1 4 rfl rfl)
theorem dX6_script_30 : decode cX6_script 30 = .ok (.goto (-22), 3) := dk_167 255 234 (dk_at dksX6_script_1 7 rfl rfl)
theorem dX6_script_33 : decode cX6_script 33 = .ok (.aload_n 1, 1) := dk_43 (dk_at dksX6_script_1 10 rfl rfl)
theorem dX6_script_34 : decode cX6_script 34 = .ok (.astore_n 3, 1) := dk_78 (dk_at dksX6_script_1 11 rfl rfl)
theorem dX6_script_35 : decode cX6_script 35 = .ok (.aload_n 0, 1) := dk_42 (dk_at dksX6_script_1 12 rfl rfl)
theorem dX6_script_36 : decode cX6_script 36 = .ok (.getfield 3, 3) := dk_180 0 3 (dk_at dksX6_script_1 13 rfl rfl)
theorem dX6_script_39 : decode cX6_script 39 = .ok (.iconst 0, 1) := dk_3 (dk_at dksX6_script_1 16 rfl rfl)
theorem dX6_script_40 : decode cX6_script 40 = .ok (.putfield 15, 3) := dk_181 0 15 (dk_at dksX6_script_1 17 rfl rfl)
theorem dX6_script_43 : decode cX6_script 43 = .ok (.aload_n 3, 1) := dk_45 (dk_at dksX6_script_1 20 rfl rfl)
theorem dX6_script_44 : decode cX6_script 44 = .ok (.areturn, 1) := dk_176 (dk_at dksX6_script_1 21 rfl rfl)
theorem dX6_script_45 : decode cX6_script 45 = .ok (.astore 4, 2) := dk_58 4 (dk_at dksX6_script_1 22 rfl rfl)
theorem dX6_script_47 : decode cX6_script 47 = .ok (.aload_n 0, 1) := dk_42 (dk_at dksX6_script_2 0 rfl rfl)
theorem dX6_script_48 : decode cX6_script 48 = .ok (.getfield 3, 3) := dk_180 0 3 (dk_at dksX6_script_2 1 rfl rfl)
theorem dX6_script_51 : decode cX6_script 51 = .ok (.iconst 0, 1) := dk_3 (dk_at dksX6_script_2 4 rfl rfl)
theorem dX6_script_52 : decode cX6_script 52 = .ok (.putfield 15, 3) := dk_181 0 15 (dk_at dksX6_script_2 5 rfl rfl)
theorem dX6_script_55 : decode cX6_script 55 = .ok (.aload 4, 2) := dk_25 4 (dk_at dksX6_script_2 8 rfl rfl)
theorem dX6_script_57 : decode cX6_script 57 = .ok (.athrow, 1) := dk_191 (dk_at dksX6_script_2 10 rfl rfl)
abbrev cX6_deed : ByteArray := prog_6_method_25_code
def yX6_deed : MethodName := ⟨RX6, "deed", "(I)LWhistlePosts$Deed;"⟩
def dkwX6_deed_9 : List UInt8 := [167, 0, 18, 42, 182, 1, 8, 167, 0, 11, 42, 44, 184, 0, 187, 182, 1, 11, 176]
abbrev dktX6_deed_9 : List UInt8 := dkwX6_deed_9 ++ []
def dkwX6_deed_8 : List UInt8 := [42, 44, 18, 204, 182, 0, 116, 182, 0, 253, 167, 0, 32, 42, 182, 1, 1, 167, 0, 25, 42, 182, 1, 5]
abbrev dktX6_deed_8 : List UInt8 := dkwX6_deed_8 ++ dktX6_deed_9
def dkwX6_deed_7 : List UInt8 := [170, 0, 0, 0, 0, 68, 0, 0, 0, 0, 0, 0, 0, 4, 0, 0, 0, 34, 0, 0, 0, 34, 0, 0, 0, 47, 0, 0, 0, 54, 0, 0, 0, 61]
abbrev dktX6_deed_7 : List UInt8 := dkwX6_deed_7 ++ dktX6_deed_8
def dkwX6_deed_6 : List UInt8 := [21, 4]
abbrev dktX6_deed_6 : List UInt8 := dkwX6_deed_6 ++ dktX6_deed_7
def dkwX6_deed_5 : List UInt8 := [182, 0, 116, 153, 0, 21, 6, 54, 4, 167, 0, 15, 45, 18, 210, 182, 0, 116, 153, 0, 6, 7, 54, 4]
abbrev dktX6_deed_5 : List UInt8 := dkwX6_deed_5 ++ dktX6_deed_6
def dkwX6_deed_4 : List UInt8 := [4, 54, 4, 167, 0, 45, 45, 18, 206, 182, 0, 116, 153, 0, 36, 5, 54, 4, 167, 0, 30, 45, 18, 208]
abbrev dktX6_deed_4 : List UInt8 := dkwX6_deed_4 ++ dktX6_deed_5
def dkwX6_deed_3 : List UInt8 := [45, 18, 202, 182, 0, 116, 153, 0, 66, 3, 54, 4, 167, 0, 60, 45, 18, 204, 182, 0, 116, 153, 0, 51]
abbrev dktX6_deed_3 : List UInt8 := dkwX6_deed_3 ++ dktX6_deed_4
def dkwX6_deed_2 : List UInt8 := [171, 0, 0, 0, 0, 0, 0, 124, 0, 0, 0, 5, 0, 1, 122, 121, 0, 0, 0, 67, 0, 1, 130, 66, 0, 0, 0, 112, 0, 48, 107, 17, 0, 0, 0, 97, 0, 53, 207, 136, 0, 0, 0, 52, 0, 54, 81, 157, 0, 0, 0, 82]
abbrev dktX6_deed_2 : List UInt8 := dkwX6_deed_2 ++ dktX6_deed_3
def dkwX6_deed_1 : List UInt8 := [167, 0, 4, 3, 8, 182, 0, 89, 42, 182, 0, 32, 44, 78, 2, 54, 4, 45, 182, 0, 111]
abbrev dktX6_deed_1 : List UInt8 := dkwX6_deed_1 ++ dktX6_deed_2
def dkwX6_deed_0 : List UInt8 := [42, 180, 0, 24, 77, 42, 42, 44, 182, 0, 249, 4, 182, 0, 89, 42, 27, 16, 30, 162, 0, 7, 4]
abbrev dktX6_deed_0 : List UInt8 := dkwX6_deed_0 ++ dktX6_deed_1
theorem dksX6_deed_0 : cX6_deed.data.toList.drop 0 = dktX6_deed_0 := by decide +kernel
theorem dksX6_deed_1 : cX6_deed.data.toList.drop 23 = dktX6_deed_1 := dk_seg dksX6_deed_0 23 rfl rfl
theorem dksX6_deed_2 : cX6_deed.data.toList.drop 44 = dktX6_deed_2 := dk_seg dksX6_deed_1 21 rfl rfl
theorem dksX6_deed_3 : cX6_deed.data.toList.drop 96 = dktX6_deed_3 := dk_seg dksX6_deed_2 52 rfl rfl
theorem dksX6_deed_4 : cX6_deed.data.toList.drop 120 = dktX6_deed_4 := dk_seg dksX6_deed_3 24 rfl rfl
theorem dksX6_deed_5 : cX6_deed.data.toList.drop 144 = dktX6_deed_5 := dk_seg dksX6_deed_4 24 rfl rfl
theorem dksX6_deed_6 : cX6_deed.data.toList.drop 168 = dktX6_deed_6 := dk_seg dksX6_deed_5 24 rfl rfl
theorem dksX6_deed_7 : cX6_deed.data.toList.drop 170 = dktX6_deed_7 := dk_seg dksX6_deed_6 2 rfl rfl
theorem dksX6_deed_8 : cX6_deed.data.toList.drop 204 = dktX6_deed_8 := dk_seg dksX6_deed_7 34 rfl rfl
theorem dksX6_deed_9 : cX6_deed.data.toList.drop 228 = dktX6_deed_9 := dk_seg dksX6_deed_8 24 rfl rfl
theorem dX6_deed_0 : decode cX6_deed 0 = .ok (.aload_n 0, 1) := dk_42 (dk_at dksX6_deed_0 0 rfl rfl)
theorem dX6_deed_1 : decode cX6_deed 1 = .ok (.getfield 24, 3) := dk_180 0 24 (dk_at dksX6_deed_0 1 rfl rfl)
theorem dX6_deed_4 : decode cX6_deed 4 = .ok (.astore_n 2, 1) := dk_77 (dk_at dksX6_deed_0 4 rfl rfl)
theorem dX6_deed_5 : decode cX6_deed 5 = .ok (.aload_n 0, 1) := dk_42 (dk_at dksX6_deed_0 5 rfl rfl)
theorem dX6_deed_6 : decode cX6_deed 6 = .ok (.aload_n 0, 1) := dk_42 (dk_at dksX6_deed_0 6 rfl rfl)
theorem dX6_deed_7 : decode cX6_deed 7 = .ok (.aload_n 2, 1) := dk_44 (dk_at dksX6_deed_0 7 rfl rfl)
theorem dX6_deed_8 : decode cX6_deed 8 = .ok (.invokevirtual 249, 3) := dk_182 0 249 (dk_at dksX6_deed_0 8 rfl rfl)
theorem dX6_deed_11 : decode cX6_deed 11 = .ok (.iconst 1, 1) := dk_4 (dk_at dksX6_deed_0 11 rfl rfl)
theorem dX6_deed_12 : decode cX6_deed 12 = .ok (.invokevirtual 89, 3) := dk_182 0 89 (dk_at dksX6_deed_0 12 rfl rfl)
theorem dX6_deed_15 : decode cX6_deed 15 = .ok (.aload_n 0, 1) := dk_42 (dk_at dksX6_deed_0 15 rfl rfl)
theorem dX6_deed_16 : decode cX6_deed 16 = .ok (.iload_n 1, 1) := dk_27 (dk_at dksX6_deed_0 16 rfl rfl)
theorem dX6_deed_17 : decode cX6_deed 17 = .ok (.bipush 30, 2) := dk_16 30 (dk_at dksX6_deed_0 17 rfl rfl)
theorem dX6_deed_19 : decode cX6_deed 19 = .ok (.if_icmp .ge 7, 3) := dk_162 0 7 (dk_at dksX6_deed_0 19 rfl rfl)
theorem dX6_deed_22 : decode cX6_deed 22 = .ok (.iconst 1, 1) := dk_4 (dk_at dksX6_deed_0 22 rfl rfl)
theorem dX6_deed_23 : decode cX6_deed 23 = .ok (.goto 4, 3) := dk_167 0 4 (dk_at dksX6_deed_1 0 rfl rfl)
theorem dX6_deed_26 : decode cX6_deed 26 = .ok (.iconst 0, 1) := dk_3 (dk_at dksX6_deed_1 3 rfl rfl)
theorem dX6_deed_27 : decode cX6_deed 27 = .ok (.iconst 5, 1) := dk_8 (dk_at dksX6_deed_1 4 rfl rfl)
theorem dX6_deed_28 : decode cX6_deed 28 = .ok (.invokevirtual 89, 3) := dk_182 0 89 (dk_at dksX6_deed_1 5 rfl rfl)
theorem dX6_deed_31 : decode cX6_deed 31 = .ok (.aload_n 0, 1) := dk_42 (dk_at dksX6_deed_1 8 rfl rfl)
theorem dX6_deed_32 : decode cX6_deed 32 = .ok (.invokevirtual 32, 3) := dk_182 0 32 (dk_at dksX6_deed_1 9 rfl rfl)
theorem dX6_deed_35 : decode cX6_deed 35 = .ok (.aload_n 2, 1) := dk_44 (dk_at dksX6_deed_1 12 rfl rfl)
theorem dX6_deed_36 : decode cX6_deed 36 = .ok (.astore_n 3, 1) := dk_78 (dk_at dksX6_deed_1 13 rfl rfl)
theorem dX6_deed_37 : decode cX6_deed 37 = .ok (.iconst (-1), 1) := dk_2 (dk_at dksX6_deed_1 14 rfl rfl)
theorem dX6_deed_38 : decode cX6_deed 38 = .ok (.istore 4, 2) := dk_54 4 (dk_at dksX6_deed_1 15 rfl rfl)
theorem dX6_deed_40 : decode cX6_deed 40 = .ok (.aload_n 3, 1) := dk_45 (dk_at dksX6_deed_1 17 rfl rfl)
theorem dX6_deed_41 : decode cX6_deed 41 = .ok (.invokevirtual 111, 3) := dk_182 0 111 (dk_at dksX6_deed_1 18 rfl rfl)
theorem dX6_deed_44 : decode cX6_deed 44 = .ok (.lookupswitch 124 #[(96889, 67), (98882, 112), (3173137, 97), (3526536, 52), (3559837, 82)], 52) := by decide +kernel
theorem dX6_deed_96 : decode cX6_deed 96 = .ok (.aload_n 3, 1) := dk_45 (dk_at dksX6_deed_3 0 rfl rfl)
theorem dX6_deed_97 : decode cX6_deed 97 = .ok (.ldc 202, 2) := dk_18 202 (dk_at dksX6_deed_3 1 rfl rfl)
theorem dX6_deed_99 : decode cX6_deed 99 = .ok (.invokevirtual 116, 3) := dk_182 0 116 (dk_at dksX6_deed_3 3 rfl rfl)
theorem dX6_deed_102 : decode cX6_deed 102 = .ok (.ifCond .eq 66, 3) := dk_153 0 66 (dk_at dksX6_deed_3 6 rfl rfl)
theorem dX6_deed_105 : decode cX6_deed 105 = .ok (.iconst 0, 1) := dk_3 (dk_at dksX6_deed_3 9 rfl rfl)
theorem dX6_deed_106 : decode cX6_deed 106 = .ok (.istore 4, 2) := dk_54 4 (dk_at dksX6_deed_3 10 rfl rfl)
theorem dX6_deed_108 : decode cX6_deed 108 = .ok (.goto 60, 3) := dk_167 0 60 (dk_at dksX6_deed_3 12 rfl rfl)
theorem dX6_deed_111 : decode cX6_deed 111 = .ok (.aload_n 3, 1) := dk_45 (dk_at dksX6_deed_3 15 rfl rfl)
theorem dX6_deed_112 : decode cX6_deed 112 = .ok (.ldc 204, 2) := dk_18 204 (dk_at dksX6_deed_3 16 rfl rfl)
theorem dX6_deed_114 : decode cX6_deed 114 = .ok (.invokevirtual 116, 3) := dk_182 0 116 (dk_at dksX6_deed_3 18 rfl rfl)
theorem dX6_deed_117 : decode cX6_deed 117 = .ok (.ifCond .eq 51, 3) := dk_153 0 51 (dk_at dksX6_deed_3 21 rfl rfl)
theorem dX6_deed_120 : decode cX6_deed 120 = .ok (.iconst 1, 1) := dk_4 (dk_at dksX6_deed_4 0 rfl rfl)
theorem dX6_deed_121 : decode cX6_deed 121 = .ok (.istore 4, 2) := dk_54 4 (dk_at dksX6_deed_4 1 rfl rfl)
theorem dX6_deed_123 : decode cX6_deed 123 = .ok (.goto 45, 3) := dk_167 0 45 (dk_at dksX6_deed_4 3 rfl rfl)
theorem dX6_deed_126 : decode cX6_deed 126 = .ok (.aload_n 3, 1) := dk_45 (dk_at dksX6_deed_4 6 rfl rfl)
theorem dX6_deed_127 : decode cX6_deed 127 = .ok (.ldc 206, 2) := dk_18 206 (dk_at dksX6_deed_4 7 rfl rfl)
theorem dX6_deed_129 : decode cX6_deed 129 = .ok (.invokevirtual 116, 3) := dk_182 0 116 (dk_at dksX6_deed_4 9 rfl rfl)
theorem dX6_deed_132 : decode cX6_deed 132 = .ok (.ifCond .eq 36, 3) := dk_153 0 36 (dk_at dksX6_deed_4 12 rfl rfl)
theorem dX6_deed_135 : decode cX6_deed 135 = .ok (.iconst 2, 1) := dk_5 (dk_at dksX6_deed_4 15 rfl rfl)
theorem dX6_deed_136 : decode cX6_deed 136 = .ok (.istore 4, 2) := dk_54 4 (dk_at dksX6_deed_4 16 rfl rfl)
theorem dX6_deed_138 : decode cX6_deed 138 = .ok (.goto 30, 3) := dk_167 0 30 (dk_at dksX6_deed_4 18 rfl rfl)
theorem dX6_deed_141 : decode cX6_deed 141 = .ok (.aload_n 3, 1) := dk_45 (dk_at dksX6_deed_4 21 rfl rfl)
theorem dX6_deed_142 : decode cX6_deed 142 = .ok (.ldc 208, 2) := dk_18 208 (dk_at dksX6_deed_4 22 rfl rfl)
theorem dX6_deed_144 : decode cX6_deed 144 = .ok (.invokevirtual 116, 3) := dk_182 0 116 (dk_at dksX6_deed_5 0 rfl rfl)
theorem dX6_deed_147 : decode cX6_deed 147 = .ok (.ifCond .eq 21, 3) := dk_153 0 21 (dk_at dksX6_deed_5 3 rfl rfl)
theorem dX6_deed_150 : decode cX6_deed 150 = .ok (.iconst 3, 1) := dk_6 (dk_at dksX6_deed_5 6 rfl rfl)
theorem dX6_deed_151 : decode cX6_deed 151 = .ok (.istore 4, 2) := dk_54 4 (dk_at dksX6_deed_5 7 rfl rfl)
theorem dX6_deed_153 : decode cX6_deed 153 = .ok (.goto 15, 3) := dk_167 0 15 (dk_at dksX6_deed_5 9 rfl rfl)
theorem dX6_deed_156 : decode cX6_deed 156 = .ok (.aload_n 3, 1) := dk_45 (dk_at dksX6_deed_5 12 rfl rfl)
theorem dX6_deed_157 : decode cX6_deed 157 = .ok (.ldc 210, 2) := dk_18 210 (dk_at dksX6_deed_5 13 rfl rfl)
theorem dX6_deed_159 : decode cX6_deed 159 = .ok (.invokevirtual 116, 3) := dk_182 0 116 (dk_at dksX6_deed_5 15 rfl rfl)
theorem dX6_deed_162 : decode cX6_deed 162 = .ok (.ifCond .eq 6, 3) := dk_153 0 6 (dk_at dksX6_deed_5 18 rfl rfl)
theorem dX6_deed_165 : decode cX6_deed 165 = .ok (.iconst 4, 1) := dk_7 (dk_at dksX6_deed_5 21 rfl rfl)
theorem dX6_deed_166 : decode cX6_deed 166 = .ok (.istore 4, 2) := dk_54 4 (dk_at dksX6_deed_5 22 rfl rfl)
theorem dX6_deed_168 : decode cX6_deed 168 = .ok (.iload 4, 2) := dk_21 4 (dk_at dksX6_deed_6 0 rfl rfl)
theorem dX6_deed_170 : decode cX6_deed 170 = .ok (.tableswitch 68 0 4 #[34, 34, 47, 54, 61], 34) := by decide +kernel
theorem dX6_deed_204 : decode cX6_deed 204 = .ok (.aload_n 0, 1) := dk_42 (dk_at dksX6_deed_8 0 rfl rfl)
theorem dX6_deed_205 : decode cX6_deed 205 = .ok (.aload_n 2, 1) := dk_44 (dk_at dksX6_deed_8 1 rfl rfl)
theorem dX6_deed_206 : decode cX6_deed 206 = .ok (.ldc 204, 2) := dk_18 204 (dk_at dksX6_deed_8 2 rfl rfl)
theorem dX6_deed_208 : decode cX6_deed 208 = .ok (.invokevirtual 116, 3) := dk_182 0 116 (dk_at dksX6_deed_8 4 rfl rfl)
theorem dX6_deed_211 : decode cX6_deed 211 = .ok (.invokevirtual 253, 3) := dk_182 0 253 (dk_at dksX6_deed_8 7 rfl rfl)
theorem dX6_deed_214 : decode cX6_deed 214 = .ok (.goto 32, 3) := dk_167 0 32 (dk_at dksX6_deed_8 10 rfl rfl)
theorem dX6_deed_217 : decode cX6_deed 217 = .ok (.aload_n 0, 1) := dk_42 (dk_at dksX6_deed_8 13 rfl rfl)
theorem dX6_deed_218 : decode cX6_deed 218 = .ok (.invokevirtual 257, 3) := dk_182 1 1 (dk_at dksX6_deed_8 14 rfl rfl)
theorem dX6_deed_221 : decode cX6_deed 221 = .ok (.goto 25, 3) := dk_167 0 25 (dk_at dksX6_deed_8 17 rfl rfl)
theorem dX6_deed_224 : decode cX6_deed 224 = .ok (.aload_n 0, 1) := dk_42 (dk_at dksX6_deed_8 20 rfl rfl)
theorem dX6_deed_225 : decode cX6_deed 225 = .ok (.invokevirtual 261, 3) := dk_182 1 5 (dk_at dksX6_deed_8 21 rfl rfl)
theorem dX6_deed_228 : decode cX6_deed 228 = .ok (.goto 18, 3) := dk_167 0 18 (dk_at dksX6_deed_9 0 rfl rfl)
theorem dX6_deed_231 : decode cX6_deed 231 = .ok (.aload_n 0, 1) := dk_42 (dk_at dksX6_deed_9 3 rfl rfl)
theorem dX6_deed_232 : decode cX6_deed 232 = .ok (.invokevirtual 264, 3) := dk_182 1 8 (dk_at dksX6_deed_9 4 rfl rfl)
theorem dX6_deed_235 : decode cX6_deed 235 = .ok (.goto 11, 3) := dk_167 0 11 (dk_at dksX6_deed_9 7 rfl rfl)
theorem dX6_deed_238 : decode cX6_deed 238 = .ok (.aload_n 0, 1) := dk_42 (dk_at dksX6_deed_9 10 rfl rfl)
theorem dX6_deed_239 : decode cX6_deed 239 = .ok (.aload_n 2, 1) := dk_44 (dk_at dksX6_deed_9 11 rfl rfl)
theorem dX6_deed_240 : decode cX6_deed 240 = .ok (.invokestatic 187, 3) := dk_184 0 187 (dk_at dksX6_deed_9 12 rfl rfl)
theorem dX6_deed_243 : decode cX6_deed 243 = .ok (.invokevirtual 267, 3) := dk_182 1 11 (dk_at dksX6_deed_9 15 rfl rfl)
theorem dX6_deed_246 : decode cX6_deed 246 = .ok (.areturn, 1) := dk_176 (dk_at dksX6_deed_9 18 rfl rfl)
abbrev cX6_isDeed : ByteArray := prog_6_method_19_code
def yX6_isDeed : MethodName := ⟨RX6, "isDeed", "(Ljava/lang/String;)Z"⟩
def dkwX6_isDeed_6 : List UInt8 := [4, 167, 0, 16, 43, 184, 0, 187, 2, 159, 0, 7, 4, 167, 0, 4, 3, 172]
abbrev dktX6_isDeed_6 : List UInt8 := dkwX6_isDeed_6 ++ []
def dkwX6_isDeed_5 : List UInt8 := [170, 0, 0, 0, 0, 0, 0, 40, 0, 0, 0, 0, 0, 0, 0, 4, 0, 0, 0, 36, 0, 0, 0, 36, 0, 0, 0, 36, 0, 0, 0, 36, 0, 0, 0, 36]
abbrev dktX6_isDeed_5 : List UInt8 := dkwX6_isDeed_5 ++ dktX6_isDeed_6
def dkwX6_isDeed_4 : List UInt8 := [153, 0, 19, 6, 62, 167, 0, 14, 44, 18, 210, 182, 0, 116, 153, 0, 5, 7, 62, 29]
abbrev dktX6_isDeed_4 : List UInt8 := dkwX6_isDeed_4 ++ dktX6_isDeed_5
def dkwX6_isDeed_3 : List UInt8 := [62, 167, 0, 42, 44, 18, 206, 182, 0, 116, 153, 0, 33, 5, 62, 167, 0, 28, 44, 18, 208, 182, 0, 116]
abbrev dktX6_isDeed_3 : List UInt8 := dkwX6_isDeed_3 ++ dktX6_isDeed_4
def dkwX6_isDeed_2 : List UInt8 := [44, 18, 202, 182, 0, 116, 153, 0, 61, 3, 62, 167, 0, 56, 44, 18, 204, 182, 0, 116, 153, 0, 47, 4]
abbrev dktX6_isDeed_2 : List UInt8 := dkwX6_isDeed_2 ++ dktX6_isDeed_3
def dkwX6_isDeed_1 : List UInt8 := [171, 0, 0, 0, 0, 0, 0, 119, 0, 0, 0, 5, 0, 1, 122, 121, 0, 0, 0, 66, 0, 1, 130, 66, 0, 0, 0, 108, 0, 48, 107, 17, 0, 0, 0, 94, 0, 53, 207, 136, 0, 0, 0, 52, 0, 54, 81, 157, 0, 0, 0, 80]
abbrev dktX6_isDeed_1 : List UInt8 := dkwX6_isDeed_1 ++ dktX6_isDeed_2
def dkwX6_isDeed_0 : List UInt8 := [43, 77, 2, 62, 44, 182, 0, 111]
abbrev dktX6_isDeed_0 : List UInt8 := dkwX6_isDeed_0 ++ dktX6_isDeed_1
theorem dksX6_isDeed_0 : cX6_isDeed.data.toList.drop 0 = dktX6_isDeed_0 := by decide +kernel
theorem dksX6_isDeed_1 : cX6_isDeed.data.toList.drop 8 = dktX6_isDeed_1 := dk_seg dksX6_isDeed_0 8 rfl rfl
theorem dksX6_isDeed_2 : cX6_isDeed.data.toList.drop 60 = dktX6_isDeed_2 := dk_seg dksX6_isDeed_1 52 rfl rfl
theorem dksX6_isDeed_3 : cX6_isDeed.data.toList.drop 84 = dktX6_isDeed_3 := dk_seg dksX6_isDeed_2 24 rfl rfl
theorem dksX6_isDeed_4 : cX6_isDeed.data.toList.drop 108 = dktX6_isDeed_4 := dk_seg dksX6_isDeed_3 24 rfl rfl
theorem dksX6_isDeed_5 : cX6_isDeed.data.toList.drop 128 = dktX6_isDeed_5 := dk_seg dksX6_isDeed_4 20 rfl rfl
theorem dksX6_isDeed_6 : cX6_isDeed.data.toList.drop 164 = dktX6_isDeed_6 := dk_seg dksX6_isDeed_5 36 rfl rfl
theorem dX6_isDeed_0 : decode cX6_isDeed 0 = .ok (.aload_n 1, 1) := dk_43 (dk_at dksX6_isDeed_0 0 rfl rfl)
theorem dX6_isDeed_1 : decode cX6_isDeed 1 = .ok (.astore_n 2, 1) := dk_77 (dk_at dksX6_isDeed_0 1 rfl rfl)
theorem dX6_isDeed_2 : decode cX6_isDeed 2 = .ok (.iconst (-1), 1) := dk_2 (dk_at dksX6_isDeed_0 2 rfl rfl)
theorem dX6_isDeed_3 : decode cX6_isDeed 3 = .ok (.istore_n 3, 1) := dk_62 (dk_at dksX6_isDeed_0 3 rfl rfl)
theorem dX6_isDeed_4 : decode cX6_isDeed 4 = .ok (.aload_n 2, 1) := dk_44 (dk_at dksX6_isDeed_0 4 rfl rfl)
theorem dX6_isDeed_5 : decode cX6_isDeed 5 = .ok (.invokevirtual 111, 3) := dk_182 0 111 (dk_at dksX6_isDeed_0 5 rfl rfl)
theorem dX6_isDeed_8 : decode cX6_isDeed 8 = .ok (.lookupswitch 119 #[(96889, 66), (98882, 108), (3173137, 94), (3526536, 52), (3559837, 80)], 52) := by decide +kernel
theorem dX6_isDeed_60 : decode cX6_isDeed 60 = .ok (.aload_n 2, 1) := dk_44 (dk_at dksX6_isDeed_2 0 rfl rfl)
theorem dX6_isDeed_61 : decode cX6_isDeed 61 = .ok (.ldc 202, 2) := dk_18 202 (dk_at dksX6_isDeed_2 1 rfl rfl)
theorem dX6_isDeed_63 : decode cX6_isDeed 63 = .ok (.invokevirtual 116, 3) := dk_182 0 116 (dk_at dksX6_isDeed_2 3 rfl rfl)
theorem dX6_isDeed_66 : decode cX6_isDeed 66 = .ok (.ifCond .eq 61, 3) := dk_153 0 61 (dk_at dksX6_isDeed_2 6 rfl rfl)
theorem dX6_isDeed_69 : decode cX6_isDeed 69 = .ok (.iconst 0, 1) := dk_3 (dk_at dksX6_isDeed_2 9 rfl rfl)
theorem dX6_isDeed_70 : decode cX6_isDeed 70 = .ok (.istore_n 3, 1) := dk_62 (dk_at dksX6_isDeed_2 10 rfl rfl)
theorem dX6_isDeed_71 : decode cX6_isDeed 71 = .ok (.goto 56, 3) := dk_167 0 56 (dk_at dksX6_isDeed_2 11 rfl rfl)
theorem dX6_isDeed_74 : decode cX6_isDeed 74 = .ok (.aload_n 2, 1) := dk_44 (dk_at dksX6_isDeed_2 14 rfl rfl)
theorem dX6_isDeed_75 : decode cX6_isDeed 75 = .ok (.ldc 204, 2) := dk_18 204 (dk_at dksX6_isDeed_2 15 rfl rfl)
theorem dX6_isDeed_77 : decode cX6_isDeed 77 = .ok (.invokevirtual 116, 3) := dk_182 0 116 (dk_at dksX6_isDeed_2 17 rfl rfl)
theorem dX6_isDeed_80 : decode cX6_isDeed 80 = .ok (.ifCond .eq 47, 3) := dk_153 0 47 (dk_at dksX6_isDeed_2 20 rfl rfl)
theorem dX6_isDeed_83 : decode cX6_isDeed 83 = .ok (.iconst 1, 1) := dk_4 (dk_at dksX6_isDeed_2 23 rfl rfl)
theorem dX6_isDeed_84 : decode cX6_isDeed 84 = .ok (.istore_n 3, 1) := dk_62 (dk_at dksX6_isDeed_3 0 rfl rfl)
theorem dX6_isDeed_85 : decode cX6_isDeed 85 = .ok (.goto 42, 3) := dk_167 0 42 (dk_at dksX6_isDeed_3 1 rfl rfl)
theorem dX6_isDeed_88 : decode cX6_isDeed 88 = .ok (.aload_n 2, 1) := dk_44 (dk_at dksX6_isDeed_3 4 rfl rfl)
theorem dX6_isDeed_89 : decode cX6_isDeed 89 = .ok (.ldc 206, 2) := dk_18 206 (dk_at dksX6_isDeed_3 5 rfl rfl)
theorem dX6_isDeed_91 : decode cX6_isDeed 91 = .ok (.invokevirtual 116, 3) := dk_182 0 116 (dk_at dksX6_isDeed_3 7 rfl rfl)
theorem dX6_isDeed_94 : decode cX6_isDeed 94 = .ok (.ifCond .eq 33, 3) := dk_153 0 33 (dk_at dksX6_isDeed_3 10 rfl rfl)
theorem dX6_isDeed_97 : decode cX6_isDeed 97 = .ok (.iconst 2, 1) := dk_5 (dk_at dksX6_isDeed_3 13 rfl rfl)
theorem dX6_isDeed_98 : decode cX6_isDeed 98 = .ok (.istore_n 3, 1) := dk_62 (dk_at dksX6_isDeed_3 14 rfl rfl)
theorem dX6_isDeed_99 : decode cX6_isDeed 99 = .ok (.goto 28, 3) := dk_167 0 28 (dk_at dksX6_isDeed_3 15 rfl rfl)
theorem dX6_isDeed_102 : decode cX6_isDeed 102 = .ok (.aload_n 2, 1) := dk_44 (dk_at dksX6_isDeed_3 18 rfl rfl)
theorem dX6_isDeed_103 : decode cX6_isDeed 103 = .ok (.ldc 208, 2) := dk_18 208 (dk_at dksX6_isDeed_3 19 rfl rfl)
theorem dX6_isDeed_105 : decode cX6_isDeed 105 = .ok (.invokevirtual 116, 3) := dk_182 0 116 (dk_at dksX6_isDeed_3 21 rfl rfl)
theorem dX6_isDeed_108 : decode cX6_isDeed 108 = .ok (.ifCond .eq 19, 3) := dk_153 0 19 (dk_at dksX6_isDeed_4 0 rfl rfl)
theorem dX6_isDeed_111 : decode cX6_isDeed 111 = .ok (.iconst 3, 1) := dk_6 (dk_at dksX6_isDeed_4 3 rfl rfl)
theorem dX6_isDeed_112 : decode cX6_isDeed 112 = .ok (.istore_n 3, 1) := dk_62 (dk_at dksX6_isDeed_4 4 rfl rfl)
theorem dX6_isDeed_113 : decode cX6_isDeed 113 = .ok (.goto 14, 3) := dk_167 0 14 (dk_at dksX6_isDeed_4 5 rfl rfl)
theorem dX6_isDeed_116 : decode cX6_isDeed 116 = .ok (.aload_n 2, 1) := dk_44 (dk_at dksX6_isDeed_4 8 rfl rfl)
theorem dX6_isDeed_117 : decode cX6_isDeed 117 = .ok (.ldc 210, 2) := dk_18 210 (dk_at dksX6_isDeed_4 9 rfl rfl)
theorem dX6_isDeed_119 : decode cX6_isDeed 119 = .ok (.invokevirtual 116, 3) := dk_182 0 116 (dk_at dksX6_isDeed_4 11 rfl rfl)
theorem dX6_isDeed_122 : decode cX6_isDeed 122 = .ok (.ifCond .eq 5, 3) := dk_153 0 5 (dk_at dksX6_isDeed_4 14 rfl rfl)
theorem dX6_isDeed_125 : decode cX6_isDeed 125 = .ok (.iconst 4, 1) := dk_7 (dk_at dksX6_isDeed_4 17 rfl rfl)
theorem dX6_isDeed_126 : decode cX6_isDeed 126 = .ok (.istore_n 3, 1) := dk_62 (dk_at dksX6_isDeed_4 18 rfl rfl)
theorem dX6_isDeed_127 : decode cX6_isDeed 127 = .ok (.iload_n 3, 1) := dk_29 (dk_at dksX6_isDeed_4 19 rfl rfl)
theorem dX6_isDeed_128 : decode cX6_isDeed 128 = .ok (.tableswitch 40 0 4 #[36, 36, 36, 36, 36], 36) := by decide +kernel
theorem dX6_isDeed_164 : decode cX6_isDeed 164 = .ok (.iconst 1, 1) := dk_4 (dk_at dksX6_isDeed_6 0 rfl rfl)
theorem dX6_isDeed_165 : decode cX6_isDeed 165 = .ok (.goto 16, 3) := dk_167 0 16 (dk_at dksX6_isDeed_6 1 rfl rfl)
theorem dX6_isDeed_168 : decode cX6_isDeed 168 = .ok (.aload_n 1, 1) := dk_43 (dk_at dksX6_isDeed_6 4 rfl rfl)
theorem dX6_isDeed_169 : decode cX6_isDeed 169 = .ok (.invokestatic 187, 3) := dk_184 0 187 (dk_at dksX6_isDeed_6 5 rfl rfl)
theorem dX6_isDeed_172 : decode cX6_isDeed 172 = .ok (.iconst (-1), 1) := dk_2 (dk_at dksX6_isDeed_6 8 rfl rfl)
theorem dX6_isDeed_173 : decode cX6_isDeed 173 = .ok (.if_icmp .eq 7, 3) := dk_159 0 7 (dk_at dksX6_isDeed_6 9 rfl rfl)
theorem dX6_isDeed_176 : decode cX6_isDeed 176 = .ok (.iconst 1, 1) := dk_4 (dk_at dksX6_isDeed_6 12 rfl rfl)
theorem dX6_isDeed_177 : decode cX6_isDeed 177 = .ok (.goto 4, 3) := dk_167 0 4 (dk_at dksX6_isDeed_6 13 rfl rfl)
theorem dX6_isDeed_180 : decode cX6_isDeed 180 = .ok (.iconst 0, 1) := dk_3 (dk_at dksX6_isDeed_6 16 rfl rfl)
theorem dX6_isDeed_181 : decode cX6_isDeed 181 = .ok (.ireturn, 1) := dk_172 (dk_at dksX6_isDeed_6 17 rfl rfl)
abbrev cX6_sending : ByteArray := prog_6_method_20_code
def yX6_sending : MethodName := ⟨RX6, "sending", "(Z)LWhistlePosts$Deed;"⟩
def dkwX6_sending_7 : List UInt8 := [186, 0, 237, 0, 0, 176]
abbrev dktX6_sending_7 : List UInt8 := dkwX6_sending_7 ++ []
def dkwX6_sending_6 : List UInt8 := [182, 0, 234, 54, 8, 25, 5, 21, 6, 21, 8, 79, 132, 6, 1, 167, 255, 221, 28, 29, 27, 25, 5]
abbrev dktX6_sending_6 : List UInt8 := dkwX6_sending_6 ++ dktX6_sending_7
def dkwX6_sending_5 : List UInt8 := [58, 7, 25, 7, 185, 0, 225, 1, 0, 153, 0, 31, 25, 7, 185, 0, 231, 1, 0, 192, 0, 214]
abbrev dktX6_sending_5 : List UInt8 := dkwX6_sending_5 ++ dktX6_sending_6
def dkwX6_sending_4 : List UInt8 := [42, 182, 0, 32, 167, 255, 195, 25, 4, 182, 0, 156, 188, 10, 58, 5, 3, 54, 6, 25, 4, 182, 0, 221]
abbrev dktX6_sending_4 : List UInt8 := dkwX6_sending_4 ++ dktX6_sending_5
def dkwX6_sending_3 : List UInt8 := [162, 0, 7, 4, 167, 0, 4, 3, 8, 182, 0, 89, 25, 4, 42, 180, 0, 49, 184, 0, 213, 182, 0, 174]
abbrev dktX6_sending_3 : List UInt8 := dkwX6_sending_3 ++ dktX6_sending_4
def dkwX6_sending_2 : List UInt8 := [42, 180, 0, 49, 133, 9, 20, 0, 219, 184, 0, 56, 5, 182, 0, 89, 42, 25, 4, 182, 0, 156, 16, 8]
abbrev dktX6_sending_2 : List UInt8 := dkwX6_sending_2 ++ dktX6_sending_3
def dkwX6_sending_1 : List UInt8 := [25, 4, 42, 3, 16, 7, 182, 0, 131, 184, 0, 213, 182, 0, 174, 42, 180, 0, 64, 5, 160, 0, 59, 42]
abbrev dktX6_sending_1 : List UInt8 := dkwX6_sending_1 ++ dktX6_sending_2
def dkwX6_sending_0 : List UInt8 := [42, 182, 0, 159, 61, 42, 28, 182, 0, 162, 62, 42, 182, 0, 32, 187, 0, 157, 89, 183, 0, 212, 58, 4]
abbrev dktX6_sending_0 : List UInt8 := dkwX6_sending_0 ++ dktX6_sending_1
theorem dksX6_sending_0 : cX6_sending.data.toList.drop 0 = dktX6_sending_0 := by decide +kernel
theorem dksX6_sending_1 : cX6_sending.data.toList.drop 24 = dktX6_sending_1 := dk_seg dksX6_sending_0 24 rfl rfl
theorem dksX6_sending_2 : cX6_sending.data.toList.drop 48 = dktX6_sending_2 := dk_seg dksX6_sending_1 24 rfl rfl
theorem dksX6_sending_3 : cX6_sending.data.toList.drop 72 = dktX6_sending_3 := dk_seg dksX6_sending_2 24 rfl rfl
theorem dksX6_sending_4 : cX6_sending.data.toList.drop 96 = dktX6_sending_4 := dk_seg dksX6_sending_3 24 rfl rfl
theorem dksX6_sending_5 : cX6_sending.data.toList.drop 120 = dktX6_sending_5 := dk_seg dksX6_sending_4 24 rfl rfl
theorem dksX6_sending_6 : cX6_sending.data.toList.drop 142 = dktX6_sending_6 := dk_seg dksX6_sending_5 22 rfl rfl
theorem dksX6_sending_7 : cX6_sending.data.toList.drop 165 = dktX6_sending_7 := dk_seg dksX6_sending_6 23 rfl rfl
theorem dX6_sending_0 : decode cX6_sending 0 = .ok (.aload_n 0, 1) := dk_42 (dk_at dksX6_sending_0 0 rfl rfl)
theorem dX6_sending_1 : decode cX6_sending 1 = .ok (.invokevirtual 159, 3) := dk_182 0 159 (dk_at dksX6_sending_0 1 rfl rfl)
theorem dX6_sending_4 : decode cX6_sending 4 = .ok (.istore_n 2, 1) := dk_61 (dk_at dksX6_sending_0 4 rfl rfl)
theorem dX6_sending_5 : decode cX6_sending 5 = .ok (.aload_n 0, 1) := dk_42 (dk_at dksX6_sending_0 5 rfl rfl)
theorem dX6_sending_6 : decode cX6_sending 6 = .ok (.iload_n 2, 1) := dk_28 (dk_at dksX6_sending_0 6 rfl rfl)
theorem dX6_sending_7 : decode cX6_sending 7 = .ok (.invokevirtual 162, 3) := dk_182 0 162 (dk_at dksX6_sending_0 7 rfl rfl)
theorem dX6_sending_10 : decode cX6_sending 10 = .ok (.istore_n 3, 1) := dk_62 (dk_at dksX6_sending_0 10 rfl rfl)
theorem dX6_sending_11 : decode cX6_sending 11 = .ok (.aload_n 0, 1) := dk_42 (dk_at dksX6_sending_0 11 rfl rfl)
theorem dX6_sending_12 : decode cX6_sending 12 = .ok (.invokevirtual 32, 3) := dk_182 0 32 (dk_at dksX6_sending_0 12 rfl rfl)
theorem dX6_sending_15 : decode cX6_sending 15 = .ok (.new 157, 3) := dk_187 0 157 (dk_at dksX6_sending_0 15 rfl rfl)
theorem dX6_sending_18 : decode cX6_sending 18 = .ok (.dup, 1) := dk_89 (dk_at dksX6_sending_0 18 rfl rfl)
theorem dX6_sending_19 : decode cX6_sending 19 = .ok (.invokespecial 212, 3) := dk_183 0 212 (dk_at dksX6_sending_0 19 rfl rfl)
theorem dX6_sending_22 : decode cX6_sending 22 = .ok (.astore 4, 2) := dk_58 4 (dk_at dksX6_sending_0 22 rfl rfl)
theorem dX6_sending_24 : decode cX6_sending 24 = .ok (.aload 4, 2) := dk_25 4 (dk_at dksX6_sending_1 0 rfl rfl)
theorem dX6_sending_26 : decode cX6_sending 26 = .ok (.aload_n 0, 1) := dk_42 (dk_at dksX6_sending_1 2 rfl rfl)
theorem dX6_sending_27 : decode cX6_sending 27 = .ok (.iconst 0, 1) := dk_3 (dk_at dksX6_sending_1 3 rfl rfl)
theorem dX6_sending_28 : decode cX6_sending 28 = .ok (.bipush 7, 2) := dk_16 7 (dk_at dksX6_sending_1 4 rfl rfl)
theorem dX6_sending_30 : decode cX6_sending 30 = .ok (.invokevirtual 131, 3) := dk_182 0 131 (dk_at dksX6_sending_1 6 rfl rfl)
theorem dX6_sending_33 : decode cX6_sending 33 = .ok (.invokestatic 213, 3) := dk_184 0 213 (dk_at dksX6_sending_1 9 rfl rfl)
theorem dX6_sending_36 : decode cX6_sending 36 = .ok (.invokevirtual 174, 3) := dk_182 0 174 (dk_at dksX6_sending_1 12 rfl rfl)
theorem dX6_sending_39 : decode cX6_sending 39 = .ok (.aload_n 0, 1) := dk_42 (dk_at dksX6_sending_1 15 rfl rfl)
theorem dX6_sending_40 : decode cX6_sending 40 = .ok (.getfield 64, 3) := dk_180 0 64 (dk_at dksX6_sending_1 16 rfl rfl)
theorem dX6_sending_43 : decode cX6_sending 43 = .ok (.iconst 2, 1) := dk_5 (dk_at dksX6_sending_1 19 rfl rfl)
theorem dX6_sending_44 : decode cX6_sending 44 = .ok (.if_icmp .ne 59, 3) := dk_160 0 59 (dk_at dksX6_sending_1 20 rfl rfl)
theorem dX6_sending_47 : decode cX6_sending 47 = .ok (.aload_n 0, 1) := dk_42 (dk_at dksX6_sending_1 23 rfl rfl)
theorem dX6_sending_48 : decode cX6_sending 48 = .ok (.aload_n 0, 1) := dk_42 (dk_at dksX6_sending_2 0 rfl rfl)
theorem dX6_sending_49 : decode cX6_sending 49 = .ok (.getfield 49, 3) := dk_180 0 49 (dk_at dksX6_sending_2 1 rfl rfl)
theorem dX6_sending_52 : decode cX6_sending 52 = .ok (.i2l, 1) := dk_133 (dk_at dksX6_sending_2 4 rfl rfl)
theorem dX6_sending_53 : decode cX6_sending 53 = .ok (.lconst 0, 1) := dk_9 (dk_at dksX6_sending_2 5 rfl rfl)
theorem dX6_sending_54 : decode cX6_sending 54 = .ok (.ldc2_w 219, 3) := dk_20 0 219 (dk_at dksX6_sending_2 6 rfl rfl)
theorem dX6_sending_57 : decode cX6_sending 57 = .ok (.invokestatic 56, 3) := dk_184 0 56 (dk_at dksX6_sending_2 9 rfl rfl)
theorem dX6_sending_60 : decode cX6_sending 60 = .ok (.iconst 2, 1) := dk_5 (dk_at dksX6_sending_2 12 rfl rfl)
theorem dX6_sending_61 : decode cX6_sending 61 = .ok (.invokevirtual 89, 3) := dk_182 0 89 (dk_at dksX6_sending_2 13 rfl rfl)
theorem dX6_sending_64 : decode cX6_sending 64 = .ok (.aload_n 0, 1) := dk_42 (dk_at dksX6_sending_2 16 rfl rfl)
theorem dX6_sending_65 : decode cX6_sending 65 = .ok (.aload 4, 2) := dk_25 4 (dk_at dksX6_sending_2 17 rfl rfl)
theorem dX6_sending_67 : decode cX6_sending 67 = .ok (.invokevirtual 156, 3) := dk_182 0 156 (dk_at dksX6_sending_2 19 rfl rfl)
theorem dX6_sending_70 : decode cX6_sending 70 = .ok (.bipush 8, 2) := dk_16 8 (dk_at dksX6_sending_2 22 rfl rfl)
theorem dX6_sending_72 : decode cX6_sending 72 = .ok (.if_icmp .ge 7, 3) := dk_162 0 7 (dk_at dksX6_sending_3 0 rfl rfl)
theorem dX6_sending_75 : decode cX6_sending 75 = .ok (.iconst 1, 1) := dk_4 (dk_at dksX6_sending_3 3 rfl rfl)
theorem dX6_sending_76 : decode cX6_sending 76 = .ok (.goto 4, 3) := dk_167 0 4 (dk_at dksX6_sending_3 4 rfl rfl)
theorem dX6_sending_79 : decode cX6_sending 79 = .ok (.iconst 0, 1) := dk_3 (dk_at dksX6_sending_3 7 rfl rfl)
theorem dX6_sending_80 : decode cX6_sending 80 = .ok (.iconst 5, 1) := dk_8 (dk_at dksX6_sending_3 8 rfl rfl)
theorem dX6_sending_81 : decode cX6_sending 81 = .ok (.invokevirtual 89, 3) := dk_182 0 89 (dk_at dksX6_sending_3 9 rfl rfl)
theorem dX6_sending_84 : decode cX6_sending 84 = .ok (.aload 4, 2) := dk_25 4 (dk_at dksX6_sending_3 12 rfl rfl)
theorem dX6_sending_86 : decode cX6_sending 86 = .ok (.aload_n 0, 1) := dk_42 (dk_at dksX6_sending_3 14 rfl rfl)
theorem dX6_sending_87 : decode cX6_sending 87 = .ok (.getfield 49, 3) := dk_180 0 49 (dk_at dksX6_sending_3 15 rfl rfl)
theorem dX6_sending_90 : decode cX6_sending 90 = .ok (.invokestatic 213, 3) := dk_184 0 213 (dk_at dksX6_sending_3 18 rfl rfl)
theorem dX6_sending_93 : decode cX6_sending 93 = .ok (.invokevirtual 174, 3) := dk_182 0 174 (dk_at dksX6_sending_3 21 rfl rfl)
theorem dX6_sending_96 : decode cX6_sending 96 = .ok (.aload_n 0, 1) := dk_42 (dk_at dksX6_sending_4 0 rfl rfl)
theorem dX6_sending_97 : decode cX6_sending 97 = .ok (.invokevirtual 32, 3) := dk_182 0 32 (dk_at dksX6_sending_4 1 rfl rfl)
theorem dX6_sending_100 : decode cX6_sending 100 = .ok (.goto (-61), 3) := dk_167 255 195 (dk_at dksX6_sending_4 4 rfl rfl)
theorem dX6_sending_103 : decode cX6_sending 103 = .ok (.aload 4, 2) := dk_25 4 (dk_at dksX6_sending_4 7 rfl rfl)
theorem dX6_sending_105 : decode cX6_sending 105 = .ok (.invokevirtual 156, 3) := dk_182 0 156 (dk_at dksX6_sending_4 9 rfl rfl)
theorem dX6_sending_108 : decode cX6_sending 108 = .ok (.newarray .int, 2) := dk_188_10 (dk_at dksX6_sending_4 12 rfl rfl)
theorem dX6_sending_110 : decode cX6_sending 110 = .ok (.astore 5, 2) := dk_58 5 (dk_at dksX6_sending_4 14 rfl rfl)
theorem dX6_sending_112 : decode cX6_sending 112 = .ok (.iconst 0, 1) := dk_3 (dk_at dksX6_sending_4 16 rfl rfl)
theorem dX6_sending_113 : decode cX6_sending 113 = .ok (.istore 6, 2) := dk_54 6 (dk_at dksX6_sending_4 17 rfl rfl)
theorem dX6_sending_115 : decode cX6_sending 115 = .ok (.aload 4, 2) := dk_25 4 (dk_at dksX6_sending_4 19 rfl rfl)
theorem dX6_sending_117 : decode cX6_sending 117 = .ok (.invokevirtual 221, 3) := dk_182 0 221 (dk_at dksX6_sending_4 21 rfl rfl)
theorem dX6_sending_120 : decode cX6_sending 120 = .ok (.astore 7, 2) := dk_58 7 (dk_at dksX6_sending_5 0 rfl rfl)
theorem dX6_sending_122 : decode cX6_sending 122 = .ok (.aload 7, 2) := dk_25 7 (dk_at dksX6_sending_5 2 rfl rfl)
theorem dX6_sending_124 : decode cX6_sending 124 = .ok (.invokeinterface 225 1, 5) := by decide +kernel
theorem dX6_sending_129 : decode cX6_sending 129 = .ok (.ifCond .eq 31, 3) := dk_153 0 31 (dk_at dksX6_sending_5 9 rfl rfl)
theorem dX6_sending_132 : decode cX6_sending 132 = .ok (.aload 7, 2) := dk_25 7 (dk_at dksX6_sending_5 12 rfl rfl)
theorem dX6_sending_134 : decode cX6_sending 134 = .ok (.invokeinterface 231 1, 5) := by decide +kernel
theorem dX6_sending_139 : decode cX6_sending 139 = .ok (.checkcast 214, 3) := dk_192 0 214 (dk_at dksX6_sending_5 19 rfl rfl)
theorem dX6_sending_142 : decode cX6_sending 142 = .ok (.invokevirtual 234, 3) := dk_182 0 234 (dk_at dksX6_sending_6 0 rfl rfl)
theorem dX6_sending_145 : decode cX6_sending 145 = .ok (.istore 8, 2) := dk_54 8 (dk_at dksX6_sending_6 3 rfl rfl)
theorem dX6_sending_147 : decode cX6_sending 147 = .ok (.aload 5, 2) := dk_25 5 (dk_at dksX6_sending_6 5 rfl rfl)
theorem dX6_sending_149 : decode cX6_sending 149 = .ok (.iload 6, 2) := dk_21 6 (dk_at dksX6_sending_6 7 rfl rfl)
theorem dX6_sending_151 : decode cX6_sending 151 = .ok (.iload 8, 2) := dk_21 8 (dk_at dksX6_sending_6 9 rfl rfl)
theorem dX6_sending_153 : decode cX6_sending 153 = .ok (.iastore, 1) := dk_79 (dk_at dksX6_sending_6 11 rfl rfl)
theorem dX6_sending_154 : decode cX6_sending 154 = .ok (.iinc 6 1, 3) := dk_132 6 1 (dk_at dksX6_sending_6 12 rfl rfl)
theorem dX6_sending_157 : decode cX6_sending 157 = .ok (.goto (-35), 3) := dk_167 255 221 (dk_at dksX6_sending_6 15 rfl rfl)
theorem dX6_sending_160 : decode cX6_sending 160 = .ok (.iload_n 2, 1) := dk_28 (dk_at dksX6_sending_6 18 rfl rfl)
theorem dX6_sending_161 : decode cX6_sending 161 = .ok (.iload_n 3, 1) := dk_29 (dk_at dksX6_sending_6 19 rfl rfl)
theorem dX6_sending_162 : decode cX6_sending 162 = .ok (.iload_n 1, 1) := dk_27 (dk_at dksX6_sending_6 20 rfl rfl)
theorem dX6_sending_163 : decode cX6_sending 163 = .ok (.aload 5, 2) := dk_25 5 (dk_at dksX6_sending_6 21 rfl rfl)
theorem dX6_sending_165 : decode cX6_sending 165 = .ok (.invokedynamic 237, 5) := by decide +kernel
theorem dX6_sending_170 : decode cX6_sending 170 = .ok (.areturn, 1) := dk_176 (dk_at dksX6_sending_7 5 rfl rfl)
abbrev cX6_lambda_sending_0 : ByteArray := prog_6_method_31_code
def yX6_lambda_sending_0 : MethodName := ⟨RX6, "lambda$sending$0", "(IIZ[ILWhistlePosts$World;)I"⟩
def dkwX6_lambda_sending_0_0 : List UInt8 := [25, 4, 26, 27, 3, 28, 45, 182, 1, 28, 172]
abbrev dktX6_lambda_sending_0_0 : List UInt8 := dkwX6_lambda_sending_0_0 ++ []
theorem dksX6_lambda_sending_0_0 : cX6_lambda_sending_0.data.toList.drop 0 = dktX6_lambda_sending_0_0 := by decide +kernel
theorem dX6_lambda_sending_0_0 : decode cX6_lambda_sending_0 0 = .ok (.aload 4, 2) := dk_25 4 (dk_at dksX6_lambda_sending_0_0 0 rfl rfl)
theorem dX6_lambda_sending_0_2 : decode cX6_lambda_sending_0 2 = .ok (.iload_n 0, 1) := dk_26 (dk_at dksX6_lambda_sending_0_0 2 rfl rfl)
theorem dX6_lambda_sending_0_3 : decode cX6_lambda_sending_0 3 = .ok (.iload_n 1, 1) := dk_27 (dk_at dksX6_lambda_sending_0_0 3 rfl rfl)
theorem dX6_lambda_sending_0_4 : decode cX6_lambda_sending_0 4 = .ok (.iconst 0, 1) := dk_3 (dk_at dksX6_lambda_sending_0_0 4 rfl rfl)
theorem dX6_lambda_sending_0_5 : decode cX6_lambda_sending_0 5 = .ok (.iload_n 2, 1) := dk_28 (dk_at dksX6_lambda_sending_0_0 5 rfl rfl)
theorem dX6_lambda_sending_0_6 : decode cX6_lambda_sending_0 6 = .ok (.aload_n 3, 1) := dk_45 (dk_at dksX6_lambda_sending_0_0 6 rfl rfl)
theorem dX6_lambda_sending_0_7 : decode cX6_lambda_sending_0 7 = .ok (.invokevirtual 284, 3) := dk_182 1 28 (dk_at dksX6_lambda_sending_0_0 7 rfl rfl)
theorem dX6_lambda_sending_0_10 : decode cX6_lambda_sending_0 10 = .ok (.ireturn, 1) := dk_172 (dk_at dksX6_lambda_sending_0_0 10 rfl rfl)
abbrev cX6_ticking : ByteArray := prog_6_method_21_code
def yX6_ticking : MethodName := ⟨RX6, "ticking", "()LWhistlePosts$Deed;"⟩
def dkwX6_ticking_0 : List UInt8 := [42, 4, 17, 0, 200, 182, 0, 131, 60, 27, 186, 0, 241, 0, 0, 176]
abbrev dktX6_ticking_0 : List UInt8 := dkwX6_ticking_0 ++ []
theorem dksX6_ticking_0 : cX6_ticking.data.toList.drop 0 = dktX6_ticking_0 := by decide +kernel
theorem dX6_ticking_0 : decode cX6_ticking 0 = .ok (.aload_n 0, 1) := dk_42 (dk_at dksX6_ticking_0 0 rfl rfl)
theorem dX6_ticking_1 : decode cX6_ticking 1 = .ok (.iconst 1, 1) := dk_4 (dk_at dksX6_ticking_0 1 rfl rfl)
theorem dX6_ticking_2 : decode cX6_ticking 2 = .ok (.sipush 200, 3) := dk_17 0 200 (dk_at dksX6_ticking_0 2 rfl rfl)
theorem dX6_ticking_5 : decode cX6_ticking 5 = .ok (.invokevirtual 131, 3) := dk_182 0 131 (dk_at dksX6_ticking_0 5 rfl rfl)
theorem dX6_ticking_8 : decode cX6_ticking 8 = .ok (.istore_n 1, 1) := dk_60 (dk_at dksX6_ticking_0 8 rfl rfl)
theorem dX6_ticking_9 : decode cX6_ticking 9 = .ok (.iload_n 1, 1) := dk_27 (dk_at dksX6_ticking_0 9 rfl rfl)
theorem dX6_ticking_10 : decode cX6_ticking 10 = .ok (.invokedynamic 241, 5) := by decide +kernel
theorem dX6_ticking_15 : decode cX6_ticking 15 = .ok (.areturn, 1) := dk_176 (dk_at dksX6_ticking_0 15 rfl rfl)
abbrev cX6_lambda_ticking_1 : ByteArray := prog_6_method_30_code
def yX6_lambda_ticking_1 : MethodName := ⟨RX6, "lambda$ticking$1", "(ILWhistlePosts$World;)I"⟩
def dkwX6_lambda_ticking_1_0 : List UInt8 := [43, 26, 182, 1, 25, 172]
abbrev dktX6_lambda_ticking_1_0 : List UInt8 := dkwX6_lambda_ticking_1_0 ++ []
theorem dksX6_lambda_ticking_1_0 : cX6_lambda_ticking_1.data.toList.drop 0 = dktX6_lambda_ticking_1_0 := by decide +kernel
theorem dX6_lambda_ticking_1_0 : decode cX6_lambda_ticking_1 0 = .ok (.aload_n 1, 1) := dk_43 (dk_at dksX6_lambda_ticking_1_0 0 rfl rfl)
theorem dX6_lambda_ticking_1_1 : decode cX6_lambda_ticking_1 1 = .ok (.iload_n 0, 1) := dk_26 (dk_at dksX6_lambda_ticking_1_0 1 rfl rfl)
theorem dX6_lambda_ticking_1_2 : decode cX6_lambda_ticking_1 2 = .ok (.invokevirtual 281, 3) := dk_182 1 25 (dk_at dksX6_lambda_ticking_1_0 2 rfl rfl)
theorem dX6_lambda_ticking_1_5 : decode cX6_lambda_ticking_1 5 = .ok (.ireturn, 1) := dk_172 (dk_at dksX6_lambda_ticking_1_0 5 rfl rfl)
abbrev cX6_giving : ByteArray := prog_6_method_22_code
def yX6_giving : MethodName := ⟨RX6, "giving", "()LWhistlePosts$Deed;"⟩
def dkwX6_giving_0 : List UInt8 := [42, 182, 0, 159, 60, 42, 4, 16, 99, 182, 0, 131, 61, 27, 28, 186, 0, 244, 0, 0, 176]
abbrev dktX6_giving_0 : List UInt8 := dkwX6_giving_0 ++ []
theorem dksX6_giving_0 : cX6_giving.data.toList.drop 0 = dktX6_giving_0 := by decide +kernel
theorem dX6_giving_0 : decode cX6_giving 0 = .ok (.aload_n 0, 1) := dk_42 (dk_at dksX6_giving_0 0 rfl rfl)
theorem dX6_giving_1 : decode cX6_giving 1 = .ok (.invokevirtual 159, 3) := dk_182 0 159 (dk_at dksX6_giving_0 1 rfl rfl)
theorem dX6_giving_4 : decode cX6_giving 4 = .ok (.istore_n 1, 1) := dk_60 (dk_at dksX6_giving_0 4 rfl rfl)
theorem dX6_giving_5 : decode cX6_giving 5 = .ok (.aload_n 0, 1) := dk_42 (dk_at dksX6_giving_0 5 rfl rfl)
theorem dX6_giving_6 : decode cX6_giving 6 = .ok (.iconst 1, 1) := dk_4 (dk_at dksX6_giving_0 6 rfl rfl)
theorem dX6_giving_7 : decode cX6_giving 7 = .ok (.bipush 99, 2) := dk_16 99 (dk_at dksX6_giving_0 7 rfl rfl)
theorem dX6_giving_9 : decode cX6_giving 9 = .ok (.invokevirtual 131, 3) := dk_182 0 131 (dk_at dksX6_giving_0 9 rfl rfl)
theorem dX6_giving_12 : decode cX6_giving 12 = .ok (.istore_n 2, 1) := dk_61 (dk_at dksX6_giving_0 12 rfl rfl)
theorem dX6_giving_13 : decode cX6_giving 13 = .ok (.iload_n 1, 1) := dk_27 (dk_at dksX6_giving_0 13 rfl rfl)
theorem dX6_giving_14 : decode cX6_giving 14 = .ok (.iload_n 2, 1) := dk_28 (dk_at dksX6_giving_0 14 rfl rfl)
theorem dX6_giving_15 : decode cX6_giving 15 = .ok (.invokedynamic 244, 5) := by decide +kernel
theorem dX6_giving_20 : decode cX6_giving 20 = .ok (.areturn, 1) := dk_176 (dk_at dksX6_giving_0 20 rfl rfl)
abbrev cX6_lambda_giving_2 : ByteArray := prog_6_method_29_code
def yX6_lambda_giving_2 : MethodName := ⟨RX6, "lambda$giving$2", "(IILWhistlePosts$World;)I"⟩
def dkwX6_lambda_giving_2_0 : List UInt8 := [44, 26, 27, 182, 1, 22, 172]
abbrev dktX6_lambda_giving_2_0 : List UInt8 := dkwX6_lambda_giving_2_0 ++ []
theorem dksX6_lambda_giving_2_0 : cX6_lambda_giving_2.data.toList.drop 0 = dktX6_lambda_giving_2_0 := by decide +kernel
theorem dX6_lambda_giving_2_0 : decode cX6_lambda_giving_2 0 = .ok (.aload_n 2, 1) := dk_44 (dk_at dksX6_lambda_giving_2_0 0 rfl rfl)
theorem dX6_lambda_giving_2_1 : decode cX6_lambda_giving_2 1 = .ok (.iload_n 0, 1) := dk_26 (dk_at dksX6_lambda_giving_2_0 1 rfl rfl)
theorem dX6_lambda_giving_2_2 : decode cX6_lambda_giving_2 2 = .ok (.iload_n 1, 1) := dk_27 (dk_at dksX6_lambda_giving_2_0 2 rfl rfl)
theorem dX6_lambda_giving_2_3 : decode cX6_lambda_giving_2 3 = .ok (.invokevirtual 278, 3) := dk_182 1 22 (dk_at dksX6_lambda_giving_2_0 3 rfl rfl)
theorem dX6_lambda_giving_2_6 : decode cX6_lambda_giving_2 6 = .ok (.ireturn, 1) := dk_172 (dk_at dksX6_lambda_giving_2_0 6 rfl rfl)
abbrev cX6_cutting : ByteArray := prog_6_method_23_code
def yX6_cutting : MethodName := ⟨RX6, "cutting", "()LWhistlePosts$Deed;"⟩
def dkwX6_cutting_0 : List UInt8 := [42, 182, 0, 159, 60, 42, 27, 182, 0, 162, 61, 42, 182, 0, 32, 27, 28, 186, 0, 247, 0, 0, 176]
abbrev dktX6_cutting_0 : List UInt8 := dkwX6_cutting_0 ++ []
theorem dksX6_cutting_0 : cX6_cutting.data.toList.drop 0 = dktX6_cutting_0 := by decide +kernel
theorem dX6_cutting_0 : decode cX6_cutting 0 = .ok (.aload_n 0, 1) := dk_42 (dk_at dksX6_cutting_0 0 rfl rfl)
theorem dX6_cutting_1 : decode cX6_cutting 1 = .ok (.invokevirtual 159, 3) := dk_182 0 159 (dk_at dksX6_cutting_0 1 rfl rfl)
theorem dX6_cutting_4 : decode cX6_cutting 4 = .ok (.istore_n 1, 1) := dk_60 (dk_at dksX6_cutting_0 4 rfl rfl)
theorem dX6_cutting_5 : decode cX6_cutting 5 = .ok (.aload_n 0, 1) := dk_42 (dk_at dksX6_cutting_0 5 rfl rfl)
theorem dX6_cutting_6 : decode cX6_cutting 6 = .ok (.iload_n 1, 1) := dk_27 (dk_at dksX6_cutting_0 6 rfl rfl)
theorem dX6_cutting_7 : decode cX6_cutting 7 = .ok (.invokevirtual 162, 3) := dk_182 0 162 (dk_at dksX6_cutting_0 7 rfl rfl)
theorem dX6_cutting_10 : decode cX6_cutting 10 = .ok (.istore_n 2, 1) := dk_61 (dk_at dksX6_cutting_0 10 rfl rfl)
theorem dX6_cutting_11 : decode cX6_cutting 11 = .ok (.aload_n 0, 1) := dk_42 (dk_at dksX6_cutting_0 11 rfl rfl)
theorem dX6_cutting_12 : decode cX6_cutting 12 = .ok (.invokevirtual 32, 3) := dk_182 0 32 (dk_at dksX6_cutting_0 12 rfl rfl)
theorem dX6_cutting_15 : decode cX6_cutting 15 = .ok (.iload_n 1, 1) := dk_27 (dk_at dksX6_cutting_0 15 rfl rfl)
theorem dX6_cutting_16 : decode cX6_cutting 16 = .ok (.iload_n 2, 1) := dk_28 (dk_at dksX6_cutting_0 16 rfl rfl)
theorem dX6_cutting_17 : decode cX6_cutting 17 = .ok (.invokedynamic 247, 5) := by decide +kernel
theorem dX6_cutting_22 : decode cX6_cutting 22 = .ok (.areturn, 1) := dk_176 (dk_at dksX6_cutting_0 22 rfl rfl)
abbrev cX6_lambda_cutting_3 : ByteArray := prog_6_method_28_code
def yX6_lambda_cutting_3 : MethodName := ⟨RX6, "lambda$cutting$3", "(IILWhistlePosts$World;)I"⟩
def dkwX6_lambda_cutting_3_0 : List UInt8 := [44, 26, 27, 182, 1, 19, 172]
abbrev dktX6_lambda_cutting_3_0 : List UInt8 := dkwX6_lambda_cutting_3_0 ++ []
theorem dksX6_lambda_cutting_3_0 : cX6_lambda_cutting_3.data.toList.drop 0 = dktX6_lambda_cutting_3_0 := by decide +kernel
theorem dX6_lambda_cutting_3_0 : decode cX6_lambda_cutting_3 0 = .ok (.aload_n 2, 1) := dk_44 (dk_at dksX6_lambda_cutting_3_0 0 rfl rfl)
theorem dX6_lambda_cutting_3_1 : decode cX6_lambda_cutting_3 1 = .ok (.iload_n 0, 1) := dk_26 (dk_at dksX6_lambda_cutting_3_0 1 rfl rfl)
theorem dX6_lambda_cutting_3_2 : decode cX6_lambda_cutting_3 2 = .ok (.iload_n 1, 1) := dk_27 (dk_at dksX6_lambda_cutting_3_0 2 rfl rfl)
theorem dX6_lambda_cutting_3_3 : decode cX6_lambda_cutting_3 3 = .ok (.invokevirtual 275, 3) := dk_182 1 19 (dk_at dksX6_lambda_cutting_3_0 3 rfl rfl)
theorem dX6_lambda_cutting_3_6 : decode cX6_lambda_cutting_3 6 = .ok (.ireturn, 1) := dk_172 (dk_at dksX6_lambda_cutting_3_0 6 rfl rfl)
abbrev cX6_ruling : ByteArray := prog_6_method_24_code
def yX6_ruling : MethodName := ⟨RX6, "ruling", "(I)LWhistlePosts$Deed;"⟩
def dkwX6_ruling_0 : List UInt8 := [42, 27, 182, 0, 190, 61, 27, 28, 186, 0, 248, 0, 0, 176]
abbrev dktX6_ruling_0 : List UInt8 := dkwX6_ruling_0 ++ []
theorem dksX6_ruling_0 : cX6_ruling.data.toList.drop 0 = dktX6_ruling_0 := by decide +kernel
theorem dX6_ruling_0 : decode cX6_ruling 0 = .ok (.aload_n 0, 1) := dk_42 (dk_at dksX6_ruling_0 0 rfl rfl)
theorem dX6_ruling_1 : decode cX6_ruling 1 = .ok (.iload_n 1, 1) := dk_27 (dk_at dksX6_ruling_0 1 rfl rfl)
theorem dX6_ruling_2 : decode cX6_ruling 2 = .ok (.invokevirtual 190, 3) := dk_182 0 190 (dk_at dksX6_ruling_0 2 rfl rfl)
theorem dX6_ruling_5 : decode cX6_ruling 5 = .ok (.istore_n 2, 1) := dk_61 (dk_at dksX6_ruling_0 5 rfl rfl)
theorem dX6_ruling_6 : decode cX6_ruling 6 = .ok (.iload_n 1, 1) := dk_27 (dk_at dksX6_ruling_0 6 rfl rfl)
theorem dX6_ruling_7 : decode cX6_ruling 7 = .ok (.iload_n 2, 1) := dk_28 (dk_at dksX6_ruling_0 7 rfl rfl)
theorem dX6_ruling_8 : decode cX6_ruling 8 = .ok (.invokedynamic 248, 5) := by decide +kernel
theorem dX6_ruling_13 : decode cX6_ruling 13 = .ok (.areturn, 1) := dk_176 (dk_at dksX6_ruling_0 13 rfl rfl)
abbrev cX6_lambda_ruling_4 : ByteArray := prog_6_method_27_code
def yX6_lambda_ruling_4 : MethodName := ⟨RX6, "lambda$ruling$4", "(IILWhistlePosts$World;)I"⟩
def dkwX6_lambda_ruling_4_0 : List UInt8 := [44, 26, 27, 182, 0, 193, 172]
abbrev dktX6_lambda_ruling_4_0 : List UInt8 := dkwX6_lambda_ruling_4_0 ++ []
theorem dksX6_lambda_ruling_4_0 : cX6_lambda_ruling_4.data.toList.drop 0 = dktX6_lambda_ruling_4_0 := by decide +kernel
theorem dX6_lambda_ruling_4_0 : decode cX6_lambda_ruling_4 0 = .ok (.aload_n 2, 1) := dk_44 (dk_at dksX6_lambda_ruling_4_0 0 rfl rfl)
theorem dX6_lambda_ruling_4_1 : decode cX6_lambda_ruling_4 1 = .ok (.iload_n 0, 1) := dk_26 (dk_at dksX6_lambda_ruling_4_0 1 rfl rfl)
theorem dX6_lambda_ruling_4_2 : decode cX6_lambda_ruling_4 2 = .ok (.iload_n 1, 1) := dk_27 (dk_at dksX6_lambda_ruling_4_0 2 rfl rfl)
theorem dX6_lambda_ruling_4_3 : decode cX6_lambda_ruling_4 3 = .ok (.invokevirtual 193, 3) := dk_182 0 193 (dk_at dksX6_lambda_ruling_4_0 3 rfl rfl)
theorem dX6_lambda_ruling_4_6 : decode cX6_lambda_ruling_4 6 = .ok (.ireturn, 1) := dk_172 (dk_at dksX6_lambda_ruling_4_0 6 rfl rfl)
theorem q180 : (Jvm.Cond.initialized "WhistlePosts$Reader") ∈ lw_all := lw_g (lw_at lw_m1 30 rfl) rfl
theorem q599 : (Jvm.Cond.fieldLinkNest "WhistlePosts$Reader" (135 : Nat) "WhistlePosts$World" "roofs" "Ljava/util/List;" "WhistlePosts") ∈ lw_tbl := lw_at lw_m2 209 rfl
theorem q603 : (Jvm.Cond.fieldLinkNest "WhistlePosts$Reader" (152 : Nat) "WhistlePosts$World" "ways" "Ljava/util/LinkedList;" "WhistlePosts") ∈ lw_tbl := lw_at lw_m2 213 rfl
theorem q713 : (Jvm.Cond.selects "WhistlePosts$Reader" ({ cls := "java/lang/Object", name := "getClass", desc := "()Ljava/lang/Class;" } : Jvm.MethodName) ({ cls := "java/lang/Object", name := "getClass", desc := "()Ljava/lang/Class;" } : Jvm.MethodName)) ∈ lw_all := lw_g (lw_at lw_m3 83 rfl) rfl
theorem q827 : (Jvm.Cond.fieldLinkNest "WhistlePosts$Reader" (35 : Nat) "WhistlePosts" "buffer" "[B" "WhistlePosts") ∈ lw_tbl := lw_at lw_m3 197 rfl
theorem q829 : (Jvm.Cond.fieldLinkNest "WhistlePosts$Reader" (15 : Nat) "WhistlePosts" "buffered" "I" "WhistlePosts") ∈ lw_tbl := lw_at lw_m3 199 rfl
theorem q879 : (Jvm.Cond.instantiable "WhistlePosts$Reader" (8 : Nat)) ∈ lw_all := lw_g (lw_at lw_m4 9 rfl) rfl
theorem q881 : (Jvm.Cond.instanceMethod ({ cls := "WhistlePosts$Reader", name := "<init>", desc := "(LWhistlePosts;LWhistlePosts$World;)V" } : Jvm.MethodName)) ∈ lw_all := lw_g (lw_at lw_m4 11 rfl) rfl
theorem q882 : (Jvm.Cond.code ({ cls := "WhistlePosts$Reader", name := "<init>", desc := "(LWhistlePosts;LWhistlePosts$World;)V" } : Jvm.MethodName) prog_6_method_1_code (3 : Nat) (Option.none : Option Jvm.ClassFile.FieldType)) ∈ lw_all := lw_g (lw_at lw_m4 12 rfl) rfl
theorem q883 : (Jvm.Cond.methodLink "WhistlePosts$Reader" (9 : Nat) ({ cls := "java/lang/Object", name := "<init>", desc := "()V" } : Jvm.MethodName)) ∈ lw_all := lw_g (lw_at lw_m4 13 rfl) rfl
theorem q884 : (Jvm.Cond.stringRef "WhistlePosts$Reader" (22 : Nat) "") ∈ lw_tbl := lw_at lw_m4 14 rfl
theorem q885 : (Jvm.Cond.methodLink "WhistlePosts$Reader" (32 : Nat) ({ cls := "WhistlePosts$Reader", name := "moves", desc := "()V" } : Jvm.MethodName)) ∈ lw_all := lw_g (lw_at lw_m4 15 rfl) rfl
theorem q886 : (Jvm.Cond.privateMethod ({ cls := "WhistlePosts$Reader", name := "moves", desc := "()V" } : Jvm.MethodName)) ∈ lw_tbl := lw_at lw_m4 16 rfl
theorem q887 : (Jvm.Cond.instanceMethod ({ cls := "WhistlePosts$Reader", name := "moves", desc := "()V" } : Jvm.MethodName)) ∈ lw_all := lw_g (lw_at lw_m4 17 rfl) rfl
theorem q888 : (Jvm.Cond.code ({ cls := "WhistlePosts$Reader", name := "moves", desc := "()V" } : Jvm.MethodName) prog_6_method_3_code (2 : Nat) (Option.none : Option Jvm.ClassFile.FieldType)) ∈ lw_all := lw_g (lw_at lw_m4 18 rfl) rfl
theorem q889 : (Jvm.Cond.methodLink "WhistlePosts$Reader" (42 : Nat) ({ cls := "WhistlePosts$Reader", name := "byteAt", desc := "(I)I" } : Jvm.MethodName)) ∈ lw_all := lw_g (lw_at lw_m4 19 rfl) rfl
theorem q890 : (Jvm.Cond.privateMethod ({ cls := "WhistlePosts$Reader", name := "byteAt", desc := "(I)I" } : Jvm.MethodName)) ∈ lw_tbl := lw_at lw_m4 20 rfl
theorem q891 : (Jvm.Cond.instanceMethod ({ cls := "WhistlePosts$Reader", name := "byteAt", desc := "(I)I" } : Jvm.MethodName)) ∈ lw_all := lw_g (lw_at lw_m4 21 rfl) rfl
theorem q892 : (Jvm.Cond.code ({ cls := "WhistlePosts$Reader", name := "byteAt", desc := "(I)I" } : Jvm.MethodName) prog_6_method_2_code (2 : Nat) (Option.some Jvm.ClassFile.FieldType.int)) ∈ lw_all := lw_g (lw_at lw_m4 22 rfl) rfl
theorem q893 : (Jvm.Cond.constantLong "WhistlePosts$Reader" (52 : Nat) (97 : Int64)) ∈ lw_all := lw_g (lw_at lw_m4 23 rfl) rfl
theorem q894 : (Jvm.Cond.constantLong "WhistlePosts$Reader" (54 : Nat) (122 : Int64)) ∈ lw_all := lw_g (lw_at lw_m4 24 rfl) rfl
theorem q895 : (Jvm.Cond.methodLinkNest "WhistlePosts$Reader" (56 : Nat) ({ cls := "WhistlePosts", name := "in", desc := "(JJJ)Z" } : Jvm.MethodName) "WhistlePosts") ∈ lw_tbl := lw_at lw_m4 25 rfl
theorem q896 : (Jvm.Cond.constantLong "WhistlePosts$Reader" (60 : Nat) (48 : Int64)) ∈ lw_all := lw_g (lw_at lw_m4 26 rfl) rfl
theorem q897 : (Jvm.Cond.constantLong "WhistlePosts$Reader" (62 : Nat) (57 : Int64)) ∈ lw_all := lw_g (lw_at lw_m4 27 rfl) rfl
theorem q898 : (Jvm.Cond.methodLink "WhistlePosts$Reader" (67 : Nat) ({ cls := "WhistlePosts$Reader", name := "letters", desc := "()V" } : Jvm.MethodName)) ∈ lw_all := lw_g (lw_at lw_m4 28 rfl) rfl
theorem q899 : (Jvm.Cond.privateMethod ({ cls := "WhistlePosts$Reader", name := "letters", desc := "()V" } : Jvm.MethodName)) ∈ lw_tbl := lw_at lw_m4 29 rfl
theorem q900 : (Jvm.Cond.instanceMethod ({ cls := "WhistlePosts$Reader", name := "letters", desc := "()V" } : Jvm.MethodName)) ∈ lw_all := lw_g (lw_at lw_m4 30 rfl) rfl
theorem q901 : (Jvm.Cond.code ({ cls := "WhistlePosts$Reader", name := "letters", desc := "()V" } : Jvm.MethodName) prog_6_method_4_code (2 : Nat) (Option.none : Option Jvm.ClassFile.FieldType)) ∈ lw_all := lw_g (lw_at lw_m4 31 rfl) rfl
theorem q902 : (Jvm.Cond.classLink "WhistlePosts$Reader" (73 : Nat) "java/lang/StringBuilder") ∈ lw_all := lw_g (lw_at lw_m4 32 rfl) rfl
theorem q903 : (Jvm.Cond.methodLink "WhistlePosts$Reader" (75 : Nat) ({ cls := "java/lang/StringBuilder", name := "<init>", desc := "()V" } : Jvm.MethodName)) ∈ lw_all := lw_g (lw_at lw_m4 33 rfl) rfl
theorem q904 : (Jvm.Cond.methodLink "WhistlePosts$Reader" (76 : Nat) ({ cls := "java/lang/StringBuilder", name := "append", desc := "(C)Ljava/lang/StringBuilder;" } : Jvm.MethodName)) ∈ lw_all := lw_g (lw_at lw_m4 34 rfl) rfl
theorem q926 : (Jvm.Cond.methodLink "WhistlePosts$Reader" (80 : Nat) ({ cls := "java/lang/StringBuilder", name := "toString", desc := "()Ljava/lang/String;" } : Jvm.MethodName)) ∈ lw_all := lw_g (lw_at lw_m4 56 rfl) rfl
theorem q927 : (Jvm.Cond.methodLink "WhistlePosts$Reader" (70 : Nat) ({ cls := "WhistlePosts$Reader", name := "digits", desc := "()V" } : Jvm.MethodName)) ∈ lw_all := lw_g (lw_at lw_m4 57 rfl) rfl
theorem q928 : (Jvm.Cond.privateMethod ({ cls := "WhistlePosts$Reader", name := "digits", desc := "()V" } : Jvm.MethodName)) ∈ lw_tbl := lw_at lw_m4 58 rfl
theorem q929 : (Jvm.Cond.instanceMethod ({ cls := "WhistlePosts$Reader", name := "digits", desc := "()V" } : Jvm.MethodName)) ∈ lw_all := lw_g (lw_at lw_m4 59 rfl) rfl
theorem q930 : (Jvm.Cond.code ({ cls := "WhistlePosts$Reader", name := "digits", desc := "()V" } : Jvm.MethodName) prog_6_method_5_code (1 : Nat) (Option.none : Option Jvm.ClassFile.FieldType)) ∈ lw_all := lw_g (lw_at lw_m4 60 rfl) rfl
theorem q931 : (Jvm.Cond.fieldLink "WhistlePosts$Reader" (19 : Nat) "WhistlePosts$Reader" "size" "I") ∈ lw_all := lw_g (lw_at lw_m4 61 rfl) rfl
theorem q932 : (Jvm.Cond.fieldLink "WhistlePosts$Reader" (28 : Nat) "WhistlePosts$Reader" "made" "LWhistlePosts$World;") ∈ lw_all := lw_g (lw_at lw_m4 62 rfl) rfl
theorem q933 : (Jvm.Cond.fieldLink "WhistlePosts$Reader" (46 : Nat) "WhistlePosts$Reader" "at" "I") ∈ lw_all := lw_g (lw_at lw_m4 63 rfl) rfl
theorem q934 : (Jvm.Cond.fieldLink "WhistlePosts$Reader" (39 : Nat) "WhistlePosts$Reader" "next" "I") ∈ lw_all := lw_g (lw_at lw_m4 64 rfl) rfl
theorem q935 : (Jvm.Cond.fieldLink "WhistlePosts$Reader" (49 : Nat) "WhistlePosts$Reader" "value" "I") ∈ lw_all := lw_g (lw_at lw_m4 65 rfl) rfl
theorem q936 : (Jvm.Cond.fieldLink "WhistlePosts$Reader" (64 : Nat) "WhistlePosts$Reader" "token" "I") ∈ lw_all := lw_g (lw_at lw_m4 66 rfl) rfl
theorem q937 : (Jvm.Cond.fieldLink "WhistlePosts$Reader" (24 : Nat) "WhistlePosts$Reader" "word" "Ljava/lang/String;") ∈ lw_all := lw_g (lw_at lw_m4 67 rfl) rfl
theorem q938 : (Jvm.Cond.fieldLink "WhistlePosts$Reader" (3 : Nat) "WhistlePosts$Reader" "this$0" "LWhistlePosts;") ∈ lw_all := lw_g (lw_at lw_m4 68 rfl) rfl
theorem q939 : (Jvm.Cond.laysFinal "WhistlePosts$Reader" "WhistlePosts$Reader" "size" "I") ∈ lw_all := lw_g (lw_at lw_m4 69 rfl) rfl
theorem q940 : (Jvm.Cond.soleField "WhistlePosts$Reader" "size") ∈ lw_all := lw_g (lw_at lw_m4 70 rfl) rfl
theorem q941 : (Jvm.Cond.laysFinal "WhistlePosts$Reader" "WhistlePosts$Reader" "made" "LWhistlePosts$World;") ∈ lw_all := lw_g (lw_at lw_m4 71 rfl) rfl
theorem q942 : (Jvm.Cond.soleField "WhistlePosts$Reader" "made") ∈ lw_all := lw_g (lw_at lw_m4 72 rfl) rfl
theorem q943 : (Jvm.Cond.lays "WhistlePosts$Reader" "WhistlePosts$Reader" "at" "I") ∈ lw_all := lw_g (lw_at lw_m4 73 rfl) rfl
theorem q944 : (Jvm.Cond.soleField "WhistlePosts$Reader" "at") ∈ lw_all := lw_g (lw_at lw_m4 74 rfl) rfl
theorem q945 : (Jvm.Cond.lays "WhistlePosts$Reader" "WhistlePosts$Reader" "next" "I") ∈ lw_all := lw_g (lw_at lw_m4 75 rfl) rfl
theorem q946 : (Jvm.Cond.soleField "WhistlePosts$Reader" "next") ∈ lw_all := lw_g (lw_at lw_m4 76 rfl) rfl
theorem q947 : (Jvm.Cond.lays "WhistlePosts$Reader" "WhistlePosts$Reader" "value" "I") ∈ lw_all := lw_g (lw_at lw_m4 77 rfl) rfl
theorem q948 : (Jvm.Cond.soleField "WhistlePosts$Reader" "value") ∈ lw_all := lw_g (lw_at lw_m4 78 rfl) rfl
theorem q949 : (Jvm.Cond.lays "WhistlePosts$Reader" "WhistlePosts$Reader" "token" "I") ∈ lw_all := lw_g (lw_at lw_m4 79 rfl) rfl
theorem q950 : (Jvm.Cond.soleField "WhistlePosts$Reader" "token") ∈ lw_all := lw_g (lw_at lw_m4 80 rfl) rfl
theorem q951 : (Jvm.Cond.lays "WhistlePosts$Reader" "WhistlePosts$Reader" "word" "Ljava/lang/String;") ∈ lw_all := lw_g (lw_at lw_m4 81 rfl) rfl
theorem q952 : (Jvm.Cond.soleField "WhistlePosts$Reader" "word") ∈ lw_all := lw_g (lw_at lw_m4 82 rfl) rfl
theorem q953 : (Jvm.Cond.laysFinal "WhistlePosts$Reader" "WhistlePosts$Reader" "this$0" "LWhistlePosts;") ∈ lw_all := lw_g (lw_at lw_m4 83 rfl) rfl
theorem q954 : (Jvm.Cond.soleField "WhistlePosts$Reader" "this$0") ∈ lw_all := lw_g (lw_at lw_m4 84 rfl) rfl
theorem q955 : (Jvm.Cond.superclass "WhistlePosts$Reader" "java/lang/Object") ∈ lw_all := lw_g (lw_at lw_m4 85 rfl) rfl
theorem q957 : (Jvm.Cond.instanceMethod ({ cls := "WhistlePosts$Reader", name := "setup", desc := "()LWhistlePosts$World;" } : Jvm.MethodName)) ∈ lw_all := lw_g (lw_at lw_m4 87 rfl) rfl
theorem q958 : (Jvm.Cond.selects "WhistlePosts$Reader" ({ cls := "WhistlePosts$Reader", name := "setup", desc := "()LWhistlePosts$World;" } : Jvm.MethodName) ({ cls := "WhistlePosts$Reader", name := "setup", desc := "()LWhistlePosts$World;" } : Jvm.MethodName)) ∈ lw_all := lw_g (lw_at lw_m4 88 rfl) rfl
theorem q959 : (Jvm.Cond.codeWith ({ cls := "WhistlePosts$Reader", name := "setup", desc := "()LWhistlePosts$World;" } : Jvm.MethodName) prog_6_method_18_code (3 : Nat) (Option.some (Jvm.ClassFile.FieldType.object "WhistlePosts$World")) [((0 : Nat), (50 : Nat), (60 : Nat), (0 : Nat))]) ∈ lw_all := lw_g (lw_at lw_m4 89 rfl) rfl
theorem q960 : (Jvm.Cond.methodLink "WhistlePosts$Reader" (196 : Nat) ({ cls := "WhistlePosts$Reader", name := "statement", desc := "()V" } : Jvm.MethodName)) ∈ lw_all := lw_g (lw_at lw_m4 90 rfl) rfl
theorem q961 : (Jvm.Cond.privateMethod ({ cls := "WhistlePosts$Reader", name := "statement", desc := "()V" } : Jvm.MethodName)) ∈ lw_tbl := lw_at lw_m4 91 rfl
theorem q962 : (Jvm.Cond.instanceMethod ({ cls := "WhistlePosts$Reader", name := "statement", desc := "()V" } : Jvm.MethodName)) ∈ lw_all := lw_g (lw_at lw_m4 92 rfl) rfl
theorem q963 : (Jvm.Cond.code ({ cls := "WhistlePosts$Reader", name := "statement", desc := "()V" } : Jvm.MethodName) prog_6_method_17_code (5 : Nat) (Option.none : Option Jvm.ClassFile.FieldType)) ∈ lw_all := lw_g (lw_at lw_m4 93 rfl) rfl
theorem q964 : (Jvm.Cond.methodLink "WhistlePosts$Reader" (111 : Nat) ({ cls := "java/lang/String", name := "hashCode", desc := "()I" } : Jvm.MethodName)) ∈ lw_all := lw_g (lw_at lw_m4 94 rfl) rfl
theorem q1025 : (Jvm.Cond.stringRef "WhistlePosts$Reader" (178 : Nat) "roof") ∈ lw_tbl := lw_at lw_m4 155 rfl
theorem q1026 : (Jvm.Cond.methodLink "WhistlePosts$Reader" (116 : Nat) ({ cls := "java/lang/String", name := "equals", desc := "(Ljava/lang/Object;)Z" } : Jvm.MethodName)) ∈ lw_all := lw_g (lw_at lw_m4 156 rfl) rfl
theorem q1034 : (Jvm.Cond.stringRef "WhistlePosts$Reader" (179 : Nat) "way") ∈ lw_tbl := lw_at lw_m4 164 rfl
theorem q1035 : (Jvm.Cond.methodLink "WhistlePosts$Reader" (181 : Nat) ({ cls := "WhistlePosts$Reader", name := "roofing", desc := "()V" } : Jvm.MethodName)) ∈ lw_all := lw_g (lw_at lw_m4 165 rfl) rfl
theorem q1036 : (Jvm.Cond.privateMethod ({ cls := "WhistlePosts$Reader", name := "roofing", desc := "()V" } : Jvm.MethodName)) ∈ lw_tbl := lw_at lw_m4 166 rfl
theorem q1037 : (Jvm.Cond.instanceMethod ({ cls := "WhistlePosts$Reader", name := "roofing", desc := "()V" } : Jvm.MethodName)) ∈ lw_all := lw_g (lw_at lw_m4 167 rfl) rfl
theorem q1038 : (Jvm.Cond.code ({ cls := "WhistlePosts$Reader", name := "roofing", desc := "()V" } : Jvm.MethodName) prog_6_method_15_code (5 : Nat) (Option.none : Option Jvm.ClassFile.FieldType)) ∈ lw_all := lw_g (lw_at lw_m4 168 rfl) rfl
theorem q1039 : (Jvm.Cond.interfaceEntry "WhistlePosts$Reader" (139 : Nat)) ∈ lw_tbl := lw_at lw_m4 169 rfl
theorem q1040 : (Jvm.Cond.methodLink "WhistlePosts$Reader" (139 : Nat) ({ cls := "java/util/List", name := "size", desc := "()I" } : Jvm.MethodName)) ∈ lw_all := lw_g (lw_at lw_m4 170 rfl) rfl
theorem q1053 : (Jvm.Cond.methodLink "WhistlePosts$Reader" (89 : Nat) ({ cls := "WhistlePosts$Reader", name := "must", desc := "(ZI)V" } : Jvm.MethodName)) ∈ lw_all := lw_g (lw_at lw_m4 183 rfl) rfl
theorem q1054 : (Jvm.Cond.privateMethod ({ cls := "WhistlePosts$Reader", name := "must", desc := "(ZI)V" } : Jvm.MethodName)) ∈ lw_tbl := lw_at lw_m4 184 rfl
theorem q1055 : (Jvm.Cond.instanceMethod ({ cls := "WhistlePosts$Reader", name := "must", desc := "(ZI)V" } : Jvm.MethodName)) ∈ lw_all := lw_g (lw_at lw_m4 185 rfl) rfl
theorem q1056 : (Jvm.Cond.code ({ cls := "WhistlePosts$Reader", name := "must", desc := "(ZI)V" } : Jvm.MethodName) prog_6_method_6_code (3 : Nat) (Option.none : Option Jvm.ClassFile.FieldType)) ∈ lw_all := lw_g (lw_at lw_m4 186 rfl) rfl
theorem q1057 : (Jvm.Cond.classLink "WhistlePosts$Reader" (84 : Nat) "WhistlePosts$TextError") ∈ lw_all := lw_g (lw_at lw_m4 187 rfl) rfl
theorem q1066 : (Jvm.Cond.methodLink "WhistlePosts$Reader" (86 : Nat) ({ cls := "WhistlePosts$TextError", name := "<init>", desc := "(II)V" } : Jvm.MethodName)) ∈ lw_all := lw_g (lw_at lw_m4 196 rfl) rfl
theorem q1085 : (Jvm.Cond.methodLink "WhistlePosts$Reader" (99 : Nat) ({ cls := "WhistlePosts$Reader", name := "name", desc := "()Ljava/lang/String;" } : Jvm.MethodName)) ∈ lw_all := lw_g (lw_at lw_m4 215 rfl) rfl
theorem q1086 : (Jvm.Cond.privateMethod ({ cls := "WhistlePosts$Reader", name := "name", desc := "()Ljava/lang/String;" } : Jvm.MethodName)) ∈ lw_tbl := lw_at lw_m4 216 rfl
theorem q1087 : (Jvm.Cond.instanceMethod ({ cls := "WhistlePosts$Reader", name := "name", desc := "()Ljava/lang/String;" } : Jvm.MethodName)) ∈ lw_all := lw_g (lw_at lw_m4 217 rfl) rfl
theorem q1088 : (Jvm.Cond.code ({ cls := "WhistlePosts$Reader", name := "name", desc := "()Ljava/lang/String;" } : Jvm.MethodName) prog_6_method_9_code (1 : Nat) (Option.some (Jvm.ClassFile.FieldType.object "java/lang/String"))) ∈ lw_all := lw_g (lw_at lw_m4 218 rfl) rfl
theorem q1089 : (Jvm.Cond.methodLink "WhistlePosts$Reader" (93 : Nat) ({ cls := "java/lang/String", name := "length", desc := "()I" } : Jvm.MethodName)) ∈ lw_all := lw_g (lw_at lw_m4 219 rfl) rfl
theorem q1090 : (Jvm.Cond.methodLink "WhistlePosts$Reader" (102 : Nat) ({ cls := "WhistlePosts$World", name := "named", desc := "(Ljava/lang/String;)I" } : Jvm.MethodName)) ∈ lw_all := lw_g (lw_at lw_m4 220 rfl) rfl
theorem q1162 : (Jvm.Cond.methodLink "WhistlePosts$Reader" (131 : Nat) ({ cls := "WhistlePosts$Reader", name := "number", desc := "(II)I" } : Jvm.MethodName)) ∈ lw_all := lw_g (lw_at lw_m5 52 rfl) rfl
theorem q1163 : (Jvm.Cond.privateMethod ({ cls := "WhistlePosts$Reader", name := "number", desc := "(II)I" } : Jvm.MethodName)) ∈ lw_tbl := lw_at lw_m5 53 rfl
theorem q1164 : (Jvm.Cond.instanceMethod ({ cls := "WhistlePosts$Reader", name := "number", desc := "(II)I" } : Jvm.MethodName)) ∈ lw_all := lw_g (lw_at lw_m5 54 rfl) rfl
theorem q1165 : (Jvm.Cond.code ({ cls := "WhistlePosts$Reader", name := "number", desc := "(II)I" } : Jvm.MethodName) prog_6_method_7_code (4 : Nat) (Option.some Jvm.ClassFile.FieldType.int)) ∈ lw_all := lw_g (lw_at lw_m5 55 rfl) rfl
theorem q1166 : (Jvm.Cond.classLink "WhistlePosts$Reader" (143 : Nat) "WhistlePosts$Roof") ∈ lw_all := lw_g (lw_at lw_m5 56 rfl) rfl
theorem q1167 : (Jvm.Cond.methodLink "WhistlePosts$Reader" (145 : Nat) ({ cls := "WhistlePosts$Roof", name := "<init>", desc := "(Ljava/lang/String;IIII)V" } : Jvm.MethodName)) ∈ lw_all := lw_g (lw_at lw_m5 57 rfl) rfl
theorem q1168 : (Jvm.Cond.methodLink "WhistlePosts$Reader" (148 : Nat) ({ cls := "WhistlePosts$World", name := "adds", desc := "(LWhistlePosts$Roof;)V" } : Jvm.MethodName)) ∈ lw_all := lw_g (lw_at lw_m5 58 rfl) rfl
theorem q1169 : (Jvm.Cond.methodLink "WhistlePosts$Reader" (184 : Nat) ({ cls := "WhistlePosts$Reader", name := "joining", desc := "()V" } : Jvm.MethodName)) ∈ lw_all := lw_g (lw_at lw_m5 59 rfl) rfl
theorem q1170 : (Jvm.Cond.privateMethod ({ cls := "WhistlePosts$Reader", name := "joining", desc := "()V" } : Jvm.MethodName)) ∈ lw_tbl := lw_at lw_m5 60 rfl
theorem q1171 : (Jvm.Cond.instanceMethod ({ cls := "WhistlePosts$Reader", name := "joining", desc := "()V" } : Jvm.MethodName)) ∈ lw_all := lw_g (lw_at lw_m5 61 rfl) rfl
theorem q1172 : (Jvm.Cond.code ({ cls := "WhistlePosts$Reader", name := "joining", desc := "()V" } : Jvm.MethodName) prog_6_method_16_code (3 : Nat) (Option.none : Option Jvm.ClassFile.FieldType)) ∈ lw_all := lw_g (lw_at lw_m5 62 rfl) rfl
theorem q1173 : (Jvm.Cond.methodLink "WhistlePosts$Reader" (156 : Nat) ({ cls := "java/util/LinkedList", name := "size", desc := "()I" } : Jvm.MethodName)) ∈ lw_all := lw_g (lw_at lw_m5 63 rfl) rfl
theorem q1174 : (Jvm.Cond.methodLink "WhistlePosts$Reader" (159 : Nat) ({ cls := "WhistlePosts$Reader", name := "roof", desc := "()I" } : Jvm.MethodName)) ∈ lw_all := lw_g (lw_at lw_m5 64 rfl) rfl
theorem q1175 : (Jvm.Cond.privateMethod ({ cls := "WhistlePosts$Reader", name := "roof", desc := "()I" } : Jvm.MethodName)) ∈ lw_tbl := lw_at lw_m5 65 rfl
theorem q1176 : (Jvm.Cond.instanceMethod ({ cls := "WhistlePosts$Reader", name := "roof", desc := "()I" } : Jvm.MethodName)) ∈ lw_all := lw_g (lw_at lw_m5 66 rfl) rfl
theorem q1177 : (Jvm.Cond.code ({ cls := "WhistlePosts$Reader", name := "roof", desc := "()I" } : Jvm.MethodName) prog_6_method_11_code (2 : Nat) (Option.some Jvm.ClassFile.FieldType.int)) ∈ lw_all := lw_g (lw_at lw_m5 67 rfl) rfl
theorem q1178 : (Jvm.Cond.methodLink "WhistlePosts$Reader" (108 : Nat) ({ cls := "WhistlePosts$Reader", name := "seen", desc := "()I" } : Jvm.MethodName)) ∈ lw_all := lw_g (lw_at lw_m5 68 rfl) rfl
theorem q1179 : (Jvm.Cond.privateMethod ({ cls := "WhistlePosts$Reader", name := "seen", desc := "()I" } : Jvm.MethodName)) ∈ lw_tbl := lw_at lw_m5 69 rfl
theorem q1180 : (Jvm.Cond.instanceMethod ({ cls := "WhistlePosts$Reader", name := "seen", desc := "()I" } : Jvm.MethodName)) ∈ lw_all := lw_g (lw_at lw_m5 70 rfl) rfl
theorem q1181 : (Jvm.Cond.code ({ cls := "WhistlePosts$Reader", name := "seen", desc := "()I" } : Jvm.MethodName) prog_6_method_10_code (2 : Nat) (Option.some Jvm.ClassFile.FieldType.int)) ∈ lw_all := lw_g (lw_at lw_m5 71 rfl) rfl
theorem q1182 : (Jvm.Cond.methodLink "WhistlePosts$Reader" (162 : Nat) ({ cls := "WhistlePosts$Reader", name := "other", desc := "(I)I" } : Jvm.MethodName)) ∈ lw_all := lw_g (lw_at lw_m5 72 rfl) rfl
theorem q1183 : (Jvm.Cond.privateMethod ({ cls := "WhistlePosts$Reader", name := "other", desc := "(I)I" } : Jvm.MethodName)) ∈ lw_tbl := lw_at lw_m5 73 rfl
theorem q1184 : (Jvm.Cond.instanceMethod ({ cls := "WhistlePosts$Reader", name := "other", desc := "(I)I" } : Jvm.MethodName)) ∈ lw_all := lw_g (lw_at lw_m5 74 rfl) rfl
theorem q1185 : (Jvm.Cond.code ({ cls := "WhistlePosts$Reader", name := "other", desc := "(I)I" } : Jvm.MethodName) prog_6_method_12_code (3 : Nat) (Option.some Jvm.ClassFile.FieldType.int)) ∈ lw_all := lw_g (lw_at lw_m5 75 rfl) rfl
theorem q1186 : (Jvm.Cond.methodLink "WhistlePosts$Reader" (165 : Nat) ({ cls := "WhistlePosts$World", name := "between", desc := "(II)LWhistlePosts$Way;" } : Jvm.MethodName)) ∈ lw_all := lw_g (lw_at lw_m5 76 rfl) rfl
theorem q1437 : (Jvm.Cond.classLink "WhistlePosts$Reader" (169 : Nat) "WhistlePosts$Way") ∈ lw_all := lw_g (lw_at lw_m6 87 rfl) rfl
theorem q1438 : (Jvm.Cond.methodLinkNest "WhistlePosts$Reader" (171 : Nat) ({ cls := "WhistlePosts$Way", name := "<init>", desc := "(III)V" } : Jvm.MethodName) "WhistlePosts") ∈ lw_tbl := lw_at lw_m6 88 rfl
theorem q1439 : (Jvm.Cond.methodLink "WhistlePosts$Reader" (174 : Nat) ({ cls := "java/util/LinkedList", name := "addLast", desc := "(Ljava/lang/Object;)V" } : Jvm.MethodName)) ∈ lw_all := lw_g (lw_at lw_m6 89 rfl) rfl
theorem q1440 : (Jvm.Cond.methodLink "WhistlePosts$Reader" (187 : Nat) ({ cls := "WhistlePosts$Reader", name := "settingOf", desc := "(Ljava/lang/String;)I" } : Jvm.MethodName)) ∈ lw_all := lw_g (lw_at lw_m6 90 rfl) rfl
theorem q1441 : (Jvm.Cond.static ({ cls := "WhistlePosts$Reader", name := "settingOf", desc := "(Ljava/lang/String;)I" } : Jvm.MethodName)) ∈ lw_all := lw_g (lw_at lw_m6 91 rfl) rfl
theorem q1442 : (Jvm.Cond.code ({ cls := "WhistlePosts$Reader", name := "settingOf", desc := "(Ljava/lang/String;)I" } : Jvm.MethodName) prog_6_method_13_code (3 : Nat) (Option.some Jvm.ClassFile.FieldType.int)) ∈ lw_all := lw_g (lw_at lw_m6 92 rfl) rfl
theorem q1443 : (Jvm.Cond.stringRef "WhistlePosts$Reader" (114 : Nat) "wind") ∈ lw_tbl := lw_at lw_m6 93 rfl
theorem q1444 : (Jvm.Cond.stringRef "WhistlePosts$Reader" (120 : Nat) "dusk") ∈ lw_tbl := lw_at lw_m6 94 rfl
theorem q1445 : (Jvm.Cond.stringRef "WhistlePosts$Reader" (122 : Nat) "again") ∈ lw_tbl := lw_at lw_m6 95 rfl
theorem q1446 : (Jvm.Cond.methodLink "WhistlePosts$Reader" (190 : Nat) ({ cls := "WhistlePosts$Reader", name := "setting", desc := "(I)I" } : Jvm.MethodName)) ∈ lw_all := lw_g (lw_at lw_m6 96 rfl) rfl
theorem q1447 : (Jvm.Cond.privateMethod ({ cls := "WhistlePosts$Reader", name := "setting", desc := "(I)I" } : Jvm.MethodName)) ∈ lw_tbl := lw_at lw_m6 97 rfl
theorem q1448 : (Jvm.Cond.instanceMethod ({ cls := "WhistlePosts$Reader", name := "setting", desc := "(I)I" } : Jvm.MethodName)) ∈ lw_all := lw_g (lw_at lw_m6 98 rfl) rfl
theorem q1449 : (Jvm.Cond.code ({ cls := "WhistlePosts$Reader", name := "setting", desc := "(I)I" } : Jvm.MethodName) prog_6_method_14_code (2 : Nat) (Option.some Jvm.ClassFile.FieldType.int)) ∈ lw_all := lw_g (lw_at lw_m6 99 rfl) rfl
theorem q1450 : (Jvm.Cond.fieldLinkNest "WhistlePosts$Reader" (124 : Nat) "WhistlePosts" "LEAST" "[I" "WhistlePosts") ∈ lw_tbl := lw_at lw_m6 100 rfl
theorem q1452 : (Jvm.Cond.fieldLinkNest "WhistlePosts$Reader" (128 : Nat) "WhistlePosts" "MOST" "[I" "WhistlePosts") ∈ lw_tbl := lw_at lw_m6 102 rfl
theorem q1454 : (Jvm.Cond.methodLink "WhistlePosts$Reader" (193 : Nat) ({ cls := "WhistlePosts$World", name := "sets", desc := "(II)I" } : Jvm.MethodName)) ∈ lw_all := lw_g (lw_at lw_m6 104 rfl) rfl
theorem q1458 : (Jvm.Cond.methodLink "WhistlePosts$Reader" (199 : Nat) ({ cls := "WhistlePosts$Reader", name := "semicolon", desc := "()V" } : Jvm.MethodName)) ∈ lw_all := lw_g (lw_at lw_m6 108 rfl) rfl
theorem q1459 : (Jvm.Cond.privateMethod ({ cls := "WhistlePosts$Reader", name := "semicolon", desc := "()V" } : Jvm.MethodName)) ∈ lw_tbl := lw_at lw_m6 109 rfl
theorem q1460 : (Jvm.Cond.instanceMethod ({ cls := "WhistlePosts$Reader", name := "semicolon", desc := "()V" } : Jvm.MethodName)) ∈ lw_all := lw_g (lw_at lw_m6 110 rfl) rfl
theorem q1461 : (Jvm.Cond.code ({ cls := "WhistlePosts$Reader", name := "semicolon", desc := "()V" } : Jvm.MethodName) prog_6_method_8_code (1 : Nat) (Option.none : Option Jvm.ClassFile.FieldType)) ∈ lw_all := lw_g (lw_at lw_m6 111 rfl) rfl
theorem q1479 : (Jvm.Cond.instanceMethod ({ cls := "WhistlePosts$Reader", name := "script", desc := "()[LWhistlePosts$Deed;" } : Jvm.MethodName)) ∈ lw_all := lw_g (lw_at lw_m6 129 rfl) rfl
theorem q1480 : (Jvm.Cond.selects "WhistlePosts$Reader" ({ cls := "WhistlePosts$Reader", name := "script", desc := "()[LWhistlePosts$Deed;" } : Jvm.MethodName) ({ cls := "WhistlePosts$Reader", name := "script", desc := "()[LWhistlePosts$Deed;" } : Jvm.MethodName)) ∈ lw_all := lw_g (lw_at lw_m6 130 rfl) rfl
theorem q1481 : (Jvm.Cond.codeWith ({ cls := "WhistlePosts$Reader", name := "script", desc := "()[LWhistlePosts$Deed;" } : Jvm.MethodName) prog_6_method_26_code (5 : Nat) (Option.some (Jvm.ClassFile.FieldType.array (Jvm.ClassFile.FieldType.object "WhistlePosts$Deed"))) [((0 : Nat), (35 : Nat), (45 : Nat), (0 : Nat)), ((45 : Nat), (47 : Nat), (45 : Nat), (0 : Nat))]) ∈ lw_all := lw_g (lw_at lw_m6 131 rfl) rfl
theorem q1482 : (Jvm.Cond.classLink "WhistlePosts$Reader" (270 : Nat) "WhistlePosts$Deed") ∈ lw_all := lw_g (lw_at lw_m6 132 rfl) rfl
theorem q1484 : (Jvm.Cond.methodLink "WhistlePosts$Reader" (272 : Nat) ({ cls := "WhistlePosts$Reader", name := "deed", desc := "(I)LWhistlePosts$Deed;" } : Jvm.MethodName)) ∈ lw_all := lw_g (lw_at lw_m6 134 rfl) rfl
theorem q1485 : (Jvm.Cond.privateMethod ({ cls := "WhistlePosts$Reader", name := "deed", desc := "(I)LWhistlePosts$Deed;" } : Jvm.MethodName)) ∈ lw_tbl := lw_at lw_m6 135 rfl
theorem q1486 : (Jvm.Cond.instanceMethod ({ cls := "WhistlePosts$Reader", name := "deed", desc := "(I)LWhistlePosts$Deed;" } : Jvm.MethodName)) ∈ lw_all := lw_g (lw_at lw_m6 136 rfl) rfl
theorem q1487 : (Jvm.Cond.code ({ cls := "WhistlePosts$Reader", name := "deed", desc := "(I)LWhistlePosts$Deed;" } : Jvm.MethodName) prog_6_method_25_code (5 : Nat) (Option.some (Jvm.ClassFile.FieldType.object "WhistlePosts$Deed"))) ∈ lw_all := lw_g (lw_at lw_m6 137 rfl) rfl
theorem q1488 : (Jvm.Cond.methodLink "WhistlePosts$Reader" (249 : Nat) ({ cls := "WhistlePosts$Reader", name := "isDeed", desc := "(Ljava/lang/String;)Z" } : Jvm.MethodName)) ∈ lw_all := lw_g (lw_at lw_m6 138 rfl) rfl
theorem q1489 : (Jvm.Cond.privateMethod ({ cls := "WhistlePosts$Reader", name := "isDeed", desc := "(Ljava/lang/String;)Z" } : Jvm.MethodName)) ∈ lw_tbl := lw_at lw_m6 139 rfl
theorem q1490 : (Jvm.Cond.instanceMethod ({ cls := "WhistlePosts$Reader", name := "isDeed", desc := "(Ljava/lang/String;)Z" } : Jvm.MethodName)) ∈ lw_all := lw_g (lw_at lw_m6 140 rfl) rfl
theorem q1491 : (Jvm.Cond.code ({ cls := "WhistlePosts$Reader", name := "isDeed", desc := "(Ljava/lang/String;)Z" } : Jvm.MethodName) prog_6_method_19_code (4 : Nat) (Option.some Jvm.ClassFile.FieldType.boolean)) ∈ lw_all := lw_g (lw_at lw_m6 141 rfl) rfl
theorem q1492 : (Jvm.Cond.stringRef "WhistlePosts$Reader" (202 : Nat) "send") ∈ lw_tbl := lw_at lw_m6 142 rfl
theorem q1493 : (Jvm.Cond.stringRef "WhistlePosts$Reader" (204 : Nat) "ask") ∈ lw_tbl := lw_at lw_m6 143 rfl
theorem q1494 : (Jvm.Cond.stringRef "WhistlePosts$Reader" (206 : Nat) "tick") ∈ lw_tbl := lw_at lw_m6 144 rfl
theorem q1495 : (Jvm.Cond.stringRef "WhistlePosts$Reader" (208 : Nat) "give") ∈ lw_tbl := lw_at lw_m6 145 rfl
theorem q1496 : (Jvm.Cond.stringRef "WhistlePosts$Reader" (210 : Nat) "cut") ∈ lw_tbl := lw_at lw_m6 146 rfl
theorem q1497 : (Jvm.Cond.methodLink "WhistlePosts$Reader" (253 : Nat) ({ cls := "WhistlePosts$Reader", name := "sending", desc := "(Z)LWhistlePosts$Deed;" } : Jvm.MethodName)) ∈ lw_all := lw_g (lw_at lw_m6 147 rfl) rfl
theorem q1498 : (Jvm.Cond.privateMethod ({ cls := "WhistlePosts$Reader", name := "sending", desc := "(Z)LWhistlePosts$Deed;" } : Jvm.MethodName)) ∈ lw_tbl := lw_at lw_m6 148 rfl
theorem q1499 : (Jvm.Cond.instanceMethod ({ cls := "WhistlePosts$Reader", name := "sending", desc := "(Z)LWhistlePosts$Deed;" } : Jvm.MethodName)) ∈ lw_all := lw_g (lw_at lw_m6 149 rfl) rfl
theorem q1500 : (Jvm.Cond.code ({ cls := "WhistlePosts$Reader", name := "sending", desc := "(Z)LWhistlePosts$Deed;" } : Jvm.MethodName) prog_6_method_20_code (9 : Nat) (Option.some (Jvm.ClassFile.FieldType.object "WhistlePosts$Deed"))) ∈ lw_all := lw_g (lw_at lw_m6 150 rfl) rfl
theorem q1501 : (Jvm.Cond.classLink "WhistlePosts$Reader" (157 : Nat) "java/util/LinkedList") ∈ lw_all := lw_g (lw_at lw_m6 151 rfl) rfl
theorem q1502 : (Jvm.Cond.methodLink "WhistlePosts$Reader" (212 : Nat) ({ cls := "java/util/LinkedList", name := "<init>", desc := "()V" } : Jvm.MethodName)) ∈ lw_all := lw_g (lw_at lw_m6 152 rfl) rfl
theorem q1503 : (Jvm.Cond.methodLink "WhistlePosts$Reader" (213 : Nat) ({ cls := "java/lang/Integer", name := "valueOf", desc := "(I)Ljava/lang/Integer;" } : Jvm.MethodName)) ∈ lw_all := lw_g (lw_at lw_m6 153 rfl) rfl
theorem q1523 : (Jvm.Cond.constantLong "WhistlePosts$Reader" (219 : Nat) (7 : Int64)) ∈ lw_all := lw_g (lw_at lw_m6 173 rfl) rfl
theorem q1524 : (Jvm.Cond.methodLink "WhistlePosts$Reader" (221 : Nat) ({ cls := "java/util/LinkedList", name := "iterator", desc := "()Ljava/util/Iterator;" } : Jvm.MethodName)) ∈ lw_all := lw_g (lw_at lw_m6 174 rfl) rfl
theorem q1525 : (Jvm.Cond.interfaceEntry "WhistlePosts$Reader" (225 : Nat)) ∈ lw_tbl := lw_at lw_m6 175 rfl
theorem q1526 : (Jvm.Cond.methodLink "WhistlePosts$Reader" (225 : Nat) ({ cls := "java/util/Iterator", name := "hasNext", desc := "()Z" } : Jvm.MethodName)) ∈ lw_all := lw_g (lw_at lw_m6 176 rfl) rfl
theorem q1527 : (Jvm.Cond.interfaceEntry "WhistlePosts$Reader" (231 : Nat)) ∈ lw_tbl := lw_at lw_m6 177 rfl
theorem q1528 : (Jvm.Cond.methodLink "WhistlePosts$Reader" (231 : Nat) ({ cls := "java/util/Iterator", name := "next", desc := "()Ljava/lang/Object;" } : Jvm.MethodName)) ∈ lw_all := lw_g (lw_at lw_m6 178 rfl) rfl
theorem q1529 : (Jvm.Cond.classLink "WhistlePosts$Reader" (214 : Nat) "java/lang/Integer") ∈ lw_all := lw_g (lw_at lw_m6 179 rfl) rfl
theorem q1530 : (Jvm.Cond.methodLink "WhistlePosts$Reader" (234 : Nat) ({ cls := "java/lang/Integer", name := "intValue", desc := "()I" } : Jvm.MethodName)) ∈ lw_all := lw_g (lw_at lw_m6 180 rfl) rfl
theorem q1534 : (Jvm.Cond.static ({ cls := "WhistlePosts$Reader", name := "lambda$sending$0", desc := "(IIZ[ILWhistlePosts$World;)I" } : Jvm.MethodName)) ∈ lw_all := lw_g (lw_at lw_m6 184 rfl) rfl
theorem q1535 : (Jvm.Cond.code ({ cls := "WhistlePosts$Reader", name := "lambda$sending$0", desc := "(IIZ[ILWhistlePosts$World;)I" } : Jvm.MethodName) prog_6_method_31_code (5 : Nat) (Option.some Jvm.ClassFile.FieldType.int)) ∈ lw_all := lw_g (lw_at lw_m6 185 rfl) rfl
theorem q1536 : (Jvm.Cond.methodLink "WhistlePosts$Reader" (284 : Nat) ({ cls := "WhistlePosts$World", name := "sends", desc := "(IIZZ[I)I" } : Jvm.MethodName)) ∈ lw_all := lw_g (lw_at lw_m6 186 rfl) rfl
theorem q1633 : (Jvm.Cond.methodLink "WhistlePosts$Reader" (257 : Nat) ({ cls := "WhistlePosts$Reader", name := "ticking", desc := "()LWhistlePosts$Deed;" } : Jvm.MethodName)) ∈ lw_all := lw_g (lw_at lw_m7 43 rfl) rfl
theorem q1634 : (Jvm.Cond.privateMethod ({ cls := "WhistlePosts$Reader", name := "ticking", desc := "()LWhistlePosts$Deed;" } : Jvm.MethodName)) ∈ lw_tbl := lw_at lw_m7 44 rfl
theorem q1635 : (Jvm.Cond.instanceMethod ({ cls := "WhistlePosts$Reader", name := "ticking", desc := "()LWhistlePosts$Deed;" } : Jvm.MethodName)) ∈ lw_all := lw_g (lw_at lw_m7 45 rfl) rfl
theorem q1636 : (Jvm.Cond.code ({ cls := "WhistlePosts$Reader", name := "ticking", desc := "()LWhistlePosts$Deed;" } : Jvm.MethodName) prog_6_method_21_code (2 : Nat) (Option.some (Jvm.ClassFile.FieldType.object "WhistlePosts$Deed"))) ∈ lw_all := lw_g (lw_at lw_m7 46 rfl) rfl
theorem q1637 : (Jvm.Cond.static ({ cls := "WhistlePosts$Reader", name := "lambda$ticking$1", desc := "(ILWhistlePosts$World;)I" } : Jvm.MethodName)) ∈ lw_all := lw_g (lw_at lw_m7 47 rfl) rfl
theorem q1638 : (Jvm.Cond.code ({ cls := "WhistlePosts$Reader", name := "lambda$ticking$1", desc := "(ILWhistlePosts$World;)I" } : Jvm.MethodName) prog_6_method_30_code (2 : Nat) (Option.some Jvm.ClassFile.FieldType.int)) ∈ lw_all := lw_g (lw_at lw_m7 48 rfl) rfl
theorem q1639 : (Jvm.Cond.methodLink "WhistlePosts$Reader" (281 : Nat) ({ cls := "WhistlePosts$World", name := "ticksNow", desc := "(I)I" } : Jvm.MethodName)) ∈ lw_all := lw_g (lw_at lw_m7 49 rfl) rfl
theorem q2080 : (Jvm.Cond.methodLink "WhistlePosts$Reader" (261 : Nat) ({ cls := "WhistlePosts$Reader", name := "giving", desc := "()LWhistlePosts$Deed;" } : Jvm.MethodName)) ∈ lw_all := lw_g (lw_at lw_m9 10 rfl) rfl
theorem q2081 : (Jvm.Cond.privateMethod ({ cls := "WhistlePosts$Reader", name := "giving", desc := "()LWhistlePosts$Deed;" } : Jvm.MethodName)) ∈ lw_tbl := lw_at lw_m9 11 rfl
theorem q2082 : (Jvm.Cond.instanceMethod ({ cls := "WhistlePosts$Reader", name := "giving", desc := "()LWhistlePosts$Deed;" } : Jvm.MethodName)) ∈ lw_all := lw_g (lw_at lw_m9 12 rfl) rfl
theorem q2083 : (Jvm.Cond.code ({ cls := "WhistlePosts$Reader", name := "giving", desc := "()LWhistlePosts$Deed;" } : Jvm.MethodName) prog_6_method_22_code (3 : Nat) (Option.some (Jvm.ClassFile.FieldType.object "WhistlePosts$Deed"))) ∈ lw_all := lw_g (lw_at lw_m9 13 rfl) rfl
theorem q2084 : (Jvm.Cond.static ({ cls := "WhistlePosts$Reader", name := "lambda$giving$2", desc := "(IILWhistlePosts$World;)I" } : Jvm.MethodName)) ∈ lw_all := lw_g (lw_at lw_m9 14 rfl) rfl
theorem q2085 : (Jvm.Cond.code ({ cls := "WhistlePosts$Reader", name := "lambda$giving$2", desc := "(IILWhistlePosts$World;)I" } : Jvm.MethodName) prog_6_method_29_code (3 : Nat) (Option.some Jvm.ClassFile.FieldType.int)) ∈ lw_all := lw_g (lw_at lw_m9 15 rfl) rfl
theorem q2086 : (Jvm.Cond.methodLink "WhistlePosts$Reader" (278 : Nat) ({ cls := "WhistlePosts$World", name := "gives", desc := "(II)I" } : Jvm.MethodName)) ∈ lw_all := lw_g (lw_at lw_m9 16 rfl) rfl
theorem q2090 : (Jvm.Cond.methodLink "WhistlePosts$Reader" (264 : Nat) ({ cls := "WhistlePosts$Reader", name := "cutting", desc := "()LWhistlePosts$Deed;" } : Jvm.MethodName)) ∈ lw_all := lw_g (lw_at lw_m9 20 rfl) rfl
theorem q2091 : (Jvm.Cond.privateMethod ({ cls := "WhistlePosts$Reader", name := "cutting", desc := "()LWhistlePosts$Deed;" } : Jvm.MethodName)) ∈ lw_tbl := lw_at lw_m9 21 rfl
theorem q2092 : (Jvm.Cond.instanceMethod ({ cls := "WhistlePosts$Reader", name := "cutting", desc := "()LWhistlePosts$Deed;" } : Jvm.MethodName)) ∈ lw_all := lw_g (lw_at lw_m9 22 rfl) rfl
theorem q2093 : (Jvm.Cond.code ({ cls := "WhistlePosts$Reader", name := "cutting", desc := "()LWhistlePosts$Deed;" } : Jvm.MethodName) prog_6_method_23_code (3 : Nat) (Option.some (Jvm.ClassFile.FieldType.object "WhistlePosts$Deed"))) ∈ lw_all := lw_g (lw_at lw_m9 23 rfl) rfl
theorem q2094 : (Jvm.Cond.static ({ cls := "WhistlePosts$Reader", name := "lambda$cutting$3", desc := "(IILWhistlePosts$World;)I" } : Jvm.MethodName)) ∈ lw_all := lw_g (lw_at lw_m9 24 rfl) rfl
theorem q2095 : (Jvm.Cond.code ({ cls := "WhistlePosts$Reader", name := "lambda$cutting$3", desc := "(IILWhistlePosts$World;)I" } : Jvm.MethodName) prog_6_method_28_code (3 : Nat) (Option.some Jvm.ClassFile.FieldType.int)) ∈ lw_all := lw_g (lw_at lw_m9 25 rfl) rfl
theorem q2096 : (Jvm.Cond.methodLink "WhistlePosts$Reader" (275 : Nat) ({ cls := "WhistlePosts$World", name := "cuts", desc := "(II)I" } : Jvm.MethodName)) ∈ lw_all := lw_g (lw_at lw_m9 26 rfl) rfl
theorem q2166 : (Jvm.Cond.methodLink "WhistlePosts$Reader" (267 : Nat) ({ cls := "WhistlePosts$Reader", name := "ruling", desc := "(I)LWhistlePosts$Deed;" } : Jvm.MethodName)) ∈ lw_all := lw_g (lw_at lw_m9 96 rfl) rfl
theorem q2167 : (Jvm.Cond.privateMethod ({ cls := "WhistlePosts$Reader", name := "ruling", desc := "(I)LWhistlePosts$Deed;" } : Jvm.MethodName)) ∈ lw_tbl := lw_at lw_m9 97 rfl
theorem q2168 : (Jvm.Cond.instanceMethod ({ cls := "WhistlePosts$Reader", name := "ruling", desc := "(I)LWhistlePosts$Deed;" } : Jvm.MethodName)) ∈ lw_all := lw_g (lw_at lw_m9 98 rfl) rfl
theorem q2169 : (Jvm.Cond.code ({ cls := "WhistlePosts$Reader", name := "ruling", desc := "(I)LWhistlePosts$Deed;" } : Jvm.MethodName) prog_6_method_24_code (3 : Nat) (Option.some (Jvm.ClassFile.FieldType.object "WhistlePosts$Deed"))) ∈ lw_all := lw_g (lw_at lw_m9 99 rfl) rfl
theorem q2170 : (Jvm.Cond.static ({ cls := "WhistlePosts$Reader", name := "lambda$ruling$4", desc := "(IILWhistlePosts$World;)I" } : Jvm.MethodName)) ∈ lw_all := lw_g (lw_at lw_m9 100 rfl) rfl
theorem q2171 : (Jvm.Cond.code ({ cls := "WhistlePosts$Reader", name := "lambda$ruling$4", desc := "(IILWhistlePosts$World;)I" } : Jvm.MethodName) prog_6_method_27_code (3 : Nat) (Option.some Jvm.ClassFile.FieldType.int)) ∈ lw_all := lw_g (lw_at lw_m9 101 rfl) rfl
theorem q3503 : (Jvm.Cond.castable "WhistlePosts$Reader" "java/lang/Object") ∈ lw_tbl := lw_at lw_m14 233 rfl
theorem in_X6 : ∀ w ∈ wsX60, w ∈ lw_all := lw_in wsX60 [939, 941, 943, 945, 947, 949, 951, 953] (by decide +kernel) (by decide +kernel)

def RX7 : String := "WhistlePosts$TextError"
def TX7 : u_T := fun k => match k with
  | 0 => ("java/lang/Throwable", "cause", "Ljava/lang/Throwable;", false)
  | 1 => ("java/lang/Throwable", "stackTrace", "[Ljava/lang/StackTraceElement;", false)
  | 2 => ("java/lang/Throwable", "suppressedExceptions", "Ljava/util/List;", false)
  | 3 => ("java/lang/Throwable", "detailMessage", "Ljava/lang/String;", false)
  | 4 => ("java/lang/Throwable", "backtrace", "Ljava/lang/Object;", false)
  | 5 => ("java/lang/Throwable", "depth", "I", false)
  | 6 => ("WhistlePosts$TextError", "code", "I", true)
  | _ => ("WhistlePosts$TextError", "offset", "I", true)
def tyX7 : Nat → FieldType := fun k => match k with
  | 0 => .object "java/lang/Throwable"
  | 1 => .array (.object "java/lang/StackTraceElement")
  | 2 => .object "java/util/List"
  | 3 => .object "java/lang/String"
  | 4 => .object "java/lang/Object"
  | 5 => .int
  | 6 => .int
  | _ => .int
abbrev wsX70 : List Cond := u_ws RX7 TX7 8
theorem nmX7 : ∀ a, a < 8 → ∀ b, b < 8 → a ≠ b → (TX7 a).2.1 ≠ (TX7 b).2.1 := by decide +kernel
theorem tyX7_ok : ∀ k, k < 8 → parseFieldDescriptor (TX7 k).2.2.1 = some (tyX7 k) := by decide +kernel
abbrev cX7_init : ByteArray := prog_10_method_1_code
def yX7_init : MethodName := ⟨RX7, "<init>", "(II)V"⟩
def dkwX7_init_0 : List UInt8 := [42, 1, 1, 3, 3, 183, 0, 1, 42, 27, 181, 0, 7, 42, 28, 181, 0, 13, 177]
abbrev dktX7_init_0 : List UInt8 := dkwX7_init_0 ++ []
theorem dksX7_init_0 : cX7_init.data.toList.drop 0 = dktX7_init_0 := by decide +kernel
theorem dX7_init_0 : decode cX7_init 0 = .ok (.aload_n 0, 1) := dk_42 (dk_at dksX7_init_0 0 rfl rfl)
theorem dX7_init_1 : decode cX7_init 1 = .ok (.aconst_null, 1) := dk_1 (dk_at dksX7_init_0 1 rfl rfl)
theorem dX7_init_2 : decode cX7_init 2 = .ok (.aconst_null, 1) := dk_1 (dk_at dksX7_init_0 2 rfl rfl)
theorem dX7_init_3 : decode cX7_init 3 = .ok (.iconst 0, 1) := dk_3 (dk_at dksX7_init_0 3 rfl rfl)
theorem dX7_init_4 : decode cX7_init 4 = .ok (.iconst 0, 1) := dk_3 (dk_at dksX7_init_0 4 rfl rfl)
theorem dX7_init_5 : decode cX7_init 5 = .ok (.invokespecial 1, 3) := dk_183 0 1 (dk_at dksX7_init_0 5 rfl rfl)
theorem dX7_init_8 : decode cX7_init 8 = .ok (.aload_n 0, 1) := dk_42 (dk_at dksX7_init_0 8 rfl rfl)
theorem dX7_init_9 : decode cX7_init 9 = .ok (.iload_n 1, 1) := dk_27 (dk_at dksX7_init_0 9 rfl rfl)
theorem dX7_init_10 : decode cX7_init 10 = .ok (.putfield 7, 3) := dk_181 0 7 (dk_at dksX7_init_0 10 rfl rfl)
theorem dX7_init_13 : decode cX7_init 13 = .ok (.aload_n 0, 1) := dk_42 (dk_at dksX7_init_0 13 rfl rfl)
theorem dX7_init_14 : decode cX7_init 14 = .ok (.iload_n 2, 1) := dk_28 (dk_at dksX7_init_0 14 rfl rfl)
theorem dX7_init_15 : decode cX7_init 15 = .ok (.putfield 13, 3) := dk_181 0 13 (dk_at dksX7_init_0 15 rfl rfl)
theorem dX7_init_18 : decode cX7_init 18 = .ok (.return_, 1) := dk_177 (dk_at dksX7_init_0 18 rfl rfl)
theorem q181 : (Jvm.Cond.initialized "WhistlePosts$TextError") ∈ lw_all := lw_g (lw_at lw_m1 31 rfl) rfl
theorem q271 : (Jvm.Cond.selects "WhistlePosts$TextError" ({ cls := "java/lang/Throwable", name := "fillInStackTrace", desc := "()Ljava/lang/Throwable;" } : Jvm.MethodName) ({ cls := "java/lang/Throwable", name := "fillInStackTrace", desc := "()Ljava/lang/Throwable;" } : Jvm.MethodName)) ∈ lw_all := lw_g (lw_at lw_m1 121 rfl) rfl
theorem q716 : (Jvm.Cond.selects "WhistlePosts$TextError" ({ cls := "java/lang/Object", name := "getClass", desc := "()Ljava/lang/Class;" } : Jvm.MethodName) ({ cls := "java/lang/Object", name := "getClass", desc := "()Ljava/lang/Class;" } : Jvm.MethodName)) ∈ lw_all := lw_g (lw_at lw_m3 86 rfl) rfl
theorem q1058 : (Jvm.Cond.instantiable "WhistlePosts$TextError" (8 : Nat)) ∈ lw_all := lw_g (lw_at lw_m4 188 rfl) rfl
theorem q1059 : (Jvm.Cond.castable "WhistlePosts$TextError" "WhistlePosts$TextError") ∈ lw_tbl := lw_at lw_m4 189 rfl
theorem q1060 : (Jvm.Cond.selects "WhistlePosts$TextError" ({ cls := "java/lang/Throwable", name := "fillInStackTrace", desc := "(I)Ljava/lang/Throwable;" } : Jvm.MethodName) ({ cls := "java/lang/Throwable", name := "fillInStackTrace", desc := "(I)Ljava/lang/Throwable;" } : Jvm.MethodName)) ∈ lw_all := lw_g (lw_at lw_m4 190 rfl) rfl
theorem q1061 : (Jvm.Cond.lays "WhistlePosts$TextError" "java/lang/Throwable" "cause" "Ljava/lang/Throwable;") ∈ lw_all := lw_g (lw_at lw_m4 191 rfl) rfl
theorem q1062 : (Jvm.Cond.lays "WhistlePosts$TextError" "java/lang/Throwable" "stackTrace" "[Ljava/lang/StackTraceElement;") ∈ lw_all := lw_g (lw_at lw_m4 192 rfl) rfl
theorem q1063 : (Jvm.Cond.lays "WhistlePosts$TextError" "java/lang/Throwable" "suppressedExceptions" "Ljava/util/List;") ∈ lw_all := lw_g (lw_at lw_m4 193 rfl) rfl
theorem q1064 : (Jvm.Cond.lays "WhistlePosts$TextError" "java/lang/Throwable" "detailMessage" "Ljava/lang/String;") ∈ lw_all := lw_g (lw_at lw_m4 194 rfl) rfl
theorem q1065 : (Jvm.Cond.lays "WhistlePosts$TextError" "java/lang/Throwable" "backtrace" "Ljava/lang/Object;") ∈ lw_all := lw_g (lw_at lw_m4 195 rfl) rfl
theorem q1067 : (Jvm.Cond.instanceMethod ({ cls := "WhistlePosts$TextError", name := "<init>", desc := "(II)V" } : Jvm.MethodName)) ∈ lw_all := lw_g (lw_at lw_m4 197 rfl) rfl
theorem q1068 : (Jvm.Cond.code ({ cls := "WhistlePosts$TextError", name := "<init>", desc := "(II)V" } : Jvm.MethodName) prog_10_method_1_code (3 : Nat) (Option.none : Option Jvm.ClassFile.FieldType)) ∈ lw_all := lw_g (lw_at lw_m4 198 rfl) rfl
theorem q1069 : (Jvm.Cond.methodLink "WhistlePosts$TextError" (1 : Nat) ({ cls := "java/lang/Exception", name := "<init>", desc := "(Ljava/lang/String;Ljava/lang/Throwable;ZZ)V" } : Jvm.MethodName)) ∈ lw_all := lw_g (lw_at lw_m4 199 rfl) rfl
theorem q1075 : (Jvm.Cond.fieldLink "WhistlePosts$TextError" (7 : Nat) "WhistlePosts$TextError" "code" "I") ∈ lw_all := lw_g (lw_at lw_m4 205 rfl) rfl
theorem q1077 : (Jvm.Cond.fieldLink "WhistlePosts$TextError" (13 : Nat) "WhistlePosts$TextError" "offset" "I") ∈ lw_all := lw_g (lw_at lw_m4 207 rfl) rfl
theorem q1079 : (Jvm.Cond.laysFinal "WhistlePosts$TextError" "WhistlePosts$TextError" "code" "I") ∈ lw_all := lw_g (lw_at lw_m4 209 rfl) rfl
theorem q1080 : (Jvm.Cond.soleField "WhistlePosts$TextError" "code") ∈ lw_all := lw_g (lw_at lw_m4 210 rfl) rfl
theorem q1081 : (Jvm.Cond.laysFinal "WhistlePosts$TextError" "WhistlePosts$TextError" "offset" "I") ∈ lw_all := lw_g (lw_at lw_m4 211 rfl) rfl
theorem q1082 : (Jvm.Cond.soleField "WhistlePosts$TextError" "offset") ∈ lw_all := lw_g (lw_at lw_m4 212 rfl) rfl
theorem q1083 : (Jvm.Cond.lays "WhistlePosts$TextError" "java/lang/Throwable" "depth" "I") ∈ lw_all := lw_g (lw_at lw_m4 213 rfl) rfl
theorem q1084 : (Jvm.Cond.superclass "WhistlePosts$TextError" "java/lang/Exception") ∈ lw_all := lw_g (lw_at lw_m4 214 rfl) rfl
theorem q1355 : (Jvm.Cond.selects "WhistlePosts$TextError" ({ cls := "java/lang/Throwable", name := "toString", desc := "()Ljava/lang/String;" } : Jvm.MethodName) ({ cls := "java/lang/Throwable", name := "toString", desc := "()Ljava/lang/String;" } : Jvm.MethodName)) ∈ lw_all := lw_g (lw_at lw_m6 5 rfl) rfl
theorem q1368 : (Jvm.Cond.selects "WhistlePosts$TextError" ({ cls := "java/lang/Throwable", name := "getLocalizedMessage", desc := "()Ljava/lang/String;" } : Jvm.MethodName) ({ cls := "java/lang/Throwable", name := "getLocalizedMessage", desc := "()Ljava/lang/String;" } : Jvm.MethodName)) ∈ lw_all := lw_g (lw_at lw_m6 18 rfl) rfl
theorem q1380 : (Jvm.Cond.selects "WhistlePosts$TextError" ({ cls := "java/lang/Throwable", name := "getMessage", desc := "()Ljava/lang/String;" } : Jvm.MethodName) ({ cls := "java/lang/Throwable", name := "getMessage", desc := "()Ljava/lang/String;" } : Jvm.MethodName)) ∈ lw_all := lw_g (lw_at lw_m6 30 rfl) rfl
theorem q3505 : (Jvm.Cond.castable "WhistlePosts$TextError" "java/lang/Object") ∈ lw_tbl := lw_at lw_m14 235 rfl
theorem in_X7 : ∀ w ∈ wsX70, w ∈ lw_all := lw_in wsX70 [1061, 1062, 1063, 1064, 1065, 1083, 1079, 1081] (by decide +kernel) (by decide +kernel)

def RX8 : String := "WhistlePosts$Tune"
def TX8 : u_T := fun k => match k with
  | 0 => ("WhistlePosts$Tune", "number", "I", true)
  | 1 => ("WhistlePosts$Tune", "sender", "I", true)
  | 2 => ("WhistlePosts$Tune", "goal", "I", true)
  | 3 => ("WhistlePosts$Tune", "sent", "[I", true)
  | 4 => ("WhistlePosts$Tune", "heard", "[I", true)
  | 5 => ("WhistlePosts$Tune", "isReply", "Z", true)
  | 6 => ("WhistlePosts$Tune", "wants", "Z", true)
  | 7 => ("WhistlePosts$Tune", "at", "I", false)
  | 8 => ("WhistlePosts$Tune", "state", "I", false)
  | 9 => ("WhistlePosts$Tune", "end", "I", false)
  | 10 => ("WhistlePosts$Tune", "far", "I", false)
  | 11 => ("WhistlePosts$Tune", "tries", "I", false)
  | _ => ("WhistlePosts$Tune", "hops", "I", false)
def tyX8 : Nat → FieldType := fun k => match k with
  | 0 => .int
  | 1 => .int
  | 2 => .int
  | 3 => .array .int
  | 4 => .array .int
  | 5 => .boolean
  | 6 => .boolean
  | 7 => .int
  | 8 => .int
  | 9 => .int
  | 10 => .int
  | 11 => .int
  | _ => .int
abbrev wsX80 : List Cond := u_ws RX8 TX8 13
theorem nmX8 : ∀ a, a < 13 → ∀ b, b < 13 → a ≠ b → (TX8 a).2.1 ≠ (TX8 b).2.1 := by decide +kernel
theorem tyX8_ok : ∀ k, k < 13 → parseFieldDescriptor (TX8 k).2.2.1 = some (tyX8 k) := by decide +kernel
abbrev cX8_init : ByteArray := prog_11_method_1_code
def yX8_init : MethodName := ⟨RX8, "<init>", "(IIIZZ[I)V"⟩
def dkwX8_init_2 : List UInt8 := [181, 0, 35, 42, 28, 181, 0, 38, 42, 182, 0, 41, 177]
abbrev dktX8_init_2 : List UInt8 := dkwX8_init_2 ++ []
def dkwX8_init_1 : List UInt8 := [42, 21, 4, 181, 0, 24, 42, 21, 5, 181, 0, 28, 42, 25, 6, 181, 0, 31, 42, 25, 6, 190, 188, 10]
abbrev dktX8_init_1 : List UInt8 := dkwX8_init_1 ++ dktX8_init_2
def dkwX8_init_0 : List UInt8 := [42, 183, 0, 3, 42, 2, 181, 0, 9, 42, 27, 181, 0, 15, 42, 28, 181, 0, 18, 42, 29, 181, 0, 21]
abbrev dktX8_init_0 : List UInt8 := dkwX8_init_0 ++ dktX8_init_1
theorem dksX8_init_0 : cX8_init.data.toList.drop 0 = dktX8_init_0 := by decide +kernel
theorem dksX8_init_1 : cX8_init.data.toList.drop 24 = dktX8_init_1 := dk_seg dksX8_init_0 24 rfl rfl
theorem dksX8_init_2 : cX8_init.data.toList.drop 48 = dktX8_init_2 := dk_seg dksX8_init_1 24 rfl rfl
theorem dX8_init_0 : decode cX8_init 0 = .ok (.aload_n 0, 1) := dk_42 (dk_at dksX8_init_0 0 rfl rfl)
theorem dX8_init_1 : decode cX8_init 1 = .ok (.invokespecial 3, 3) := dk_183 0 3 (dk_at dksX8_init_0 1 rfl rfl)
theorem dX8_init_4 : decode cX8_init 4 = .ok (.aload_n 0, 1) := dk_42 (dk_at dksX8_init_0 4 rfl rfl)
theorem dX8_init_5 : decode cX8_init 5 = .ok (.iconst (-1), 1) := dk_2 (dk_at dksX8_init_0 5 rfl rfl)
theorem dX8_init_6 : decode cX8_init 6 = .ok (.putfield 9, 3) := dk_181 0 9 (dk_at dksX8_init_0 6 rfl rfl)
theorem dX8_init_9 : decode cX8_init 9 = .ok (.aload_n 0, 1) := dk_42 (dk_at dksX8_init_0 9 rfl rfl)
theorem dX8_init_10 : decode cX8_init 10 = .ok (.iload_n 1, 1) := dk_27 (dk_at dksX8_init_0 10 rfl rfl)
theorem dX8_init_11 : decode cX8_init 11 = .ok (.putfield 15, 3) := dk_181 0 15 (dk_at dksX8_init_0 11 rfl rfl)
theorem dX8_init_14 : decode cX8_init 14 = .ok (.aload_n 0, 1) := dk_42 (dk_at dksX8_init_0 14 rfl rfl)
theorem dX8_init_15 : decode cX8_init 15 = .ok (.iload_n 2, 1) := dk_28 (dk_at dksX8_init_0 15 rfl rfl)
theorem dX8_init_16 : decode cX8_init 16 = .ok (.putfield 18, 3) := dk_181 0 18 (dk_at dksX8_init_0 16 rfl rfl)
theorem dX8_init_19 : decode cX8_init 19 = .ok (.aload_n 0, 1) := dk_42 (dk_at dksX8_init_0 19 rfl rfl)
theorem dX8_init_20 : decode cX8_init 20 = .ok (.iload_n 3, 1) := dk_29 (dk_at dksX8_init_0 20 rfl rfl)
theorem dX8_init_21 : decode cX8_init 21 = .ok (.putfield 21, 3) := dk_181 0 21 (dk_at dksX8_init_0 21 rfl rfl)
theorem dX8_init_24 : decode cX8_init 24 = .ok (.aload_n 0, 1) := dk_42 (dk_at dksX8_init_1 0 rfl rfl)
theorem dX8_init_25 : decode cX8_init 25 = .ok (.iload 4, 2) := dk_21 4 (dk_at dksX8_init_1 1 rfl rfl)
theorem dX8_init_27 : decode cX8_init 27 = .ok (.putfield 24, 3) := dk_181 0 24 (dk_at dksX8_init_1 3 rfl rfl)
theorem dX8_init_30 : decode cX8_init 30 = .ok (.aload_n 0, 1) := dk_42 (dk_at dksX8_init_1 6 rfl rfl)
theorem dX8_init_31 : decode cX8_init 31 = .ok (.iload 5, 2) := dk_21 5 (dk_at dksX8_init_1 7 rfl rfl)
theorem dX8_init_33 : decode cX8_init 33 = .ok (.putfield 28, 3) := dk_181 0 28 (dk_at dksX8_init_1 9 rfl rfl)
theorem dX8_init_36 : decode cX8_init 36 = .ok (.aload_n 0, 1) := dk_42 (dk_at dksX8_init_1 12 rfl rfl)
theorem dX8_init_37 : decode cX8_init 37 = .ok (.aload 6, 2) := dk_25 6 (dk_at dksX8_init_1 13 rfl rfl)
theorem dX8_init_39 : decode cX8_init 39 = .ok (.putfield 31, 3) := dk_181 0 31 (dk_at dksX8_init_1 15 rfl rfl)
theorem dX8_init_42 : decode cX8_init 42 = .ok (.aload_n 0, 1) := dk_42 (dk_at dksX8_init_1 18 rfl rfl)
theorem dX8_init_43 : decode cX8_init 43 = .ok (.aload 6, 2) := dk_25 6 (dk_at dksX8_init_1 19 rfl rfl)
theorem dX8_init_45 : decode cX8_init 45 = .ok (.arraylength, 1) := dk_190 (dk_at dksX8_init_1 21 rfl rfl)
theorem dX8_init_46 : decode cX8_init 46 = .ok (.newarray .int, 2) := dk_188_10 (dk_at dksX8_init_1 22 rfl rfl)
theorem dX8_init_48 : decode cX8_init 48 = .ok (.putfield 35, 3) := dk_181 0 35 (dk_at dksX8_init_2 0 rfl rfl)
theorem dX8_init_51 : decode cX8_init 51 = .ok (.aload_n 0, 1) := dk_42 (dk_at dksX8_init_2 3 rfl rfl)
theorem dX8_init_52 : decode cX8_init 52 = .ok (.iload_n 2, 1) := dk_28 (dk_at dksX8_init_2 4 rfl rfl)
theorem dX8_init_53 : decode cX8_init 53 = .ok (.putfield 38, 3) := dk_181 0 38 (dk_at dksX8_init_2 5 rfl rfl)
theorem dX8_init_56 : decode cX8_init 56 = .ok (.aload_n 0, 1) := dk_42 (dk_at dksX8_init_2 8 rfl rfl)
theorem dX8_init_57 : decode cX8_init 57 = .ok (.invokevirtual 41, 3) := dk_182 0 41 (dk_at dksX8_init_2 9 rfl rfl)
theorem dX8_init_60 : decode cX8_init 60 = .ok (.return_, 1) := dk_177 (dk_at dksX8_init_2 12 rfl rfl)
abbrev cX8_begins : ByteArray := prog_11_method_3_code
def yX8_begins : MethodName := ⟨RX8, "begins", "()V"⟩
def dkwX8_begins_0 : List UInt8 := [42, 180, 0, 31, 3, 42, 180, 0, 35, 3, 42, 180, 0, 31, 190, 184, 0, 47, 177]
abbrev dktX8_begins_0 : List UInt8 := dkwX8_begins_0 ++ []
theorem dksX8_begins_0 : cX8_begins.data.toList.drop 0 = dktX8_begins_0 := by decide +kernel
theorem dX8_begins_0 : decode cX8_begins 0 = .ok (.aload_n 0, 1) := dk_42 (dk_at dksX8_begins_0 0 rfl rfl)
theorem dX8_begins_1 : decode cX8_begins 1 = .ok (.getfield 31, 3) := dk_180 0 31 (dk_at dksX8_begins_0 1 rfl rfl)
theorem dX8_begins_4 : decode cX8_begins 4 = .ok (.iconst 0, 1) := dk_3 (dk_at dksX8_begins_0 4 rfl rfl)
theorem dX8_begins_5 : decode cX8_begins 5 = .ok (.aload_n 0, 1) := dk_42 (dk_at dksX8_begins_0 5 rfl rfl)
theorem dX8_begins_6 : decode cX8_begins 6 = .ok (.getfield 35, 3) := dk_180 0 35 (dk_at dksX8_begins_0 6 rfl rfl)
theorem dX8_begins_9 : decode cX8_begins 9 = .ok (.iconst 0, 1) := dk_3 (dk_at dksX8_begins_0 9 rfl rfl)
theorem dX8_begins_10 : decode cX8_begins 10 = .ok (.aload_n 0, 1) := dk_42 (dk_at dksX8_begins_0 10 rfl rfl)
theorem dX8_begins_11 : decode cX8_begins 11 = .ok (.getfield 31, 3) := dk_180 0 31 (dk_at dksX8_begins_0 11 rfl rfl)
theorem dX8_begins_14 : decode cX8_begins 14 = .ok (.arraylength, 1) := dk_190 (dk_at dksX8_begins_0 14 rfl rfl)
theorem dX8_begins_15 : decode cX8_begins 15 = .ok (.invokestatic 47, 3) := dk_184 0 47 (dk_at dksX8_begins_0 15 rfl rfl)
theorem dX8_begins_18 : decode cX8_begins 18 = .ok (.return_, 1) := dk_177 (dk_at dksX8_begins_0 18 rfl rfl)
abbrev cX8_notes : ByteArray := prog_11_method_4_code
def yX8_notes : MethodName := ⟨RX8, "notes", "()I"⟩
def dkwX8_notes_0 : List UInt8 := [42, 180, 0, 31, 190, 172]
abbrev dktX8_notes_0 : List UInt8 := dkwX8_notes_0 ++ []
theorem dksX8_notes_0 : cX8_notes.data.toList.drop 0 = dktX8_notes_0 := by decide +kernel
theorem dX8_notes_0 : decode cX8_notes 0 = .ok (.aload_n 0, 1) := dk_42 (dk_at dksX8_notes_0 0 rfl rfl)
theorem dX8_notes_1 : decode cX8_notes 1 = .ok (.getfield 31, 3) := dk_180 0 31 (dk_at dksX8_notes_0 1 rfl rfl)
theorem dX8_notes_4 : decode cX8_notes 4 = .ok (.arraylength, 1) := dk_190 (dk_at dksX8_notes_0 4 rfl rfl)
theorem dX8_notes_5 : decode cX8_notes 5 = .ok (.ireturn, 1) := dk_172 (dk_at dksX8_notes_0 5 rfl rfl)
abbrev cX8_blurs : ByteArray := prog_11_method_7_code
def yX8_blurs : MethodName := ⟨RX8, "blurs", "(I)V"⟩
def dkwX8_blurs_1 : List UInt8 := [42, 180, 0, 35, 29, 46, 4, 96, 16, 8, 112, 79, 132, 2, 1, 167, 255, 219, 177]
abbrev dktX8_blurs_1 : List UInt8 := dkwX8_blurs_1 ++ []
def dkwX8_blurs_0 : List UInt8 := [3, 61, 28, 27, 162, 0, 38, 42, 180, 0, 15, 28, 96, 42, 182, 0, 65, 112, 62, 42, 180, 0, 35, 29]
abbrev dktX8_blurs_0 : List UInt8 := dkwX8_blurs_0 ++ dktX8_blurs_1
theorem dksX8_blurs_0 : cX8_blurs.data.toList.drop 0 = dktX8_blurs_0 := by decide +kernel
theorem dksX8_blurs_1 : cX8_blurs.data.toList.drop 24 = dktX8_blurs_1 := dk_seg dksX8_blurs_0 24 rfl rfl
theorem dX8_blurs_0 : decode cX8_blurs 0 = .ok (.iconst 0, 1) := dk_3 (dk_at dksX8_blurs_0 0 rfl rfl)
theorem dX8_blurs_1 : decode cX8_blurs 1 = .ok (.istore_n 2, 1) := dk_61 (dk_at dksX8_blurs_0 1 rfl rfl)
theorem dX8_blurs_2 : decode cX8_blurs 2 = .ok (.iload_n 2, 1) := dk_28 (dk_at dksX8_blurs_0 2 rfl rfl)
theorem dX8_blurs_3 : decode cX8_blurs 3 = .ok (.iload_n 1, 1) := dk_27 (dk_at dksX8_blurs_0 3 rfl rfl)
theorem dX8_blurs_4 : decode cX8_blurs 4 = .ok (.if_icmp .ge 38, 3) := dk_162 0 38 (dk_at dksX8_blurs_0 4 rfl rfl)
theorem dX8_blurs_7 : decode cX8_blurs 7 = .ok (.aload_n 0, 1) := dk_42 (dk_at dksX8_blurs_0 7 rfl rfl)
theorem dX8_blurs_8 : decode cX8_blurs 8 = .ok (.getfield 15, 3) := dk_180 0 15 (dk_at dksX8_blurs_0 8 rfl rfl)
theorem dX8_blurs_11 : decode cX8_blurs 11 = .ok (.iload_n 2, 1) := dk_28 (dk_at dksX8_blurs_0 11 rfl rfl)
theorem dX8_blurs_12 : decode cX8_blurs 12 = .ok (.iadd, 1) := dk_96 (dk_at dksX8_blurs_0 12 rfl rfl)
theorem dX8_blurs_13 : decode cX8_blurs 13 = .ok (.aload_n 0, 1) := dk_42 (dk_at dksX8_blurs_0 13 rfl rfl)
theorem dX8_blurs_14 : decode cX8_blurs 14 = .ok (.invokevirtual 65, 3) := dk_182 0 65 (dk_at dksX8_blurs_0 14 rfl rfl)
theorem dX8_blurs_17 : decode cX8_blurs 17 = .ok (.irem, 1) := dk_112 (dk_at dksX8_blurs_0 17 rfl rfl)
theorem dX8_blurs_18 : decode cX8_blurs 18 = .ok (.istore_n 3, 1) := dk_62 (dk_at dksX8_blurs_0 18 rfl rfl)
theorem dX8_blurs_19 : decode cX8_blurs 19 = .ok (.aload_n 0, 1) := dk_42 (dk_at dksX8_blurs_0 19 rfl rfl)
theorem dX8_blurs_20 : decode cX8_blurs 20 = .ok (.getfield 35, 3) := dk_180 0 35 (dk_at dksX8_blurs_0 20 rfl rfl)
theorem dX8_blurs_23 : decode cX8_blurs 23 = .ok (.iload_n 3, 1) := dk_29 (dk_at dksX8_blurs_0 23 rfl rfl)
theorem dX8_blurs_24 : decode cX8_blurs 24 = .ok (.aload_n 0, 1) := dk_42 (dk_at dksX8_blurs_1 0 rfl rfl)
theorem dX8_blurs_25 : decode cX8_blurs 25 = .ok (.getfield 35, 3) := dk_180 0 35 (dk_at dksX8_blurs_1 1 rfl rfl)
theorem dX8_blurs_28 : decode cX8_blurs 28 = .ok (.iload_n 3, 1) := dk_29 (dk_at dksX8_blurs_1 4 rfl rfl)
theorem dX8_blurs_29 : decode cX8_blurs 29 = .ok (.iaload, 1) := dk_46 (dk_at dksX8_blurs_1 5 rfl rfl)
theorem dX8_blurs_30 : decode cX8_blurs 30 = .ok (.iconst 1, 1) := dk_4 (dk_at dksX8_blurs_1 6 rfl rfl)
theorem dX8_blurs_31 : decode cX8_blurs 31 = .ok (.iadd, 1) := dk_96 (dk_at dksX8_blurs_1 7 rfl rfl)
theorem dX8_blurs_32 : decode cX8_blurs 32 = .ok (.bipush 8, 2) := dk_16 8 (dk_at dksX8_blurs_1 8 rfl rfl)
theorem dX8_blurs_34 : decode cX8_blurs 34 = .ok (.irem, 1) := dk_112 (dk_at dksX8_blurs_1 10 rfl rfl)
theorem dX8_blurs_35 : decode cX8_blurs 35 = .ok (.iastore, 1) := dk_79 (dk_at dksX8_blurs_1 11 rfl rfl)
theorem dX8_blurs_36 : decode cX8_blurs 36 = .ok (.iinc 2 1, 3) := dk_132 2 1 (dk_at dksX8_blurs_1 12 rfl rfl)
theorem dX8_blurs_39 : decode cX8_blurs 39 = .ok (.goto (-37), 3) := dk_167 255 219 (dk_at dksX8_blurs_1 15 rfl rfl)
theorem dX8_blurs_42 : decode cX8_blurs 42 = .ok (.return_, 1) := dk_177 (dk_at dksX8_blurs_1 18 rfl rfl)
abbrev cX8_unlike : ByteArray := prog_11_method_6_code
def yX8_unlike : MethodName := ⟨RX8, "unlike", "()I"⟩
def dkwX8_unlike_1 : List UInt8 := [28, 46, 159, 0, 7, 4, 167, 0, 4, 3, 184, 0, 69, 96, 60, 132, 2, 1, 167, 255, 218, 27, 172]
abbrev dktX8_unlike_1 : List UInt8 := dkwX8_unlike_1 ++ []
def dkwX8_unlike_0 : List UInt8 := [3, 60, 3, 61, 28, 42, 180, 0, 31, 190, 162, 0, 35, 27, 42, 180, 0, 31, 28, 46, 42, 180, 0, 35]
abbrev dktX8_unlike_0 : List UInt8 := dkwX8_unlike_0 ++ dktX8_unlike_1
theorem dksX8_unlike_0 : cX8_unlike.data.toList.drop 0 = dktX8_unlike_0 := by decide +kernel
theorem dksX8_unlike_1 : cX8_unlike.data.toList.drop 24 = dktX8_unlike_1 := dk_seg dksX8_unlike_0 24 rfl rfl
theorem dX8_unlike_0 : decode cX8_unlike 0 = .ok (.iconst 0, 1) := dk_3 (dk_at dksX8_unlike_0 0 rfl rfl)
theorem dX8_unlike_1 : decode cX8_unlike 1 = .ok (.istore_n 1, 1) := dk_60 (dk_at dksX8_unlike_0 1 rfl rfl)
theorem dX8_unlike_2 : decode cX8_unlike 2 = .ok (.iconst 0, 1) := dk_3 (dk_at dksX8_unlike_0 2 rfl rfl)
theorem dX8_unlike_3 : decode cX8_unlike 3 = .ok (.istore_n 2, 1) := dk_61 (dk_at dksX8_unlike_0 3 rfl rfl)
theorem dX8_unlike_4 : decode cX8_unlike 4 = .ok (.iload_n 2, 1) := dk_28 (dk_at dksX8_unlike_0 4 rfl rfl)
theorem dX8_unlike_5 : decode cX8_unlike 5 = .ok (.aload_n 0, 1) := dk_42 (dk_at dksX8_unlike_0 5 rfl rfl)
theorem dX8_unlike_6 : decode cX8_unlike 6 = .ok (.getfield 31, 3) := dk_180 0 31 (dk_at dksX8_unlike_0 6 rfl rfl)
theorem dX8_unlike_9 : decode cX8_unlike 9 = .ok (.arraylength, 1) := dk_190 (dk_at dksX8_unlike_0 9 rfl rfl)
theorem dX8_unlike_10 : decode cX8_unlike 10 = .ok (.if_icmp .ge 35, 3) := dk_162 0 35 (dk_at dksX8_unlike_0 10 rfl rfl)
theorem dX8_unlike_13 : decode cX8_unlike 13 = .ok (.iload_n 1, 1) := dk_27 (dk_at dksX8_unlike_0 13 rfl rfl)
theorem dX8_unlike_14 : decode cX8_unlike 14 = .ok (.aload_n 0, 1) := dk_42 (dk_at dksX8_unlike_0 14 rfl rfl)
theorem dX8_unlike_15 : decode cX8_unlike 15 = .ok (.getfield 31, 3) := dk_180 0 31 (dk_at dksX8_unlike_0 15 rfl rfl)
theorem dX8_unlike_18 : decode cX8_unlike 18 = .ok (.iload_n 2, 1) := dk_28 (dk_at dksX8_unlike_0 18 rfl rfl)
theorem dX8_unlike_19 : decode cX8_unlike 19 = .ok (.iaload, 1) := dk_46 (dk_at dksX8_unlike_0 19 rfl rfl)
theorem dX8_unlike_20 : decode cX8_unlike 20 = .ok (.aload_n 0, 1) := dk_42 (dk_at dksX8_unlike_0 20 rfl rfl)
theorem dX8_unlike_21 : decode cX8_unlike 21 = .ok (.getfield 35, 3) := dk_180 0 35 (dk_at dksX8_unlike_0 21 rfl rfl)
theorem dX8_unlike_24 : decode cX8_unlike 24 = .ok (.iload_n 2, 1) := dk_28 (dk_at dksX8_unlike_1 0 rfl rfl)
theorem dX8_unlike_25 : decode cX8_unlike 25 = .ok (.iaload, 1) := dk_46 (dk_at dksX8_unlike_1 1 rfl rfl)
theorem dX8_unlike_26 : decode cX8_unlike 26 = .ok (.if_icmp .eq 7, 3) := dk_159 0 7 (dk_at dksX8_unlike_1 2 rfl rfl)
theorem dX8_unlike_29 : decode cX8_unlike 29 = .ok (.iconst 1, 1) := dk_4 (dk_at dksX8_unlike_1 5 rfl rfl)
theorem dX8_unlike_30 : decode cX8_unlike 30 = .ok (.goto 4, 3) := dk_167 0 4 (dk_at dksX8_unlike_1 6 rfl rfl)
theorem dX8_unlike_33 : decode cX8_unlike 33 = .ok (.iconst 0, 1) := dk_3 (dk_at dksX8_unlike_1 9 rfl rfl)
theorem dX8_unlike_34 : decode cX8_unlike 34 = .ok (.invokestatic 69, 3) := dk_184 0 69 (dk_at dksX8_unlike_1 10 rfl rfl)
theorem dX8_unlike_37 : decode cX8_unlike 37 = .ok (.iadd, 1) := dk_96 (dk_at dksX8_unlike_1 13 rfl rfl)
theorem dX8_unlike_38 : decode cX8_unlike 38 = .ok (.istore_n 1, 1) := dk_60 (dk_at dksX8_unlike_1 14 rfl rfl)
theorem dX8_unlike_39 : decode cX8_unlike 39 = .ok (.iinc 2 1, 3) := dk_132 2 1 (dk_at dksX8_unlike_1 15 rfl rfl)
theorem dX8_unlike_42 : decode cX8_unlike 42 = .ok (.goto (-38), 3) := dk_167 255 218 (dk_at dksX8_unlike_1 18 rfl rfl)
theorem dX8_unlike_45 : decode cX8_unlike 45 = .ok (.iload_n 1, 1) := dk_27 (dk_at dksX8_unlike_1 21 rfl rfl)
theorem dX8_unlike_46 : decode cX8_unlike 46 = .ok (.ireturn, 1) := dk_172 (dk_at dksX8_unlike_1 22 rfl rfl)
abbrev cX8_backwards : ByteArray := prog_11_method_8_code
def yX8_backwards : MethodName := ⟨RX8, "backwards", "()[I"⟩
def dkwX8_backwards_1 : List UInt8 := [182, 0, 65, 4, 100, 28, 100, 46, 79, 132, 2, 1, 167, 255, 231, 43, 176]
abbrev dktX8_backwards_1 : List UInt8 := dkwX8_backwards_1 ++ []
def dkwX8_backwards_0 : List UInt8 := [42, 182, 0, 65, 188, 10, 76, 3, 61, 28, 43, 190, 162, 0, 25, 43, 28, 42, 180, 0, 31, 42]
abbrev dktX8_backwards_0 : List UInt8 := dkwX8_backwards_0 ++ dktX8_backwards_1
theorem dksX8_backwards_0 : cX8_backwards.data.toList.drop 0 = dktX8_backwards_0 := by decide +kernel
theorem dksX8_backwards_1 : cX8_backwards.data.toList.drop 22 = dktX8_backwards_1 := dk_seg dksX8_backwards_0 22 rfl rfl
theorem dX8_backwards_0 : decode cX8_backwards 0 = .ok (.aload_n 0, 1) := dk_42 (dk_at dksX8_backwards_0 0 rfl rfl)
theorem dX8_backwards_1 : decode cX8_backwards 1 = .ok (.invokevirtual 65, 3) := dk_182 0 65 (dk_at dksX8_backwards_0 1 rfl rfl)
theorem dX8_backwards_4 : decode cX8_backwards 4 = .ok (.newarray .int, 2) := dk_188_10 (dk_at dksX8_backwards_0 4 rfl rfl)
theorem dX8_backwards_6 : decode cX8_backwards 6 = .ok (.astore_n 1, 1) := dk_76 (dk_at dksX8_backwards_0 6 rfl rfl)
theorem dX8_backwards_7 : decode cX8_backwards 7 = .ok (.iconst 0, 1) := dk_3 (dk_at dksX8_backwards_0 7 rfl rfl)
theorem dX8_backwards_8 : decode cX8_backwards 8 = .ok (.istore_n 2, 1) := dk_61 (dk_at dksX8_backwards_0 8 rfl rfl)
theorem dX8_backwards_9 : decode cX8_backwards 9 = .ok (.iload_n 2, 1) := dk_28 (dk_at dksX8_backwards_0 9 rfl rfl)
theorem dX8_backwards_10 : decode cX8_backwards 10 = .ok (.aload_n 1, 1) := dk_43 (dk_at dksX8_backwards_0 10 rfl rfl)
theorem dX8_backwards_11 : decode cX8_backwards 11 = .ok (.arraylength, 1) := dk_190 (dk_at dksX8_backwards_0 11 rfl rfl)
theorem dX8_backwards_12 : decode cX8_backwards 12 = .ok (.if_icmp .ge 25, 3) := dk_162 0 25 (dk_at dksX8_backwards_0 12 rfl rfl)
theorem dX8_backwards_15 : decode cX8_backwards 15 = .ok (.aload_n 1, 1) := dk_43 (dk_at dksX8_backwards_0 15 rfl rfl)
theorem dX8_backwards_16 : decode cX8_backwards 16 = .ok (.iload_n 2, 1) := dk_28 (dk_at dksX8_backwards_0 16 rfl rfl)
theorem dX8_backwards_17 : decode cX8_backwards 17 = .ok (.aload_n 0, 1) := dk_42 (dk_at dksX8_backwards_0 17 rfl rfl)
theorem dX8_backwards_18 : decode cX8_backwards 18 = .ok (.getfield 31, 3) := dk_180 0 31 (dk_at dksX8_backwards_0 18 rfl rfl)
theorem dX8_backwards_21 : decode cX8_backwards 21 = .ok (.aload_n 0, 1) := dk_42 (dk_at dksX8_backwards_0 21 rfl rfl)
theorem dX8_backwards_22 : decode cX8_backwards 22 = .ok (.invokevirtual 65, 3) := dk_182 0 65 (dk_at dksX8_backwards_1 0 rfl rfl)
theorem dX8_backwards_25 : decode cX8_backwards 25 = .ok (.iconst 1, 1) := dk_4 (dk_at dksX8_backwards_1 3 rfl rfl)
theorem dX8_backwards_26 : decode cX8_backwards 26 = .ok (.isub, 1) := dk_100 (dk_at dksX8_backwards_1 4 rfl rfl)
theorem dX8_backwards_27 : decode cX8_backwards 27 = .ok (.iload_n 2, 1) := dk_28 (dk_at dksX8_backwards_1 5 rfl rfl)
theorem dX8_backwards_28 : decode cX8_backwards 28 = .ok (.isub, 1) := dk_100 (dk_at dksX8_backwards_1 6 rfl rfl)
theorem dX8_backwards_29 : decode cX8_backwards 29 = .ok (.iaload, 1) := dk_46 (dk_at dksX8_backwards_1 7 rfl rfl)
theorem dX8_backwards_30 : decode cX8_backwards 30 = .ok (.iastore, 1) := dk_79 (dk_at dksX8_backwards_1 8 rfl rfl)
theorem dX8_backwards_31 : decode cX8_backwards 31 = .ok (.iinc 2 1, 3) := dk_132 2 1 (dk_at dksX8_backwards_1 9 rfl rfl)
theorem dX8_backwards_34 : decode cX8_backwards 34 = .ok (.goto (-25), 3) := dk_167 255 231 (dk_at dksX8_backwards_1 12 rfl rfl)
theorem dX8_backwards_37 : decode cX8_backwards 37 = .ok (.aload_n 1, 1) := dk_43 (dk_at dksX8_backwards_1 15 rfl rfl)
theorem dX8_backwards_38 : decode cX8_backwards 38 = .ok (.areturn, 1) := dk_176 (dk_at dksX8_backwards_1 16 rfl rfl)
abbrev cX8_waitsAt : ByteArray := prog_11_method_10_code
def yX8_waitsAt : MethodName := ⟨RX8, "waitsAt", "(I)Z"⟩
def dkwX8_waitsAt_0 : List UInt8 := [42, 180, 0, 53, 154, 0, 15, 42, 180, 0, 38, 27, 160, 0, 7, 4, 167, 0, 4, 3, 172]
abbrev dktX8_waitsAt_0 : List UInt8 := dkwX8_waitsAt_0 ++ []
theorem dksX8_waitsAt_0 : cX8_waitsAt.data.toList.drop 0 = dktX8_waitsAt_0 := by decide +kernel
theorem dX8_waitsAt_0 : decode cX8_waitsAt 0 = .ok (.aload_n 0, 1) := dk_42 (dk_at dksX8_waitsAt_0 0 rfl rfl)
theorem dX8_waitsAt_1 : decode cX8_waitsAt 1 = .ok (.getfield 53, 3) := dk_180 0 53 (dk_at dksX8_waitsAt_0 1 rfl rfl)
theorem dX8_waitsAt_4 : decode cX8_waitsAt 4 = .ok (.ifCond .ne 15, 3) := dk_154 0 15 (dk_at dksX8_waitsAt_0 4 rfl rfl)
theorem dX8_waitsAt_7 : decode cX8_waitsAt 7 = .ok (.aload_n 0, 1) := dk_42 (dk_at dksX8_waitsAt_0 7 rfl rfl)
theorem dX8_waitsAt_8 : decode cX8_waitsAt 8 = .ok (.getfield 38, 3) := dk_180 0 38 (dk_at dksX8_waitsAt_0 8 rfl rfl)
theorem dX8_waitsAt_11 : decode cX8_waitsAt 11 = .ok (.iload_n 1, 1) := dk_27 (dk_at dksX8_waitsAt_0 11 rfl rfl)
theorem dX8_waitsAt_12 : decode cX8_waitsAt 12 = .ok (.if_icmp .ne 7, 3) := dk_160 0 7 (dk_at dksX8_waitsAt_0 12 rfl rfl)
theorem dX8_waitsAt_15 : decode cX8_waitsAt 15 = .ok (.iconst 1, 1) := dk_4 (dk_at dksX8_waitsAt_0 15 rfl rfl)
theorem dX8_waitsAt_16 : decode cX8_waitsAt 16 = .ok (.goto 4, 3) := dk_167 0 4 (dk_at dksX8_waitsAt_0 16 rfl rfl)
theorem dX8_waitsAt_19 : decode cX8_waitsAt 19 = .ok (.iconst 0, 1) := dk_3 (dk_at dksX8_waitsAt_0 19 rfl rfl)
theorem dX8_waitsAt_20 : decode cX8_waitsAt 20 = .ok (.ireturn, 1) := dk_172 (dk_at dksX8_waitsAt_0 20 rfl rfl)
abbrev cX8_bars : ByteArray := prog_11_method_5_code
def yX8_bars : MethodName := ⟨RX8, "bars", "()I"⟩
def dkwX8_bars_0 : List UInt8 := [42, 182, 0, 65, 7, 96, 4, 100, 7, 108, 172]
abbrev dktX8_bars_0 : List UInt8 := dkwX8_bars_0 ++ []
theorem dksX8_bars_0 : cX8_bars.data.toList.drop 0 = dktX8_bars_0 := by decide +kernel
theorem dX8_bars_0 : decode cX8_bars 0 = .ok (.aload_n 0, 1) := dk_42 (dk_at dksX8_bars_0 0 rfl rfl)
theorem dX8_bars_1 : decode cX8_bars 1 = .ok (.invokevirtual 65, 3) := dk_182 0 65 (dk_at dksX8_bars_0 1 rfl rfl)
theorem dX8_bars_4 : decode cX8_bars 4 = .ok (.iconst 4, 1) := dk_7 (dk_at dksX8_bars_0 4 rfl rfl)
theorem dX8_bars_5 : decode cX8_bars 5 = .ok (.iadd, 1) := dk_96 (dk_at dksX8_bars_0 5 rfl rfl)
theorem dX8_bars_6 : decode cX8_bars 6 = .ok (.iconst 1, 1) := dk_4 (dk_at dksX8_bars_0 6 rfl rfl)
theorem dX8_bars_7 : decode cX8_bars 7 = .ok (.isub, 1) := dk_100 (dk_at dksX8_bars_0 7 rfl rfl)
theorem dX8_bars_8 : decode cX8_bars 8 = .ok (.iconst 4, 1) := dk_7 (dk_at dksX8_bars_0 8 rfl rfl)
theorem dX8_bars_9 : decode cX8_bars 9 = .ok (.idiv, 1) := dk_108 (dk_at dksX8_bars_0 9 rfl rfl)
theorem dX8_bars_10 : decode cX8_bars 10 = .ok (.ireturn, 1) := dk_172 (dk_at dksX8_bars_0 10 rfl rfl)
abbrev cX8_isDearer : ByteArray := prog_11_method_9_code
def yX8_isDearer : MethodName := ⟨RX8, "isDearer", "(LWhistlePosts$Tune;)Z"⟩
def dkwX8_isDearer_1 : List UInt8 := [167, 0, 23, 3, 167, 0, 19, 42, 180, 0, 15, 43, 180, 0, 15, 162, 0, 7, 4, 167, 0, 4, 3, 172]
abbrev dktX8_isDearer_1 : List UInt8 := dkwX8_isDearer_1 ++ []
def dkwX8_isDearer_0 : List UInt8 := [42, 182, 0, 73, 43, 182, 0, 73, 159, 0, 22, 42, 182, 0, 73, 43, 182, 0, 73, 164, 0, 7, 4]
abbrev dktX8_isDearer_0 : List UInt8 := dkwX8_isDearer_0 ++ dktX8_isDearer_1
theorem dksX8_isDearer_0 : cX8_isDearer.data.toList.drop 0 = dktX8_isDearer_0 := by decide +kernel
theorem dksX8_isDearer_1 : cX8_isDearer.data.toList.drop 23 = dktX8_isDearer_1 := dk_seg dksX8_isDearer_0 23 rfl rfl
theorem dX8_isDearer_0 : decode cX8_isDearer 0 = .ok (.aload_n 0, 1) := dk_42 (dk_at dksX8_isDearer_0 0 rfl rfl)
theorem dX8_isDearer_1 : decode cX8_isDearer 1 = .ok (.invokevirtual 73, 3) := dk_182 0 73 (dk_at dksX8_isDearer_0 1 rfl rfl)
theorem dX8_isDearer_4 : decode cX8_isDearer 4 = .ok (.aload_n 1, 1) := dk_43 (dk_at dksX8_isDearer_0 4 rfl rfl)
theorem dX8_isDearer_5 : decode cX8_isDearer 5 = .ok (.invokevirtual 73, 3) := dk_182 0 73 (dk_at dksX8_isDearer_0 5 rfl rfl)
theorem dX8_isDearer_8 : decode cX8_isDearer 8 = .ok (.if_icmp .eq 22, 3) := dk_159 0 22 (dk_at dksX8_isDearer_0 8 rfl rfl)
theorem dX8_isDearer_11 : decode cX8_isDearer 11 = .ok (.aload_n 0, 1) := dk_42 (dk_at dksX8_isDearer_0 11 rfl rfl)
theorem dX8_isDearer_12 : decode cX8_isDearer 12 = .ok (.invokevirtual 73, 3) := dk_182 0 73 (dk_at dksX8_isDearer_0 12 rfl rfl)
theorem dX8_isDearer_15 : decode cX8_isDearer 15 = .ok (.aload_n 1, 1) := dk_43 (dk_at dksX8_isDearer_0 15 rfl rfl)
theorem dX8_isDearer_16 : decode cX8_isDearer 16 = .ok (.invokevirtual 73, 3) := dk_182 0 73 (dk_at dksX8_isDearer_0 16 rfl rfl)
theorem dX8_isDearer_19 : decode cX8_isDearer 19 = .ok (.if_icmp .le 7, 3) := dk_164 0 7 (dk_at dksX8_isDearer_0 19 rfl rfl)
theorem dX8_isDearer_22 : decode cX8_isDearer 22 = .ok (.iconst 1, 1) := dk_4 (dk_at dksX8_isDearer_0 22 rfl rfl)
theorem dX8_isDearer_23 : decode cX8_isDearer 23 = .ok (.goto 23, 3) := dk_167 0 23 (dk_at dksX8_isDearer_1 0 rfl rfl)
theorem dX8_isDearer_26 : decode cX8_isDearer 26 = .ok (.iconst 0, 1) := dk_3 (dk_at dksX8_isDearer_1 3 rfl rfl)
theorem dX8_isDearer_27 : decode cX8_isDearer 27 = .ok (.goto 19, 3) := dk_167 0 19 (dk_at dksX8_isDearer_1 4 rfl rfl)
theorem dX8_isDearer_30 : decode cX8_isDearer 30 = .ok (.aload_n 0, 1) := dk_42 (dk_at dksX8_isDearer_1 7 rfl rfl)
theorem dX8_isDearer_31 : decode cX8_isDearer 31 = .ok (.getfield 15, 3) := dk_180 0 15 (dk_at dksX8_isDearer_1 8 rfl rfl)
theorem dX8_isDearer_34 : decode cX8_isDearer 34 = .ok (.aload_n 1, 1) := dk_43 (dk_at dksX8_isDearer_1 11 rfl rfl)
theorem dX8_isDearer_35 : decode cX8_isDearer 35 = .ok (.getfield 15, 3) := dk_180 0 15 (dk_at dksX8_isDearer_1 12 rfl rfl)
theorem dX8_isDearer_38 : decode cX8_isDearer 38 = .ok (.if_icmp .ge 7, 3) := dk_162 0 7 (dk_at dksX8_isDearer_1 15 rfl rfl)
theorem dX8_isDearer_41 : decode cX8_isDearer 41 = .ok (.iconst 1, 1) := dk_4 (dk_at dksX8_isDearer_1 18 rfl rfl)
theorem dX8_isDearer_42 : decode cX8_isDearer 42 = .ok (.goto 4, 3) := dk_167 0 4 (dk_at dksX8_isDearer_1 19 rfl rfl)
theorem dX8_isDearer_45 : decode cX8_isDearer 45 = .ok (.iconst 0, 1) := dk_3 (dk_at dksX8_isDearer_1 22 rfl rfl)
theorem dX8_isDearer_46 : decode cX8_isDearer 46 = .ok (.ireturn, 1) := dk_172 (dk_at dksX8_isDearer_1 23 rfl rfl)
abbrev cX8_copy : ByteArray := prog_11_method_2_code
def yX8_copy : MethodName := ⟨RX8, "copy", "()LWhistlePosts$Tune;"⟩
def dkwX8_copy_4 : List UInt8 := [181, 0, 62, 43, 176]
abbrev dktX8_copy_4 : List UInt8 := dkwX8_copy_4 ++ []
def dkwX8_copy_3 : List UInt8 := [181, 0, 9, 43, 42, 180, 0, 56, 181, 0, 56, 43, 42, 180, 0, 59, 181, 0, 59, 43, 42, 180, 0, 62]
abbrev dktX8_copy_3 : List UInt8 := dkwX8_copy_3 ++ dktX8_copy_4
def dkwX8_copy_2 : List UInt8 := [184, 0, 47, 43, 42, 180, 0, 38, 181, 0, 38, 43, 42, 180, 0, 53, 181, 0, 53, 43, 42, 180, 0, 9]
abbrev dktX8_copy_2 : List UInt8 := dkwX8_copy_2 ++ dktX8_copy_3
def dkwX8_copy_1 : List UInt8 := [42, 180, 0, 31, 183, 0, 44, 76, 42, 180, 0, 35, 3, 43, 180, 0, 35, 3, 42, 180, 0, 35, 190]
abbrev dktX8_copy_1 : List UInt8 := dkwX8_copy_1 ++ dktX8_copy_2
def dkwX8_copy_0 : List UInt8 := [187, 0, 10, 89, 42, 180, 0, 15, 42, 180, 0, 18, 42, 180, 0, 21, 42, 180, 0, 24, 42, 180, 0, 28]
abbrev dktX8_copy_0 : List UInt8 := dkwX8_copy_0 ++ dktX8_copy_1
theorem dksX8_copy_0 : cX8_copy.data.toList.drop 0 = dktX8_copy_0 := by decide +kernel
theorem dksX8_copy_1 : cX8_copy.data.toList.drop 24 = dktX8_copy_1 := dk_seg dksX8_copy_0 24 rfl rfl
theorem dksX8_copy_2 : cX8_copy.data.toList.drop 47 = dktX8_copy_2 := dk_seg dksX8_copy_1 23 rfl rfl
theorem dksX8_copy_3 : cX8_copy.data.toList.drop 71 = dktX8_copy_3 := dk_seg dksX8_copy_2 24 rfl rfl
theorem dksX8_copy_4 : cX8_copy.data.toList.drop 95 = dktX8_copy_4 := dk_seg dksX8_copy_3 24 rfl rfl
theorem dX8_copy_0 : decode cX8_copy 0 = .ok (.new 10, 3) := dk_187 0 10 (dk_at dksX8_copy_0 0 rfl rfl)
theorem dX8_copy_3 : decode cX8_copy 3 = .ok (.dup, 1) := dk_89 (dk_at dksX8_copy_0 3 rfl rfl)
theorem dX8_copy_4 : decode cX8_copy 4 = .ok (.aload_n 0, 1) := dk_42 (dk_at dksX8_copy_0 4 rfl rfl)
theorem dX8_copy_5 : decode cX8_copy 5 = .ok (.getfield 15, 3) := dk_180 0 15 (dk_at dksX8_copy_0 5 rfl rfl)
theorem dX8_copy_8 : decode cX8_copy 8 = .ok (.aload_n 0, 1) := dk_42 (dk_at dksX8_copy_0 8 rfl rfl)
theorem dX8_copy_9 : decode cX8_copy 9 = .ok (.getfield 18, 3) := dk_180 0 18 (dk_at dksX8_copy_0 9 rfl rfl)
theorem dX8_copy_12 : decode cX8_copy 12 = .ok (.aload_n 0, 1) := dk_42 (dk_at dksX8_copy_0 12 rfl rfl)
theorem dX8_copy_13 : decode cX8_copy 13 = .ok (.getfield 21, 3) := dk_180 0 21 (dk_at dksX8_copy_0 13 rfl rfl)
theorem dX8_copy_16 : decode cX8_copy 16 = .ok (.aload_n 0, 1) := dk_42 (dk_at dksX8_copy_0 16 rfl rfl)
theorem dX8_copy_17 : decode cX8_copy 17 = .ok (.getfield 24, 3) := dk_180 0 24 (dk_at dksX8_copy_0 17 rfl rfl)
theorem dX8_copy_20 : decode cX8_copy 20 = .ok (.aload_n 0, 1) := dk_42 (dk_at dksX8_copy_0 20 rfl rfl)
theorem dX8_copy_21 : decode cX8_copy 21 = .ok (.getfield 28, 3) := dk_180 0 28 (dk_at dksX8_copy_0 21 rfl rfl)
theorem dX8_copy_24 : decode cX8_copy 24 = .ok (.aload_n 0, 1) := dk_42 (dk_at dksX8_copy_1 0 rfl rfl)
theorem dX8_copy_25 : decode cX8_copy 25 = .ok (.getfield 31, 3) := dk_180 0 31 (dk_at dksX8_copy_1 1 rfl rfl)
theorem dX8_copy_28 : decode cX8_copy 28 = .ok (.invokespecial 44, 3) := dk_183 0 44 (dk_at dksX8_copy_1 4 rfl rfl)
theorem dX8_copy_31 : decode cX8_copy 31 = .ok (.astore_n 1, 1) := dk_76 (dk_at dksX8_copy_1 7 rfl rfl)
theorem dX8_copy_32 : decode cX8_copy 32 = .ok (.aload_n 0, 1) := dk_42 (dk_at dksX8_copy_1 8 rfl rfl)
theorem dX8_copy_33 : decode cX8_copy 33 = .ok (.getfield 35, 3) := dk_180 0 35 (dk_at dksX8_copy_1 9 rfl rfl)
theorem dX8_copy_36 : decode cX8_copy 36 = .ok (.iconst 0, 1) := dk_3 (dk_at dksX8_copy_1 12 rfl rfl)
theorem dX8_copy_37 : decode cX8_copy 37 = .ok (.aload_n 1, 1) := dk_43 (dk_at dksX8_copy_1 13 rfl rfl)
theorem dX8_copy_38 : decode cX8_copy 38 = .ok (.getfield 35, 3) := dk_180 0 35 (dk_at dksX8_copy_1 14 rfl rfl)
theorem dX8_copy_41 : decode cX8_copy 41 = .ok (.iconst 0, 1) := dk_3 (dk_at dksX8_copy_1 17 rfl rfl)
theorem dX8_copy_42 : decode cX8_copy 42 = .ok (.aload_n 0, 1) := dk_42 (dk_at dksX8_copy_1 18 rfl rfl)
theorem dX8_copy_43 : decode cX8_copy 43 = .ok (.getfield 35, 3) := dk_180 0 35 (dk_at dksX8_copy_1 19 rfl rfl)
theorem dX8_copy_46 : decode cX8_copy 46 = .ok (.arraylength, 1) := dk_190 (dk_at dksX8_copy_1 22 rfl rfl)
theorem dX8_copy_47 : decode cX8_copy 47 = .ok (.invokestatic 47, 3) := dk_184 0 47 (dk_at dksX8_copy_2 0 rfl rfl)
theorem dX8_copy_50 : decode cX8_copy 50 = .ok (.aload_n 1, 1) := dk_43 (dk_at dksX8_copy_2 3 rfl rfl)
theorem dX8_copy_51 : decode cX8_copy 51 = .ok (.aload_n 0, 1) := dk_42 (dk_at dksX8_copy_2 4 rfl rfl)
theorem dX8_copy_52 : decode cX8_copy 52 = .ok (.getfield 38, 3) := dk_180 0 38 (dk_at dksX8_copy_2 5 rfl rfl)
theorem dX8_copy_55 : decode cX8_copy 55 = .ok (.putfield 38, 3) := dk_181 0 38 (dk_at dksX8_copy_2 8 rfl rfl)
theorem dX8_copy_58 : decode cX8_copy 58 = .ok (.aload_n 1, 1) := dk_43 (dk_at dksX8_copy_2 11 rfl rfl)
theorem dX8_copy_59 : decode cX8_copy 59 = .ok (.aload_n 0, 1) := dk_42 (dk_at dksX8_copy_2 12 rfl rfl)
theorem dX8_copy_60 : decode cX8_copy 60 = .ok (.getfield 53, 3) := dk_180 0 53 (dk_at dksX8_copy_2 13 rfl rfl)
theorem dX8_copy_63 : decode cX8_copy 63 = .ok (.putfield 53, 3) := dk_181 0 53 (dk_at dksX8_copy_2 16 rfl rfl)
theorem dX8_copy_66 : decode cX8_copy 66 = .ok (.aload_n 1, 1) := dk_43 (dk_at dksX8_copy_2 19 rfl rfl)
theorem dX8_copy_67 : decode cX8_copy 67 = .ok (.aload_n 0, 1) := dk_42 (dk_at dksX8_copy_2 20 rfl rfl)
theorem dX8_copy_68 : decode cX8_copy 68 = .ok (.getfield 9, 3) := dk_180 0 9 (dk_at dksX8_copy_2 21 rfl rfl)
theorem dX8_copy_71 : decode cX8_copy 71 = .ok (.putfield 9, 3) := dk_181 0 9 (dk_at dksX8_copy_3 0 rfl rfl)
theorem dX8_copy_74 : decode cX8_copy 74 = .ok (.aload_n 1, 1) := dk_43 (dk_at dksX8_copy_3 3 rfl rfl)
theorem dX8_copy_75 : decode cX8_copy 75 = .ok (.aload_n 0, 1) := dk_42 (dk_at dksX8_copy_3 4 rfl rfl)
theorem dX8_copy_76 : decode cX8_copy 76 = .ok (.getfield 56, 3) := dk_180 0 56 (dk_at dksX8_copy_3 5 rfl rfl)
theorem dX8_copy_79 : decode cX8_copy 79 = .ok (.putfield 56, 3) := dk_181 0 56 (dk_at dksX8_copy_3 8 rfl rfl)
theorem dX8_copy_82 : decode cX8_copy 82 = .ok (.aload_n 1, 1) := dk_43 (dk_at dksX8_copy_3 11 rfl rfl)
theorem dX8_copy_83 : decode cX8_copy 83 = .ok (.aload_n 0, 1) := dk_42 (dk_at dksX8_copy_3 12 rfl rfl)
theorem dX8_copy_84 : decode cX8_copy 84 = .ok (.getfield 59, 3) := dk_180 0 59 (dk_at dksX8_copy_3 13 rfl rfl)
theorem dX8_copy_87 : decode cX8_copy 87 = .ok (.putfield 59, 3) := dk_181 0 59 (dk_at dksX8_copy_3 16 rfl rfl)
theorem dX8_copy_90 : decode cX8_copy 90 = .ok (.aload_n 1, 1) := dk_43 (dk_at dksX8_copy_3 19 rfl rfl)
theorem dX8_copy_91 : decode cX8_copy 91 = .ok (.aload_n 0, 1) := dk_42 (dk_at dksX8_copy_3 20 rfl rfl)
theorem dX8_copy_92 : decode cX8_copy 92 = .ok (.getfield 62, 3) := dk_180 0 62 (dk_at dksX8_copy_3 21 rfl rfl)
theorem dX8_copy_95 : decode cX8_copy 95 = .ok (.putfield 62, 3) := dk_181 0 62 (dk_at dksX8_copy_4 0 rfl rfl)
theorem dX8_copy_98 : decode cX8_copy 98 = .ok (.aload_n 1, 1) := dk_43 (dk_at dksX8_copy_4 3 rfl rfl)
theorem dX8_copy_99 : decode cX8_copy 99 = .ok (.areturn, 1) := dk_176 (dk_at dksX8_copy_4 4 rfl rfl)
theorem q192 : (Jvm.Cond.initialized "WhistlePosts$Tune") ∈ lw_all := lw_g (lw_at lw_m1 42 rfl) rfl
theorem q717 : (Jvm.Cond.selects "WhistlePosts$Tune" ({ cls := "java/lang/Object", name := "getClass", desc := "()Ljava/lang/Class;" } : Jvm.MethodName) ({ cls := "java/lang/Object", name := "getClass", desc := "()Ljava/lang/Class;" } : Jvm.MethodName)) ∈ lw_all := lw_g (lw_at lw_m3 87 rfl) rfl
theorem q1559 : (Jvm.Cond.instantiable "WhistlePosts$Tune" (13 : Nat)) ∈ lw_all := lw_g (lw_at lw_m6 209 rfl) rfl
theorem q1561 : (Jvm.Cond.instanceMethod ({ cls := "WhistlePosts$Tune", name := "<init>", desc := "(IIIZZ[I)V" } : Jvm.MethodName)) ∈ lw_all := lw_g (lw_at lw_m6 211 rfl) rfl
theorem q1562 : (Jvm.Cond.code ({ cls := "WhistlePosts$Tune", name := "<init>", desc := "(IIIZZ[I)V" } : Jvm.MethodName) prog_11_method_1_code (7 : Nat) (Option.none : Option Jvm.ClassFile.FieldType)) ∈ lw_all := lw_g (lw_at lw_m6 212 rfl) rfl
theorem q1563 : (Jvm.Cond.methodLink "WhistlePosts$Tune" (3 : Nat) ({ cls := "java/lang/Object", name := "<init>", desc := "()V" } : Jvm.MethodName)) ∈ lw_all := lw_g (lw_at lw_m6 213 rfl) rfl
theorem q1564 : (Jvm.Cond.methodLink "WhistlePosts$Tune" (41 : Nat) ({ cls := "WhistlePosts$Tune", name := "begins", desc := "()V" } : Jvm.MethodName)) ∈ lw_all := lw_g (lw_at lw_m6 214 rfl) rfl
theorem q1565 : (Jvm.Cond.instanceMethod ({ cls := "WhistlePosts$Tune", name := "begins", desc := "()V" } : Jvm.MethodName)) ∈ lw_all := lw_g (lw_at lw_m6 215 rfl) rfl
theorem q1566 : (Jvm.Cond.selects "WhistlePosts$Tune" ({ cls := "WhistlePosts$Tune", name := "begins", desc := "()V" } : Jvm.MethodName) ({ cls := "WhistlePosts$Tune", name := "begins", desc := "()V" } : Jvm.MethodName)) ∈ lw_all := lw_g (lw_at lw_m6 216 rfl) rfl
theorem q1567 : (Jvm.Cond.code ({ cls := "WhistlePosts$Tune", name := "begins", desc := "()V" } : Jvm.MethodName) prog_11_method_3_code (1 : Nat) (Option.none : Option Jvm.ClassFile.FieldType)) ∈ lw_all := lw_g (lw_at lw_m6 217 rfl) rfl
theorem q1568 : (Jvm.Cond.methodLink "WhistlePosts$Tune" (47 : Nat) ({ cls := "java/lang/System", name := "arraycopy", desc := "(Ljava/lang/Object;ILjava/lang/Object;II)V" } : Jvm.MethodName)) ∈ lw_all := lw_g (lw_at lw_m6 218 rfl) rfl
theorem q1569 : (Jvm.Cond.fieldLink "WhistlePosts$Tune" (15 : Nat) "WhistlePosts$Tune" "number" "I") ∈ lw_all := lw_g (lw_at lw_m6 219 rfl) rfl
theorem q1571 : (Jvm.Cond.fieldLink "WhistlePosts$Tune" (18 : Nat) "WhistlePosts$Tune" "sender" "I") ∈ lw_all := lw_g (lw_at lw_m6 221 rfl) rfl
theorem q1574 : (Jvm.Cond.fieldLink "WhistlePosts$Tune" (21 : Nat) "WhistlePosts$Tune" "goal" "I") ∈ lw_all := lw_g (lw_at lw_m6 224 rfl) rfl
theorem q1577 : (Jvm.Cond.fieldLink "WhistlePosts$Tune" (31 : Nat) "WhistlePosts$Tune" "sent" "[I") ∈ lw_all := lw_g (lw_at lw_m6 227 rfl) rfl
theorem q1579 : (Jvm.Cond.fieldLink "WhistlePosts$Tune" (35 : Nat) "WhistlePosts$Tune" "heard" "[I") ∈ lw_all := lw_g (lw_at lw_m6 229 rfl) rfl
theorem q1581 : (Jvm.Cond.fieldLink "WhistlePosts$Tune" (24 : Nat) "WhistlePosts$Tune" "isReply" "Z") ∈ lw_all := lw_g (lw_at lw_m6 231 rfl) rfl
theorem q1583 : (Jvm.Cond.fieldLink "WhistlePosts$Tune" (28 : Nat) "WhistlePosts$Tune" "wants" "Z") ∈ lw_all := lw_g (lw_at lw_m6 233 rfl) rfl
theorem q1586 : (Jvm.Cond.fieldLink "WhistlePosts$Tune" (38 : Nat) "WhistlePosts$Tune" "at" "I") ∈ lw_all := lw_g (lw_at lw_m6 236 rfl) rfl
theorem q1589 : (Jvm.Cond.fieldLink "WhistlePosts$Tune" (53 : Nat) "WhistlePosts$Tune" "state" "I") ∈ lw_all := lw_g (lw_at lw_m6 239 rfl) rfl
theorem q1592 : (Jvm.Cond.fieldLink "WhistlePosts$Tune" (9 : Nat) "WhistlePosts$Tune" "end" "I") ∈ lw_all := lw_g (lw_at lw_m7 2 rfl) rfl
theorem q1595 : (Jvm.Cond.fieldLink "WhistlePosts$Tune" (56 : Nat) "WhistlePosts$Tune" "far" "I") ∈ lw_all := lw_g (lw_at lw_m7 5 rfl) rfl
theorem q1597 : (Jvm.Cond.fieldLink "WhistlePosts$Tune" (59 : Nat) "WhistlePosts$Tune" "tries" "I") ∈ lw_all := lw_g (lw_at lw_m7 7 rfl) rfl
theorem q1600 : (Jvm.Cond.fieldLink "WhistlePosts$Tune" (62 : Nat) "WhistlePosts$Tune" "hops" "I") ∈ lw_all := lw_g (lw_at lw_m7 10 rfl) rfl
theorem q1603 : (Jvm.Cond.laysFinal "WhistlePosts$Tune" "WhistlePosts$Tune" "number" "I") ∈ lw_all := lw_g (lw_at lw_m7 13 rfl) rfl
theorem q1604 : (Jvm.Cond.soleField "WhistlePosts$Tune" "number") ∈ lw_all := lw_g (lw_at lw_m7 14 rfl) rfl
theorem q1605 : (Jvm.Cond.laysFinal "WhistlePosts$Tune" "WhistlePosts$Tune" "sender" "I") ∈ lw_all := lw_g (lw_at lw_m7 15 rfl) rfl
theorem q1606 : (Jvm.Cond.soleField "WhistlePosts$Tune" "sender") ∈ lw_all := lw_g (lw_at lw_m7 16 rfl) rfl
theorem q1607 : (Jvm.Cond.laysFinal "WhistlePosts$Tune" "WhistlePosts$Tune" "goal" "I") ∈ lw_all := lw_g (lw_at lw_m7 17 rfl) rfl
theorem q1608 : (Jvm.Cond.soleField "WhistlePosts$Tune" "goal") ∈ lw_all := lw_g (lw_at lw_m7 18 rfl) rfl
theorem q1609 : (Jvm.Cond.laysFinal "WhistlePosts$Tune" "WhistlePosts$Tune" "sent" "[I") ∈ lw_all := lw_g (lw_at lw_m7 19 rfl) rfl
theorem q1610 : (Jvm.Cond.soleField "WhistlePosts$Tune" "sent") ∈ lw_all := lw_g (lw_at lw_m7 20 rfl) rfl
theorem q1611 : (Jvm.Cond.laysFinal "WhistlePosts$Tune" "WhistlePosts$Tune" "heard" "[I") ∈ lw_all := lw_g (lw_at lw_m7 21 rfl) rfl
theorem q1612 : (Jvm.Cond.soleField "WhistlePosts$Tune" "heard") ∈ lw_all := lw_g (lw_at lw_m7 22 rfl) rfl
theorem q1613 : (Jvm.Cond.laysFinal "WhistlePosts$Tune" "WhistlePosts$Tune" "isReply" "Z") ∈ lw_all := lw_g (lw_at lw_m7 23 rfl) rfl
theorem q1614 : (Jvm.Cond.soleField "WhistlePosts$Tune" "isReply") ∈ lw_all := lw_g (lw_at lw_m7 24 rfl) rfl
theorem q1615 : (Jvm.Cond.laysFinal "WhistlePosts$Tune" "WhistlePosts$Tune" "wants" "Z") ∈ lw_all := lw_g (lw_at lw_m7 25 rfl) rfl
theorem q1616 : (Jvm.Cond.soleField "WhistlePosts$Tune" "wants") ∈ lw_all := lw_g (lw_at lw_m7 26 rfl) rfl
theorem q1617 : (Jvm.Cond.lays "WhistlePosts$Tune" "WhistlePosts$Tune" "at" "I") ∈ lw_all := lw_g (lw_at lw_m7 27 rfl) rfl
theorem q1618 : (Jvm.Cond.soleField "WhistlePosts$Tune" "at") ∈ lw_all := lw_g (lw_at lw_m7 28 rfl) rfl
theorem q1619 : (Jvm.Cond.lays "WhistlePosts$Tune" "WhistlePosts$Tune" "state" "I") ∈ lw_all := lw_g (lw_at lw_m7 29 rfl) rfl
theorem q1620 : (Jvm.Cond.soleField "WhistlePosts$Tune" "state") ∈ lw_all := lw_g (lw_at lw_m7 30 rfl) rfl
theorem q1621 : (Jvm.Cond.lays "WhistlePosts$Tune" "WhistlePosts$Tune" "end" "I") ∈ lw_all := lw_g (lw_at lw_m7 31 rfl) rfl
theorem q1622 : (Jvm.Cond.soleField "WhistlePosts$Tune" "end") ∈ lw_all := lw_g (lw_at lw_m7 32 rfl) rfl
theorem q1623 : (Jvm.Cond.lays "WhistlePosts$Tune" "WhistlePosts$Tune" "far" "I") ∈ lw_all := lw_g (lw_at lw_m7 33 rfl) rfl
theorem q1624 : (Jvm.Cond.soleField "WhistlePosts$Tune" "far") ∈ lw_all := lw_g (lw_at lw_m7 34 rfl) rfl
theorem q1625 : (Jvm.Cond.lays "WhistlePosts$Tune" "WhistlePosts$Tune" "tries" "I") ∈ lw_all := lw_g (lw_at lw_m7 35 rfl) rfl
theorem q1626 : (Jvm.Cond.soleField "WhistlePosts$Tune" "tries") ∈ lw_all := lw_g (lw_at lw_m7 36 rfl) rfl
theorem q1627 : (Jvm.Cond.lays "WhistlePosts$Tune" "WhistlePosts$Tune" "hops" "I") ∈ lw_all := lw_g (lw_at lw_m7 37 rfl) rfl
theorem q1628 : (Jvm.Cond.soleField "WhistlePosts$Tune" "hops") ∈ lw_all := lw_g (lw_at lw_m7 38 rfl) rfl
theorem q1629 : (Jvm.Cond.superclass "WhistlePosts$Tune" "java/lang/Object") ∈ lw_all := lw_g (lw_at lw_m7 39 rfl) rfl
theorem q1660 : (Jvm.Cond.instanceMethod ({ cls := "WhistlePosts$Tune", name := "notes", desc := "()I" } : Jvm.MethodName)) ∈ lw_all := lw_g (lw_at lw_m7 70 rfl) rfl
theorem q1661 : (Jvm.Cond.selects "WhistlePosts$Tune" ({ cls := "WhistlePosts$Tune", name := "notes", desc := "()I" } : Jvm.MethodName) ({ cls := "WhistlePosts$Tune", name := "notes", desc := "()I" } : Jvm.MethodName)) ∈ lw_all := lw_g (lw_at lw_m7 71 rfl) rfl
theorem q1662 : (Jvm.Cond.code ({ cls := "WhistlePosts$Tune", name := "notes", desc := "()I" } : Jvm.MethodName) prog_11_method_4_code (1 : Nat) (Option.some Jvm.ClassFile.FieldType.int)) ∈ lw_all := lw_g (lw_at lw_m7 72 rfl) rfl
theorem q1670 : (Jvm.Cond.instanceMethod ({ cls := "WhistlePosts$Tune", name := "blurs", desc := "(I)V" } : Jvm.MethodName)) ∈ lw_all := lw_g (lw_at lw_m7 80 rfl) rfl
theorem q1671 : (Jvm.Cond.selects "WhistlePosts$Tune" ({ cls := "WhistlePosts$Tune", name := "blurs", desc := "(I)V" } : Jvm.MethodName) ({ cls := "WhistlePosts$Tune", name := "blurs", desc := "(I)V" } : Jvm.MethodName)) ∈ lw_all := lw_g (lw_at lw_m7 81 rfl) rfl
theorem q1672 : (Jvm.Cond.code ({ cls := "WhistlePosts$Tune", name := "blurs", desc := "(I)V" } : Jvm.MethodName) prog_11_method_7_code (4 : Nat) (Option.none : Option Jvm.ClassFile.FieldType)) ∈ lw_all := lw_g (lw_at lw_m7 82 rfl) rfl
theorem q1673 : (Jvm.Cond.methodLink "WhistlePosts$Tune" (65 : Nat) ({ cls := "WhistlePosts$Tune", name := "notes", desc := "()I" } : Jvm.MethodName)) ∈ lw_all := lw_g (lw_at lw_m7 83 rfl) rfl
theorem q1679 : (Jvm.Cond.instanceMethod ({ cls := "WhistlePosts$Tune", name := "unlike", desc := "()I" } : Jvm.MethodName)) ∈ lw_all := lw_g (lw_at lw_m7 89 rfl) rfl
theorem q1680 : (Jvm.Cond.selects "WhistlePosts$Tune" ({ cls := "WhistlePosts$Tune", name := "unlike", desc := "()I" } : Jvm.MethodName) ({ cls := "WhistlePosts$Tune", name := "unlike", desc := "()I" } : Jvm.MethodName)) ∈ lw_all := lw_g (lw_at lw_m7 90 rfl) rfl
theorem q1681 : (Jvm.Cond.code ({ cls := "WhistlePosts$Tune", name := "unlike", desc := "()I" } : Jvm.MethodName) prog_11_method_6_code (3 : Nat) (Option.some Jvm.ClassFile.FieldType.int)) ∈ lw_all := lw_g (lw_at lw_m7 91 rfl) rfl
theorem q1682 : (Jvm.Cond.methodLinkNest "WhistlePosts$Tune" (69 : Nat) ({ cls := "WhistlePosts", name := "one", desc := "(Z)I" } : Jvm.MethodName) "WhistlePosts") ∈ lw_tbl := lw_at lw_m7 92 rfl
theorem q1685 : (Jvm.Cond.instanceMethod ({ cls := "WhistlePosts$Tune", name := "backwards", desc := "()[I" } : Jvm.MethodName)) ∈ lw_all := lw_g (lw_at lw_m7 95 rfl) rfl
theorem q1686 : (Jvm.Cond.selects "WhistlePosts$Tune" ({ cls := "WhistlePosts$Tune", name := "backwards", desc := "()[I" } : Jvm.MethodName) ({ cls := "WhistlePosts$Tune", name := "backwards", desc := "()[I" } : Jvm.MethodName)) ∈ lw_all := lw_g (lw_at lw_m7 96 rfl) rfl
theorem q1687 : (Jvm.Cond.code ({ cls := "WhistlePosts$Tune", name := "backwards", desc := "()[I" } : Jvm.MethodName) prog_11_method_8_code (3 : Nat) (Option.some (Jvm.ClassFile.FieldType.array Jvm.ClassFile.FieldType.int))) ∈ lw_all := lw_g (lw_at lw_m7 97 rfl) rfl
theorem q1698 : (Jvm.Cond.instanceMethod ({ cls := "WhistlePosts$Tune", name := "waitsAt", desc := "(I)Z" } : Jvm.MethodName)) ∈ lw_all := lw_g (lw_at lw_m7 108 rfl) rfl
theorem q1699 : (Jvm.Cond.selects "WhistlePosts$Tune" ({ cls := "WhistlePosts$Tune", name := "waitsAt", desc := "(I)Z" } : Jvm.MethodName) ({ cls := "WhistlePosts$Tune", name := "waitsAt", desc := "(I)Z" } : Jvm.MethodName)) ∈ lw_all := lw_g (lw_at lw_m7 109 rfl) rfl
theorem q1700 : (Jvm.Cond.code ({ cls := "WhistlePosts$Tune", name := "waitsAt", desc := "(I)Z" } : Jvm.MethodName) prog_11_method_10_code (2 : Nat) (Option.some Jvm.ClassFile.FieldType.boolean)) ∈ lw_all := lw_g (lw_at lw_m7 110 rfl) rfl
theorem q1710 : (Jvm.Cond.instanceMethod ({ cls := "WhistlePosts$Tune", name := "bars", desc := "()I" } : Jvm.MethodName)) ∈ lw_all := lw_g (lw_at lw_m7 120 rfl) rfl
theorem q1711 : (Jvm.Cond.selects "WhistlePosts$Tune" ({ cls := "WhistlePosts$Tune", name := "bars", desc := "()I" } : Jvm.MethodName) ({ cls := "WhistlePosts$Tune", name := "bars", desc := "()I" } : Jvm.MethodName)) ∈ lw_all := lw_g (lw_at lw_m7 121 rfl) rfl
theorem q1712 : (Jvm.Cond.code ({ cls := "WhistlePosts$Tune", name := "bars", desc := "()I" } : Jvm.MethodName) prog_11_method_5_code (1 : Nat) (Option.some Jvm.ClassFile.FieldType.int)) ∈ lw_all := lw_g (lw_at lw_m7 122 rfl) rfl
theorem q1813 : (Jvm.Cond.instanceMethod ({ cls := "WhistlePosts$Tune", name := "isDearer", desc := "(LWhistlePosts$Tune;)Z" } : Jvm.MethodName)) ∈ lw_all := lw_g (lw_at lw_m7 223 rfl) rfl
theorem q1814 : (Jvm.Cond.selects "WhistlePosts$Tune" ({ cls := "WhistlePosts$Tune", name := "isDearer", desc := "(LWhistlePosts$Tune;)Z" } : Jvm.MethodName) ({ cls := "WhistlePosts$Tune", name := "isDearer", desc := "(LWhistlePosts$Tune;)Z" } : Jvm.MethodName)) ∈ lw_all := lw_g (lw_at lw_m7 224 rfl) rfl
theorem q1815 : (Jvm.Cond.code ({ cls := "WhistlePosts$Tune", name := "isDearer", desc := "(LWhistlePosts$Tune;)Z" } : Jvm.MethodName) prog_11_method_9_code (2 : Nat) (Option.some Jvm.ClassFile.FieldType.boolean)) ∈ lw_all := lw_g (lw_at lw_m7 225 rfl) rfl
theorem q1816 : (Jvm.Cond.methodLink "WhistlePosts$Tune" (73 : Nat) ({ cls := "WhistlePosts$Tune", name := "bars", desc := "()I" } : Jvm.MethodName)) ∈ lw_all := lw_g (lw_at lw_m7 226 rfl) rfl
theorem q2186 : (Jvm.Cond.instanceMethod ({ cls := "WhistlePosts$Tune", name := "copy", desc := "()LWhistlePosts$Tune;" } : Jvm.MethodName)) ∈ lw_all := lw_g (lw_at lw_m9 116 rfl) rfl
theorem q2187 : (Jvm.Cond.selects "WhistlePosts$Tune" ({ cls := "WhistlePosts$Tune", name := "copy", desc := "()LWhistlePosts$Tune;" } : Jvm.MethodName) ({ cls := "WhistlePosts$Tune", name := "copy", desc := "()LWhistlePosts$Tune;" } : Jvm.MethodName)) ∈ lw_all := lw_g (lw_at lw_m9 117 rfl) rfl
theorem q2188 : (Jvm.Cond.code ({ cls := "WhistlePosts$Tune", name := "copy", desc := "()LWhistlePosts$Tune;" } : Jvm.MethodName) prog_11_method_2_code (2 : Nat) (Option.some (Jvm.ClassFile.FieldType.object "WhistlePosts$Tune"))) ∈ lw_all := lw_g (lw_at lw_m9 118 rfl) rfl
theorem q2189 : (Jvm.Cond.classLink "WhistlePosts$Tune" (10 : Nat) "WhistlePosts$Tune") ∈ lw_all := lw_g (lw_at lw_m9 119 rfl) rfl
theorem q2190 : (Jvm.Cond.methodLink "WhistlePosts$Tune" (44 : Nat) ({ cls := "WhistlePosts$Tune", name := "<init>", desc := "(IIIZZ[I)V" } : Jvm.MethodName)) ∈ lw_all := lw_g (lw_at lw_m9 120 rfl) rfl
theorem q3513 : (Jvm.Cond.castable "WhistlePosts$Tune" "java/lang/Object") ∈ lw_tbl := lw_at lw_m15 3 rfl
theorem in_X8 : ∀ w ∈ wsX80, w ∈ lw_all := lw_in wsX80 [1603, 1605, 1607, 1609, 1611, 1613, 1615, 1617, 1619, 1621, 1623, 1625, 1627] (by decide +kernel) (by decide +kernel)

def RX9 : String := "WhistlePosts$Nearest"
abbrev cX9_init : ByteArray := prog_5_method_1_code
def yX9_init : MethodName := ⟨RX9, "<init>", "()V"⟩
theorem dX9_init_0 : decode cX9_init 0 = .ok (.aload_n 0, 1) := by decide +kernel
theorem dX9_init_1 : decode cX9_init 1 = .ok (.invokespecial 1, 3) := by decide +kernel
theorem dX9_init_4 : decode cX9_init 4 = .ok (.return_, 1) := by decide +kernel
abbrev cX9_compare : ByteArray := prog_5_method_3_code
def yX9_compare : MethodName := ⟨RX9, "compare", "(Ljava/lang/Object;Ljava/lang/Object;)I"⟩
def dkwX9_compare_0 : List UInt8 := [42, 43, 192, 0, 8, 44, 192, 0, 8, 182, 0, 22, 172]
abbrev dktX9_compare_0 : List UInt8 := dkwX9_compare_0 ++ []
theorem dksX9_compare_0 : cX9_compare.data.toList.drop 0 = dktX9_compare_0 := by decide +kernel
theorem dX9_compare_0 : decode cX9_compare 0 = .ok (.aload_n 0, 1) := dk_42 (dk_at dksX9_compare_0 0 rfl rfl)
theorem dX9_compare_1 : decode cX9_compare 1 = .ok (.aload_n 1, 1) := dk_43 (dk_at dksX9_compare_0 1 rfl rfl)
theorem dX9_compare_2 : decode cX9_compare 2 = .ok (.checkcast 8, 3) := dk_192 0 8 (dk_at dksX9_compare_0 2 rfl rfl)
theorem dX9_compare_5 : decode cX9_compare 5 = .ok (.aload_n 2, 1) := dk_44 (dk_at dksX9_compare_0 5 rfl rfl)
theorem dX9_compare_6 : decode cX9_compare 6 = .ok (.checkcast 8, 3) := dk_192 0 8 (dk_at dksX9_compare_0 6 rfl rfl)
theorem dX9_compare_9 : decode cX9_compare 9 = .ok (.invokevirtual 22, 3) := dk_182 0 22 (dk_at dksX9_compare_0 9 rfl rfl)
theorem dX9_compare_12 : decode cX9_compare 12 = .ok (.ireturn, 1) := dk_172 (dk_at dksX9_compare_0 12 rfl rfl)
abbrev cX9_compare_2 : ByteArray := prog_5_method_2_code
def yX9_compare_2 : MethodName := ⟨RX9, "compare", "(LWhistlePosts$Stop;LWhistlePosts$Stop;)I"⟩
def dkwX9_compare_2_1 : List UInt8 := [167, 0, 14, 43, 182, 0, 19, 44, 182, 0, 19, 184, 0, 13, 172]
abbrev dktX9_compare_2_1 : List UInt8 := dkwX9_compare_2_1 ++ []
def dkwX9_compare_2_0 : List UInt8 := [43, 182, 0, 7, 44, 182, 0, 7, 159, 0, 17, 43, 182, 0, 7, 44, 182, 0, 7, 184, 0, 13]
abbrev dktX9_compare_2_0 : List UInt8 := dkwX9_compare_2_0 ++ dktX9_compare_2_1
theorem dksX9_compare_2_0 : cX9_compare_2.data.toList.drop 0 = dktX9_compare_2_0 := by decide +kernel
theorem dksX9_compare_2_1 : cX9_compare_2.data.toList.drop 22 = dktX9_compare_2_1 := dk_seg dksX9_compare_2_0 22 rfl rfl
theorem dX9_compare_2_0 : decode cX9_compare_2 0 = .ok (.aload_n 1, 1) := dk_43 (dk_at dksX9_compare_2_0 0 rfl rfl)
theorem dX9_compare_2_1 : decode cX9_compare_2 1 = .ok (.invokevirtual 7, 3) := dk_182 0 7 (dk_at dksX9_compare_2_0 1 rfl rfl)
theorem dX9_compare_2_4 : decode cX9_compare_2 4 = .ok (.aload_n 2, 1) := dk_44 (dk_at dksX9_compare_2_0 4 rfl rfl)
theorem dX9_compare_2_5 : decode cX9_compare_2 5 = .ok (.invokevirtual 7, 3) := dk_182 0 7 (dk_at dksX9_compare_2_0 5 rfl rfl)
theorem dX9_compare_2_8 : decode cX9_compare_2 8 = .ok (.if_icmp .eq 17, 3) := dk_159 0 17 (dk_at dksX9_compare_2_0 8 rfl rfl)
theorem dX9_compare_2_11 : decode cX9_compare_2 11 = .ok (.aload_n 1, 1) := dk_43 (dk_at dksX9_compare_2_0 11 rfl rfl)
theorem dX9_compare_2_12 : decode cX9_compare_2 12 = .ok (.invokevirtual 7, 3) := dk_182 0 7 (dk_at dksX9_compare_2_0 12 rfl rfl)
theorem dX9_compare_2_15 : decode cX9_compare_2 15 = .ok (.aload_n 2, 1) := dk_44 (dk_at dksX9_compare_2_0 15 rfl rfl)
theorem dX9_compare_2_16 : decode cX9_compare_2 16 = .ok (.invokevirtual 7, 3) := dk_182 0 7 (dk_at dksX9_compare_2_0 16 rfl rfl)
theorem dX9_compare_2_19 : decode cX9_compare_2 19 = .ok (.invokestatic 13, 3) := dk_184 0 13 (dk_at dksX9_compare_2_0 19 rfl rfl)
theorem dX9_compare_2_22 : decode cX9_compare_2 22 = .ok (.goto 14, 3) := dk_167 0 14 (dk_at dksX9_compare_2_1 0 rfl rfl)
theorem dX9_compare_2_25 : decode cX9_compare_2 25 = .ok (.aload_n 1, 1) := dk_43 (dk_at dksX9_compare_2_1 3 rfl rfl)
theorem dX9_compare_2_26 : decode cX9_compare_2 26 = .ok (.invokevirtual 19, 3) := dk_182 0 19 (dk_at dksX9_compare_2_1 4 rfl rfl)
theorem dX9_compare_2_29 : decode cX9_compare_2 29 = .ok (.aload_n 2, 1) := dk_44 (dk_at dksX9_compare_2_1 7 rfl rfl)
theorem dX9_compare_2_30 : decode cX9_compare_2 30 = .ok (.invokevirtual 19, 3) := dk_182 0 19 (dk_at dksX9_compare_2_1 8 rfl rfl)
theorem dX9_compare_2_33 : decode cX9_compare_2 33 = .ok (.invokestatic 13, 3) := dk_184 0 13 (dk_at dksX9_compare_2_1 11 rfl rfl)
theorem dX9_compare_2_36 : decode cX9_compare_2 36 = .ok (.ireturn, 1) := dk_172 (dk_at dksX9_compare_2_1 14 rfl rfl)
theorem q195 : (Jvm.Cond.initialized "WhistlePosts$Nearest") ∈ lw_all := lw_g (lw_at lw_m1 45 rfl) rfl
theorem q712 : (Jvm.Cond.selects "WhistlePosts$Nearest" ({ cls := "java/lang/Object", name := "getClass", desc := "()Ljava/lang/Class;" } : Jvm.MethodName) ({ cls := "java/lang/Object", name := "getClass", desc := "()Ljava/lang/Class;" } : Jvm.MethodName)) ∈ lw_all := lw_g (lw_at lw_m3 82 rfl) rfl
theorem q1728 : (Jvm.Cond.instantiable "WhistlePosts$Nearest" (0 : Nat)) ∈ lw_all := lw_g (lw_at lw_m7 138 rfl) rfl
theorem q1730 : (Jvm.Cond.instanceMethod ({ cls := "WhistlePosts$Nearest", name := "<init>", desc := "()V" } : Jvm.MethodName)) ∈ lw_all := lw_g (lw_at lw_m7 140 rfl) rfl
theorem q1731 : (Jvm.Cond.code ({ cls := "WhistlePosts$Nearest", name := "<init>", desc := "()V" } : Jvm.MethodName) prog_5_method_1_code (1 : Nat) (Option.none : Option Jvm.ClassFile.FieldType)) ∈ lw_all := lw_g (lw_at lw_m7 141 rfl) rfl
theorem q1732 : (Jvm.Cond.methodLink "WhistlePosts$Nearest" (1 : Nat) ({ cls := "java/lang/Object", name := "<init>", desc := "()V" } : Jvm.MethodName)) ∈ lw_all := lw_g (lw_at lw_m7 142 rfl) rfl
theorem q1733 : (Jvm.Cond.superclass "WhistlePosts$Nearest" "java/lang/Object") ∈ lw_all := lw_g (lw_at lw_m7 143 rfl) rfl
theorem q1817 : (Jvm.Cond.castable "WhistlePosts$Nearest" "java/util/Comparator") ∈ lw_tbl := lw_at lw_m7 227 rfl
theorem q1818 : (Jvm.Cond.selects "WhistlePosts$Nearest" ({ cls := "java/util/Comparator", name := "compare", desc := "(Ljava/lang/Object;Ljava/lang/Object;)I" } : Jvm.MethodName) ({ cls := "WhistlePosts$Nearest", name := "compare", desc := "(Ljava/lang/Object;Ljava/lang/Object;)I" } : Jvm.MethodName)) ∈ lw_all := lw_g (lw_at lw_m7 228 rfl) rfl
theorem q1819 : (Jvm.Cond.unhidden "WhistlePosts$Nearest" "compare" "(Ljava/lang/Object;Ljava/lang/Object;)I") ∈ lw_tbl := lw_at lw_m7 229 rfl
theorem q1820 : (Jvm.Cond.instanceMethod ({ cls := "WhistlePosts$Nearest", name := "compare", desc := "(Ljava/lang/Object;Ljava/lang/Object;)I" } : Jvm.MethodName)) ∈ lw_all := lw_g (lw_at lw_m7 230 rfl) rfl
theorem q1821 : (Jvm.Cond.publicMethod ({ cls := "WhistlePosts$Nearest", name := "compare", desc := "(Ljava/lang/Object;Ljava/lang/Object;)I" } : Jvm.MethodName)) ∈ lw_tbl := lw_at lw_m7 231 rfl
theorem q1822 : (Jvm.Cond.code ({ cls := "WhistlePosts$Nearest", name := "compare", desc := "(Ljava/lang/Object;Ljava/lang/Object;)I" } : Jvm.MethodName) prog_5_method_3_code (3 : Nat) (Option.some Jvm.ClassFile.FieldType.int)) ∈ lw_all := lw_g (lw_at lw_m7 232 rfl) rfl
theorem q1823 : (Jvm.Cond.classLink "WhistlePosts$Nearest" (8 : Nat) "WhistlePosts$Stop") ∈ lw_all := lw_g (lw_at lw_m7 233 rfl) rfl
theorem q1824 : (Jvm.Cond.methodLink "WhistlePosts$Nearest" (22 : Nat) ({ cls := "WhistlePosts$Nearest", name := "compare", desc := "(LWhistlePosts$Stop;LWhistlePosts$Stop;)I" } : Jvm.MethodName)) ∈ lw_all := lw_g (lw_at lw_m7 234 rfl) rfl
theorem q1825 : (Jvm.Cond.instanceMethod ({ cls := "WhistlePosts$Nearest", name := "compare", desc := "(LWhistlePosts$Stop;LWhistlePosts$Stop;)I" } : Jvm.MethodName)) ∈ lw_all := lw_g (lw_at lw_m7 235 rfl) rfl
theorem q1826 : (Jvm.Cond.selects "WhistlePosts$Nearest" ({ cls := "WhistlePosts$Nearest", name := "compare", desc := "(LWhistlePosts$Stop;LWhistlePosts$Stop;)I" } : Jvm.MethodName) ({ cls := "WhistlePosts$Nearest", name := "compare", desc := "(LWhistlePosts$Stop;LWhistlePosts$Stop;)I" } : Jvm.MethodName)) ∈ lw_all := lw_g (lw_at lw_m7 236 rfl) rfl
theorem q1827 : (Jvm.Cond.code ({ cls := "WhistlePosts$Nearest", name := "compare", desc := "(LWhistlePosts$Stop;LWhistlePosts$Stop;)I" } : Jvm.MethodName) prog_5_method_2_code (3 : Nat) (Option.some Jvm.ClassFile.FieldType.int)) ∈ lw_all := lw_g (lw_at lw_m7 237 rfl) rfl
theorem q1828 : (Jvm.Cond.methodLink "WhistlePosts$Nearest" (7 : Nat) ({ cls := "WhistlePosts$Stop", name := "far", desc := "()I" } : Jvm.MethodName)) ∈ lw_all := lw_g (lw_at lw_m7 238 rfl) rfl
theorem q1832 : (Jvm.Cond.methodLink "WhistlePosts$Nearest" (13 : Nat) ({ cls := "java/lang/Integer", name := "compare", desc := "(II)I" } : Jvm.MethodName)) ∈ lw_all := lw_g (lw_at lw_m8 2 rfl) rfl
theorem q1835 : (Jvm.Cond.methodLink "WhistlePosts$Nearest" (19 : Nat) ({ cls := "WhistlePosts$Stop", name := "roof", desc := "()I" } : Jvm.MethodName)) ∈ lw_all := lw_g (lw_at lw_m8 5 rfl) rfl
theorem q3515 : (Jvm.Cond.castable "WhistlePosts$Nearest" "java/lang/Object") ∈ lw_tbl := lw_at lw_m15 5 rfl

