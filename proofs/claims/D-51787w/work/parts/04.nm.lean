set_option maxRecDepth 100000
def RX5 : String := "WhistlePostsModel"
def TX5 : u_T := fun k => match k with
  | 0 => ("WhistlePostsModel", "row", "[I", true)
  | 1 => ("WhistlePostsModel", "aside", "[I", true)
  | 2 => ("WhistlePostsModel", "kept", "[I", true)
  | 3 => ("WhistlePostsModel", "past", "[I", true)
  | 4 => ("WhistlePostsModel", "pastMany", "I", false)
  | 5 => ("WhistlePostsModel", "isKept", "Z", false)
  | 6 => ("WhistlePostsModel", "thrown", "I", false)
  | 7 => ("WhistlePostsModel", "spelled", "[I", true)
  | 8 => ("WhistlePostsModel", "spelledMany", "I", false)
  | 9 => ("WhistlePostsModel", "sums", "[I", true)
  | 10 => ("WhistlePostsModel", "sung", "[I", true)
  | 11 => ("WhistlePostsModel", "sungMany", "I", false)
  | 12 => ("WhistlePostsModel", "buffer", "[B", true)
  | 13 => ("WhistlePostsModel", "buffered", "I", false)
  | 14 => ("WhistlePostsModel", "errorCode", "I", false)
  | 15 => ("WhistlePostsModel", "errorOffset", "I", false)
  | 16 => ("WhistlePostsModel", "from", "I", false)
  | 17 => ("WhistlePostsModel", "to", "I", false)
  | 18 => ("WhistlePostsModel", "token", "I", false)
  | 19 => ("WhistlePostsModel", "told", "I", false)
  | 20 => ("WhistlePostsModel", "fault", "I", false)
  | 21 => ("WhistlePostsModel", "faultAt", "I", false)
  | 22 => ("WhistlePostsModel", "deeds", "[I", true)
  | 23 => ("WhistlePostsModel", "deedMany", "I", false)
  | 24 => ("WhistlePostsModel", "near", "[I", true)
  | 25 => ("WhistlePostsModel", "done", "[Z", true)
  | 26 => ("WhistlePostsModel", "output", "[B", true)
  | _ => ("WhistlePostsModel", "outputMany", "I", false)
def tyX5 : Nat → FieldType := fun k => match k with
  | 0 => .array .int
  | 1 => .array .int
  | 2 => .array .int
  | 3 => .array .int
  | 4 => .int
  | 5 => .boolean
  | 6 => .int
  | 7 => .array .int
  | 8 => .int
  | 9 => .array .int
  | 10 => .array .int
  | 11 => .int
  | 12 => .array .byte
  | 13 => .int
  | 14 => .int
  | 15 => .int
  | 16 => .int
  | 17 => .int
  | 18 => .int
  | 19 => .int
  | 20 => .int
  | 21 => .int
  | 22 => .array .int
  | 23 => .int
  | 24 => .array .int
  | 25 => .array .boolean
  | 26 => .array .byte
  | _ => .int
abbrev wsX50 : List Cond := u_ws RX5 TX5 28
theorem nmX5 : ∀ a, a < 28 → ∀ b, b < 28 → a ≠ b → (TX5 a).2.1 ≠ (TX5 b).2.1 := by decide +kernel
theorem tyX5_ok : ∀ k, k < 28 → parseFieldDescriptor (TX5 k).2.2.1 = some (tyX5 k) := by decide +kernel
abbrev cX5_init : ByteArray := prog_15_method_1_code
def yX5_init : MethodName := ⟨RX5, "<init>", "()V"⟩
def dkwX5_init_14 : List UInt8 := [182, 0, 74, 42, 3, 5, 16, 9, 182, 0, 74, 42, 5, 6, 6, 182, 0, 74, 177]
abbrev dktX5_init_14 : List UInt8 := dkwX5_init_14 ++ []
def dkwX5_init_13 : List UInt8 := [180, 0, 63, 4, 96, 96, 62, 167, 255, 151, 42, 3, 4, 7, 182, 0, 74, 42, 4, 5, 16, 6]
abbrev dktX5_init_13 : List UInt8 := dkwX5_init_13 ++ dktX5_init_14
def dkwX5_init_12 : List UInt8 := [21, 4, 4, 96, 46, 44, 21, 4, 5, 96, 46, 44, 21, 4, 6, 96, 46, 182, 0, 70, 29, 42]
abbrev dktX5_init_12 : List UInt8 := dkwX5_init_12 ++ dktX5_init_13
def dkwX5_init_11 : List UInt8 := [96, 181, 0, 63, 167, 255, 212, 7, 42, 180, 0, 9, 3, 46, 104, 54, 4, 42, 44, 21, 4, 46, 44]
abbrev dktX5_init_11 : List UInt8 := dkwX5_init_11 ++ dktX5_init_12
def dkwX5_init_10 : List UInt8 := [180, 0, 22, 42, 180, 0, 63, 43, 29, 42, 180, 0, 63, 96, 182, 0, 66, 79, 42, 89, 180, 0, 63, 4]
abbrev dktX5_init_10 : List UInt8 := dkwX5_init_10 ++ dktX5_init_11
def dkwX5_init_9 : List UInt8 := [162, 0, 103, 42, 3, 181, 0, 63, 43, 29, 42, 180, 0, 63, 96, 182, 0, 66, 16, 32, 159, 0, 35, 42]
abbrev dktX5_init_9 : List UInt8 := dkwX5_init_9 ++ dktX5_init_10
def dkwX5_init_8 : List UInt8 := [16, 13, 4, 79, 89, 16, 14, 6, 79, 89, 16, 15, 16, 40, 79, 77, 3, 62, 29, 43, 182, 0, 57]
abbrev dktX5_init_8 : List UInt8 := dkwX5_init_8 ++ dktX5_init_9
def dkwX5_init_7 : List UInt8 := [89, 16, 9, 8, 79, 89, 16, 10, 3, 79, 89, 16, 11, 16, 9, 79, 89, 16, 12, 16, 8, 79, 89]
abbrev dktX5_init_7 : List UInt8 := dkwX5_init_7 ++ dktX5_init_8
def dkwX5_init_6 : List UInt8 := [89, 7, 5, 79, 89, 8, 3, 79, 89, 16, 6, 5, 79, 89, 16, 7, 16, 20, 79, 89, 16, 8, 6, 79]
abbrev dktX5_init_6 : List UInt8 := dkwX5_init_6 ++ dktX5_init_7
def dkwX5_init_5 : List UInt8 := [18, 55, 76, 16, 16, 188, 10, 89, 3, 7, 79, 89, 4, 5, 79, 89, 5, 4, 79, 89, 6, 16, 30, 79]
abbrev dktX5_init_5 : List UInt8 := dkwX5_init_5 ++ dktX5_init_6
def dkwX5_init_4 : List UInt8 := [181, 0, 42, 42, 16, 10, 188, 4, 181, 0, 45, 42, 17, 1, 44, 188, 8, 181, 0, 49, 42, 182, 0, 52]
abbrev dktX5_init_4 : List UInt8 := dkwX5_init_4 ++ dktX5_init_5
def dkwX5_init_3 : List UInt8 := [188, 8, 181, 0, 31, 42, 2, 181, 0, 35, 42, 17, 1, 104, 188, 10, 181, 0, 39, 42, 16, 10, 188, 10]
abbrev dktX5_init_3 : List UInt8 := dkwX5_init_3 ++ dktX5_init_4
def dkwX5_init_2 : List UInt8 := [181, 0, 22, 42, 16, 10, 188, 10, 181, 0, 25, 42, 16, 8, 188, 10, 181, 0, 28, 42, 17, 3, 32]
abbrev dktX5_init_2 : List UInt8 := dkwX5_init_2 ++ dktX5_init_3
def dkwX5_init_1 : List UInt8 := [17, 4, 6, 188, 10, 181, 0, 16, 42, 17, 32, 48, 188, 10, 181, 0, 19, 42, 16, 6, 188, 10]
abbrev dktX5_init_1 : List UInt8 := dkwX5_init_1 ++ dktX5_init_2
def dkwX5_init_0 : List UInt8 := [42, 183, 0, 1, 42, 17, 4, 6, 188, 10, 181, 0, 9, 42, 17, 4, 6, 188, 10, 181, 0, 13, 42]
abbrev dktX5_init_0 : List UInt8 := dkwX5_init_0 ++ dktX5_init_1
theorem dksX5_init_0 : cX5_init.data.toList.drop 0 = dktX5_init_0 := by decide +kernel
theorem dksX5_init_1 : cX5_init.data.toList.drop 23 = dktX5_init_1 := dk_seg dksX5_init_0 23 rfl rfl
theorem dksX5_init_2 : cX5_init.data.toList.drop 45 = dktX5_init_2 := dk_seg dksX5_init_1 22 rfl rfl
theorem dksX5_init_3 : cX5_init.data.toList.drop 68 = dktX5_init_3 := dk_seg dksX5_init_2 23 rfl rfl
theorem dksX5_init_4 : cX5_init.data.toList.drop 92 = dktX5_init_4 := dk_seg dksX5_init_3 24 rfl rfl
theorem dksX5_init_5 : cX5_init.data.toList.drop 116 = dktX5_init_5 := dk_seg dksX5_init_4 24 rfl rfl
theorem dksX5_init_6 : cX5_init.data.toList.drop 140 = dktX5_init_6 := dk_seg dksX5_init_5 24 rfl rfl
theorem dksX5_init_7 : cX5_init.data.toList.drop 164 = dktX5_init_7 := dk_seg dksX5_init_6 24 rfl rfl
theorem dksX5_init_8 : cX5_init.data.toList.drop 187 = dktX5_init_8 := dk_seg dksX5_init_7 23 rfl rfl
theorem dksX5_init_9 : cX5_init.data.toList.drop 210 = dktX5_init_9 := dk_seg dksX5_init_8 23 rfl rfl
theorem dksX5_init_10 : cX5_init.data.toList.drop 234 = dktX5_init_10 := dk_seg dksX5_init_9 24 rfl rfl
theorem dksX5_init_11 : cX5_init.data.toList.drop 258 = dktX5_init_11 := dk_seg dksX5_init_10 24 rfl rfl
theorem dksX5_init_12 : cX5_init.data.toList.drop 281 = dktX5_init_12 := dk_seg dksX5_init_11 23 rfl rfl
theorem dksX5_init_13 : cX5_init.data.toList.drop 303 = dktX5_init_13 := dk_seg dksX5_init_12 22 rfl rfl
theorem dksX5_init_14 : cX5_init.data.toList.drop 325 = dktX5_init_14 := dk_seg dksX5_init_13 22 rfl rfl
theorem dX5_init_0 : decode cX5_init 0 = .ok (.aload_n 0, 1) := dk_42 (dk_at dksX5_init_0 0 rfl rfl)
theorem dX5_init_1 : decode cX5_init 1 = .ok (.invokespecial 1, 3) := dk_183 0 1 (dk_at dksX5_init_0 1 rfl rfl)
theorem dX5_init_4 : decode cX5_init 4 = .ok (.aload_n 0, 1) := dk_42 (dk_at dksX5_init_0 4 rfl rfl)
theorem dX5_init_5 : decode cX5_init 5 = .ok (.sipush 1030, 3) := dk_17 4 6 (dk_at dksX5_init_0 5 rfl rfl)
theorem dX5_init_8 : decode cX5_init 8 = .ok (.newarray .int, 2) := dk_188_10 (dk_at dksX5_init_0 8 rfl rfl)
theorem dX5_init_10 : decode cX5_init 10 = .ok (.putfield 9, 3) := dk_181 0 9 (dk_at dksX5_init_0 10 rfl rfl)
theorem dX5_init_13 : decode cX5_init 13 = .ok (.aload_n 0, 1) := dk_42 (dk_at dksX5_init_0 13 rfl rfl)
theorem dX5_init_14 : decode cX5_init 14 = .ok (.sipush 1030, 3) := dk_17 4 6 (dk_at dksX5_init_0 14 rfl rfl)
theorem dX5_init_17 : decode cX5_init 17 = .ok (.newarray .int, 2) := dk_188_10 (dk_at dksX5_init_0 17 rfl rfl)
theorem dX5_init_19 : decode cX5_init 19 = .ok (.putfield 13, 3) := dk_181 0 13 (dk_at dksX5_init_0 19 rfl rfl)
theorem dX5_init_22 : decode cX5_init 22 = .ok (.aload_n 0, 1) := dk_42 (dk_at dksX5_init_0 22 rfl rfl)
theorem dX5_init_23 : decode cX5_init 23 = .ok (.sipush 1030, 3) := dk_17 4 6 (dk_at dksX5_init_1 0 rfl rfl)
theorem dX5_init_26 : decode cX5_init 26 = .ok (.newarray .int, 2) := dk_188_10 (dk_at dksX5_init_1 3 rfl rfl)
theorem dX5_init_28 : decode cX5_init 28 = .ok (.putfield 16, 3) := dk_181 0 16 (dk_at dksX5_init_1 5 rfl rfl)
theorem dX5_init_31 : decode cX5_init 31 = .ok (.aload_n 0, 1) := dk_42 (dk_at dksX5_init_1 8 rfl rfl)
theorem dX5_init_32 : decode cX5_init 32 = .ok (.sipush 8240, 3) := dk_17 32 48 (dk_at dksX5_init_1 9 rfl rfl)
theorem dX5_init_35 : decode cX5_init 35 = .ok (.newarray .int, 2) := dk_188_10 (dk_at dksX5_init_1 12 rfl rfl)
theorem dX5_init_37 : decode cX5_init 37 = .ok (.putfield 19, 3) := dk_181 0 19 (dk_at dksX5_init_1 14 rfl rfl)
theorem dX5_init_40 : decode cX5_init 40 = .ok (.aload_n 0, 1) := dk_42 (dk_at dksX5_init_1 17 rfl rfl)
theorem dX5_init_41 : decode cX5_init 41 = .ok (.bipush 6, 2) := dk_16 6 (dk_at dksX5_init_1 18 rfl rfl)
theorem dX5_init_43 : decode cX5_init 43 = .ok (.newarray .int, 2) := dk_188_10 (dk_at dksX5_init_1 20 rfl rfl)
theorem dX5_init_45 : decode cX5_init 45 = .ok (.putfield 22, 3) := dk_181 0 22 (dk_at dksX5_init_2 0 rfl rfl)
theorem dX5_init_48 : decode cX5_init 48 = .ok (.aload_n 0, 1) := dk_42 (dk_at dksX5_init_2 3 rfl rfl)
theorem dX5_init_49 : decode cX5_init 49 = .ok (.bipush 10, 2) := dk_16 10 (dk_at dksX5_init_2 4 rfl rfl)
theorem dX5_init_51 : decode cX5_init 51 = .ok (.newarray .int, 2) := dk_188_10 (dk_at dksX5_init_2 6 rfl rfl)
theorem dX5_init_53 : decode cX5_init 53 = .ok (.putfield 25, 3) := dk_181 0 25 (dk_at dksX5_init_2 8 rfl rfl)
theorem dX5_init_56 : decode cX5_init 56 = .ok (.aload_n 0, 1) := dk_42 (dk_at dksX5_init_2 11 rfl rfl)
theorem dX5_init_57 : decode cX5_init 57 = .ok (.bipush 8, 2) := dk_16 8 (dk_at dksX5_init_2 12 rfl rfl)
theorem dX5_init_59 : decode cX5_init 59 = .ok (.newarray .int, 2) := dk_188_10 (dk_at dksX5_init_2 14 rfl rfl)
theorem dX5_init_61 : decode cX5_init 61 = .ok (.putfield 28, 3) := dk_181 0 28 (dk_at dksX5_init_2 16 rfl rfl)
theorem dX5_init_64 : decode cX5_init 64 = .ok (.aload_n 0, 1) := dk_42 (dk_at dksX5_init_2 19 rfl rfl)
theorem dX5_init_65 : decode cX5_init 65 = .ok (.sipush 800, 3) := dk_17 3 32 (dk_at dksX5_init_2 20 rfl rfl)
theorem dX5_init_68 : decode cX5_init 68 = .ok (.newarray .byte, 2) := dk_188_8 (dk_at dksX5_init_3 0 rfl rfl)
theorem dX5_init_70 : decode cX5_init 70 = .ok (.putfield 31, 3) := dk_181 0 31 (dk_at dksX5_init_3 2 rfl rfl)
theorem dX5_init_73 : decode cX5_init 73 = .ok (.aload_n 0, 1) := dk_42 (dk_at dksX5_init_3 5 rfl rfl)
theorem dX5_init_74 : decode cX5_init 74 = .ok (.iconst (-1), 1) := dk_2 (dk_at dksX5_init_3 6 rfl rfl)
theorem dX5_init_75 : decode cX5_init 75 = .ok (.putfield 35, 3) := dk_181 0 35 (dk_at dksX5_init_3 7 rfl rfl)
theorem dX5_init_78 : decode cX5_init 78 = .ok (.aload_n 0, 1) := dk_42 (dk_at dksX5_init_3 10 rfl rfl)
theorem dX5_init_79 : decode cX5_init 79 = .ok (.sipush 360, 3) := dk_17 1 104 (dk_at dksX5_init_3 11 rfl rfl)
theorem dX5_init_82 : decode cX5_init 82 = .ok (.newarray .int, 2) := dk_188_10 (dk_at dksX5_init_3 14 rfl rfl)
theorem dX5_init_84 : decode cX5_init 84 = .ok (.putfield 39, 3) := dk_181 0 39 (dk_at dksX5_init_3 16 rfl rfl)
theorem dX5_init_87 : decode cX5_init 87 = .ok (.aload_n 0, 1) := dk_42 (dk_at dksX5_init_3 19 rfl rfl)
theorem dX5_init_88 : decode cX5_init 88 = .ok (.bipush 10, 2) := dk_16 10 (dk_at dksX5_init_3 20 rfl rfl)
theorem dX5_init_90 : decode cX5_init 90 = .ok (.newarray .int, 2) := dk_188_10 (dk_at dksX5_init_3 22 rfl rfl)
theorem dX5_init_92 : decode cX5_init 92 = .ok (.putfield 42, 3) := dk_181 0 42 (dk_at dksX5_init_4 0 rfl rfl)
theorem dX5_init_95 : decode cX5_init 95 = .ok (.aload_n 0, 1) := dk_42 (dk_at dksX5_init_4 3 rfl rfl)
theorem dX5_init_96 : decode cX5_init 96 = .ok (.bipush 10, 2) := dk_16 10 (dk_at dksX5_init_4 4 rfl rfl)
theorem dX5_init_98 : decode cX5_init 98 = .ok (.newarray .boolean, 2) := dk_188_4 (dk_at dksX5_init_4 6 rfl rfl)
theorem dX5_init_100 : decode cX5_init 100 = .ok (.putfield 45, 3) := dk_181 0 45 (dk_at dksX5_init_4 8 rfl rfl)
theorem dX5_init_103 : decode cX5_init 103 = .ok (.aload_n 0, 1) := dk_42 (dk_at dksX5_init_4 11 rfl rfl)
theorem dX5_init_104 : decode cX5_init 104 = .ok (.sipush 300, 3) := dk_17 1 44 (dk_at dksX5_init_4 12 rfl rfl)
theorem dX5_init_107 : decode cX5_init 107 = .ok (.newarray .byte, 2) := dk_188_8 (dk_at dksX5_init_4 15 rfl rfl)
theorem dX5_init_109 : decode cX5_init 109 = .ok (.putfield 49, 3) := dk_181 0 49 (dk_at dksX5_init_4 17 rfl rfl)
theorem dX5_init_112 : decode cX5_init 112 = .ok (.aload_n 0, 1) := dk_42 (dk_at dksX5_init_4 20 rfl rfl)
theorem dX5_init_113 : decode cX5_init 113 = .ok (.invokevirtual 52, 3) := dk_182 0 52 (dk_at dksX5_init_4 21 rfl rfl)
theorem dX5_init_116 : decode cX5_init 116 = .ok (.ldc 55, 2) := dk_18 55 (dk_at dksX5_init_5 0 rfl rfl)
theorem dX5_init_118 : decode cX5_init 118 = .ok (.astore_n 1, 1) := dk_76 (dk_at dksX5_init_5 2 rfl rfl)
theorem dX5_init_119 : decode cX5_init 119 = .ok (.bipush 16, 2) := dk_16 16 (dk_at dksX5_init_5 3 rfl rfl)
theorem dX5_init_121 : decode cX5_init 121 = .ok (.newarray .int, 2) := dk_188_10 (dk_at dksX5_init_5 5 rfl rfl)
theorem dX5_init_123 : decode cX5_init 123 = .ok (.dup, 1) := dk_89 (dk_at dksX5_init_5 7 rfl rfl)
theorem dX5_init_124 : decode cX5_init 124 = .ok (.iconst 0, 1) := dk_3 (dk_at dksX5_init_5 8 rfl rfl)
theorem dX5_init_125 : decode cX5_init 125 = .ok (.iconst 4, 1) := dk_7 (dk_at dksX5_init_5 9 rfl rfl)
theorem dX5_init_126 : decode cX5_init 126 = .ok (.iastore, 1) := dk_79 (dk_at dksX5_init_5 10 rfl rfl)
theorem dX5_init_127 : decode cX5_init 127 = .ok (.dup, 1) := dk_89 (dk_at dksX5_init_5 11 rfl rfl)
theorem dX5_init_128 : decode cX5_init 128 = .ok (.iconst 1, 1) := dk_4 (dk_at dksX5_init_5 12 rfl rfl)
theorem dX5_init_129 : decode cX5_init 129 = .ok (.iconst 2, 1) := dk_5 (dk_at dksX5_init_5 13 rfl rfl)
theorem dX5_init_130 : decode cX5_init 130 = .ok (.iastore, 1) := dk_79 (dk_at dksX5_init_5 14 rfl rfl)
theorem dX5_init_131 : decode cX5_init 131 = .ok (.dup, 1) := dk_89 (dk_at dksX5_init_5 15 rfl rfl)
theorem dX5_init_132 : decode cX5_init 132 = .ok (.iconst 2, 1) := dk_5 (dk_at dksX5_init_5 16 rfl rfl)
theorem dX5_init_133 : decode cX5_init 133 = .ok (.iconst 1, 1) := dk_4 (dk_at dksX5_init_5 17 rfl rfl)
theorem dX5_init_134 : decode cX5_init 134 = .ok (.iastore, 1) := dk_79 (dk_at dksX5_init_5 18 rfl rfl)
theorem dX5_init_135 : decode cX5_init 135 = .ok (.dup, 1) := dk_89 (dk_at dksX5_init_5 19 rfl rfl)
theorem dX5_init_136 : decode cX5_init 136 = .ok (.iconst 3, 1) := dk_6 (dk_at dksX5_init_5 20 rfl rfl)
theorem dX5_init_137 : decode cX5_init 137 = .ok (.bipush 30, 2) := dk_16 30 (dk_at dksX5_init_5 21 rfl rfl)
theorem dX5_init_139 : decode cX5_init 139 = .ok (.iastore, 1) := dk_79 (dk_at dksX5_init_5 23 rfl rfl)
theorem dX5_init_140 : decode cX5_init 140 = .ok (.dup, 1) := dk_89 (dk_at dksX5_init_6 0 rfl rfl)
theorem dX5_init_141 : decode cX5_init 141 = .ok (.iconst 4, 1) := dk_7 (dk_at dksX5_init_6 1 rfl rfl)
theorem dX5_init_142 : decode cX5_init 142 = .ok (.iconst 2, 1) := dk_5 (dk_at dksX5_init_6 2 rfl rfl)
theorem dX5_init_143 : decode cX5_init 143 = .ok (.iastore, 1) := dk_79 (dk_at dksX5_init_6 3 rfl rfl)
theorem dX5_init_144 : decode cX5_init 144 = .ok (.dup, 1) := dk_89 (dk_at dksX5_init_6 4 rfl rfl)
theorem dX5_init_145 : decode cX5_init 145 = .ok (.iconst 5, 1) := dk_8 (dk_at dksX5_init_6 5 rfl rfl)
theorem dX5_init_146 : decode cX5_init 146 = .ok (.iconst 0, 1) := dk_3 (dk_at dksX5_init_6 6 rfl rfl)
theorem dX5_init_147 : decode cX5_init 147 = .ok (.iastore, 1) := dk_79 (dk_at dksX5_init_6 7 rfl rfl)
theorem dX5_init_148 : decode cX5_init 148 = .ok (.dup, 1) := dk_89 (dk_at dksX5_init_6 8 rfl rfl)
theorem dX5_init_149 : decode cX5_init 149 = .ok (.bipush 6, 2) := dk_16 6 (dk_at dksX5_init_6 9 rfl rfl)
theorem dX5_init_151 : decode cX5_init 151 = .ok (.iconst 2, 1) := dk_5 (dk_at dksX5_init_6 11 rfl rfl)
theorem dX5_init_152 : decode cX5_init 152 = .ok (.iastore, 1) := dk_79 (dk_at dksX5_init_6 12 rfl rfl)
theorem dX5_init_153 : decode cX5_init 153 = .ok (.dup, 1) := dk_89 (dk_at dksX5_init_6 13 rfl rfl)
theorem dX5_init_154 : decode cX5_init 154 = .ok (.bipush 7, 2) := dk_16 7 (dk_at dksX5_init_6 14 rfl rfl)
theorem dX5_init_156 : decode cX5_init 156 = .ok (.bipush 20, 2) := dk_16 20 (dk_at dksX5_init_6 16 rfl rfl)
theorem dX5_init_158 : decode cX5_init 158 = .ok (.iastore, 1) := dk_79 (dk_at dksX5_init_6 18 rfl rfl)
theorem dX5_init_159 : decode cX5_init 159 = .ok (.dup, 1) := dk_89 (dk_at dksX5_init_6 19 rfl rfl)
theorem dX5_init_160 : decode cX5_init 160 = .ok (.bipush 8, 2) := dk_16 8 (dk_at dksX5_init_6 20 rfl rfl)
theorem dX5_init_162 : decode cX5_init 162 = .ok (.iconst 3, 1) := dk_6 (dk_at dksX5_init_6 22 rfl rfl)
theorem dX5_init_163 : decode cX5_init 163 = .ok (.iastore, 1) := dk_79 (dk_at dksX5_init_6 23 rfl rfl)
theorem dX5_init_164 : decode cX5_init 164 = .ok (.dup, 1) := dk_89 (dk_at dksX5_init_7 0 rfl rfl)
theorem dX5_init_165 : decode cX5_init 165 = .ok (.bipush 9, 2) := dk_16 9 (dk_at dksX5_init_7 1 rfl rfl)
theorem dX5_init_167 : decode cX5_init 167 = .ok (.iconst 5, 1) := dk_8 (dk_at dksX5_init_7 3 rfl rfl)
theorem dX5_init_168 : decode cX5_init 168 = .ok (.iastore, 1) := dk_79 (dk_at dksX5_init_7 4 rfl rfl)
theorem dX5_init_169 : decode cX5_init 169 = .ok (.dup, 1) := dk_89 (dk_at dksX5_init_7 5 rfl rfl)
theorem dX5_init_170 : decode cX5_init 170 = .ok (.bipush 10, 2) := dk_16 10 (dk_at dksX5_init_7 6 rfl rfl)
theorem dX5_init_172 : decode cX5_init 172 = .ok (.iconst 0, 1) := dk_3 (dk_at dksX5_init_7 8 rfl rfl)
theorem dX5_init_173 : decode cX5_init 173 = .ok (.iastore, 1) := dk_79 (dk_at dksX5_init_7 9 rfl rfl)
theorem dX5_init_174 : decode cX5_init 174 = .ok (.dup, 1) := dk_89 (dk_at dksX5_init_7 10 rfl rfl)
theorem dX5_init_175 : decode cX5_init 175 = .ok (.bipush 11, 2) := dk_16 11 (dk_at dksX5_init_7 11 rfl rfl)
theorem dX5_init_177 : decode cX5_init 177 = .ok (.bipush 9, 2) := dk_16 9 (dk_at dksX5_init_7 13 rfl rfl)
theorem dX5_init_179 : decode cX5_init 179 = .ok (.iastore, 1) := dk_79 (dk_at dksX5_init_7 15 rfl rfl)
theorem dX5_init_180 : decode cX5_init 180 = .ok (.dup, 1) := dk_89 (dk_at dksX5_init_7 16 rfl rfl)
theorem dX5_init_181 : decode cX5_init 181 = .ok (.bipush 12, 2) := dk_16 12 (dk_at dksX5_init_7 17 rfl rfl)
theorem dX5_init_183 : decode cX5_init 183 = .ok (.bipush 8, 2) := dk_16 8 (dk_at dksX5_init_7 19 rfl rfl)
theorem dX5_init_185 : decode cX5_init 185 = .ok (.iastore, 1) := dk_79 (dk_at dksX5_init_7 21 rfl rfl)
theorem dX5_init_186 : decode cX5_init 186 = .ok (.dup, 1) := dk_89 (dk_at dksX5_init_7 22 rfl rfl)
theorem dX5_init_187 : decode cX5_init 187 = .ok (.bipush 13, 2) := dk_16 13 (dk_at dksX5_init_8 0 rfl rfl)
theorem dX5_init_189 : decode cX5_init 189 = .ok (.iconst 1, 1) := dk_4 (dk_at dksX5_init_8 2 rfl rfl)
theorem dX5_init_190 : decode cX5_init 190 = .ok (.iastore, 1) := dk_79 (dk_at dksX5_init_8 3 rfl rfl)
theorem dX5_init_191 : decode cX5_init 191 = .ok (.dup, 1) := dk_89 (dk_at dksX5_init_8 4 rfl rfl)
theorem dX5_init_192 : decode cX5_init 192 = .ok (.bipush 14, 2) := dk_16 14 (dk_at dksX5_init_8 5 rfl rfl)
theorem dX5_init_194 : decode cX5_init 194 = .ok (.iconst 3, 1) := dk_6 (dk_at dksX5_init_8 7 rfl rfl)
theorem dX5_init_195 : decode cX5_init 195 = .ok (.iastore, 1) := dk_79 (dk_at dksX5_init_8 8 rfl rfl)
theorem dX5_init_196 : decode cX5_init 196 = .ok (.dup, 1) := dk_89 (dk_at dksX5_init_8 9 rfl rfl)
theorem dX5_init_197 : decode cX5_init 197 = .ok (.bipush 15, 2) := dk_16 15 (dk_at dksX5_init_8 10 rfl rfl)
theorem dX5_init_199 : decode cX5_init 199 = .ok (.bipush 40, 2) := dk_16 40 (dk_at dksX5_init_8 12 rfl rfl)
theorem dX5_init_201 : decode cX5_init 201 = .ok (.iastore, 1) := dk_79 (dk_at dksX5_init_8 14 rfl rfl)
theorem dX5_init_202 : decode cX5_init 202 = .ok (.astore_n 2, 1) := dk_77 (dk_at dksX5_init_8 15 rfl rfl)
theorem dX5_init_203 : decode cX5_init 203 = .ok (.iconst 0, 1) := dk_3 (dk_at dksX5_init_8 16 rfl rfl)
theorem dX5_init_204 : decode cX5_init 204 = .ok (.istore_n 3, 1) := dk_62 (dk_at dksX5_init_8 17 rfl rfl)
theorem dX5_init_205 : decode cX5_init 205 = .ok (.iload_n 3, 1) := dk_29 (dk_at dksX5_init_8 18 rfl rfl)
theorem dX5_init_206 : decode cX5_init 206 = .ok (.aload_n 1, 1) := dk_43 (dk_at dksX5_init_8 19 rfl rfl)
theorem dX5_init_207 : decode cX5_init 207 = .ok (.invokevirtual 57, 3) := dk_182 0 57 (dk_at dksX5_init_8 20 rfl rfl)
theorem dX5_init_210 : decode cX5_init 210 = .ok (.if_icmp .ge 103, 3) := dk_162 0 103 (dk_at dksX5_init_9 0 rfl rfl)
theorem dX5_init_213 : decode cX5_init 213 = .ok (.aload_n 0, 1) := dk_42 (dk_at dksX5_init_9 3 rfl rfl)
theorem dX5_init_214 : decode cX5_init 214 = .ok (.iconst 0, 1) := dk_3 (dk_at dksX5_init_9 4 rfl rfl)
theorem dX5_init_215 : decode cX5_init 215 = .ok (.putfield 63, 3) := dk_181 0 63 (dk_at dksX5_init_9 5 rfl rfl)
theorem dX5_init_218 : decode cX5_init 218 = .ok (.aload_n 1, 1) := dk_43 (dk_at dksX5_init_9 8 rfl rfl)
theorem dX5_init_219 : decode cX5_init 219 = .ok (.iload_n 3, 1) := dk_29 (dk_at dksX5_init_9 9 rfl rfl)
theorem dX5_init_220 : decode cX5_init 220 = .ok (.aload_n 0, 1) := dk_42 (dk_at dksX5_init_9 10 rfl rfl)
theorem dX5_init_221 : decode cX5_init 221 = .ok (.getfield 63, 3) := dk_180 0 63 (dk_at dksX5_init_9 11 rfl rfl)
theorem dX5_init_224 : decode cX5_init 224 = .ok (.iadd, 1) := dk_96 (dk_at dksX5_init_9 14 rfl rfl)
theorem dX5_init_225 : decode cX5_init 225 = .ok (.invokevirtual 66, 3) := dk_182 0 66 (dk_at dksX5_init_9 15 rfl rfl)
theorem dX5_init_228 : decode cX5_init 228 = .ok (.bipush 32, 2) := dk_16 32 (dk_at dksX5_init_9 18 rfl rfl)
theorem dX5_init_230 : decode cX5_init 230 = .ok (.if_icmp .eq 35, 3) := dk_159 0 35 (dk_at dksX5_init_9 20 rfl rfl)
theorem dX5_init_233 : decode cX5_init 233 = .ok (.aload_n 0, 1) := dk_42 (dk_at dksX5_init_9 23 rfl rfl)
theorem dX5_init_234 : decode cX5_init 234 = .ok (.getfield 22, 3) := dk_180 0 22 (dk_at dksX5_init_10 0 rfl rfl)
theorem dX5_init_237 : decode cX5_init 237 = .ok (.aload_n 0, 1) := dk_42 (dk_at dksX5_init_10 3 rfl rfl)
theorem dX5_init_238 : decode cX5_init 238 = .ok (.getfield 63, 3) := dk_180 0 63 (dk_at dksX5_init_10 4 rfl rfl)
theorem dX5_init_241 : decode cX5_init 241 = .ok (.aload_n 1, 1) := dk_43 (dk_at dksX5_init_10 7 rfl rfl)
theorem dX5_init_242 : decode cX5_init 242 = .ok (.iload_n 3, 1) := dk_29 (dk_at dksX5_init_10 8 rfl rfl)
theorem dX5_init_243 : decode cX5_init 243 = .ok (.aload_n 0, 1) := dk_42 (dk_at dksX5_init_10 9 rfl rfl)
theorem dX5_init_244 : decode cX5_init 244 = .ok (.getfield 63, 3) := dk_180 0 63 (dk_at dksX5_init_10 10 rfl rfl)
theorem dX5_init_247 : decode cX5_init 247 = .ok (.iadd, 1) := dk_96 (dk_at dksX5_init_10 13 rfl rfl)
theorem dX5_init_248 : decode cX5_init 248 = .ok (.invokevirtual 66, 3) := dk_182 0 66 (dk_at dksX5_init_10 14 rfl rfl)
theorem dX5_init_251 : decode cX5_init 251 = .ok (.iastore, 1) := dk_79 (dk_at dksX5_init_10 17 rfl rfl)
theorem dX5_init_252 : decode cX5_init 252 = .ok (.aload_n 0, 1) := dk_42 (dk_at dksX5_init_10 18 rfl rfl)
theorem dX5_init_253 : decode cX5_init 253 = .ok (.dup, 1) := dk_89 (dk_at dksX5_init_10 19 rfl rfl)
theorem dX5_init_254 : decode cX5_init 254 = .ok (.getfield 63, 3) := dk_180 0 63 (dk_at dksX5_init_10 20 rfl rfl)
theorem dX5_init_257 : decode cX5_init 257 = .ok (.iconst 1, 1) := dk_4 (dk_at dksX5_init_10 23 rfl rfl)
theorem dX5_init_258 : decode cX5_init 258 = .ok (.iadd, 1) := dk_96 (dk_at dksX5_init_11 0 rfl rfl)
theorem dX5_init_259 : decode cX5_init 259 = .ok (.putfield 63, 3) := dk_181 0 63 (dk_at dksX5_init_11 1 rfl rfl)
theorem dX5_init_262 : decode cX5_init 262 = .ok (.goto (-44), 3) := dk_167 255 212 (dk_at dksX5_init_11 4 rfl rfl)
theorem dX5_init_265 : decode cX5_init 265 = .ok (.iconst 4, 1) := dk_7 (dk_at dksX5_init_11 7 rfl rfl)
theorem dX5_init_266 : decode cX5_init 266 = .ok (.aload_n 0, 1) := dk_42 (dk_at dksX5_init_11 8 rfl rfl)
theorem dX5_init_267 : decode cX5_init 267 = .ok (.getfield 9, 3) := dk_180 0 9 (dk_at dksX5_init_11 9 rfl rfl)
theorem dX5_init_270 : decode cX5_init 270 = .ok (.iconst 0, 1) := dk_3 (dk_at dksX5_init_11 12 rfl rfl)
theorem dX5_init_271 : decode cX5_init 271 = .ok (.iaload, 1) := dk_46 (dk_at dksX5_init_11 13 rfl rfl)
theorem dX5_init_272 : decode cX5_init 272 = .ok (.imul, 1) := dk_104 (dk_at dksX5_init_11 14 rfl rfl)
theorem dX5_init_273 : decode cX5_init 273 = .ok (.istore 4, 2) := dk_54 4 (dk_at dksX5_init_11 15 rfl rfl)
theorem dX5_init_275 : decode cX5_init 275 = .ok (.aload_n 0, 1) := dk_42 (dk_at dksX5_init_11 17 rfl rfl)
theorem dX5_init_276 : decode cX5_init 276 = .ok (.aload_n 2, 1) := dk_44 (dk_at dksX5_init_11 18 rfl rfl)
theorem dX5_init_277 : decode cX5_init 277 = .ok (.iload 4, 2) := dk_21 4 (dk_at dksX5_init_11 19 rfl rfl)
theorem dX5_init_279 : decode cX5_init 279 = .ok (.iaload, 1) := dk_46 (dk_at dksX5_init_11 21 rfl rfl)
theorem dX5_init_280 : decode cX5_init 280 = .ok (.aload_n 2, 1) := dk_44 (dk_at dksX5_init_11 22 rfl rfl)
theorem dX5_init_281 : decode cX5_init 281 = .ok (.iload 4, 2) := dk_21 4 (dk_at dksX5_init_12 0 rfl rfl)
theorem dX5_init_283 : decode cX5_init 283 = .ok (.iconst 1, 1) := dk_4 (dk_at dksX5_init_12 2 rfl rfl)
theorem dX5_init_284 : decode cX5_init 284 = .ok (.iadd, 1) := dk_96 (dk_at dksX5_init_12 3 rfl rfl)
theorem dX5_init_285 : decode cX5_init 285 = .ok (.iaload, 1) := dk_46 (dk_at dksX5_init_12 4 rfl rfl)
theorem dX5_init_286 : decode cX5_init 286 = .ok (.aload_n 2, 1) := dk_44 (dk_at dksX5_init_12 5 rfl rfl)
theorem dX5_init_287 : decode cX5_init 287 = .ok (.iload 4, 2) := dk_21 4 (dk_at dksX5_init_12 6 rfl rfl)
theorem dX5_init_289 : decode cX5_init 289 = .ok (.iconst 2, 1) := dk_5 (dk_at dksX5_init_12 8 rfl rfl)
theorem dX5_init_290 : decode cX5_init 290 = .ok (.iadd, 1) := dk_96 (dk_at dksX5_init_12 9 rfl rfl)
theorem dX5_init_291 : decode cX5_init 291 = .ok (.iaload, 1) := dk_46 (dk_at dksX5_init_12 10 rfl rfl)
theorem dX5_init_292 : decode cX5_init 292 = .ok (.aload_n 2, 1) := dk_44 (dk_at dksX5_init_12 11 rfl rfl)
theorem dX5_init_293 : decode cX5_init 293 = .ok (.iload 4, 2) := dk_21 4 (dk_at dksX5_init_12 12 rfl rfl)
theorem dX5_init_295 : decode cX5_init 295 = .ok (.iconst 3, 1) := dk_6 (dk_at dksX5_init_12 14 rfl rfl)
theorem dX5_init_296 : decode cX5_init 296 = .ok (.iadd, 1) := dk_96 (dk_at dksX5_init_12 15 rfl rfl)
theorem dX5_init_297 : decode cX5_init 297 = .ok (.iaload, 1) := dk_46 (dk_at dksX5_init_12 16 rfl rfl)
theorem dX5_init_298 : decode cX5_init 298 = .ok (.invokevirtual 70, 3) := dk_182 0 70 (dk_at dksX5_init_12 17 rfl rfl)
theorem dX5_init_301 : decode cX5_init 301 = .ok (.iload_n 3, 1) := dk_29 (dk_at dksX5_init_12 20 rfl rfl)
theorem dX5_init_302 : decode cX5_init 302 = .ok (.aload_n 0, 1) := dk_42 (dk_at dksX5_init_12 21 rfl rfl)
theorem dX5_init_303 : decode cX5_init 303 = .ok (.getfield 63, 3) := dk_180 0 63 (dk_at dksX5_init_13 0 rfl rfl)
theorem dX5_init_306 : decode cX5_init 306 = .ok (.iconst 1, 1) := dk_4 (dk_at dksX5_init_13 3 rfl rfl)
theorem dX5_init_307 : decode cX5_init 307 = .ok (.iadd, 1) := dk_96 (dk_at dksX5_init_13 4 rfl rfl)
theorem dX5_init_308 : decode cX5_init 308 = .ok (.iadd, 1) := dk_96 (dk_at dksX5_init_13 5 rfl rfl)
theorem dX5_init_309 : decode cX5_init 309 = .ok (.istore_n 3, 1) := dk_62 (dk_at dksX5_init_13 6 rfl rfl)
theorem dX5_init_310 : decode cX5_init 310 = .ok (.goto (-105), 3) := dk_167 255 151 (dk_at dksX5_init_13 7 rfl rfl)
theorem dX5_init_313 : decode cX5_init 313 = .ok (.aload_n 0, 1) := dk_42 (dk_at dksX5_init_13 10 rfl rfl)
theorem dX5_init_314 : decode cX5_init 314 = .ok (.iconst 0, 1) := dk_3 (dk_at dksX5_init_13 11 rfl rfl)
theorem dX5_init_315 : decode cX5_init 315 = .ok (.iconst 1, 1) := dk_4 (dk_at dksX5_init_13 12 rfl rfl)
theorem dX5_init_316 : decode cX5_init 316 = .ok (.iconst 4, 1) := dk_7 (dk_at dksX5_init_13 13 rfl rfl)
theorem dX5_init_317 : decode cX5_init 317 = .ok (.invokevirtual 74, 3) := dk_182 0 74 (dk_at dksX5_init_13 14 rfl rfl)
theorem dX5_init_320 : decode cX5_init 320 = .ok (.aload_n 0, 1) := dk_42 (dk_at dksX5_init_13 17 rfl rfl)
theorem dX5_init_321 : decode cX5_init 321 = .ok (.iconst 1, 1) := dk_4 (dk_at dksX5_init_13 18 rfl rfl)
theorem dX5_init_322 : decode cX5_init 322 = .ok (.iconst 2, 1) := dk_5 (dk_at dksX5_init_13 19 rfl rfl)
theorem dX5_init_323 : decode cX5_init 323 = .ok (.bipush 6, 2) := dk_16 6 (dk_at dksX5_init_13 20 rfl rfl)
theorem dX5_init_325 : decode cX5_init 325 = .ok (.invokevirtual 74, 3) := dk_182 0 74 (dk_at dksX5_init_14 0 rfl rfl)
theorem dX5_init_328 : decode cX5_init 328 = .ok (.aload_n 0, 1) := dk_42 (dk_at dksX5_init_14 3 rfl rfl)
theorem dX5_init_329 : decode cX5_init 329 = .ok (.iconst 0, 1) := dk_3 (dk_at dksX5_init_14 4 rfl rfl)
theorem dX5_init_330 : decode cX5_init 330 = .ok (.iconst 2, 1) := dk_5 (dk_at dksX5_init_14 5 rfl rfl)
theorem dX5_init_331 : decode cX5_init 331 = .ok (.bipush 9, 2) := dk_16 9 (dk_at dksX5_init_14 6 rfl rfl)
theorem dX5_init_333 : decode cX5_init 333 = .ok (.invokevirtual 74, 3) := dk_182 0 74 (dk_at dksX5_init_14 8 rfl rfl)
theorem dX5_init_336 : decode cX5_init 336 = .ok (.aload_n 0, 1) := dk_42 (dk_at dksX5_init_14 11 rfl rfl)
theorem dX5_init_337 : decode cX5_init 337 = .ok (.iconst 2, 1) := dk_5 (dk_at dksX5_init_14 12 rfl rfl)
theorem dX5_init_338 : decode cX5_init 338 = .ok (.iconst 3, 1) := dk_6 (dk_at dksX5_init_14 13 rfl rfl)
theorem dX5_init_339 : decode cX5_init 339 = .ok (.iconst 3, 1) := dk_6 (dk_at dksX5_init_14 14 rfl rfl)
theorem dX5_init_340 : decode cX5_init 340 = .ok (.invokevirtual 74, 3) := dk_182 0 74 (dk_at dksX5_init_14 15 rfl rfl)
theorem dX5_init_343 : decode cX5_init 343 = .ok (.return_, 1) := dk_177 (dk_at dksX5_init_14 18 rfl rfl)
abbrev cX5_clears : ByteArray := prog_15_method_10_code
def yX5_clears : MethodName := ⟨RX5, "clears", "()V"⟩
def dkwX5_clears_1 : List UInt8 := [180, 0, 9, 7, 6, 79, 42, 180, 0, 9, 8, 16, 50, 79, 42, 180, 0, 9, 16, 6, 4, 79, 177]
abbrev dktX5_clears_1 : List UInt8 := dkwX5_clears_1 ++ []
def dkwX5_clears_0 : List UInt8 := [3, 60, 27, 17, 4, 6, 162, 0, 16, 42, 180, 0, 9, 27, 3, 79, 132, 1, 1, 167, 255, 239, 42]
abbrev dktX5_clears_0 : List UInt8 := dkwX5_clears_0 ++ dktX5_clears_1
theorem dksX5_clears_0 : cX5_clears.data.toList.drop 0 = dktX5_clears_0 := by decide +kernel
theorem dksX5_clears_1 : cX5_clears.data.toList.drop 23 = dktX5_clears_1 := dk_seg dksX5_clears_0 23 rfl rfl
theorem dX5_clears_0 : decode cX5_clears 0 = .ok (.iconst 0, 1) := dk_3 (dk_at dksX5_clears_0 0 rfl rfl)
theorem dX5_clears_1 : decode cX5_clears 1 = .ok (.istore_n 1, 1) := dk_60 (dk_at dksX5_clears_0 1 rfl rfl)
theorem dX5_clears_2 : decode cX5_clears 2 = .ok (.iload_n 1, 1) := dk_27 (dk_at dksX5_clears_0 2 rfl rfl)
theorem dX5_clears_3 : decode cX5_clears 3 = .ok (.sipush 1030, 3) := dk_17 4 6 (dk_at dksX5_clears_0 3 rfl rfl)
theorem dX5_clears_6 : decode cX5_clears 6 = .ok (.if_icmp .ge 16, 3) := dk_162 0 16 (dk_at dksX5_clears_0 6 rfl rfl)
theorem dX5_clears_9 : decode cX5_clears 9 = .ok (.aload_n 0, 1) := dk_42 (dk_at dksX5_clears_0 9 rfl rfl)
theorem dX5_clears_10 : decode cX5_clears 10 = .ok (.getfield 9, 3) := dk_180 0 9 (dk_at dksX5_clears_0 10 rfl rfl)
theorem dX5_clears_13 : decode cX5_clears 13 = .ok (.iload_n 1, 1) := dk_27 (dk_at dksX5_clears_0 13 rfl rfl)
theorem dX5_clears_14 : decode cX5_clears 14 = .ok (.iconst 0, 1) := dk_3 (dk_at dksX5_clears_0 14 rfl rfl)
theorem dX5_clears_15 : decode cX5_clears 15 = .ok (.iastore, 1) := dk_79 (dk_at dksX5_clears_0 15 rfl rfl)
theorem dX5_clears_16 : decode cX5_clears 16 = .ok (.iinc 1 1, 3) := dk_132 1 1 (dk_at dksX5_clears_0 16 rfl rfl)
theorem dX5_clears_19 : decode cX5_clears 19 = .ok (.goto (-17), 3) := dk_167 255 239 (dk_at dksX5_clears_0 19 rfl rfl)
theorem dX5_clears_22 : decode cX5_clears 22 = .ok (.aload_n 0, 1) := dk_42 (dk_at dksX5_clears_0 22 rfl rfl)
theorem dX5_clears_23 : decode cX5_clears 23 = .ok (.getfield 9, 3) := dk_180 0 9 (dk_at dksX5_clears_1 0 rfl rfl)
theorem dX5_clears_26 : decode cX5_clears 26 = .ok (.iconst 4, 1) := dk_7 (dk_at dksX5_clears_1 3 rfl rfl)
theorem dX5_clears_27 : decode cX5_clears 27 = .ok (.iconst 3, 1) := dk_6 (dk_at dksX5_clears_1 4 rfl rfl)
theorem dX5_clears_28 : decode cX5_clears 28 = .ok (.iastore, 1) := dk_79 (dk_at dksX5_clears_1 5 rfl rfl)
theorem dX5_clears_29 : decode cX5_clears 29 = .ok (.aload_n 0, 1) := dk_42 (dk_at dksX5_clears_1 6 rfl rfl)
theorem dX5_clears_30 : decode cX5_clears 30 = .ok (.getfield 9, 3) := dk_180 0 9 (dk_at dksX5_clears_1 7 rfl rfl)
theorem dX5_clears_33 : decode cX5_clears 33 = .ok (.iconst 5, 1) := dk_8 (dk_at dksX5_clears_1 10 rfl rfl)
theorem dX5_clears_34 : decode cX5_clears 34 = .ok (.bipush 50, 2) := dk_16 50 (dk_at dksX5_clears_1 11 rfl rfl)
theorem dX5_clears_36 : decode cX5_clears 36 = .ok (.iastore, 1) := dk_79 (dk_at dksX5_clears_1 13 rfl rfl)
theorem dX5_clears_37 : decode cX5_clears 37 = .ok (.aload_n 0, 1) := dk_42 (dk_at dksX5_clears_1 14 rfl rfl)
theorem dX5_clears_38 : decode cX5_clears 38 = .ok (.getfield 9, 3) := dk_180 0 9 (dk_at dksX5_clears_1 15 rfl rfl)
theorem dX5_clears_41 : decode cX5_clears 41 = .ok (.bipush 6, 2) := dk_16 6 (dk_at dksX5_clears_1 18 rfl rfl)
theorem dX5_clears_43 : decode cX5_clears 43 = .ok (.iconst 1, 1) := dk_4 (dk_at dksX5_clears_1 20 rfl rfl)
theorem dX5_clears_44 : decode cX5_clears 44 = .ok (.iastore, 1) := dk_79 (dk_at dksX5_clears_1 21 rfl rfl)
theorem dX5_clears_45 : decode cX5_clears 45 = .ok (.return_, 1) := dk_177 (dk_at dksX5_clears_1 22 rfl rfl)
abbrev cX5_newRoof : ByteArray := prog_15_method_15_code
def yX5_newRoof : MethodName := ⟨RX5, "newRoof", "(IIII)V"⟩
def dkwX5_newRoof_5 : List UInt8 := [180, 0, 9, 3, 92, 46, 4, 96, 79, 177]
abbrev dktX5_newRoof_5 : List UInt8 := dkwX5_newRoof_5 ++ []
def dkwX5_newRoof_4 : List UInt8 := [180, 0, 9, 21, 5, 16, 10, 96, 21, 4, 79, 42, 180, 0, 9, 16, 7, 92, 46, 21, 4, 96, 79, 42]
abbrev dktX5_newRoof_4 : List UInt8 := dkwX5_newRoof_4 ++ dktX5_newRoof_5
def dkwX5_newRoof_3 : List UInt8 := [42, 180, 0, 9, 21, 5, 16, 8, 96, 28, 79, 42, 180, 0, 9, 21, 5, 16, 9, 96, 29, 79, 42]
abbrev dktX5_newRoof_3 : List UInt8 := dkwX5_newRoof_3 ++ dktX5_newRoof_4
def dkwX5_newRoof_2 : List UInt8 := [180, 0, 22, 21, 6, 46, 79, 132, 6, 1, 167, 255, 225, 42, 180, 0, 9, 21, 5, 16, 7, 96, 27, 79]
abbrev dktX5_newRoof_2 : List UInt8 := dkwX5_newRoof_2 ++ dktX5_newRoof_3
def dkwX5_newRoof_1 : List UInt8 := [54, 6, 21, 6, 42, 180, 0, 63, 162, 0, 28, 42, 180, 0, 9, 21, 5, 4, 96, 21, 6, 96, 42]
abbrev dktX5_newRoof_1 : List UInt8 := dkwX5_newRoof_1 ++ dktX5_newRoof_2
def dkwX5_newRoof_0 : List UInt8 := [42, 180, 0, 9, 3, 46, 184, 0, 84, 54, 5, 42, 180, 0, 9, 21, 5, 42, 180, 0, 63, 79, 3]
abbrev dktX5_newRoof_0 : List UInt8 := dkwX5_newRoof_0 ++ dktX5_newRoof_1
theorem dksX5_newRoof_0 : cX5_newRoof.data.toList.drop 0 = dktX5_newRoof_0 := by decide +kernel
theorem dksX5_newRoof_1 : cX5_newRoof.data.toList.drop 23 = dktX5_newRoof_1 := dk_seg dksX5_newRoof_0 23 rfl rfl
theorem dksX5_newRoof_2 : cX5_newRoof.data.toList.drop 46 = dktX5_newRoof_2 := dk_seg dksX5_newRoof_1 23 rfl rfl
theorem dksX5_newRoof_3 : cX5_newRoof.data.toList.drop 70 = dktX5_newRoof_3 := dk_seg dksX5_newRoof_2 24 rfl rfl
theorem dksX5_newRoof_4 : cX5_newRoof.data.toList.drop 93 = dktX5_newRoof_4 := dk_seg dksX5_newRoof_3 23 rfl rfl
theorem dksX5_newRoof_5 : cX5_newRoof.data.toList.drop 117 = dktX5_newRoof_5 := dk_seg dksX5_newRoof_4 24 rfl rfl
theorem dX5_newRoof_0 : decode cX5_newRoof 0 = .ok (.aload_n 0, 1) := dk_42 (dk_at dksX5_newRoof_0 0 rfl rfl)
theorem dX5_newRoof_1 : decode cX5_newRoof 1 = .ok (.getfield 9, 3) := dk_180 0 9 (dk_at dksX5_newRoof_0 1 rfl rfl)
theorem dX5_newRoof_4 : decode cX5_newRoof 4 = .ok (.iconst 0, 1) := dk_3 (dk_at dksX5_newRoof_0 4 rfl rfl)
theorem dX5_newRoof_5 : decode cX5_newRoof 5 = .ok (.iaload, 1) := dk_46 (dk_at dksX5_newRoof_0 5 rfl rfl)
theorem dX5_newRoof_6 : decode cX5_newRoof 6 = .ok (.invokestatic 84, 3) := dk_184 0 84 (dk_at dksX5_newRoof_0 6 rfl rfl)
theorem dX5_newRoof_9 : decode cX5_newRoof 9 = .ok (.istore 5, 2) := dk_54 5 (dk_at dksX5_newRoof_0 9 rfl rfl)
theorem dX5_newRoof_11 : decode cX5_newRoof 11 = .ok (.aload_n 0, 1) := dk_42 (dk_at dksX5_newRoof_0 11 rfl rfl)
theorem dX5_newRoof_12 : decode cX5_newRoof 12 = .ok (.getfield 9, 3) := dk_180 0 9 (dk_at dksX5_newRoof_0 12 rfl rfl)
theorem dX5_newRoof_15 : decode cX5_newRoof 15 = .ok (.iload 5, 2) := dk_21 5 (dk_at dksX5_newRoof_0 15 rfl rfl)
theorem dX5_newRoof_17 : decode cX5_newRoof 17 = .ok (.aload_n 0, 1) := dk_42 (dk_at dksX5_newRoof_0 17 rfl rfl)
theorem dX5_newRoof_18 : decode cX5_newRoof 18 = .ok (.getfield 63, 3) := dk_180 0 63 (dk_at dksX5_newRoof_0 18 rfl rfl)
theorem dX5_newRoof_21 : decode cX5_newRoof 21 = .ok (.iastore, 1) := dk_79 (dk_at dksX5_newRoof_0 21 rfl rfl)
theorem dX5_newRoof_22 : decode cX5_newRoof 22 = .ok (.iconst 0, 1) := dk_3 (dk_at dksX5_newRoof_0 22 rfl rfl)
theorem dX5_newRoof_23 : decode cX5_newRoof 23 = .ok (.istore 6, 2) := dk_54 6 (dk_at dksX5_newRoof_1 0 rfl rfl)
theorem dX5_newRoof_25 : decode cX5_newRoof 25 = .ok (.iload 6, 2) := dk_21 6 (dk_at dksX5_newRoof_1 2 rfl rfl)
theorem dX5_newRoof_27 : decode cX5_newRoof 27 = .ok (.aload_n 0, 1) := dk_42 (dk_at dksX5_newRoof_1 4 rfl rfl)
theorem dX5_newRoof_28 : decode cX5_newRoof 28 = .ok (.getfield 63, 3) := dk_180 0 63 (dk_at dksX5_newRoof_1 5 rfl rfl)
theorem dX5_newRoof_31 : decode cX5_newRoof 31 = .ok (.if_icmp .ge 28, 3) := dk_162 0 28 (dk_at dksX5_newRoof_1 8 rfl rfl)
theorem dX5_newRoof_34 : decode cX5_newRoof 34 = .ok (.aload_n 0, 1) := dk_42 (dk_at dksX5_newRoof_1 11 rfl rfl)
theorem dX5_newRoof_35 : decode cX5_newRoof 35 = .ok (.getfield 9, 3) := dk_180 0 9 (dk_at dksX5_newRoof_1 12 rfl rfl)
theorem dX5_newRoof_38 : decode cX5_newRoof 38 = .ok (.iload 5, 2) := dk_21 5 (dk_at dksX5_newRoof_1 15 rfl rfl)
theorem dX5_newRoof_40 : decode cX5_newRoof 40 = .ok (.iconst 1, 1) := dk_4 (dk_at dksX5_newRoof_1 17 rfl rfl)
theorem dX5_newRoof_41 : decode cX5_newRoof 41 = .ok (.iadd, 1) := dk_96 (dk_at dksX5_newRoof_1 18 rfl rfl)
theorem dX5_newRoof_42 : decode cX5_newRoof 42 = .ok (.iload 6, 2) := dk_21 6 (dk_at dksX5_newRoof_1 19 rfl rfl)
theorem dX5_newRoof_44 : decode cX5_newRoof 44 = .ok (.iadd, 1) := dk_96 (dk_at dksX5_newRoof_1 21 rfl rfl)
theorem dX5_newRoof_45 : decode cX5_newRoof 45 = .ok (.aload_n 0, 1) := dk_42 (dk_at dksX5_newRoof_1 22 rfl rfl)
theorem dX5_newRoof_46 : decode cX5_newRoof 46 = .ok (.getfield 22, 3) := dk_180 0 22 (dk_at dksX5_newRoof_2 0 rfl rfl)
theorem dX5_newRoof_49 : decode cX5_newRoof 49 = .ok (.iload 6, 2) := dk_21 6 (dk_at dksX5_newRoof_2 3 rfl rfl)
theorem dX5_newRoof_51 : decode cX5_newRoof 51 = .ok (.iaload, 1) := dk_46 (dk_at dksX5_newRoof_2 5 rfl rfl)
theorem dX5_newRoof_52 : decode cX5_newRoof 52 = .ok (.iastore, 1) := dk_79 (dk_at dksX5_newRoof_2 6 rfl rfl)
theorem dX5_newRoof_53 : decode cX5_newRoof 53 = .ok (.iinc 6 1, 3) := dk_132 6 1 (dk_at dksX5_newRoof_2 7 rfl rfl)
theorem dX5_newRoof_56 : decode cX5_newRoof 56 = .ok (.goto (-31), 3) := dk_167 255 225 (dk_at dksX5_newRoof_2 10 rfl rfl)
theorem dX5_newRoof_59 : decode cX5_newRoof 59 = .ok (.aload_n 0, 1) := dk_42 (dk_at dksX5_newRoof_2 13 rfl rfl)
theorem dX5_newRoof_60 : decode cX5_newRoof 60 = .ok (.getfield 9, 3) := dk_180 0 9 (dk_at dksX5_newRoof_2 14 rfl rfl)
theorem dX5_newRoof_63 : decode cX5_newRoof 63 = .ok (.iload 5, 2) := dk_21 5 (dk_at dksX5_newRoof_2 17 rfl rfl)
theorem dX5_newRoof_65 : decode cX5_newRoof 65 = .ok (.bipush 7, 2) := dk_16 7 (dk_at dksX5_newRoof_2 19 rfl rfl)
theorem dX5_newRoof_67 : decode cX5_newRoof 67 = .ok (.iadd, 1) := dk_96 (dk_at dksX5_newRoof_2 21 rfl rfl)
theorem dX5_newRoof_68 : decode cX5_newRoof 68 = .ok (.iload_n 1, 1) := dk_27 (dk_at dksX5_newRoof_2 22 rfl rfl)
theorem dX5_newRoof_69 : decode cX5_newRoof 69 = .ok (.iastore, 1) := dk_79 (dk_at dksX5_newRoof_2 23 rfl rfl)
theorem dX5_newRoof_70 : decode cX5_newRoof 70 = .ok (.aload_n 0, 1) := dk_42 (dk_at dksX5_newRoof_3 0 rfl rfl)
theorem dX5_newRoof_71 : decode cX5_newRoof 71 = .ok (.getfield 9, 3) := dk_180 0 9 (dk_at dksX5_newRoof_3 1 rfl rfl)
theorem dX5_newRoof_74 : decode cX5_newRoof 74 = .ok (.iload 5, 2) := dk_21 5 (dk_at dksX5_newRoof_3 4 rfl rfl)
theorem dX5_newRoof_76 : decode cX5_newRoof 76 = .ok (.bipush 8, 2) := dk_16 8 (dk_at dksX5_newRoof_3 6 rfl rfl)
theorem dX5_newRoof_78 : decode cX5_newRoof 78 = .ok (.iadd, 1) := dk_96 (dk_at dksX5_newRoof_3 8 rfl rfl)
theorem dX5_newRoof_79 : decode cX5_newRoof 79 = .ok (.iload_n 2, 1) := dk_28 (dk_at dksX5_newRoof_3 9 rfl rfl)
theorem dX5_newRoof_80 : decode cX5_newRoof 80 = .ok (.iastore, 1) := dk_79 (dk_at dksX5_newRoof_3 10 rfl rfl)
theorem dX5_newRoof_81 : decode cX5_newRoof 81 = .ok (.aload_n 0, 1) := dk_42 (dk_at dksX5_newRoof_3 11 rfl rfl)
theorem dX5_newRoof_82 : decode cX5_newRoof 82 = .ok (.getfield 9, 3) := dk_180 0 9 (dk_at dksX5_newRoof_3 12 rfl rfl)
theorem dX5_newRoof_85 : decode cX5_newRoof 85 = .ok (.iload 5, 2) := dk_21 5 (dk_at dksX5_newRoof_3 15 rfl rfl)
theorem dX5_newRoof_87 : decode cX5_newRoof 87 = .ok (.bipush 9, 2) := dk_16 9 (dk_at dksX5_newRoof_3 17 rfl rfl)
theorem dX5_newRoof_89 : decode cX5_newRoof 89 = .ok (.iadd, 1) := dk_96 (dk_at dksX5_newRoof_3 19 rfl rfl)
theorem dX5_newRoof_90 : decode cX5_newRoof 90 = .ok (.iload_n 3, 1) := dk_29 (dk_at dksX5_newRoof_3 20 rfl rfl)
theorem dX5_newRoof_91 : decode cX5_newRoof 91 = .ok (.iastore, 1) := dk_79 (dk_at dksX5_newRoof_3 21 rfl rfl)
theorem dX5_newRoof_92 : decode cX5_newRoof 92 = .ok (.aload_n 0, 1) := dk_42 (dk_at dksX5_newRoof_3 22 rfl rfl)
theorem dX5_newRoof_93 : decode cX5_newRoof 93 = .ok (.getfield 9, 3) := dk_180 0 9 (dk_at dksX5_newRoof_4 0 rfl rfl)
theorem dX5_newRoof_96 : decode cX5_newRoof 96 = .ok (.iload 5, 2) := dk_21 5 (dk_at dksX5_newRoof_4 3 rfl rfl)
theorem dX5_newRoof_98 : decode cX5_newRoof 98 = .ok (.bipush 10, 2) := dk_16 10 (dk_at dksX5_newRoof_4 5 rfl rfl)
theorem dX5_newRoof_100 : decode cX5_newRoof 100 = .ok (.iadd, 1) := dk_96 (dk_at dksX5_newRoof_4 7 rfl rfl)
theorem dX5_newRoof_101 : decode cX5_newRoof 101 = .ok (.iload 4, 2) := dk_21 4 (dk_at dksX5_newRoof_4 8 rfl rfl)
theorem dX5_newRoof_103 : decode cX5_newRoof 103 = .ok (.iastore, 1) := dk_79 (dk_at dksX5_newRoof_4 10 rfl rfl)
theorem dX5_newRoof_104 : decode cX5_newRoof 104 = .ok (.aload_n 0, 1) := dk_42 (dk_at dksX5_newRoof_4 11 rfl rfl)
theorem dX5_newRoof_105 : decode cX5_newRoof 105 = .ok (.getfield 9, 3) := dk_180 0 9 (dk_at dksX5_newRoof_4 12 rfl rfl)
theorem dX5_newRoof_108 : decode cX5_newRoof 108 = .ok (.bipush 7, 2) := dk_16 7 (dk_at dksX5_newRoof_4 15 rfl rfl)
theorem dX5_newRoof_110 : decode cX5_newRoof 110 = .ok (.dup2, 1) := dk_92 (dk_at dksX5_newRoof_4 17 rfl rfl)
theorem dX5_newRoof_111 : decode cX5_newRoof 111 = .ok (.iaload, 1) := dk_46 (dk_at dksX5_newRoof_4 18 rfl rfl)
theorem dX5_newRoof_112 : decode cX5_newRoof 112 = .ok (.iload 4, 2) := dk_21 4 (dk_at dksX5_newRoof_4 19 rfl rfl)
theorem dX5_newRoof_114 : decode cX5_newRoof 114 = .ok (.iadd, 1) := dk_96 (dk_at dksX5_newRoof_4 21 rfl rfl)
theorem dX5_newRoof_115 : decode cX5_newRoof 115 = .ok (.iastore, 1) := dk_79 (dk_at dksX5_newRoof_4 22 rfl rfl)
theorem dX5_newRoof_116 : decode cX5_newRoof 116 = .ok (.aload_n 0, 1) := dk_42 (dk_at dksX5_newRoof_4 23 rfl rfl)
theorem dX5_newRoof_117 : decode cX5_newRoof 117 = .ok (.getfield 9, 3) := dk_180 0 9 (dk_at dksX5_newRoof_5 0 rfl rfl)
theorem dX5_newRoof_120 : decode cX5_newRoof 120 = .ok (.iconst 0, 1) := dk_3 (dk_at dksX5_newRoof_5 3 rfl rfl)
theorem dX5_newRoof_121 : decode cX5_newRoof 121 = .ok (.dup2, 1) := dk_92 (dk_at dksX5_newRoof_5 4 rfl rfl)
theorem dX5_newRoof_122 : decode cX5_newRoof 122 = .ok (.iaload, 1) := dk_46 (dk_at dksX5_newRoof_5 5 rfl rfl)
theorem dX5_newRoof_123 : decode cX5_newRoof 123 = .ok (.iconst 1, 1) := dk_4 (dk_at dksX5_newRoof_5 6 rfl rfl)
theorem dX5_newRoof_124 : decode cX5_newRoof 124 = .ok (.iadd, 1) := dk_96 (dk_at dksX5_newRoof_5 7 rfl rfl)
theorem dX5_newRoof_125 : decode cX5_newRoof 125 = .ok (.iastore, 1) := dk_79 (dk_at dksX5_newRoof_5 8 rfl rfl)
theorem dX5_newRoof_126 : decode cX5_newRoof 126 = .ok (.return_, 1) := dk_177 (dk_at dksX5_newRoof_5 9 rfl rfl)
abbrev cX5_r : ByteArray := prog_15_method_6_code
def yX5_r : MethodName := ⟨RX5, "r", "(I)I"⟩
def dkwX5_r_0 : List UInt8 := [16, 25, 16, 13, 26, 104, 96, 172]
abbrev dktX5_r_0 : List UInt8 := dkwX5_r_0 ++ []
theorem dksX5_r_0 : cX5_r.data.toList.drop 0 = dktX5_r_0 := by decide +kernel
theorem dX5_r_0 : decode cX5_r 0 = .ok (.bipush 25, 2) := dk_16 25 (dk_at dksX5_r_0 0 rfl rfl)
theorem dX5_r_2 : decode cX5_r 2 = .ok (.bipush 13, 2) := dk_16 13 (dk_at dksX5_r_0 2 rfl rfl)
theorem dX5_r_4 : decode cX5_r 4 = .ok (.iload_n 0, 1) := dk_26 (dk_at dksX5_r_0 4 rfl rfl)
theorem dX5_r_5 : decode cX5_r 5 = .ok (.imul, 1) := dk_104 (dk_at dksX5_r_0 5 rfl rfl)
theorem dX5_r_6 : decode cX5_r 6 = .ok (.iadd, 1) := dk_96 (dk_at dksX5_r_0 6 rfl rfl)
theorem dX5_r_7 : decode cX5_r 7 = .ok (.ireturn, 1) := dk_172 (dk_at dksX5_r_0 7 rfl rfl)
abbrev cX5_newWay : ByteArray := prog_15_method_16_code
def yX5_newWay : MethodName := ⟨RX5, "newWay", "(III)V"⟩
def dkwX5_newWay_2 : List UInt8 := [79, 42, 180, 0, 9, 4, 92, 46, 4, 96, 79, 177]
abbrev dktX5_newWay_2 : List UInt8 := dkwX5_newWay_2 ++ []
def dkwX5_newWay_1 : List UInt8 := [46, 184, 0, 88, 4, 96, 28, 79, 42, 180, 0, 9, 42, 180, 0, 9, 4, 46, 184, 0, 88, 5, 96, 29]
abbrev dktX5_newWay_1 : List UInt8 := dkwX5_newWay_1 ++ dktX5_newWay_2
def dkwX5_newWay_0 : List UInt8 := [42, 180, 0, 9, 42, 180, 0, 9, 4, 46, 184, 0, 88, 27, 79, 42, 180, 0, 9, 42, 180, 0, 9, 4]
abbrev dktX5_newWay_0 : List UInt8 := dkwX5_newWay_0 ++ dktX5_newWay_1
theorem dksX5_newWay_0 : cX5_newWay.data.toList.drop 0 = dktX5_newWay_0 := by decide +kernel
theorem dksX5_newWay_1 : cX5_newWay.data.toList.drop 24 = dktX5_newWay_1 := dk_seg dksX5_newWay_0 24 rfl rfl
theorem dksX5_newWay_2 : cX5_newWay.data.toList.drop 48 = dktX5_newWay_2 := dk_seg dksX5_newWay_1 24 rfl rfl
theorem dX5_newWay_0 : decode cX5_newWay 0 = .ok (.aload_n 0, 1) := dk_42 (dk_at dksX5_newWay_0 0 rfl rfl)
theorem dX5_newWay_1 : decode cX5_newWay 1 = .ok (.getfield 9, 3) := dk_180 0 9 (dk_at dksX5_newWay_0 1 rfl rfl)
theorem dX5_newWay_4 : decode cX5_newWay 4 = .ok (.aload_n 0, 1) := dk_42 (dk_at dksX5_newWay_0 4 rfl rfl)
theorem dX5_newWay_5 : decode cX5_newWay 5 = .ok (.getfield 9, 3) := dk_180 0 9 (dk_at dksX5_newWay_0 5 rfl rfl)
theorem dX5_newWay_8 : decode cX5_newWay 8 = .ok (.iconst 1, 1) := dk_4 (dk_at dksX5_newWay_0 8 rfl rfl)
theorem dX5_newWay_9 : decode cX5_newWay 9 = .ok (.iaload, 1) := dk_46 (dk_at dksX5_newWay_0 9 rfl rfl)
theorem dX5_newWay_10 : decode cX5_newWay 10 = .ok (.invokestatic 88, 3) := dk_184 0 88 (dk_at dksX5_newWay_0 10 rfl rfl)
theorem dX5_newWay_13 : decode cX5_newWay 13 = .ok (.iload_n 1, 1) := dk_27 (dk_at dksX5_newWay_0 13 rfl rfl)
theorem dX5_newWay_14 : decode cX5_newWay 14 = .ok (.iastore, 1) := dk_79 (dk_at dksX5_newWay_0 14 rfl rfl)
theorem dX5_newWay_15 : decode cX5_newWay 15 = .ok (.aload_n 0, 1) := dk_42 (dk_at dksX5_newWay_0 15 rfl rfl)
theorem dX5_newWay_16 : decode cX5_newWay 16 = .ok (.getfield 9, 3) := dk_180 0 9 (dk_at dksX5_newWay_0 16 rfl rfl)
theorem dX5_newWay_19 : decode cX5_newWay 19 = .ok (.aload_n 0, 1) := dk_42 (dk_at dksX5_newWay_0 19 rfl rfl)
theorem dX5_newWay_20 : decode cX5_newWay 20 = .ok (.getfield 9, 3) := dk_180 0 9 (dk_at dksX5_newWay_0 20 rfl rfl)
theorem dX5_newWay_23 : decode cX5_newWay 23 = .ok (.iconst 1, 1) := dk_4 (dk_at dksX5_newWay_0 23 rfl rfl)
theorem dX5_newWay_24 : decode cX5_newWay 24 = .ok (.iaload, 1) := dk_46 (dk_at dksX5_newWay_1 0 rfl rfl)
theorem dX5_newWay_25 : decode cX5_newWay 25 = .ok (.invokestatic 88, 3) := dk_184 0 88 (dk_at dksX5_newWay_1 1 rfl rfl)
theorem dX5_newWay_28 : decode cX5_newWay 28 = .ok (.iconst 1, 1) := dk_4 (dk_at dksX5_newWay_1 4 rfl rfl)
theorem dX5_newWay_29 : decode cX5_newWay 29 = .ok (.iadd, 1) := dk_96 (dk_at dksX5_newWay_1 5 rfl rfl)
theorem dX5_newWay_30 : decode cX5_newWay 30 = .ok (.iload_n 2, 1) := dk_28 (dk_at dksX5_newWay_1 6 rfl rfl)
theorem dX5_newWay_31 : decode cX5_newWay 31 = .ok (.iastore, 1) := dk_79 (dk_at dksX5_newWay_1 7 rfl rfl)
theorem dX5_newWay_32 : decode cX5_newWay 32 = .ok (.aload_n 0, 1) := dk_42 (dk_at dksX5_newWay_1 8 rfl rfl)
theorem dX5_newWay_33 : decode cX5_newWay 33 = .ok (.getfield 9, 3) := dk_180 0 9 (dk_at dksX5_newWay_1 9 rfl rfl)
theorem dX5_newWay_36 : decode cX5_newWay 36 = .ok (.aload_n 0, 1) := dk_42 (dk_at dksX5_newWay_1 12 rfl rfl)
theorem dX5_newWay_37 : decode cX5_newWay 37 = .ok (.getfield 9, 3) := dk_180 0 9 (dk_at dksX5_newWay_1 13 rfl rfl)
theorem dX5_newWay_40 : decode cX5_newWay 40 = .ok (.iconst 1, 1) := dk_4 (dk_at dksX5_newWay_1 16 rfl rfl)
theorem dX5_newWay_41 : decode cX5_newWay 41 = .ok (.iaload, 1) := dk_46 (dk_at dksX5_newWay_1 17 rfl rfl)
theorem dX5_newWay_42 : decode cX5_newWay 42 = .ok (.invokestatic 88, 3) := dk_184 0 88 (dk_at dksX5_newWay_1 18 rfl rfl)
theorem dX5_newWay_45 : decode cX5_newWay 45 = .ok (.iconst 2, 1) := dk_5 (dk_at dksX5_newWay_1 21 rfl rfl)
theorem dX5_newWay_46 : decode cX5_newWay 46 = .ok (.iadd, 1) := dk_96 (dk_at dksX5_newWay_1 22 rfl rfl)
theorem dX5_newWay_47 : decode cX5_newWay 47 = .ok (.iload_n 3, 1) := dk_29 (dk_at dksX5_newWay_1 23 rfl rfl)
theorem dX5_newWay_48 : decode cX5_newWay 48 = .ok (.iastore, 1) := dk_79 (dk_at dksX5_newWay_2 0 rfl rfl)
theorem dX5_newWay_49 : decode cX5_newWay 49 = .ok (.aload_n 0, 1) := dk_42 (dk_at dksX5_newWay_2 1 rfl rfl)
theorem dX5_newWay_50 : decode cX5_newWay 50 = .ok (.getfield 9, 3) := dk_180 0 9 (dk_at dksX5_newWay_2 2 rfl rfl)
theorem dX5_newWay_53 : decode cX5_newWay 53 = .ok (.iconst 1, 1) := dk_4 (dk_at dksX5_newWay_2 5 rfl rfl)
theorem dX5_newWay_54 : decode cX5_newWay 54 = .ok (.dup2, 1) := dk_92 (dk_at dksX5_newWay_2 6 rfl rfl)
theorem dX5_newWay_55 : decode cX5_newWay 55 = .ok (.iaload, 1) := dk_46 (dk_at dksX5_newWay_2 7 rfl rfl)
theorem dX5_newWay_56 : decode cX5_newWay 56 = .ok (.iconst 1, 1) := dk_4 (dk_at dksX5_newWay_2 8 rfl rfl)
theorem dX5_newWay_57 : decode cX5_newWay 57 = .ok (.iadd, 1) := dk_96 (dk_at dksX5_newWay_2 9 rfl rfl)
theorem dX5_newWay_58 : decode cX5_newWay 58 = .ok (.iastore, 1) := dk_79 (dk_at dksX5_newWay_2 10 rfl rfl)
theorem dX5_newWay_59 : decode cX5_newWay 59 = .ok (.return_, 1) := dk_177 (dk_at dksX5_newWay_2 11 rfl rfl)
abbrev cX5_w : ByteArray := prog_15_method_7_code
def yX5_w : MethodName := ⟨RX5, "w", "(I)I"⟩
def dkwX5_w_0 : List UInt8 := [17, 0, 160, 6, 26, 104, 96, 172]
abbrev dktX5_w_0 : List UInt8 := dkwX5_w_0 ++ []
theorem dksX5_w_0 : cX5_w.data.toList.drop 0 = dktX5_w_0 := by decide +kernel
theorem dX5_w_0 : decode cX5_w 0 = .ok (.sipush 160, 3) := dk_17 0 160 (dk_at dksX5_w_0 0 rfl rfl)
theorem dX5_w_3 : decode cX5_w 3 = .ok (.iconst 3, 1) := dk_6 (dk_at dksX5_w_0 3 rfl rfl)
theorem dX5_w_4 : decode cX5_w 4 = .ok (.iload_n 0, 1) := dk_26 (dk_at dksX5_w_0 4 rfl rfl)
theorem dX5_w_5 : decode cX5_w 5 = .ok (.imul, 1) := dk_104 (dk_at dksX5_w_0 5 rfl rfl)
theorem dX5_w_6 : decode cX5_w 6 = .ok (.iadd, 1) := dk_96 (dk_at dksX5_w_0 6 rfl rfl)
theorem dX5_w_7 : decode cX5_w 7 = .ok (.ireturn, 1) := dk_172 (dk_at dksX5_w_0 7 rfl rfl)
abbrev cX5_thrown : ByteArray := prog_15_method_2_code
def yX5_thrown : MethodName := ⟨RX5, "thrown", "()I"⟩
theorem dX5_thrown_0 : decode cX5_thrown 0 = .ok (.aload_n 0, 1) := by decide +kernel
theorem dX5_thrown_1 : decode cX5_thrown 1 = .ok (.getfield 78, 3) := by decide +kernel
theorem dX5_thrown_4 : decode cX5_thrown 4 = .ok (.ireturn, 1) := by decide +kernel
abbrev cX5_appendInput : ByteArray := prog_15_method_49_code
def yX5_appendInput : MethodName := ⟨RX5, "appendInput", "(IIIII)I"⟩
def dkwX5_appendInput_2 : List UInt8 := [172]
abbrev dktX5_appendInput_2 : List UInt8 := dkwX5_appendInput_2 ++ []
def dkwX5_appendInput_1 : List UInt8 := [182, 0, 196, 42, 29, 182, 0, 196, 42, 21, 4, 182, 0, 196, 42, 21, 5, 182, 0, 196, 42, 180, 0, 193]
abbrev dktX5_appendInput_1 : List UInt8 := dkwX5_appendInput_1 ++ dktX5_appendInput_2
def dkwX5_appendInput_0 : List UInt8 := [42, 3, 181, 0, 78, 42, 180, 0, 193, 17, 3, 12, 164, 0, 5, 2, 172, 42, 27, 182, 0, 196, 42, 28]
abbrev dktX5_appendInput_0 : List UInt8 := dkwX5_appendInput_0 ++ dktX5_appendInput_1
theorem dksX5_appendInput_0 : cX5_appendInput.data.toList.drop 0 = dktX5_appendInput_0 := by decide +kernel
theorem dksX5_appendInput_1 : cX5_appendInput.data.toList.drop 24 = dktX5_appendInput_1 := dk_seg dksX5_appendInput_0 24 rfl rfl
theorem dksX5_appendInput_2 : cX5_appendInput.data.toList.drop 48 = dktX5_appendInput_2 := dk_seg dksX5_appendInput_1 24 rfl rfl
theorem dX5_appendInput_0 : decode cX5_appendInput 0 = .ok (.aload_n 0, 1) := dk_42 (dk_at dksX5_appendInput_0 0 rfl rfl)
theorem dX5_appendInput_1 : decode cX5_appendInput 1 = .ok (.iconst 0, 1) := dk_3 (dk_at dksX5_appendInput_0 1 rfl rfl)
theorem dX5_appendInput_2 : decode cX5_appendInput 2 = .ok (.putfield 78, 3) := dk_181 0 78 (dk_at dksX5_appendInput_0 2 rfl rfl)
theorem dX5_appendInput_5 : decode cX5_appendInput 5 = .ok (.aload_n 0, 1) := dk_42 (dk_at dksX5_appendInput_0 5 rfl rfl)
theorem dX5_appendInput_6 : decode cX5_appendInput 6 = .ok (.getfield 193, 3) := dk_180 0 193 (dk_at dksX5_appendInput_0 6 rfl rfl)
theorem dX5_appendInput_9 : decode cX5_appendInput 9 = .ok (.sipush 780, 3) := dk_17 3 12 (dk_at dksX5_appendInput_0 9 rfl rfl)
theorem dX5_appendInput_12 : decode cX5_appendInput 12 = .ok (.if_icmp .le 5, 3) := dk_164 0 5 (dk_at dksX5_appendInput_0 12 rfl rfl)
theorem dX5_appendInput_15 : decode cX5_appendInput 15 = .ok (.iconst (-1), 1) := dk_2 (dk_at dksX5_appendInput_0 15 rfl rfl)
theorem dX5_appendInput_16 : decode cX5_appendInput 16 = .ok (.ireturn, 1) := dk_172 (dk_at dksX5_appendInput_0 16 rfl rfl)
theorem dX5_appendInput_17 : decode cX5_appendInput 17 = .ok (.aload_n 0, 1) := dk_42 (dk_at dksX5_appendInput_0 17 rfl rfl)
theorem dX5_appendInput_18 : decode cX5_appendInput 18 = .ok (.iload_n 1, 1) := dk_27 (dk_at dksX5_appendInput_0 18 rfl rfl)
theorem dX5_appendInput_19 : decode cX5_appendInput 19 = .ok (.invokevirtual 196, 3) := dk_182 0 196 (dk_at dksX5_appendInput_0 19 rfl rfl)
theorem dX5_appendInput_22 : decode cX5_appendInput 22 = .ok (.aload_n 0, 1) := dk_42 (dk_at dksX5_appendInput_0 22 rfl rfl)
theorem dX5_appendInput_23 : decode cX5_appendInput 23 = .ok (.iload_n 2, 1) := dk_28 (dk_at dksX5_appendInput_0 23 rfl rfl)
theorem dX5_appendInput_24 : decode cX5_appendInput 24 = .ok (.invokevirtual 196, 3) := dk_182 0 196 (dk_at dksX5_appendInput_1 0 rfl rfl)
theorem dX5_appendInput_27 : decode cX5_appendInput 27 = .ok (.aload_n 0, 1) := dk_42 (dk_at dksX5_appendInput_1 3 rfl rfl)
theorem dX5_appendInput_28 : decode cX5_appendInput 28 = .ok (.iload_n 3, 1) := dk_29 (dk_at dksX5_appendInput_1 4 rfl rfl)
theorem dX5_appendInput_29 : decode cX5_appendInput 29 = .ok (.invokevirtual 196, 3) := dk_182 0 196 (dk_at dksX5_appendInput_1 5 rfl rfl)
theorem dX5_appendInput_32 : decode cX5_appendInput 32 = .ok (.aload_n 0, 1) := dk_42 (dk_at dksX5_appendInput_1 8 rfl rfl)
theorem dX5_appendInput_33 : decode cX5_appendInput 33 = .ok (.iload 4, 2) := dk_21 4 (dk_at dksX5_appendInput_1 9 rfl rfl)
theorem dX5_appendInput_35 : decode cX5_appendInput 35 = .ok (.invokevirtual 196, 3) := dk_182 0 196 (dk_at dksX5_appendInput_1 11 rfl rfl)
theorem dX5_appendInput_38 : decode cX5_appendInput 38 = .ok (.aload_n 0, 1) := dk_42 (dk_at dksX5_appendInput_1 14 rfl rfl)
theorem dX5_appendInput_39 : decode cX5_appendInput 39 = .ok (.iload 5, 2) := dk_21 5 (dk_at dksX5_appendInput_1 15 rfl rfl)
theorem dX5_appendInput_41 : decode cX5_appendInput 41 = .ok (.invokevirtual 196, 3) := dk_182 0 196 (dk_at dksX5_appendInput_1 17 rfl rfl)
theorem dX5_appendInput_44 : decode cX5_appendInput 44 = .ok (.aload_n 0, 1) := dk_42 (dk_at dksX5_appendInput_1 20 rfl rfl)
theorem dX5_appendInput_45 : decode cX5_appendInput 45 = .ok (.getfield 193, 3) := dk_180 0 193 (dk_at dksX5_appendInput_1 21 rfl rfl)
theorem dX5_appendInput_48 : decode cX5_appendInput 48 = .ok (.ireturn, 1) := dk_172 (dk_at dksX5_appendInput_2 0 rfl rfl)
abbrev cX5_four : ByteArray := prog_15_method_48_code
def yX5_four : MethodName := ⟨RX5, "four", "(I)V"⟩
def dkwX5_four_1 : List UInt8 := [180, 0, 193, 4, 96, 181, 0, 193, 132, 2, 255, 167, 255, 223, 177]
abbrev dktX5_four_1 : List UInt8 := dkwX5_four_1 ++ []
def dkwX5_four_0 : List UInt8 := [6, 61, 28, 155, 0, 35, 42, 180, 0, 31, 42, 180, 0, 193, 27, 16, 8, 28, 104, 122, 145, 84, 42, 89]
abbrev dktX5_four_0 : List UInt8 := dkwX5_four_0 ++ dktX5_four_1
theorem dksX5_four_0 : cX5_four.data.toList.drop 0 = dktX5_four_0 := by decide +kernel
theorem dksX5_four_1 : cX5_four.data.toList.drop 24 = dktX5_four_1 := dk_seg dksX5_four_0 24 rfl rfl
theorem dX5_four_0 : decode cX5_four 0 = .ok (.iconst 3, 1) := dk_6 (dk_at dksX5_four_0 0 rfl rfl)
theorem dX5_four_1 : decode cX5_four 1 = .ok (.istore_n 2, 1) := dk_61 (dk_at dksX5_four_0 1 rfl rfl)
theorem dX5_four_2 : decode cX5_four 2 = .ok (.iload_n 2, 1) := dk_28 (dk_at dksX5_four_0 2 rfl rfl)
theorem dX5_four_3 : decode cX5_four 3 = .ok (.ifCond .lt 35, 3) := dk_155 0 35 (dk_at dksX5_four_0 3 rfl rfl)
theorem dX5_four_6 : decode cX5_four 6 = .ok (.aload_n 0, 1) := dk_42 (dk_at dksX5_four_0 6 rfl rfl)
theorem dX5_four_7 : decode cX5_four 7 = .ok (.getfield 31, 3) := dk_180 0 31 (dk_at dksX5_four_0 7 rfl rfl)
theorem dX5_four_10 : decode cX5_four 10 = .ok (.aload_n 0, 1) := dk_42 (dk_at dksX5_four_0 10 rfl rfl)
theorem dX5_four_11 : decode cX5_four 11 = .ok (.getfield 193, 3) := dk_180 0 193 (dk_at dksX5_four_0 11 rfl rfl)
theorem dX5_four_14 : decode cX5_four 14 = .ok (.iload_n 1, 1) := dk_27 (dk_at dksX5_four_0 14 rfl rfl)
theorem dX5_four_15 : decode cX5_four 15 = .ok (.bipush 8, 2) := dk_16 8 (dk_at dksX5_four_0 15 rfl rfl)
theorem dX5_four_17 : decode cX5_four 17 = .ok (.iload_n 2, 1) := dk_28 (dk_at dksX5_four_0 17 rfl rfl)
theorem dX5_four_18 : decode cX5_four 18 = .ok (.imul, 1) := dk_104 (dk_at dksX5_four_0 18 rfl rfl)
theorem dX5_four_19 : decode cX5_four 19 = .ok (.ishr, 1) := dk_122 (dk_at dksX5_four_0 19 rfl rfl)
theorem dX5_four_20 : decode cX5_four 20 = .ok (.i2b, 1) := dk_145 (dk_at dksX5_four_0 20 rfl rfl)
theorem dX5_four_21 : decode cX5_four 21 = .ok (.bastore, 1) := dk_84 (dk_at dksX5_four_0 21 rfl rfl)
theorem dX5_four_22 : decode cX5_four 22 = .ok (.aload_n 0, 1) := dk_42 (dk_at dksX5_four_0 22 rfl rfl)
theorem dX5_four_23 : decode cX5_four 23 = .ok (.dup, 1) := dk_89 (dk_at dksX5_four_0 23 rfl rfl)
theorem dX5_four_24 : decode cX5_four 24 = .ok (.getfield 193, 3) := dk_180 0 193 (dk_at dksX5_four_1 0 rfl rfl)
theorem dX5_four_27 : decode cX5_four 27 = .ok (.iconst 1, 1) := dk_4 (dk_at dksX5_four_1 3 rfl rfl)
theorem dX5_four_28 : decode cX5_four 28 = .ok (.iadd, 1) := dk_96 (dk_at dksX5_four_1 4 rfl rfl)
theorem dX5_four_29 : decode cX5_four 29 = .ok (.putfield 193, 3) := dk_181 0 193 (dk_at dksX5_four_1 5 rfl rfl)
theorem dX5_four_32 : decode cX5_four 32 = .ok (.iinc 2 (-1), 3) := dk_132 2 255 (dk_at dksX5_four_1 8 rfl rfl)
theorem dX5_four_35 : decode cX5_four 35 = .ok (.goto (-33), 3) := dk_167 255 223 (dk_at dksX5_four_1 11 rfl rfl)
theorem dX5_four_38 : decode cX5_four 38 = .ok (.return_, 1) := dk_177 (dk_at dksX5_four_1 14 rfl rfl)
abbrev cX5_truncateInput : ByteArray := prog_15_method_50_code
def yX5_truncateInput : MethodName := ⟨RX5, "truncateInput", "(I)Z"⟩
def dkwX5_truncateInput_1 : List UInt8 := [181, 0, 193, 4, 172]
abbrev dktX5_truncateInput_1 : List UInt8 := dkwX5_truncateInput_1 ++ []
def dkwX5_truncateInput_0 : List UInt8 := [42, 3, 181, 0, 78, 27, 133, 9, 42, 180, 0, 193, 133, 184, 0, 199, 154, 0, 5, 3, 172, 42, 27]
abbrev dktX5_truncateInput_0 : List UInt8 := dkwX5_truncateInput_0 ++ dktX5_truncateInput_1
theorem dksX5_truncateInput_0 : cX5_truncateInput.data.toList.drop 0 = dktX5_truncateInput_0 := by decide +kernel
theorem dksX5_truncateInput_1 : cX5_truncateInput.data.toList.drop 23 = dktX5_truncateInput_1 := dk_seg dksX5_truncateInput_0 23 rfl rfl
theorem dX5_truncateInput_0 : decode cX5_truncateInput 0 = .ok (.aload_n 0, 1) := dk_42 (dk_at dksX5_truncateInput_0 0 rfl rfl)
theorem dX5_truncateInput_1 : decode cX5_truncateInput 1 = .ok (.iconst 0, 1) := dk_3 (dk_at dksX5_truncateInput_0 1 rfl rfl)
theorem dX5_truncateInput_2 : decode cX5_truncateInput 2 = .ok (.putfield 78, 3) := dk_181 0 78 (dk_at dksX5_truncateInput_0 2 rfl rfl)
theorem dX5_truncateInput_5 : decode cX5_truncateInput 5 = .ok (.iload_n 1, 1) := dk_27 (dk_at dksX5_truncateInput_0 5 rfl rfl)
theorem dX5_truncateInput_6 : decode cX5_truncateInput 6 = .ok (.i2l, 1) := dk_133 (dk_at dksX5_truncateInput_0 6 rfl rfl)
theorem dX5_truncateInput_7 : decode cX5_truncateInput 7 = .ok (.lconst 0, 1) := dk_9 (dk_at dksX5_truncateInput_0 7 rfl rfl)
theorem dX5_truncateInput_8 : decode cX5_truncateInput 8 = .ok (.aload_n 0, 1) := dk_42 (dk_at dksX5_truncateInput_0 8 rfl rfl)
theorem dX5_truncateInput_9 : decode cX5_truncateInput 9 = .ok (.getfield 193, 3) := dk_180 0 193 (dk_at dksX5_truncateInput_0 9 rfl rfl)
theorem dX5_truncateInput_12 : decode cX5_truncateInput 12 = .ok (.i2l, 1) := dk_133 (dk_at dksX5_truncateInput_0 12 rfl rfl)
theorem dX5_truncateInput_13 : decode cX5_truncateInput 13 = .ok (.invokestatic 199, 3) := dk_184 0 199 (dk_at dksX5_truncateInput_0 13 rfl rfl)
theorem dX5_truncateInput_16 : decode cX5_truncateInput 16 = .ok (.ifCond .ne 5, 3) := dk_154 0 5 (dk_at dksX5_truncateInput_0 16 rfl rfl)
theorem dX5_truncateInput_19 : decode cX5_truncateInput 19 = .ok (.iconst 0, 1) := dk_3 (dk_at dksX5_truncateInput_0 19 rfl rfl)
theorem dX5_truncateInput_20 : decode cX5_truncateInput 20 = .ok (.ireturn, 1) := dk_172 (dk_at dksX5_truncateInput_0 20 rfl rfl)
theorem dX5_truncateInput_21 : decode cX5_truncateInput 21 = .ok (.aload_n 0, 1) := dk_42 (dk_at dksX5_truncateInput_0 21 rfl rfl)
theorem dX5_truncateInput_22 : decode cX5_truncateInput 22 = .ok (.iload_n 1, 1) := dk_27 (dk_at dksX5_truncateInput_0 22 rfl rfl)
theorem dX5_truncateInput_23 : decode cX5_truncateInput 23 = .ok (.putfield 193, 3) := dk_181 0 193 (dk_at dksX5_truncateInput_1 0 rfl rfl)
theorem dX5_truncateInput_26 : decode cX5_truncateInput 26 = .ok (.iconst 1, 1) := dk_4 (dk_at dksX5_truncateInput_1 3 rfl rfl)
theorem dX5_truncateInput_27 : decode cX5_truncateInput 27 = .ok (.ireturn, 1) := dk_172 (dk_at dksX5_truncateInput_1 4 rfl rfl)
abbrev cX5_in : ByteArray := prog_15_method_3_code
def yX5_in : MethodName := ⟨RX5, "in", "(JJJ)Z"⟩
def dkwX5_in_0 : List UInt8 := [30, 32, 148, 155, 0, 14, 30, 22, 4, 148, 157, 0, 7, 4, 167, 0, 4, 3, 172]
abbrev dktX5_in_0 : List UInt8 := dkwX5_in_0 ++ []
theorem dksX5_in_0 : cX5_in.data.toList.drop 0 = dktX5_in_0 := by decide +kernel
theorem dX5_in_0 : decode cX5_in 0 = .ok (.lload_n 0, 1) := dk_30 (dk_at dksX5_in_0 0 rfl rfl)
theorem dX5_in_1 : decode cX5_in 1 = .ok (.lload_n 2, 1) := dk_32 (dk_at dksX5_in_0 1 rfl rfl)
theorem dX5_in_2 : decode cX5_in 2 = .ok (.lcmp, 1) := dk_148 (dk_at dksX5_in_0 2 rfl rfl)
theorem dX5_in_3 : decode cX5_in 3 = .ok (.ifCond .lt 14, 3) := dk_155 0 14 (dk_at dksX5_in_0 3 rfl rfl)
theorem dX5_in_6 : decode cX5_in 6 = .ok (.lload_n 0, 1) := dk_30 (dk_at dksX5_in_0 6 rfl rfl)
theorem dX5_in_7 : decode cX5_in 7 = .ok (.lload 4, 2) := dk_22 4 (dk_at dksX5_in_0 7 rfl rfl)
theorem dX5_in_9 : decode cX5_in 9 = .ok (.lcmp, 1) := dk_148 (dk_at dksX5_in_0 9 rfl rfl)
theorem dX5_in_10 : decode cX5_in 10 = .ok (.ifCond .gt 7, 3) := dk_157 0 7 (dk_at dksX5_in_0 10 rfl rfl)
theorem dX5_in_13 : decode cX5_in 13 = .ok (.iconst 1, 1) := dk_4 (dk_at dksX5_in_0 13 rfl rfl)
theorem dX5_in_14 : decode cX5_in 14 = .ok (.goto 4, 3) := dk_167 0 4 (dk_at dksX5_in_0 14 rfl rfl)
theorem dX5_in_17 : decode cX5_in 17 = .ok (.iconst 0, 1) := dk_3 (dk_at dksX5_in_0 17 rfl rfl)
theorem dX5_in_18 : decode cX5_in 18 = .ok (.ireturn, 1) := dk_172 (dk_at dksX5_in_0 18 rfl rfl)
abbrev cX5_errorCode : ByteArray := prog_15_method_51_code
def yX5_errorCode : MethodName := ⟨RX5, "errorCode", "()I"⟩
def dkwX5_errorCode_0 : List UInt8 := [42, 3, 181, 0, 78, 42, 180, 0, 203, 172]
abbrev dktX5_errorCode_0 : List UInt8 := dkwX5_errorCode_0 ++ []
theorem dksX5_errorCode_0 : cX5_errorCode.data.toList.drop 0 = dktX5_errorCode_0 := by decide +kernel
theorem dX5_errorCode_0 : decode cX5_errorCode 0 = .ok (.aload_n 0, 1) := dk_42 (dk_at dksX5_errorCode_0 0 rfl rfl)
theorem dX5_errorCode_1 : decode cX5_errorCode 1 = .ok (.iconst 0, 1) := dk_3 (dk_at dksX5_errorCode_0 1 rfl rfl)
theorem dX5_errorCode_2 : decode cX5_errorCode 2 = .ok (.putfield 78, 3) := dk_181 0 78 (dk_at dksX5_errorCode_0 2 rfl rfl)
theorem dX5_errorCode_5 : decode cX5_errorCode 5 = .ok (.aload_n 0, 1) := dk_42 (dk_at dksX5_errorCode_0 5 rfl rfl)
theorem dX5_errorCode_6 : decode cX5_errorCode 6 = .ok (.getfield 203, 3) := dk_180 0 203 (dk_at dksX5_errorCode_0 6 rfl rfl)
theorem dX5_errorCode_9 : decode cX5_errorCode 9 = .ok (.ireturn, 1) := dk_172 (dk_at dksX5_errorCode_0 9 rfl rfl)
abbrev cX5_errorOffset : ByteArray := prog_15_method_52_code
def yX5_errorOffset : MethodName := ⟨RX5, "errorOffset", "()I"⟩
def dkwX5_errorOffset_0 : List UInt8 := [42, 3, 181, 0, 78, 42, 180, 0, 35, 172]
abbrev dktX5_errorOffset_0 : List UInt8 := dkwX5_errorOffset_0 ++ []
theorem dksX5_errorOffset_0 : cX5_errorOffset.data.toList.drop 0 = dktX5_errorOffset_0 := by decide +kernel
theorem dX5_errorOffset_0 : decode cX5_errorOffset 0 = .ok (.aload_n 0, 1) := dk_42 (dk_at dksX5_errorOffset_0 0 rfl rfl)
theorem dX5_errorOffset_1 : decode cX5_errorOffset 1 = .ok (.iconst 0, 1) := dk_3 (dk_at dksX5_errorOffset_0 1 rfl rfl)
theorem dX5_errorOffset_2 : decode cX5_errorOffset 2 = .ok (.putfield 78, 3) := dk_181 0 78 (dk_at dksX5_errorOffset_0 2 rfl rfl)
theorem dX5_errorOffset_5 : decode cX5_errorOffset 5 = .ok (.aload_n 0, 1) := dk_42 (dk_at dksX5_errorOffset_0 5 rfl rfl)
theorem dX5_errorOffset_6 : decode cX5_errorOffset 6 = .ok (.getfield 35, 3) := dk_180 0 35 (dk_at dksX5_errorOffset_0 6 rfl rfl)
theorem dX5_errorOffset_9 : decode cX5_errorOffset 9 = .ok (.ireturn, 1) := dk_172 (dk_at dksX5_errorOffset_0 9 rfl rfl)
abbrev cX5_loadPost : ByteArray := prog_15_method_71_code
def yX5_loadPost : MethodName := ⟨RX5, "loadPost", "()I"⟩
def dkwX5_loadPost_4 : List UInt8 := [181, 1, 60, 42, 180, 0, 9, 4, 46, 172]
abbrev dktX5_loadPost_4 : List UInt8 := dkwX5_loadPost_4 ++ []
def dkwX5_loadPost_3 : List UInt8 := [180, 0, 214, 158, 0, 13, 42, 42, 180, 0, 13, 2, 182, 1, 56, 172, 42, 3, 181, 0, 81, 42, 3]
abbrev dktX5_loadPost_3 : List UInt8 := dkwX5_loadPost_3 ++ dktX5_loadPost_4
def dkwX5_loadPost_2 : List UInt8 := [180, 0, 9, 3, 46, 4, 164, 0, 7, 4, 167, 0, 4, 3, 16, 6, 182, 0, 242, 42, 182, 1, 53, 42]
abbrev dktX5_loadPost_2 : List UInt8 := dkwX5_loadPost_2 ++ dktX5_loadPost_3
def dkwX5_loadPost_1 : List UInt8 := [180, 0, 214, 154, 0, 17, 42, 180, 0, 223, 153, 0, 10, 42, 182, 1, 50, 167, 255, 238, 42, 42]
abbrev dktX5_loadPost_1 : List UInt8 := dkwX5_loadPost_1 ++ dktX5_loadPost_2
def dkwX5_loadPost_0 : List UInt8 := [42, 3, 181, 0, 78, 42, 42, 180, 0, 13, 182, 1, 43, 42, 182, 0, 52, 42, 182, 1, 47, 42]
abbrev dktX5_loadPost_0 : List UInt8 := dkwX5_loadPost_0 ++ dktX5_loadPost_1
theorem dksX5_loadPost_0 : cX5_loadPost.data.toList.drop 0 = dktX5_loadPost_0 := by decide +kernel
theorem dksX5_loadPost_1 : cX5_loadPost.data.toList.drop 22 = dktX5_loadPost_1 := dk_seg dksX5_loadPost_0 22 rfl rfl
theorem dksX5_loadPost_2 : cX5_loadPost.data.toList.drop 44 = dktX5_loadPost_2 := dk_seg dksX5_loadPost_1 22 rfl rfl
theorem dksX5_loadPost_3 : cX5_loadPost.data.toList.drop 68 = dktX5_loadPost_3 := dk_seg dksX5_loadPost_2 24 rfl rfl
theorem dksX5_loadPost_4 : cX5_loadPost.data.toList.drop 91 = dktX5_loadPost_4 := dk_seg dksX5_loadPost_3 23 rfl rfl
theorem dX5_loadPost_0 : decode cX5_loadPost 0 = .ok (.aload_n 0, 1) := dk_42 (dk_at dksX5_loadPost_0 0 rfl rfl)
theorem dX5_loadPost_1 : decode cX5_loadPost 1 = .ok (.iconst 0, 1) := dk_3 (dk_at dksX5_loadPost_0 1 rfl rfl)
theorem dX5_loadPost_2 : decode cX5_loadPost 2 = .ok (.putfield 78, 3) := dk_181 0 78 (dk_at dksX5_loadPost_0 2 rfl rfl)
theorem dX5_loadPost_5 : decode cX5_loadPost 5 = .ok (.aload_n 0, 1) := dk_42 (dk_at dksX5_loadPost_0 5 rfl rfl)
theorem dX5_loadPost_6 : decode cX5_loadPost 6 = .ok (.aload_n 0, 1) := dk_42 (dk_at dksX5_loadPost_0 6 rfl rfl)
theorem dX5_loadPost_7 : decode cX5_loadPost 7 = .ok (.getfield 13, 3) := dk_180 0 13 (dk_at dksX5_loadPost_0 7 rfl rfl)
theorem dX5_loadPost_10 : decode cX5_loadPost 10 = .ok (.invokevirtual 299, 3) := dk_182 1 43 (dk_at dksX5_loadPost_0 10 rfl rfl)
theorem dX5_loadPost_13 : decode cX5_loadPost 13 = .ok (.aload_n 0, 1) := dk_42 (dk_at dksX5_loadPost_0 13 rfl rfl)
theorem dX5_loadPost_14 : decode cX5_loadPost 14 = .ok (.invokevirtual 52, 3) := dk_182 0 52 (dk_at dksX5_loadPost_0 14 rfl rfl)
theorem dX5_loadPost_17 : decode cX5_loadPost 17 = .ok (.aload_n 0, 1) := dk_42 (dk_at dksX5_loadPost_0 17 rfl rfl)
theorem dX5_loadPost_18 : decode cX5_loadPost 18 = .ok (.invokevirtual 303, 3) := dk_182 1 47 (dk_at dksX5_loadPost_0 18 rfl rfl)
theorem dX5_loadPost_21 : decode cX5_loadPost 21 = .ok (.aload_n 0, 1) := dk_42 (dk_at dksX5_loadPost_0 21 rfl rfl)
theorem dX5_loadPost_22 : decode cX5_loadPost 22 = .ok (.getfield 214, 3) := dk_180 0 214 (dk_at dksX5_loadPost_1 0 rfl rfl)
theorem dX5_loadPost_25 : decode cX5_loadPost 25 = .ok (.ifCond .ne 17, 3) := dk_154 0 17 (dk_at dksX5_loadPost_1 3 rfl rfl)
theorem dX5_loadPost_28 : decode cX5_loadPost 28 = .ok (.aload_n 0, 1) := dk_42 (dk_at dksX5_loadPost_1 6 rfl rfl)
theorem dX5_loadPost_29 : decode cX5_loadPost 29 = .ok (.getfield 223, 3) := dk_180 0 223 (dk_at dksX5_loadPost_1 7 rfl rfl)
theorem dX5_loadPost_32 : decode cX5_loadPost 32 = .ok (.ifCond .eq 10, 3) := dk_153 0 10 (dk_at dksX5_loadPost_1 10 rfl rfl)
theorem dX5_loadPost_35 : decode cX5_loadPost 35 = .ok (.aload_n 0, 1) := dk_42 (dk_at dksX5_loadPost_1 13 rfl rfl)
theorem dX5_loadPost_36 : decode cX5_loadPost 36 = .ok (.invokevirtual 306, 3) := dk_182 1 50 (dk_at dksX5_loadPost_1 14 rfl rfl)
theorem dX5_loadPost_39 : decode cX5_loadPost 39 = .ok (.goto (-18), 3) := dk_167 255 238 (dk_at dksX5_loadPost_1 17 rfl rfl)
theorem dX5_loadPost_42 : decode cX5_loadPost 42 = .ok (.aload_n 0, 1) := dk_42 (dk_at dksX5_loadPost_1 20 rfl rfl)
theorem dX5_loadPost_43 : decode cX5_loadPost 43 = .ok (.aload_n 0, 1) := dk_42 (dk_at dksX5_loadPost_1 21 rfl rfl)
theorem dX5_loadPost_44 : decode cX5_loadPost 44 = .ok (.getfield 9, 3) := dk_180 0 9 (dk_at dksX5_loadPost_2 0 rfl rfl)
theorem dX5_loadPost_47 : decode cX5_loadPost 47 = .ok (.iconst 0, 1) := dk_3 (dk_at dksX5_loadPost_2 3 rfl rfl)
theorem dX5_loadPost_48 : decode cX5_loadPost 48 = .ok (.iaload, 1) := dk_46 (dk_at dksX5_loadPost_2 4 rfl rfl)
theorem dX5_loadPost_49 : decode cX5_loadPost 49 = .ok (.iconst 1, 1) := dk_4 (dk_at dksX5_loadPost_2 5 rfl rfl)
theorem dX5_loadPost_50 : decode cX5_loadPost 50 = .ok (.if_icmp .le 7, 3) := dk_164 0 7 (dk_at dksX5_loadPost_2 6 rfl rfl)
theorem dX5_loadPost_53 : decode cX5_loadPost 53 = .ok (.iconst 1, 1) := dk_4 (dk_at dksX5_loadPost_2 9 rfl rfl)
theorem dX5_loadPost_54 : decode cX5_loadPost 54 = .ok (.goto 4, 3) := dk_167 0 4 (dk_at dksX5_loadPost_2 10 rfl rfl)
theorem dX5_loadPost_57 : decode cX5_loadPost 57 = .ok (.iconst 0, 1) := dk_3 (dk_at dksX5_loadPost_2 13 rfl rfl)
theorem dX5_loadPost_58 : decode cX5_loadPost 58 = .ok (.bipush 6, 2) := dk_16 6 (dk_at dksX5_loadPost_2 14 rfl rfl)
theorem dX5_loadPost_60 : decode cX5_loadPost 60 = .ok (.invokevirtual 242, 3) := dk_182 0 242 (dk_at dksX5_loadPost_2 16 rfl rfl)
theorem dX5_loadPost_63 : decode cX5_loadPost 63 = .ok (.aload_n 0, 1) := dk_42 (dk_at dksX5_loadPost_2 19 rfl rfl)
theorem dX5_loadPost_64 : decode cX5_loadPost 64 = .ok (.invokevirtual 309, 3) := dk_182 1 53 (dk_at dksX5_loadPost_2 20 rfl rfl)
theorem dX5_loadPost_67 : decode cX5_loadPost 67 = .ok (.aload_n 0, 1) := dk_42 (dk_at dksX5_loadPost_2 23 rfl rfl)
theorem dX5_loadPost_68 : decode cX5_loadPost 68 = .ok (.getfield 214, 3) := dk_180 0 214 (dk_at dksX5_loadPost_3 0 rfl rfl)
theorem dX5_loadPost_71 : decode cX5_loadPost 71 = .ok (.ifCond .le 13, 3) := dk_158 0 13 (dk_at dksX5_loadPost_3 3 rfl rfl)
theorem dX5_loadPost_74 : decode cX5_loadPost 74 = .ok (.aload_n 0, 1) := dk_42 (dk_at dksX5_loadPost_3 6 rfl rfl)
theorem dX5_loadPost_75 : decode cX5_loadPost 75 = .ok (.aload_n 0, 1) := dk_42 (dk_at dksX5_loadPost_3 7 rfl rfl)
theorem dX5_loadPost_76 : decode cX5_loadPost 76 = .ok (.getfield 13, 3) := dk_180 0 13 (dk_at dksX5_loadPost_3 8 rfl rfl)
theorem dX5_loadPost_79 : decode cX5_loadPost 79 = .ok (.iconst (-1), 1) := dk_2 (dk_at dksX5_loadPost_3 11 rfl rfl)
theorem dX5_loadPost_80 : decode cX5_loadPost 80 = .ok (.invokevirtual 312, 3) := dk_182 1 56 (dk_at dksX5_loadPost_3 12 rfl rfl)
theorem dX5_loadPost_83 : decode cX5_loadPost 83 = .ok (.ireturn, 1) := dk_172 (dk_at dksX5_loadPost_3 15 rfl rfl)
theorem dX5_loadPost_84 : decode cX5_loadPost 84 = .ok (.aload_n 0, 1) := dk_42 (dk_at dksX5_loadPost_3 16 rfl rfl)
theorem dX5_loadPost_85 : decode cX5_loadPost 85 = .ok (.iconst 0, 1) := dk_3 (dk_at dksX5_loadPost_3 17 rfl rfl)
theorem dX5_loadPost_86 : decode cX5_loadPost 86 = .ok (.putfield 81, 3) := dk_181 0 81 (dk_at dksX5_loadPost_3 18 rfl rfl)
theorem dX5_loadPost_89 : decode cX5_loadPost 89 = .ok (.aload_n 0, 1) := dk_42 (dk_at dksX5_loadPost_3 21 rfl rfl)
theorem dX5_loadPost_90 : decode cX5_loadPost 90 = .ok (.iconst 0, 1) := dk_3 (dk_at dksX5_loadPost_3 22 rfl rfl)
theorem dX5_loadPost_91 : decode cX5_loadPost 91 = .ok (.putfield 316, 3) := dk_181 1 60 (dk_at dksX5_loadPost_4 0 rfl rfl)
theorem dX5_loadPost_94 : decode cX5_loadPost 94 = .ok (.aload_n 0, 1) := dk_42 (dk_at dksX5_loadPost_4 3 rfl rfl)
theorem dX5_loadPost_95 : decode cX5_loadPost 95 = .ok (.getfield 9, 3) := dk_180 0 9 (dk_at dksX5_loadPost_4 4 rfl rfl)
theorem dX5_loadPost_98 : decode cX5_loadPost 98 = .ok (.iconst 1, 1) := dk_4 (dk_at dksX5_loadPost_4 7 rfl rfl)
theorem dX5_loadPost_99 : decode cX5_loadPost 99 = .ok (.iaload, 1) := dk_46 (dk_at dksX5_loadPost_4 8 rfl rfl)
theorem dX5_loadPost_100 : decode cX5_loadPost 100 = .ok (.ireturn, 1) := dk_172 (dk_at dksX5_loadPost_4 9 rfl rfl)
abbrev cX5_copies : ByteArray := prog_15_method_11_code
def yX5_copies : MethodName := ⟨RX5, "copies", "([I)V"⟩
def dkwX5_copies_1 : List UInt8 := [177]
abbrev dktX5_copies_1 : List UInt8 := dkwX5_copies_1 ++ []
def dkwX5_copies_0 : List UInt8 := [3, 61, 28, 17, 4, 6, 162, 0, 18, 43, 28, 42, 180, 0, 9, 28, 46, 79, 132, 2, 1, 167, 255, 237]
abbrev dktX5_copies_0 : List UInt8 := dkwX5_copies_0 ++ dktX5_copies_1
theorem dksX5_copies_0 : cX5_copies.data.toList.drop 0 = dktX5_copies_0 := by decide +kernel
theorem dksX5_copies_1 : cX5_copies.data.toList.drop 24 = dktX5_copies_1 := dk_seg dksX5_copies_0 24 rfl rfl
theorem dX5_copies_0 : decode cX5_copies 0 = .ok (.iconst 0, 1) := dk_3 (dk_at dksX5_copies_0 0 rfl rfl)
theorem dX5_copies_1 : decode cX5_copies 1 = .ok (.istore_n 2, 1) := dk_61 (dk_at dksX5_copies_0 1 rfl rfl)
theorem dX5_copies_2 : decode cX5_copies 2 = .ok (.iload_n 2, 1) := dk_28 (dk_at dksX5_copies_0 2 rfl rfl)
theorem dX5_copies_3 : decode cX5_copies 3 = .ok (.sipush 1030, 3) := dk_17 4 6 (dk_at dksX5_copies_0 3 rfl rfl)
theorem dX5_copies_6 : decode cX5_copies 6 = .ok (.if_icmp .ge 18, 3) := dk_162 0 18 (dk_at dksX5_copies_0 6 rfl rfl)
theorem dX5_copies_9 : decode cX5_copies 9 = .ok (.aload_n 1, 1) := dk_43 (dk_at dksX5_copies_0 9 rfl rfl)
theorem dX5_copies_10 : decode cX5_copies 10 = .ok (.iload_n 2, 1) := dk_28 (dk_at dksX5_copies_0 10 rfl rfl)
theorem dX5_copies_11 : decode cX5_copies 11 = .ok (.aload_n 0, 1) := dk_42 (dk_at dksX5_copies_0 11 rfl rfl)
theorem dX5_copies_12 : decode cX5_copies 12 = .ok (.getfield 9, 3) := dk_180 0 9 (dk_at dksX5_copies_0 12 rfl rfl)
theorem dX5_copies_15 : decode cX5_copies 15 = .ok (.iload_n 2, 1) := dk_28 (dk_at dksX5_copies_0 15 rfl rfl)
theorem dX5_copies_16 : decode cX5_copies 16 = .ok (.iaload, 1) := dk_46 (dk_at dksX5_copies_0 16 rfl rfl)
theorem dX5_copies_17 : decode cX5_copies 17 = .ok (.iastore, 1) := dk_79 (dk_at dksX5_copies_0 17 rfl rfl)
theorem dX5_copies_18 : decode cX5_copies 18 = .ok (.iinc 2 1, 3) := dk_132 2 1 (dk_at dksX5_copies_0 18 rfl rfl)
theorem dX5_copies_21 : decode cX5_copies 21 = .ok (.goto (-19), 3) := dk_167 255 237 (dk_at dksX5_copies_0 21 rfl rfl)
theorem dX5_copies_24 : decode cX5_copies 24 = .ok (.return_, 1) := dk_177 (dk_at dksX5_copies_1 0 rfl rfl)
abbrev cX5_starts : ByteArray := prog_15_method_57_code
def yX5_starts : MethodName := ⟨RX5, "starts", "()V"⟩
def dkwX5_starts_0 : List UInt8 := [42, 3, 181, 0, 214, 42, 3, 181, 0, 217, 42, 182, 0, 239, 177]
abbrev dktX5_starts_0 : List UInt8 := dkwX5_starts_0 ++ []
theorem dksX5_starts_0 : cX5_starts.data.toList.drop 0 = dktX5_starts_0 := by decide +kernel
theorem dX5_starts_0 : decode cX5_starts 0 = .ok (.aload_n 0, 1) := dk_42 (dk_at dksX5_starts_0 0 rfl rfl)
theorem dX5_starts_1 : decode cX5_starts 1 = .ok (.iconst 0, 1) := dk_3 (dk_at dksX5_starts_0 1 rfl rfl)
theorem dX5_starts_2 : decode cX5_starts 2 = .ok (.putfield 214, 3) := dk_181 0 214 (dk_at dksX5_starts_0 2 rfl rfl)
theorem dX5_starts_5 : decode cX5_starts 5 = .ok (.aload_n 0, 1) := dk_42 (dk_at dksX5_starts_0 5 rfl rfl)
theorem dX5_starts_6 : decode cX5_starts 6 = .ok (.iconst 0, 1) := dk_3 (dk_at dksX5_starts_0 6 rfl rfl)
theorem dX5_starts_7 : decode cX5_starts 7 = .ok (.putfield 217, 3) := dk_181 0 217 (dk_at dksX5_starts_0 7 rfl rfl)
theorem dX5_starts_10 : decode cX5_starts 10 = .ok (.aload_n 0, 1) := dk_42 (dk_at dksX5_starts_0 10 rfl rfl)
theorem dX5_starts_11 : decode cX5_starts 11 = .ok (.invokevirtual 239, 3) := dk_182 0 239 (dk_at dksX5_starts_0 11 rfl rfl)
theorem dX5_starts_14 : decode cX5_starts 14 = .ok (.return_, 1) := dk_177 (dk_at dksX5_starts_0 14 rfl rfl)
abbrev cX5_goesOn : ByteArray := prog_15_method_55_code
def yX5_goesOn : MethodName := ⟨RX5, "goesOn", "()V"⟩
def dkwX5_goesOn_12 : List UInt8 := [16, 59, 160, 0, 7, 6, 167, 0, 4, 7, 181, 0, 223, 42, 89, 180, 0, 217, 4, 96, 181, 0, 217, 177]
abbrev dktX5_goesOn_12 : List UInt8 := dkwX5_goesOn_12 ++ []
def dkwX5_goesOn_11 : List UInt8 := [164, 0, 7, 7, 167, 0, 4, 5, 181, 0, 223, 167, 0, 36, 42, 42, 180, 0, 31, 42, 180, 0, 220, 51]
abbrev dktX5_goesOn_11 : List UInt8 := dkwX5_goesOn_11 ++ dktX5_goesOn_12
def dkwX5_goesOn_10 : List UInt8 := [89, 180, 0, 217, 4, 96, 181, 0, 217, 167, 255, 191, 42, 42, 180, 0, 217, 42, 180, 0, 220, 100, 6]
abbrev dktX5_goesOn_10 : List UInt8 := dkwX5_goesOn_10 ++ dktX5_goesOn_11
def dkwX5_goesOn_9 : List UInt8 := [42, 180, 0, 31, 42, 180, 0, 217, 51, 96, 16, 48, 100, 167, 0, 7, 42, 180, 0, 233, 181, 0, 233, 42]
abbrev dktX5_goesOn_9 : List UInt8 := dkwX5_goesOn_9 ++ dktX5_goesOn_10
def dkwX5_goesOn_8 : List UInt8 := [153, 0, 60, 42, 42, 180, 0, 217, 42, 180, 0, 220, 100, 6, 162, 0, 26, 16, 10, 42, 180, 0, 233, 104]
abbrev dktX5_goesOn_8 : List UInt8 := dkwX5_goesOn_8 ++ dktX5_goesOn_9
def dkwX5_goesOn_7 : List UInt8 := [180, 0, 220, 182, 0, 230, 153, 0, 101, 42, 3, 181, 0, 233, 42, 42, 180, 0, 217, 182, 0, 230]
abbrev dktX5_goesOn_7 : List UInt8 := dkwX5_goesOn_7 ++ dktX5_goesOn_8
def dkwX5_goesOn_6 : List UInt8 := [180, 0, 220, 100, 16, 8, 164, 0, 7, 7, 167, 0, 4, 4, 181, 0, 223, 167, 0, 145, 42, 42]
abbrev dktX5_goesOn_6 : List UInt8 := dkwX5_goesOn_6 ++ dktX5_goesOn_7
def dkwX5_goesOn_5 : List UInt8 := [153, 0, 16, 42, 89, 180, 0, 217, 4, 96, 181, 0, 217, 167, 255, 235, 42, 42, 180, 0, 217, 42]
abbrev dktX5_goesOn_5 : List UInt8 := dkwX5_goesOn_5 ++ dktX5_goesOn_6
def dkwX5_goesOn_4 : List UInt8 := [167, 0, 206, 42, 42, 180, 0, 220, 182, 0, 226, 153, 0, 53, 42, 42, 180, 0, 217, 182, 0, 226]
abbrev dktX5_goesOn_4 : List UInt8 := dkwX5_goesOn_4 ++ dktX5_goesOn_5
def dkwX5_goesOn_3 : List UInt8 := [180, 0, 220, 181, 0, 217, 42, 180, 0, 220, 42, 180, 0, 193, 160, 0, 11, 42, 3, 181, 0, 223]
abbrev dktX5_goesOn_3 : List UInt8 := dkwX5_goesOn_3 ++ dktX5_goesOn_4
def dkwX5_goesOn_2 : List UInt8 := [180, 0, 220, 51, 16, 10, 160, 0, 16, 42, 89, 180, 0, 220, 4, 96, 181, 0, 220, 167, 255, 207, 42, 42]
abbrev dktX5_goesOn_2 : List UInt8 := dkwX5_goesOn_2 ++ dktX5_goesOn_3
def dkwX5_goesOn_1 : List UInt8 := [162, 0, 44, 42, 180, 0, 31, 42, 180, 0, 220, 51, 16, 32, 159, 0, 17, 42, 180, 0, 31, 42]
abbrev dktX5_goesOn_1 : List UInt8 := dkwX5_goesOn_1 ++ dktX5_goesOn_2
def dkwX5_goesOn_0 : List UInt8 := [42, 180, 0, 214, 158, 0, 4, 177, 42, 42, 180, 0, 217, 181, 0, 220, 42, 180, 0, 220, 42, 180, 0, 193]
abbrev dktX5_goesOn_0 : List UInt8 := dkwX5_goesOn_0 ++ dktX5_goesOn_1
theorem dksX5_goesOn_0 : cX5_goesOn.data.toList.drop 0 = dktX5_goesOn_0 := by decide +kernel
theorem dksX5_goesOn_1 : cX5_goesOn.data.toList.drop 24 = dktX5_goesOn_1 := dk_seg dksX5_goesOn_0 24 rfl rfl
theorem dksX5_goesOn_2 : cX5_goesOn.data.toList.drop 46 = dktX5_goesOn_2 := dk_seg dksX5_goesOn_1 22 rfl rfl
theorem dksX5_goesOn_3 : cX5_goesOn.data.toList.drop 70 = dktX5_goesOn_3 := dk_seg dksX5_goesOn_2 24 rfl rfl
theorem dksX5_goesOn_4 : cX5_goesOn.data.toList.drop 92 = dktX5_goesOn_4 := dk_seg dksX5_goesOn_3 22 rfl rfl
theorem dksX5_goesOn_5 : cX5_goesOn.data.toList.drop 114 = dktX5_goesOn_5 := dk_seg dksX5_goesOn_4 22 rfl rfl
theorem dksX5_goesOn_6 : cX5_goesOn.data.toList.drop 136 = dktX5_goesOn_6 := dk_seg dksX5_goesOn_5 22 rfl rfl
theorem dksX5_goesOn_7 : cX5_goesOn.data.toList.drop 158 = dktX5_goesOn_7 := dk_seg dksX5_goesOn_6 22 rfl rfl
theorem dksX5_goesOn_8 : cX5_goesOn.data.toList.drop 180 = dktX5_goesOn_8 := dk_seg dksX5_goesOn_7 22 rfl rfl
theorem dksX5_goesOn_9 : cX5_goesOn.data.toList.drop 204 = dktX5_goesOn_9 := dk_seg dksX5_goesOn_8 24 rfl rfl
theorem dksX5_goesOn_10 : cX5_goesOn.data.toList.drop 228 = dktX5_goesOn_10 := dk_seg dksX5_goesOn_9 24 rfl rfl
theorem dksX5_goesOn_11 : cX5_goesOn.data.toList.drop 251 = dktX5_goesOn_11 := dk_seg dksX5_goesOn_10 23 rfl rfl
theorem dksX5_goesOn_12 : cX5_goesOn.data.toList.drop 275 = dktX5_goesOn_12 := dk_seg dksX5_goesOn_11 24 rfl rfl
theorem dX5_goesOn_0 : decode cX5_goesOn 0 = .ok (.aload_n 0, 1) := dk_42 (dk_at dksX5_goesOn_0 0 rfl rfl)
theorem dX5_goesOn_1 : decode cX5_goesOn 1 = .ok (.getfield 214, 3) := dk_180 0 214 (dk_at dksX5_goesOn_0 1 rfl rfl)
theorem dX5_goesOn_4 : decode cX5_goesOn 4 = .ok (.ifCond .le 4, 3) := dk_158 0 4 (dk_at dksX5_goesOn_0 4 rfl rfl)
theorem dX5_goesOn_7 : decode cX5_goesOn 7 = .ok (.return_, 1) := dk_177 (dk_at dksX5_goesOn_0 7 rfl rfl)
theorem dX5_goesOn_8 : decode cX5_goesOn 8 = .ok (.aload_n 0, 1) := dk_42 (dk_at dksX5_goesOn_0 8 rfl rfl)
theorem dX5_goesOn_9 : decode cX5_goesOn 9 = .ok (.aload_n 0, 1) := dk_42 (dk_at dksX5_goesOn_0 9 rfl rfl)
theorem dX5_goesOn_10 : decode cX5_goesOn 10 = .ok (.getfield 217, 3) := dk_180 0 217 (dk_at dksX5_goesOn_0 10 rfl rfl)
theorem dX5_goesOn_13 : decode cX5_goesOn 13 = .ok (.putfield 220, 3) := dk_181 0 220 (dk_at dksX5_goesOn_0 13 rfl rfl)
theorem dX5_goesOn_16 : decode cX5_goesOn 16 = .ok (.aload_n 0, 1) := dk_42 (dk_at dksX5_goesOn_0 16 rfl rfl)
theorem dX5_goesOn_17 : decode cX5_goesOn 17 = .ok (.getfield 220, 3) := dk_180 0 220 (dk_at dksX5_goesOn_0 17 rfl rfl)
theorem dX5_goesOn_20 : decode cX5_goesOn 20 = .ok (.aload_n 0, 1) := dk_42 (dk_at dksX5_goesOn_0 20 rfl rfl)
theorem dX5_goesOn_21 : decode cX5_goesOn 21 = .ok (.getfield 193, 3) := dk_180 0 193 (dk_at dksX5_goesOn_0 21 rfl rfl)
theorem dX5_goesOn_24 : decode cX5_goesOn 24 = .ok (.if_icmp .ge 44, 3) := dk_162 0 44 (dk_at dksX5_goesOn_1 0 rfl rfl)
theorem dX5_goesOn_27 : decode cX5_goesOn 27 = .ok (.aload_n 0, 1) := dk_42 (dk_at dksX5_goesOn_1 3 rfl rfl)
theorem dX5_goesOn_28 : decode cX5_goesOn 28 = .ok (.getfield 31, 3) := dk_180 0 31 (dk_at dksX5_goesOn_1 4 rfl rfl)
theorem dX5_goesOn_31 : decode cX5_goesOn 31 = .ok (.aload_n 0, 1) := dk_42 (dk_at dksX5_goesOn_1 7 rfl rfl)
theorem dX5_goesOn_32 : decode cX5_goesOn 32 = .ok (.getfield 220, 3) := dk_180 0 220 (dk_at dksX5_goesOn_1 8 rfl rfl)
theorem dX5_goesOn_35 : decode cX5_goesOn 35 = .ok (.baload, 1) := dk_51 (dk_at dksX5_goesOn_1 11 rfl rfl)
theorem dX5_goesOn_36 : decode cX5_goesOn 36 = .ok (.bipush 32, 2) := dk_16 32 (dk_at dksX5_goesOn_1 12 rfl rfl)
theorem dX5_goesOn_38 : decode cX5_goesOn 38 = .ok (.if_icmp .eq 17, 3) := dk_159 0 17 (dk_at dksX5_goesOn_1 14 rfl rfl)
theorem dX5_goesOn_41 : decode cX5_goesOn 41 = .ok (.aload_n 0, 1) := dk_42 (dk_at dksX5_goesOn_1 17 rfl rfl)
theorem dX5_goesOn_42 : decode cX5_goesOn 42 = .ok (.getfield 31, 3) := dk_180 0 31 (dk_at dksX5_goesOn_1 18 rfl rfl)
theorem dX5_goesOn_45 : decode cX5_goesOn 45 = .ok (.aload_n 0, 1) := dk_42 (dk_at dksX5_goesOn_1 21 rfl rfl)
theorem dX5_goesOn_46 : decode cX5_goesOn 46 = .ok (.getfield 220, 3) := dk_180 0 220 (dk_at dksX5_goesOn_2 0 rfl rfl)
theorem dX5_goesOn_49 : decode cX5_goesOn 49 = .ok (.baload, 1) := dk_51 (dk_at dksX5_goesOn_2 3 rfl rfl)
theorem dX5_goesOn_50 : decode cX5_goesOn 50 = .ok (.bipush 10, 2) := dk_16 10 (dk_at dksX5_goesOn_2 4 rfl rfl)
theorem dX5_goesOn_52 : decode cX5_goesOn 52 = .ok (.if_icmp .ne 16, 3) := dk_160 0 16 (dk_at dksX5_goesOn_2 6 rfl rfl)
theorem dX5_goesOn_55 : decode cX5_goesOn 55 = .ok (.aload_n 0, 1) := dk_42 (dk_at dksX5_goesOn_2 9 rfl rfl)
theorem dX5_goesOn_56 : decode cX5_goesOn 56 = .ok (.dup, 1) := dk_89 (dk_at dksX5_goesOn_2 10 rfl rfl)
theorem dX5_goesOn_57 : decode cX5_goesOn 57 = .ok (.getfield 220, 3) := dk_180 0 220 (dk_at dksX5_goesOn_2 11 rfl rfl)
theorem dX5_goesOn_60 : decode cX5_goesOn 60 = .ok (.iconst 1, 1) := dk_4 (dk_at dksX5_goesOn_2 14 rfl rfl)
theorem dX5_goesOn_61 : decode cX5_goesOn 61 = .ok (.iadd, 1) := dk_96 (dk_at dksX5_goesOn_2 15 rfl rfl)
theorem dX5_goesOn_62 : decode cX5_goesOn 62 = .ok (.putfield 220, 3) := dk_181 0 220 (dk_at dksX5_goesOn_2 16 rfl rfl)
theorem dX5_goesOn_65 : decode cX5_goesOn 65 = .ok (.goto (-49), 3) := dk_167 255 207 (dk_at dksX5_goesOn_2 19 rfl rfl)
theorem dX5_goesOn_68 : decode cX5_goesOn 68 = .ok (.aload_n 0, 1) := dk_42 (dk_at dksX5_goesOn_2 22 rfl rfl)
theorem dX5_goesOn_69 : decode cX5_goesOn 69 = .ok (.aload_n 0, 1) := dk_42 (dk_at dksX5_goesOn_2 23 rfl rfl)
theorem dX5_goesOn_70 : decode cX5_goesOn 70 = .ok (.getfield 220, 3) := dk_180 0 220 (dk_at dksX5_goesOn_3 0 rfl rfl)
theorem dX5_goesOn_73 : decode cX5_goesOn 73 = .ok (.putfield 217, 3) := dk_181 0 217 (dk_at dksX5_goesOn_3 3 rfl rfl)
theorem dX5_goesOn_76 : decode cX5_goesOn 76 = .ok (.aload_n 0, 1) := dk_42 (dk_at dksX5_goesOn_3 6 rfl rfl)
theorem dX5_goesOn_77 : decode cX5_goesOn 77 = .ok (.getfield 220, 3) := dk_180 0 220 (dk_at dksX5_goesOn_3 7 rfl rfl)
theorem dX5_goesOn_80 : decode cX5_goesOn 80 = .ok (.aload_n 0, 1) := dk_42 (dk_at dksX5_goesOn_3 10 rfl rfl)
theorem dX5_goesOn_81 : decode cX5_goesOn 81 = .ok (.getfield 193, 3) := dk_180 0 193 (dk_at dksX5_goesOn_3 11 rfl rfl)
theorem dX5_goesOn_84 : decode cX5_goesOn 84 = .ok (.if_icmp .ne 11, 3) := dk_160 0 11 (dk_at dksX5_goesOn_3 14 rfl rfl)
theorem dX5_goesOn_87 : decode cX5_goesOn 87 = .ok (.aload_n 0, 1) := dk_42 (dk_at dksX5_goesOn_3 17 rfl rfl)
theorem dX5_goesOn_88 : decode cX5_goesOn 88 = .ok (.iconst 0, 1) := dk_3 (dk_at dksX5_goesOn_3 18 rfl rfl)
theorem dX5_goesOn_89 : decode cX5_goesOn 89 = .ok (.putfield 223, 3) := dk_181 0 223 (dk_at dksX5_goesOn_3 19 rfl rfl)
theorem dX5_goesOn_92 : decode cX5_goesOn 92 = .ok (.goto 206, 3) := dk_167 0 206 (dk_at dksX5_goesOn_4 0 rfl rfl)
theorem dX5_goesOn_95 : decode cX5_goesOn 95 = .ok (.aload_n 0, 1) := dk_42 (dk_at dksX5_goesOn_4 3 rfl rfl)
theorem dX5_goesOn_96 : decode cX5_goesOn 96 = .ok (.aload_n 0, 1) := dk_42 (dk_at dksX5_goesOn_4 4 rfl rfl)
theorem dX5_goesOn_97 : decode cX5_goesOn 97 = .ok (.getfield 220, 3) := dk_180 0 220 (dk_at dksX5_goesOn_4 5 rfl rfl)
theorem dX5_goesOn_100 : decode cX5_goesOn 100 = .ok (.invokevirtual 226, 3) := dk_182 0 226 (dk_at dksX5_goesOn_4 8 rfl rfl)
theorem dX5_goesOn_103 : decode cX5_goesOn 103 = .ok (.ifCond .eq 53, 3) := dk_153 0 53 (dk_at dksX5_goesOn_4 11 rfl rfl)
theorem dX5_goesOn_106 : decode cX5_goesOn 106 = .ok (.aload_n 0, 1) := dk_42 (dk_at dksX5_goesOn_4 14 rfl rfl)
theorem dX5_goesOn_107 : decode cX5_goesOn 107 = .ok (.aload_n 0, 1) := dk_42 (dk_at dksX5_goesOn_4 15 rfl rfl)
theorem dX5_goesOn_108 : decode cX5_goesOn 108 = .ok (.getfield 217, 3) := dk_180 0 217 (dk_at dksX5_goesOn_4 16 rfl rfl)
theorem dX5_goesOn_111 : decode cX5_goesOn 111 = .ok (.invokevirtual 226, 3) := dk_182 0 226 (dk_at dksX5_goesOn_4 19 rfl rfl)
theorem dX5_goesOn_114 : decode cX5_goesOn 114 = .ok (.ifCond .eq 16, 3) := dk_153 0 16 (dk_at dksX5_goesOn_5 0 rfl rfl)
theorem dX5_goesOn_117 : decode cX5_goesOn 117 = .ok (.aload_n 0, 1) := dk_42 (dk_at dksX5_goesOn_5 3 rfl rfl)
theorem dX5_goesOn_118 : decode cX5_goesOn 118 = .ok (.dup, 1) := dk_89 (dk_at dksX5_goesOn_5 4 rfl rfl)
theorem dX5_goesOn_119 : decode cX5_goesOn 119 = .ok (.getfield 217, 3) := dk_180 0 217 (dk_at dksX5_goesOn_5 5 rfl rfl)
theorem dX5_goesOn_122 : decode cX5_goesOn 122 = .ok (.iconst 1, 1) := dk_4 (dk_at dksX5_goesOn_5 8 rfl rfl)
theorem dX5_goesOn_123 : decode cX5_goesOn 123 = .ok (.iadd, 1) := dk_96 (dk_at dksX5_goesOn_5 9 rfl rfl)
theorem dX5_goesOn_124 : decode cX5_goesOn 124 = .ok (.putfield 217, 3) := dk_181 0 217 (dk_at dksX5_goesOn_5 10 rfl rfl)
theorem dX5_goesOn_127 : decode cX5_goesOn 127 = .ok (.goto (-21), 3) := dk_167 255 235 (dk_at dksX5_goesOn_5 13 rfl rfl)
theorem dX5_goesOn_130 : decode cX5_goesOn 130 = .ok (.aload_n 0, 1) := dk_42 (dk_at dksX5_goesOn_5 16 rfl rfl)
theorem dX5_goesOn_131 : decode cX5_goesOn 131 = .ok (.aload_n 0, 1) := dk_42 (dk_at dksX5_goesOn_5 17 rfl rfl)
theorem dX5_goesOn_132 : decode cX5_goesOn 132 = .ok (.getfield 217, 3) := dk_180 0 217 (dk_at dksX5_goesOn_5 18 rfl rfl)
theorem dX5_goesOn_135 : decode cX5_goesOn 135 = .ok (.aload_n 0, 1) := dk_42 (dk_at dksX5_goesOn_5 21 rfl rfl)
theorem dX5_goesOn_136 : decode cX5_goesOn 136 = .ok (.getfield 220, 3) := dk_180 0 220 (dk_at dksX5_goesOn_6 0 rfl rfl)
theorem dX5_goesOn_139 : decode cX5_goesOn 139 = .ok (.isub, 1) := dk_100 (dk_at dksX5_goesOn_6 3 rfl rfl)
theorem dX5_goesOn_140 : decode cX5_goesOn 140 = .ok (.bipush 8, 2) := dk_16 8 (dk_at dksX5_goesOn_6 4 rfl rfl)
theorem dX5_goesOn_142 : decode cX5_goesOn 142 = .ok (.if_icmp .le 7, 3) := dk_164 0 7 (dk_at dksX5_goesOn_6 6 rfl rfl)
theorem dX5_goesOn_145 : decode cX5_goesOn 145 = .ok (.iconst 4, 1) := dk_7 (dk_at dksX5_goesOn_6 9 rfl rfl)
theorem dX5_goesOn_146 : decode cX5_goesOn 146 = .ok (.goto 4, 3) := dk_167 0 4 (dk_at dksX5_goesOn_6 10 rfl rfl)
theorem dX5_goesOn_149 : decode cX5_goesOn 149 = .ok (.iconst 1, 1) := dk_4 (dk_at dksX5_goesOn_6 13 rfl rfl)
theorem dX5_goesOn_150 : decode cX5_goesOn 150 = .ok (.putfield 223, 3) := dk_181 0 223 (dk_at dksX5_goesOn_6 14 rfl rfl)
theorem dX5_goesOn_153 : decode cX5_goesOn 153 = .ok (.goto 145, 3) := dk_167 0 145 (dk_at dksX5_goesOn_6 17 rfl rfl)
theorem dX5_goesOn_156 : decode cX5_goesOn 156 = .ok (.aload_n 0, 1) := dk_42 (dk_at dksX5_goesOn_6 20 rfl rfl)
theorem dX5_goesOn_157 : decode cX5_goesOn 157 = .ok (.aload_n 0, 1) := dk_42 (dk_at dksX5_goesOn_6 21 rfl rfl)
theorem dX5_goesOn_158 : decode cX5_goesOn 158 = .ok (.getfield 220, 3) := dk_180 0 220 (dk_at dksX5_goesOn_7 0 rfl rfl)
theorem dX5_goesOn_161 : decode cX5_goesOn 161 = .ok (.invokevirtual 230, 3) := dk_182 0 230 (dk_at dksX5_goesOn_7 3 rfl rfl)
theorem dX5_goesOn_164 : decode cX5_goesOn 164 = .ok (.ifCond .eq 101, 3) := dk_153 0 101 (dk_at dksX5_goesOn_7 6 rfl rfl)
theorem dX5_goesOn_167 : decode cX5_goesOn 167 = .ok (.aload_n 0, 1) := dk_42 (dk_at dksX5_goesOn_7 9 rfl rfl)
theorem dX5_goesOn_168 : decode cX5_goesOn 168 = .ok (.iconst 0, 1) := dk_3 (dk_at dksX5_goesOn_7 10 rfl rfl)
theorem dX5_goesOn_169 : decode cX5_goesOn 169 = .ok (.putfield 233, 3) := dk_181 0 233 (dk_at dksX5_goesOn_7 11 rfl rfl)
theorem dX5_goesOn_172 : decode cX5_goesOn 172 = .ok (.aload_n 0, 1) := dk_42 (dk_at dksX5_goesOn_7 14 rfl rfl)
theorem dX5_goesOn_173 : decode cX5_goesOn 173 = .ok (.aload_n 0, 1) := dk_42 (dk_at dksX5_goesOn_7 15 rfl rfl)
theorem dX5_goesOn_174 : decode cX5_goesOn 174 = .ok (.getfield 217, 3) := dk_180 0 217 (dk_at dksX5_goesOn_7 16 rfl rfl)
theorem dX5_goesOn_177 : decode cX5_goesOn 177 = .ok (.invokevirtual 230, 3) := dk_182 0 230 (dk_at dksX5_goesOn_7 19 rfl rfl)
theorem dX5_goesOn_180 : decode cX5_goesOn 180 = .ok (.ifCond .eq 60, 3) := dk_153 0 60 (dk_at dksX5_goesOn_8 0 rfl rfl)
theorem dX5_goesOn_183 : decode cX5_goesOn 183 = .ok (.aload_n 0, 1) := dk_42 (dk_at dksX5_goesOn_8 3 rfl rfl)
theorem dX5_goesOn_184 : decode cX5_goesOn 184 = .ok (.aload_n 0, 1) := dk_42 (dk_at dksX5_goesOn_8 4 rfl rfl)
theorem dX5_goesOn_185 : decode cX5_goesOn 185 = .ok (.getfield 217, 3) := dk_180 0 217 (dk_at dksX5_goesOn_8 5 rfl rfl)
theorem dX5_goesOn_188 : decode cX5_goesOn 188 = .ok (.aload_n 0, 1) := dk_42 (dk_at dksX5_goesOn_8 8 rfl rfl)
theorem dX5_goesOn_189 : decode cX5_goesOn 189 = .ok (.getfield 220, 3) := dk_180 0 220 (dk_at dksX5_goesOn_8 9 rfl rfl)
theorem dX5_goesOn_192 : decode cX5_goesOn 192 = .ok (.isub, 1) := dk_100 (dk_at dksX5_goesOn_8 12 rfl rfl)
theorem dX5_goesOn_193 : decode cX5_goesOn 193 = .ok (.iconst 3, 1) := dk_6 (dk_at dksX5_goesOn_8 13 rfl rfl)
theorem dX5_goesOn_194 : decode cX5_goesOn 194 = .ok (.if_icmp .ge 26, 3) := dk_162 0 26 (dk_at dksX5_goesOn_8 14 rfl rfl)
theorem dX5_goesOn_197 : decode cX5_goesOn 197 = .ok (.bipush 10, 2) := dk_16 10 (dk_at dksX5_goesOn_8 17 rfl rfl)
theorem dX5_goesOn_199 : decode cX5_goesOn 199 = .ok (.aload_n 0, 1) := dk_42 (dk_at dksX5_goesOn_8 19 rfl rfl)
theorem dX5_goesOn_200 : decode cX5_goesOn 200 = .ok (.getfield 233, 3) := dk_180 0 233 (dk_at dksX5_goesOn_8 20 rfl rfl)
theorem dX5_goesOn_203 : decode cX5_goesOn 203 = .ok (.imul, 1) := dk_104 (dk_at dksX5_goesOn_8 23 rfl rfl)
theorem dX5_goesOn_204 : decode cX5_goesOn 204 = .ok (.aload_n 0, 1) := dk_42 (dk_at dksX5_goesOn_9 0 rfl rfl)
theorem dX5_goesOn_205 : decode cX5_goesOn 205 = .ok (.getfield 31, 3) := dk_180 0 31 (dk_at dksX5_goesOn_9 1 rfl rfl)
theorem dX5_goesOn_208 : decode cX5_goesOn 208 = .ok (.aload_n 0, 1) := dk_42 (dk_at dksX5_goesOn_9 4 rfl rfl)
theorem dX5_goesOn_209 : decode cX5_goesOn 209 = .ok (.getfield 217, 3) := dk_180 0 217 (dk_at dksX5_goesOn_9 5 rfl rfl)
theorem dX5_goesOn_212 : decode cX5_goesOn 212 = .ok (.baload, 1) := dk_51 (dk_at dksX5_goesOn_9 8 rfl rfl)
theorem dX5_goesOn_213 : decode cX5_goesOn 213 = .ok (.iadd, 1) := dk_96 (dk_at dksX5_goesOn_9 9 rfl rfl)
theorem dX5_goesOn_214 : decode cX5_goesOn 214 = .ok (.bipush 48, 2) := dk_16 48 (dk_at dksX5_goesOn_9 10 rfl rfl)
theorem dX5_goesOn_216 : decode cX5_goesOn 216 = .ok (.isub, 1) := dk_100 (dk_at dksX5_goesOn_9 12 rfl rfl)
theorem dX5_goesOn_217 : decode cX5_goesOn 217 = .ok (.goto 7, 3) := dk_167 0 7 (dk_at dksX5_goesOn_9 13 rfl rfl)
theorem dX5_goesOn_220 : decode cX5_goesOn 220 = .ok (.aload_n 0, 1) := dk_42 (dk_at dksX5_goesOn_9 16 rfl rfl)
theorem dX5_goesOn_221 : decode cX5_goesOn 221 = .ok (.getfield 233, 3) := dk_180 0 233 (dk_at dksX5_goesOn_9 17 rfl rfl)
theorem dX5_goesOn_224 : decode cX5_goesOn 224 = .ok (.putfield 233, 3) := dk_181 0 233 (dk_at dksX5_goesOn_9 20 rfl rfl)
theorem dX5_goesOn_227 : decode cX5_goesOn 227 = .ok (.aload_n 0, 1) := dk_42 (dk_at dksX5_goesOn_9 23 rfl rfl)
theorem dX5_goesOn_228 : decode cX5_goesOn 228 = .ok (.dup, 1) := dk_89 (dk_at dksX5_goesOn_10 0 rfl rfl)
theorem dX5_goesOn_229 : decode cX5_goesOn 229 = .ok (.getfield 217, 3) := dk_180 0 217 (dk_at dksX5_goesOn_10 1 rfl rfl)
theorem dX5_goesOn_232 : decode cX5_goesOn 232 = .ok (.iconst 1, 1) := dk_4 (dk_at dksX5_goesOn_10 4 rfl rfl)
theorem dX5_goesOn_233 : decode cX5_goesOn 233 = .ok (.iadd, 1) := dk_96 (dk_at dksX5_goesOn_10 5 rfl rfl)
theorem dX5_goesOn_234 : decode cX5_goesOn 234 = .ok (.putfield 217, 3) := dk_181 0 217 (dk_at dksX5_goesOn_10 6 rfl rfl)
theorem dX5_goesOn_237 : decode cX5_goesOn 237 = .ok (.goto (-65), 3) := dk_167 255 191 (dk_at dksX5_goesOn_10 9 rfl rfl)
theorem dX5_goesOn_240 : decode cX5_goesOn 240 = .ok (.aload_n 0, 1) := dk_42 (dk_at dksX5_goesOn_10 12 rfl rfl)
theorem dX5_goesOn_241 : decode cX5_goesOn 241 = .ok (.aload_n 0, 1) := dk_42 (dk_at dksX5_goesOn_10 13 rfl rfl)
theorem dX5_goesOn_242 : decode cX5_goesOn 242 = .ok (.getfield 217, 3) := dk_180 0 217 (dk_at dksX5_goesOn_10 14 rfl rfl)
theorem dX5_goesOn_245 : decode cX5_goesOn 245 = .ok (.aload_n 0, 1) := dk_42 (dk_at dksX5_goesOn_10 17 rfl rfl)
theorem dX5_goesOn_246 : decode cX5_goesOn 246 = .ok (.getfield 220, 3) := dk_180 0 220 (dk_at dksX5_goesOn_10 18 rfl rfl)
theorem dX5_goesOn_249 : decode cX5_goesOn 249 = .ok (.isub, 1) := dk_100 (dk_at dksX5_goesOn_10 21 rfl rfl)
theorem dX5_goesOn_250 : decode cX5_goesOn 250 = .ok (.iconst 3, 1) := dk_6 (dk_at dksX5_goesOn_10 22 rfl rfl)
theorem dX5_goesOn_251 : decode cX5_goesOn 251 = .ok (.if_icmp .le 7, 3) := dk_164 0 7 (dk_at dksX5_goesOn_11 0 rfl rfl)
theorem dX5_goesOn_254 : decode cX5_goesOn 254 = .ok (.iconst 4, 1) := dk_7 (dk_at dksX5_goesOn_11 3 rfl rfl)
theorem dX5_goesOn_255 : decode cX5_goesOn 255 = .ok (.goto 4, 3) := dk_167 0 4 (dk_at dksX5_goesOn_11 4 rfl rfl)
theorem dX5_goesOn_258 : decode cX5_goesOn 258 = .ok (.iconst 2, 1) := dk_5 (dk_at dksX5_goesOn_11 7 rfl rfl)
theorem dX5_goesOn_259 : decode cX5_goesOn 259 = .ok (.putfield 223, 3) := dk_181 0 223 (dk_at dksX5_goesOn_11 8 rfl rfl)
theorem dX5_goesOn_262 : decode cX5_goesOn 262 = .ok (.goto 36, 3) := dk_167 0 36 (dk_at dksX5_goesOn_11 11 rfl rfl)
theorem dX5_goesOn_265 : decode cX5_goesOn 265 = .ok (.aload_n 0, 1) := dk_42 (dk_at dksX5_goesOn_11 14 rfl rfl)
theorem dX5_goesOn_266 : decode cX5_goesOn 266 = .ok (.aload_n 0, 1) := dk_42 (dk_at dksX5_goesOn_11 15 rfl rfl)
theorem dX5_goesOn_267 : decode cX5_goesOn 267 = .ok (.getfield 31, 3) := dk_180 0 31 (dk_at dksX5_goesOn_11 16 rfl rfl)
theorem dX5_goesOn_270 : decode cX5_goesOn 270 = .ok (.aload_n 0, 1) := dk_42 (dk_at dksX5_goesOn_11 19 rfl rfl)
theorem dX5_goesOn_271 : decode cX5_goesOn 271 = .ok (.getfield 220, 3) := dk_180 0 220 (dk_at dksX5_goesOn_11 20 rfl rfl)
theorem dX5_goesOn_274 : decode cX5_goesOn 274 = .ok (.baload, 1) := dk_51 (dk_at dksX5_goesOn_11 23 rfl rfl)
theorem dX5_goesOn_275 : decode cX5_goesOn 275 = .ok (.bipush 59, 2) := dk_16 59 (dk_at dksX5_goesOn_12 0 rfl rfl)
theorem dX5_goesOn_277 : decode cX5_goesOn 277 = .ok (.if_icmp .ne 7, 3) := dk_160 0 7 (dk_at dksX5_goesOn_12 2 rfl rfl)
theorem dX5_goesOn_280 : decode cX5_goesOn 280 = .ok (.iconst 3, 1) := dk_6 (dk_at dksX5_goesOn_12 5 rfl rfl)
theorem dX5_goesOn_281 : decode cX5_goesOn 281 = .ok (.goto 4, 3) := dk_167 0 4 (dk_at dksX5_goesOn_12 6 rfl rfl)
theorem dX5_goesOn_284 : decode cX5_goesOn 284 = .ok (.iconst 4, 1) := dk_7 (dk_at dksX5_goesOn_12 9 rfl rfl)
theorem dX5_goesOn_285 : decode cX5_goesOn 285 = .ok (.putfield 223, 3) := dk_181 0 223 (dk_at dksX5_goesOn_12 10 rfl rfl)
theorem dX5_goesOn_288 : decode cX5_goesOn 288 = .ok (.aload_n 0, 1) := dk_42 (dk_at dksX5_goesOn_12 13 rfl rfl)
theorem dX5_goesOn_289 : decode cX5_goesOn 289 = .ok (.dup, 1) := dk_89 (dk_at dksX5_goesOn_12 14 rfl rfl)
theorem dX5_goesOn_290 : decode cX5_goesOn 290 = .ok (.getfield 217, 3) := dk_180 0 217 (dk_at dksX5_goesOn_12 15 rfl rfl)
theorem dX5_goesOn_293 : decode cX5_goesOn 293 = .ok (.iconst 1, 1) := dk_4 (dk_at dksX5_goesOn_12 18 rfl rfl)
theorem dX5_goesOn_294 : decode cX5_goesOn 294 = .ok (.iadd, 1) := dk_96 (dk_at dksX5_goesOn_12 19 rfl rfl)
theorem dX5_goesOn_295 : decode cX5_goesOn 295 = .ok (.putfield 217, 3) := dk_181 0 217 (dk_at dksX5_goesOn_12 20 rfl rfl)
theorem dX5_goesOn_298 : decode cX5_goesOn 298 = .ok (.return_, 1) := dk_177 (dk_at dksX5_goesOn_12 23 rfl rfl)
abbrev cX5_isLetter : ByteArray := prog_15_method_53_code
def yX5_isLetter : MethodName := ⟨RX5, "isLetter", "(I)Z"⟩
def dkwX5_isLetter_1 : List UInt8 := [153, 0, 7, 4, 167, 0, 4, 3, 172]
abbrev dktX5_isLetter_1 : List UInt8 := dkwX5_isLetter_1 ++ []
def dkwX5_isLetter_0 : List UInt8 := [27, 42, 180, 0, 193, 162, 0, 26, 42, 180, 0, 31, 27, 51, 133, 20, 0, 206, 20, 0, 208, 184, 0, 199]
abbrev dktX5_isLetter_0 : List UInt8 := dkwX5_isLetter_0 ++ dktX5_isLetter_1
theorem dksX5_isLetter_0 : cX5_isLetter.data.toList.drop 0 = dktX5_isLetter_0 := by decide +kernel
theorem dksX5_isLetter_1 : cX5_isLetter.data.toList.drop 24 = dktX5_isLetter_1 := dk_seg dksX5_isLetter_0 24 rfl rfl
theorem dX5_isLetter_0 : decode cX5_isLetter 0 = .ok (.iload_n 1, 1) := dk_27 (dk_at dksX5_isLetter_0 0 rfl rfl)
theorem dX5_isLetter_1 : decode cX5_isLetter 1 = .ok (.aload_n 0, 1) := dk_42 (dk_at dksX5_isLetter_0 1 rfl rfl)
theorem dX5_isLetter_2 : decode cX5_isLetter 2 = .ok (.getfield 193, 3) := dk_180 0 193 (dk_at dksX5_isLetter_0 2 rfl rfl)
theorem dX5_isLetter_5 : decode cX5_isLetter 5 = .ok (.if_icmp .ge 26, 3) := dk_162 0 26 (dk_at dksX5_isLetter_0 5 rfl rfl)
theorem dX5_isLetter_8 : decode cX5_isLetter 8 = .ok (.aload_n 0, 1) := dk_42 (dk_at dksX5_isLetter_0 8 rfl rfl)
theorem dX5_isLetter_9 : decode cX5_isLetter 9 = .ok (.getfield 31, 3) := dk_180 0 31 (dk_at dksX5_isLetter_0 9 rfl rfl)
theorem dX5_isLetter_12 : decode cX5_isLetter 12 = .ok (.iload_n 1, 1) := dk_27 (dk_at dksX5_isLetter_0 12 rfl rfl)
theorem dX5_isLetter_13 : decode cX5_isLetter 13 = .ok (.baload, 1) := dk_51 (dk_at dksX5_isLetter_0 13 rfl rfl)
theorem dX5_isLetter_14 : decode cX5_isLetter 14 = .ok (.i2l, 1) := dk_133 (dk_at dksX5_isLetter_0 14 rfl rfl)
theorem dX5_isLetter_15 : decode cX5_isLetter 15 = .ok (.ldc2_w 206, 3) := dk_20 0 206 (dk_at dksX5_isLetter_0 15 rfl rfl)
theorem dX5_isLetter_18 : decode cX5_isLetter 18 = .ok (.ldc2_w 208, 3) := dk_20 0 208 (dk_at dksX5_isLetter_0 18 rfl rfl)
theorem dX5_isLetter_21 : decode cX5_isLetter 21 = .ok (.invokestatic 199, 3) := dk_184 0 199 (dk_at dksX5_isLetter_0 21 rfl rfl)
theorem dX5_isLetter_24 : decode cX5_isLetter 24 = .ok (.ifCond .eq 7, 3) := dk_153 0 7 (dk_at dksX5_isLetter_1 0 rfl rfl)
theorem dX5_isLetter_27 : decode cX5_isLetter 27 = .ok (.iconst 1, 1) := dk_4 (dk_at dksX5_isLetter_1 3 rfl rfl)
theorem dX5_isLetter_28 : decode cX5_isLetter 28 = .ok (.goto 4, 3) := dk_167 0 4 (dk_at dksX5_isLetter_1 4 rfl rfl)
theorem dX5_isLetter_31 : decode cX5_isLetter 31 = .ok (.iconst 0, 1) := dk_3 (dk_at dksX5_isLetter_1 7 rfl rfl)
theorem dX5_isLetter_32 : decode cX5_isLetter 32 = .ok (.ireturn, 1) := dk_172 (dk_at dksX5_isLetter_1 8 rfl rfl)
abbrev cX5_isDigit : ByteArray := prog_15_method_54_code
def yX5_isDigit : MethodName := ⟨RX5, "isDigit", "(I)Z"⟩
def dkwX5_isDigit_1 : List UInt8 := [153, 0, 7, 4, 167, 0, 4, 3, 172]
abbrev dktX5_isDigit_1 : List UInt8 := dkwX5_isDigit_1 ++ []
def dkwX5_isDigit_0 : List UInt8 := [27, 42, 180, 0, 193, 162, 0, 26, 42, 180, 0, 31, 27, 51, 133, 20, 0, 210, 20, 0, 212, 184, 0, 199]
abbrev dktX5_isDigit_0 : List UInt8 := dkwX5_isDigit_0 ++ dktX5_isDigit_1
theorem dksX5_isDigit_0 : cX5_isDigit.data.toList.drop 0 = dktX5_isDigit_0 := by decide +kernel
theorem dksX5_isDigit_1 : cX5_isDigit.data.toList.drop 24 = dktX5_isDigit_1 := dk_seg dksX5_isDigit_0 24 rfl rfl
theorem dX5_isDigit_0 : decode cX5_isDigit 0 = .ok (.iload_n 1, 1) := dk_27 (dk_at dksX5_isDigit_0 0 rfl rfl)
theorem dX5_isDigit_1 : decode cX5_isDigit 1 = .ok (.aload_n 0, 1) := dk_42 (dk_at dksX5_isDigit_0 1 rfl rfl)
theorem dX5_isDigit_2 : decode cX5_isDigit 2 = .ok (.getfield 193, 3) := dk_180 0 193 (dk_at dksX5_isDigit_0 2 rfl rfl)
theorem dX5_isDigit_5 : decode cX5_isDigit 5 = .ok (.if_icmp .ge 26, 3) := dk_162 0 26 (dk_at dksX5_isDigit_0 5 rfl rfl)
theorem dX5_isDigit_8 : decode cX5_isDigit 8 = .ok (.aload_n 0, 1) := dk_42 (dk_at dksX5_isDigit_0 8 rfl rfl)
theorem dX5_isDigit_9 : decode cX5_isDigit 9 = .ok (.getfield 31, 3) := dk_180 0 31 (dk_at dksX5_isDigit_0 9 rfl rfl)
theorem dX5_isDigit_12 : decode cX5_isDigit 12 = .ok (.iload_n 1, 1) := dk_27 (dk_at dksX5_isDigit_0 12 rfl rfl)
theorem dX5_isDigit_13 : decode cX5_isDigit 13 = .ok (.baload, 1) := dk_51 (dk_at dksX5_isDigit_0 13 rfl rfl)
theorem dX5_isDigit_14 : decode cX5_isDigit 14 = .ok (.i2l, 1) := dk_133 (dk_at dksX5_isDigit_0 14 rfl rfl)
theorem dX5_isDigit_15 : decode cX5_isDigit 15 = .ok (.ldc2_w 210, 3) := dk_20 0 210 (dk_at dksX5_isDigit_0 15 rfl rfl)
theorem dX5_isDigit_18 : decode cX5_isDigit 18 = .ok (.ldc2_w 212, 3) := dk_20 0 212 (dk_at dksX5_isDigit_0 18 rfl rfl)
theorem dX5_isDigit_21 : decode cX5_isDigit 21 = .ok (.invokestatic 199, 3) := dk_184 0 199 (dk_at dksX5_isDigit_0 21 rfl rfl)
theorem dX5_isDigit_24 : decode cX5_isDigit 24 = .ok (.ifCond .eq 7, 3) := dk_153 0 7 (dk_at dksX5_isDigit_1 0 rfl rfl)
theorem dX5_isDigit_27 : decode cX5_isDigit 27 = .ok (.iconst 1, 1) := dk_4 (dk_at dksX5_isDigit_1 3 rfl rfl)
theorem dX5_isDigit_28 : decode cX5_isDigit 28 = .ok (.goto 4, 3) := dk_167 0 4 (dk_at dksX5_isDigit_1 4 rfl rfl)
theorem dX5_isDigit_31 : decode cX5_isDigit 31 = .ok (.iconst 0, 1) := dk_3 (dk_at dksX5_isDigit_1 7 rfl rfl)
theorem dX5_isDigit_32 : decode cX5_isDigit 32 = .ok (.ireturn, 1) := dk_172 (dk_at dksX5_isDigit_1 8 rfl rfl)
abbrev cX5_readsStatement : ByteArray := prog_15_method_70_code
def yX5_readsStatement : MethodName := ⟨RX5, "readsStatement", "()V"⟩
def dkwX5_readsStatement_1 : List UInt8 := [153, 0, 10, 42, 182, 1, 34, 167, 0, 7, 42, 182, 1, 37, 42, 182, 1, 40, 177]
abbrev dktX5_readsStatement_1 : List UInt8 := dkwX5_readsStatement_1 ++ []
def dkwX5_readsStatement_0 : List UInt8 := [42, 19, 1, 27, 182, 1, 4, 153, 0, 10, 42, 182, 1, 29, 167, 0, 24, 42, 19, 1, 32, 182, 1, 4]
abbrev dktX5_readsStatement_0 : List UInt8 := dkwX5_readsStatement_0 ++ dktX5_readsStatement_1
theorem dksX5_readsStatement_0 : cX5_readsStatement.data.toList.drop 0 = dktX5_readsStatement_0 := by decide +kernel
theorem dksX5_readsStatement_1 : cX5_readsStatement.data.toList.drop 24 = dktX5_readsStatement_1 := dk_seg dksX5_readsStatement_0 24 rfl rfl
theorem dX5_readsStatement_0 : decode cX5_readsStatement 0 = .ok (.aload_n 0, 1) := dk_42 (dk_at dksX5_readsStatement_0 0 rfl rfl)
theorem dX5_readsStatement_1 : decode cX5_readsStatement 1 = .ok (.ldc_w 283, 3) := dk_19 1 27 (dk_at dksX5_readsStatement_0 1 rfl rfl)
theorem dX5_readsStatement_4 : decode cX5_readsStatement 4 = .ok (.invokevirtual 260, 3) := dk_182 1 4 (dk_at dksX5_readsStatement_0 4 rfl rfl)
theorem dX5_readsStatement_7 : decode cX5_readsStatement 7 = .ok (.ifCond .eq 10, 3) := dk_153 0 10 (dk_at dksX5_readsStatement_0 7 rfl rfl)
theorem dX5_readsStatement_10 : decode cX5_readsStatement 10 = .ok (.aload_n 0, 1) := dk_42 (dk_at dksX5_readsStatement_0 10 rfl rfl)
theorem dX5_readsStatement_11 : decode cX5_readsStatement 11 = .ok (.invokevirtual 285, 3) := dk_182 1 29 (dk_at dksX5_readsStatement_0 11 rfl rfl)
theorem dX5_readsStatement_14 : decode cX5_readsStatement 14 = .ok (.goto 24, 3) := dk_167 0 24 (dk_at dksX5_readsStatement_0 14 rfl rfl)
theorem dX5_readsStatement_17 : decode cX5_readsStatement 17 = .ok (.aload_n 0, 1) := dk_42 (dk_at dksX5_readsStatement_0 17 rfl rfl)
theorem dX5_readsStatement_18 : decode cX5_readsStatement 18 = .ok (.ldc_w 288, 3) := dk_19 1 32 (dk_at dksX5_readsStatement_0 18 rfl rfl)
theorem dX5_readsStatement_21 : decode cX5_readsStatement 21 = .ok (.invokevirtual 260, 3) := dk_182 1 4 (dk_at dksX5_readsStatement_0 21 rfl rfl)
theorem dX5_readsStatement_24 : decode cX5_readsStatement 24 = .ok (.ifCond .eq 10, 3) := dk_153 0 10 (dk_at dksX5_readsStatement_1 0 rfl rfl)
theorem dX5_readsStatement_27 : decode cX5_readsStatement 27 = .ok (.aload_n 0, 1) := dk_42 (dk_at dksX5_readsStatement_1 3 rfl rfl)
theorem dX5_readsStatement_28 : decode cX5_readsStatement 28 = .ok (.invokevirtual 290, 3) := dk_182 1 34 (dk_at dksX5_readsStatement_1 4 rfl rfl)
theorem dX5_readsStatement_31 : decode cX5_readsStatement 31 = .ok (.goto 7, 3) := dk_167 0 7 (dk_at dksX5_readsStatement_1 7 rfl rfl)
theorem dX5_readsStatement_34 : decode cX5_readsStatement 34 = .ok (.aload_n 0, 1) := dk_42 (dk_at dksX5_readsStatement_1 10 rfl rfl)
theorem dX5_readsStatement_35 : decode cX5_readsStatement 35 = .ok (.invokevirtual 293, 3) := dk_182 1 37 (dk_at dksX5_readsStatement_1 11 rfl rfl)
theorem dX5_readsStatement_38 : decode cX5_readsStatement 38 = .ok (.aload_n 0, 1) := dk_42 (dk_at dksX5_readsStatement_1 14 rfl rfl)
theorem dX5_readsStatement_39 : decode cX5_readsStatement 39 = .ok (.invokevirtual 296, 3) := dk_182 1 40 (dk_at dksX5_readsStatement_1 15 rfl rfl)
theorem dX5_readsStatement_42 : decode cX5_readsStatement 42 = .ok (.return_, 1) := dk_177 (dk_at dksX5_readsStatement_1 18 rfl rfl)
abbrev cX5_isWord : ByteArray := prog_15_method_59_code
def yX5_isWord : MethodName := ⟨RX5, "isWord", "(Ljava/lang/String;)Z"⟩
def dkwX5_isWord_2 : List UInt8 := [180, 0, 220, 28, 96, 51, 43, 28, 182, 0, 66, 159, 0, 5, 3, 172, 132, 2, 1, 167, 255, 224, 4, 172]
abbrev dktX5_isWord_2 : List UInt8 := dkwX5_isWord_2 ++ []
def dkwX5_isWord_1 : List UInt8 := [43, 182, 0, 57, 159, 0, 5, 3, 172, 3, 61, 28, 43, 182, 0, 57, 162, 0, 30, 42, 180, 0, 31, 42]
abbrev dktX5_isWord_1 : List UInt8 := dkwX5_isWord_1 ++ dktX5_isWord_2
def dkwX5_isWord_0 : List UInt8 := [42, 180, 0, 214, 157, 0, 27, 42, 180, 0, 223, 4, 160, 0, 19, 42, 180, 0, 217, 42, 180, 0, 220, 100]
abbrev dktX5_isWord_0 : List UInt8 := dkwX5_isWord_0 ++ dktX5_isWord_1
theorem dksX5_isWord_0 : cX5_isWord.data.toList.drop 0 = dktX5_isWord_0 := by decide +kernel
theorem dksX5_isWord_1 : cX5_isWord.data.toList.drop 24 = dktX5_isWord_1 := dk_seg dksX5_isWord_0 24 rfl rfl
theorem dksX5_isWord_2 : cX5_isWord.data.toList.drop 48 = dktX5_isWord_2 := dk_seg dksX5_isWord_1 24 rfl rfl
theorem dX5_isWord_0 : decode cX5_isWord 0 = .ok (.aload_n 0, 1) := dk_42 (dk_at dksX5_isWord_0 0 rfl rfl)
theorem dX5_isWord_1 : decode cX5_isWord 1 = .ok (.getfield 214, 3) := dk_180 0 214 (dk_at dksX5_isWord_0 1 rfl rfl)
theorem dX5_isWord_4 : decode cX5_isWord 4 = .ok (.ifCond .gt 27, 3) := dk_157 0 27 (dk_at dksX5_isWord_0 4 rfl rfl)
theorem dX5_isWord_7 : decode cX5_isWord 7 = .ok (.aload_n 0, 1) := dk_42 (dk_at dksX5_isWord_0 7 rfl rfl)
theorem dX5_isWord_8 : decode cX5_isWord 8 = .ok (.getfield 223, 3) := dk_180 0 223 (dk_at dksX5_isWord_0 8 rfl rfl)
theorem dX5_isWord_11 : decode cX5_isWord 11 = .ok (.iconst 1, 1) := dk_4 (dk_at dksX5_isWord_0 11 rfl rfl)
theorem dX5_isWord_12 : decode cX5_isWord 12 = .ok (.if_icmp .ne 19, 3) := dk_160 0 19 (dk_at dksX5_isWord_0 12 rfl rfl)
theorem dX5_isWord_15 : decode cX5_isWord 15 = .ok (.aload_n 0, 1) := dk_42 (dk_at dksX5_isWord_0 15 rfl rfl)
theorem dX5_isWord_16 : decode cX5_isWord 16 = .ok (.getfield 217, 3) := dk_180 0 217 (dk_at dksX5_isWord_0 16 rfl rfl)
theorem dX5_isWord_19 : decode cX5_isWord 19 = .ok (.aload_n 0, 1) := dk_42 (dk_at dksX5_isWord_0 19 rfl rfl)
theorem dX5_isWord_20 : decode cX5_isWord 20 = .ok (.getfield 220, 3) := dk_180 0 220 (dk_at dksX5_isWord_0 20 rfl rfl)
theorem dX5_isWord_23 : decode cX5_isWord 23 = .ok (.isub, 1) := dk_100 (dk_at dksX5_isWord_0 23 rfl rfl)
theorem dX5_isWord_24 : decode cX5_isWord 24 = .ok (.aload_n 1, 1) := dk_43 (dk_at dksX5_isWord_1 0 rfl rfl)
theorem dX5_isWord_25 : decode cX5_isWord 25 = .ok (.invokevirtual 57, 3) := dk_182 0 57 (dk_at dksX5_isWord_1 1 rfl rfl)
theorem dX5_isWord_28 : decode cX5_isWord 28 = .ok (.if_icmp .eq 5, 3) := dk_159 0 5 (dk_at dksX5_isWord_1 4 rfl rfl)
theorem dX5_isWord_31 : decode cX5_isWord 31 = .ok (.iconst 0, 1) := dk_3 (dk_at dksX5_isWord_1 7 rfl rfl)
theorem dX5_isWord_32 : decode cX5_isWord 32 = .ok (.ireturn, 1) := dk_172 (dk_at dksX5_isWord_1 8 rfl rfl)
theorem dX5_isWord_33 : decode cX5_isWord 33 = .ok (.iconst 0, 1) := dk_3 (dk_at dksX5_isWord_1 9 rfl rfl)
theorem dX5_isWord_34 : decode cX5_isWord 34 = .ok (.istore_n 2, 1) := dk_61 (dk_at dksX5_isWord_1 10 rfl rfl)
theorem dX5_isWord_35 : decode cX5_isWord 35 = .ok (.iload_n 2, 1) := dk_28 (dk_at dksX5_isWord_1 11 rfl rfl)
theorem dX5_isWord_36 : decode cX5_isWord 36 = .ok (.aload_n 1, 1) := dk_43 (dk_at dksX5_isWord_1 12 rfl rfl)
theorem dX5_isWord_37 : decode cX5_isWord 37 = .ok (.invokevirtual 57, 3) := dk_182 0 57 (dk_at dksX5_isWord_1 13 rfl rfl)
theorem dX5_isWord_40 : decode cX5_isWord 40 = .ok (.if_icmp .ge 30, 3) := dk_162 0 30 (dk_at dksX5_isWord_1 16 rfl rfl)
theorem dX5_isWord_43 : decode cX5_isWord 43 = .ok (.aload_n 0, 1) := dk_42 (dk_at dksX5_isWord_1 19 rfl rfl)
theorem dX5_isWord_44 : decode cX5_isWord 44 = .ok (.getfield 31, 3) := dk_180 0 31 (dk_at dksX5_isWord_1 20 rfl rfl)
theorem dX5_isWord_47 : decode cX5_isWord 47 = .ok (.aload_n 0, 1) := dk_42 (dk_at dksX5_isWord_1 23 rfl rfl)
theorem dX5_isWord_48 : decode cX5_isWord 48 = .ok (.getfield 220, 3) := dk_180 0 220 (dk_at dksX5_isWord_2 0 rfl rfl)
theorem dX5_isWord_51 : decode cX5_isWord 51 = .ok (.iload_n 2, 1) := dk_28 (dk_at dksX5_isWord_2 3 rfl rfl)
theorem dX5_isWord_52 : decode cX5_isWord 52 = .ok (.iadd, 1) := dk_96 (dk_at dksX5_isWord_2 4 rfl rfl)
theorem dX5_isWord_53 : decode cX5_isWord 53 = .ok (.baload, 1) := dk_51 (dk_at dksX5_isWord_2 5 rfl rfl)
theorem dX5_isWord_54 : decode cX5_isWord 54 = .ok (.aload_n 1, 1) := dk_43 (dk_at dksX5_isWord_2 6 rfl rfl)
theorem dX5_isWord_55 : decode cX5_isWord 55 = .ok (.iload_n 2, 1) := dk_28 (dk_at dksX5_isWord_2 7 rfl rfl)
theorem dX5_isWord_56 : decode cX5_isWord 56 = .ok (.invokevirtual 66, 3) := dk_182 0 66 (dk_at dksX5_isWord_2 8 rfl rfl)
theorem dX5_isWord_59 : decode cX5_isWord 59 = .ok (.if_icmp .eq 5, 3) := dk_159 0 5 (dk_at dksX5_isWord_2 11 rfl rfl)
theorem dX5_isWord_62 : decode cX5_isWord 62 = .ok (.iconst 0, 1) := dk_3 (dk_at dksX5_isWord_2 14 rfl rfl)
theorem dX5_isWord_63 : decode cX5_isWord 63 = .ok (.ireturn, 1) := dk_172 (dk_at dksX5_isWord_2 15 rfl rfl)
theorem dX5_isWord_64 : decode cX5_isWord 64 = .ok (.iinc 2 1, 3) := dk_132 2 1 (dk_at dksX5_isWord_2 16 rfl rfl)
theorem dX5_isWord_67 : decode cX5_isWord 67 = .ok (.goto (-32), 3) := dk_167 255 224 (dk_at dksX5_isWord_2 19 rfl rfl)
theorem dX5_isWord_70 : decode cX5_isWord 70 = .ok (.iconst 1, 1) := dk_4 (dk_at dksX5_isWord_2 22 rfl rfl)
theorem dX5_isWord_71 : decode cX5_isWord 71 = .ok (.ireturn, 1) := dk_172 (dk_at dksX5_isWord_2 23 rfl rfl)
abbrev cX5_readsRoof : ByteArray := prog_15_method_67_code
def yX5_readsRoof : MethodName := ⟨RX5, "readsRoof", "()V"⟩
def dkwX5_readsRoof_4 : List UInt8 := [180, 0, 214, 154, 0, 12, 42, 27, 28, 29, 21, 4, 182, 0, 70, 177]
abbrev dktX5_readsRoof_4 : List UInt8 := dkwX5_readsRoof_4 ++ []
def dkwX5_readsRoof_3 : List UInt8 := [182, 1, 12, 61, 42, 3, 16, 9, 182, 1, 12, 62, 42, 3, 17, 3, 231, 182, 1, 12, 54, 4, 42]
abbrev dktX5_readsRoof_3 : List UInt8 := dkwX5_readsRoof_3 ++ dktX5_readsRoof_4
def dkwX5_readsRoof_2 : List UInt8 := [167, 0, 4, 3, 6, 182, 0, 242, 42, 182, 0, 239, 42, 4, 16, 8, 182, 1, 12, 60, 42, 3, 16, 9]
abbrev dktX5_readsRoof_2 : List UInt8 := dkwX5_readsRoof_2 ++ dktX5_readsRoof_3
def dkwX5_readsRoof_1 : List UInt8 := [182, 0, 239, 42, 182, 0, 249, 42, 42, 180, 0, 214, 157, 0, 11, 42, 182, 0, 252, 2, 160, 0, 7, 4]
abbrev dktX5_readsRoof_1 : List UInt8 := dkwX5_readsRoof_1 ++ dktX5_readsRoof_2
def dkwX5_readsRoof_0 : List UInt8 := [42, 42, 180, 0, 9, 3, 46, 16, 10, 162, 0, 7, 4, 167, 0, 4, 3, 8, 182, 0, 242, 42]
abbrev dktX5_readsRoof_0 : List UInt8 := dkwX5_readsRoof_0 ++ dktX5_readsRoof_1
theorem dksX5_readsRoof_0 : cX5_readsRoof.data.toList.drop 0 = dktX5_readsRoof_0 := by decide +kernel
theorem dksX5_readsRoof_1 : cX5_readsRoof.data.toList.drop 22 = dktX5_readsRoof_1 := dk_seg dksX5_readsRoof_0 22 rfl rfl
theorem dksX5_readsRoof_2 : cX5_readsRoof.data.toList.drop 46 = dktX5_readsRoof_2 := dk_seg dksX5_readsRoof_1 24 rfl rfl
theorem dksX5_readsRoof_3 : cX5_readsRoof.data.toList.drop 70 = dktX5_readsRoof_3 := dk_seg dksX5_readsRoof_2 24 rfl rfl
theorem dksX5_readsRoof_4 : cX5_readsRoof.data.toList.drop 93 = dktX5_readsRoof_4 := dk_seg dksX5_readsRoof_3 23 rfl rfl
theorem dX5_readsRoof_0 : decode cX5_readsRoof 0 = .ok (.aload_n 0, 1) := dk_42 (dk_at dksX5_readsRoof_0 0 rfl rfl)
theorem dX5_readsRoof_1 : decode cX5_readsRoof 1 = .ok (.aload_n 0, 1) := dk_42 (dk_at dksX5_readsRoof_0 1 rfl rfl)
theorem dX5_readsRoof_2 : decode cX5_readsRoof 2 = .ok (.getfield 9, 3) := dk_180 0 9 (dk_at dksX5_readsRoof_0 2 rfl rfl)
theorem dX5_readsRoof_5 : decode cX5_readsRoof 5 = .ok (.iconst 0, 1) := dk_3 (dk_at dksX5_readsRoof_0 5 rfl rfl)
theorem dX5_readsRoof_6 : decode cX5_readsRoof 6 = .ok (.iaload, 1) := dk_46 (dk_at dksX5_readsRoof_0 6 rfl rfl)
theorem dX5_readsRoof_7 : decode cX5_readsRoof 7 = .ok (.bipush 10, 2) := dk_16 10 (dk_at dksX5_readsRoof_0 7 rfl rfl)
theorem dX5_readsRoof_9 : decode cX5_readsRoof 9 = .ok (.if_icmp .ge 7, 3) := dk_162 0 7 (dk_at dksX5_readsRoof_0 9 rfl rfl)
theorem dX5_readsRoof_12 : decode cX5_readsRoof 12 = .ok (.iconst 1, 1) := dk_4 (dk_at dksX5_readsRoof_0 12 rfl rfl)
theorem dX5_readsRoof_13 : decode cX5_readsRoof 13 = .ok (.goto 4, 3) := dk_167 0 4 (dk_at dksX5_readsRoof_0 13 rfl rfl)
theorem dX5_readsRoof_16 : decode cX5_readsRoof 16 = .ok (.iconst 0, 1) := dk_3 (dk_at dksX5_readsRoof_0 16 rfl rfl)
theorem dX5_readsRoof_17 : decode cX5_readsRoof 17 = .ok (.iconst 5, 1) := dk_8 (dk_at dksX5_readsRoof_0 17 rfl rfl)
theorem dX5_readsRoof_18 : decode cX5_readsRoof 18 = .ok (.invokevirtual 242, 3) := dk_182 0 242 (dk_at dksX5_readsRoof_0 18 rfl rfl)
theorem dX5_readsRoof_21 : decode cX5_readsRoof 21 = .ok (.aload_n 0, 1) := dk_42 (dk_at dksX5_readsRoof_0 21 rfl rfl)
theorem dX5_readsRoof_22 : decode cX5_readsRoof 22 = .ok (.invokevirtual 239, 3) := dk_182 0 239 (dk_at dksX5_readsRoof_1 0 rfl rfl)
theorem dX5_readsRoof_25 : decode cX5_readsRoof 25 = .ok (.aload_n 0, 1) := dk_42 (dk_at dksX5_readsRoof_1 3 rfl rfl)
theorem dX5_readsRoof_26 : decode cX5_readsRoof 26 = .ok (.invokevirtual 249, 3) := dk_182 0 249 (dk_at dksX5_readsRoof_1 4 rfl rfl)
theorem dX5_readsRoof_29 : decode cX5_readsRoof 29 = .ok (.aload_n 0, 1) := dk_42 (dk_at dksX5_readsRoof_1 7 rfl rfl)
theorem dX5_readsRoof_30 : decode cX5_readsRoof 30 = .ok (.aload_n 0, 1) := dk_42 (dk_at dksX5_readsRoof_1 8 rfl rfl)
theorem dX5_readsRoof_31 : decode cX5_readsRoof 31 = .ok (.getfield 214, 3) := dk_180 0 214 (dk_at dksX5_readsRoof_1 9 rfl rfl)
theorem dX5_readsRoof_34 : decode cX5_readsRoof 34 = .ok (.ifCond .gt 11, 3) := dk_157 0 11 (dk_at dksX5_readsRoof_1 12 rfl rfl)
theorem dX5_readsRoof_37 : decode cX5_readsRoof 37 = .ok (.aload_n 0, 1) := dk_42 (dk_at dksX5_readsRoof_1 15 rfl rfl)
theorem dX5_readsRoof_38 : decode cX5_readsRoof 38 = .ok (.invokevirtual 252, 3) := dk_182 0 252 (dk_at dksX5_readsRoof_1 16 rfl rfl)
theorem dX5_readsRoof_41 : decode cX5_readsRoof 41 = .ok (.iconst (-1), 1) := dk_2 (dk_at dksX5_readsRoof_1 19 rfl rfl)
theorem dX5_readsRoof_42 : decode cX5_readsRoof 42 = .ok (.if_icmp .ne 7, 3) := dk_160 0 7 (dk_at dksX5_readsRoof_1 20 rfl rfl)
theorem dX5_readsRoof_45 : decode cX5_readsRoof 45 = .ok (.iconst 1, 1) := dk_4 (dk_at dksX5_readsRoof_1 23 rfl rfl)
theorem dX5_readsRoof_46 : decode cX5_readsRoof 46 = .ok (.goto 4, 3) := dk_167 0 4 (dk_at dksX5_readsRoof_2 0 rfl rfl)
theorem dX5_readsRoof_49 : decode cX5_readsRoof 49 = .ok (.iconst 0, 1) := dk_3 (dk_at dksX5_readsRoof_2 3 rfl rfl)
theorem dX5_readsRoof_50 : decode cX5_readsRoof 50 = .ok (.iconst 3, 1) := dk_6 (dk_at dksX5_readsRoof_2 4 rfl rfl)
theorem dX5_readsRoof_51 : decode cX5_readsRoof 51 = .ok (.invokevirtual 242, 3) := dk_182 0 242 (dk_at dksX5_readsRoof_2 5 rfl rfl)
theorem dX5_readsRoof_54 : decode cX5_readsRoof 54 = .ok (.aload_n 0, 1) := dk_42 (dk_at dksX5_readsRoof_2 8 rfl rfl)
theorem dX5_readsRoof_55 : decode cX5_readsRoof 55 = .ok (.invokevirtual 239, 3) := dk_182 0 239 (dk_at dksX5_readsRoof_2 9 rfl rfl)
theorem dX5_readsRoof_58 : decode cX5_readsRoof 58 = .ok (.aload_n 0, 1) := dk_42 (dk_at dksX5_readsRoof_2 12 rfl rfl)
theorem dX5_readsRoof_59 : decode cX5_readsRoof 59 = .ok (.iconst 1, 1) := dk_4 (dk_at dksX5_readsRoof_2 13 rfl rfl)
theorem dX5_readsRoof_60 : decode cX5_readsRoof 60 = .ok (.bipush 8, 2) := dk_16 8 (dk_at dksX5_readsRoof_2 14 rfl rfl)
theorem dX5_readsRoof_62 : decode cX5_readsRoof 62 = .ok (.invokevirtual 268, 3) := dk_182 1 12 (dk_at dksX5_readsRoof_2 16 rfl rfl)
theorem dX5_readsRoof_65 : decode cX5_readsRoof 65 = .ok (.istore_n 1, 1) := dk_60 (dk_at dksX5_readsRoof_2 19 rfl rfl)
theorem dX5_readsRoof_66 : decode cX5_readsRoof 66 = .ok (.aload_n 0, 1) := dk_42 (dk_at dksX5_readsRoof_2 20 rfl rfl)
theorem dX5_readsRoof_67 : decode cX5_readsRoof 67 = .ok (.iconst 0, 1) := dk_3 (dk_at dksX5_readsRoof_2 21 rfl rfl)
theorem dX5_readsRoof_68 : decode cX5_readsRoof 68 = .ok (.bipush 9, 2) := dk_16 9 (dk_at dksX5_readsRoof_2 22 rfl rfl)
theorem dX5_readsRoof_70 : decode cX5_readsRoof 70 = .ok (.invokevirtual 268, 3) := dk_182 1 12 (dk_at dksX5_readsRoof_3 0 rfl rfl)
theorem dX5_readsRoof_73 : decode cX5_readsRoof 73 = .ok (.istore_n 2, 1) := dk_61 (dk_at dksX5_readsRoof_3 3 rfl rfl)
theorem dX5_readsRoof_74 : decode cX5_readsRoof 74 = .ok (.aload_n 0, 1) := dk_42 (dk_at dksX5_readsRoof_3 4 rfl rfl)
theorem dX5_readsRoof_75 : decode cX5_readsRoof 75 = .ok (.iconst 0, 1) := dk_3 (dk_at dksX5_readsRoof_3 5 rfl rfl)
theorem dX5_readsRoof_76 : decode cX5_readsRoof 76 = .ok (.bipush 9, 2) := dk_16 9 (dk_at dksX5_readsRoof_3 6 rfl rfl)
theorem dX5_readsRoof_78 : decode cX5_readsRoof 78 = .ok (.invokevirtual 268, 3) := dk_182 1 12 (dk_at dksX5_readsRoof_3 8 rfl rfl)
theorem dX5_readsRoof_81 : decode cX5_readsRoof 81 = .ok (.istore_n 3, 1) := dk_62 (dk_at dksX5_readsRoof_3 11 rfl rfl)
theorem dX5_readsRoof_82 : decode cX5_readsRoof 82 = .ok (.aload_n 0, 1) := dk_42 (dk_at dksX5_readsRoof_3 12 rfl rfl)
theorem dX5_readsRoof_83 : decode cX5_readsRoof 83 = .ok (.iconst 0, 1) := dk_3 (dk_at dksX5_readsRoof_3 13 rfl rfl)
theorem dX5_readsRoof_84 : decode cX5_readsRoof 84 = .ok (.sipush 999, 3) := dk_17 3 231 (dk_at dksX5_readsRoof_3 14 rfl rfl)
theorem dX5_readsRoof_87 : decode cX5_readsRoof 87 = .ok (.invokevirtual 268, 3) := dk_182 1 12 (dk_at dksX5_readsRoof_3 17 rfl rfl)
theorem dX5_readsRoof_90 : decode cX5_readsRoof 90 = .ok (.istore 4, 2) := dk_54 4 (dk_at dksX5_readsRoof_3 20 rfl rfl)
theorem dX5_readsRoof_92 : decode cX5_readsRoof 92 = .ok (.aload_n 0, 1) := dk_42 (dk_at dksX5_readsRoof_3 22 rfl rfl)
theorem dX5_readsRoof_93 : decode cX5_readsRoof 93 = .ok (.getfield 214, 3) := dk_180 0 214 (dk_at dksX5_readsRoof_4 0 rfl rfl)
theorem dX5_readsRoof_96 : decode cX5_readsRoof 96 = .ok (.ifCond .ne 12, 3) := dk_154 0 12 (dk_at dksX5_readsRoof_4 3 rfl rfl)
theorem dX5_readsRoof_99 : decode cX5_readsRoof 99 = .ok (.aload_n 0, 1) := dk_42 (dk_at dksX5_readsRoof_4 6 rfl rfl)
theorem dX5_readsRoof_100 : decode cX5_readsRoof 100 = .ok (.iload_n 1, 1) := dk_27 (dk_at dksX5_readsRoof_4 7 rfl rfl)
theorem dX5_readsRoof_101 : decode cX5_readsRoof 101 = .ok (.iload_n 2, 1) := dk_28 (dk_at dksX5_readsRoof_4 8 rfl rfl)
theorem dX5_readsRoof_102 : decode cX5_readsRoof 102 = .ok (.iload_n 3, 1) := dk_29 (dk_at dksX5_readsRoof_4 9 rfl rfl)
theorem dX5_readsRoof_103 : decode cX5_readsRoof 103 = .ok (.iload 4, 2) := dk_21 4 (dk_at dksX5_readsRoof_4 10 rfl rfl)
theorem dX5_readsRoof_105 : decode cX5_readsRoof 105 = .ok (.invokevirtual 70, 3) := dk_182 0 70 (dk_at dksX5_readsRoof_4 12 rfl rfl)
theorem dX5_readsRoof_108 : decode cX5_readsRoof 108 = .ok (.return_, 1) := dk_177 (dk_at dksX5_readsRoof_4 15 rfl rfl)
abbrev cX5_need : ByteArray := prog_15_method_56_code
def yX5_need : MethodName := ⟨RX5, "need", "(ZI)V"⟩
def dkwX5_need_1 : List UInt8 := [177]
abbrev dktX5_need_1 : List UInt8 := dkwX5_need_1 ++ []
def dkwX5_need_0 : List UInt8 := [42, 180, 0, 214, 154, 0, 20, 27, 154, 0, 16, 42, 28, 181, 0, 214, 42, 42, 180, 0, 220, 181, 0, 236]
abbrev dktX5_need_0 : List UInt8 := dkwX5_need_0 ++ dktX5_need_1
theorem dksX5_need_0 : cX5_need.data.toList.drop 0 = dktX5_need_0 := by decide +kernel
theorem dksX5_need_1 : cX5_need.data.toList.drop 24 = dktX5_need_1 := dk_seg dksX5_need_0 24 rfl rfl
theorem dX5_need_0 : decode cX5_need 0 = .ok (.aload_n 0, 1) := dk_42 (dk_at dksX5_need_0 0 rfl rfl)
theorem dX5_need_1 : decode cX5_need 1 = .ok (.getfield 214, 3) := dk_180 0 214 (dk_at dksX5_need_0 1 rfl rfl)
theorem dX5_need_4 : decode cX5_need 4 = .ok (.ifCond .ne 20, 3) := dk_154 0 20 (dk_at dksX5_need_0 4 rfl rfl)
theorem dX5_need_7 : decode cX5_need 7 = .ok (.iload_n 1, 1) := dk_27 (dk_at dksX5_need_0 7 rfl rfl)
theorem dX5_need_8 : decode cX5_need 8 = .ok (.ifCond .ne 16, 3) := dk_154 0 16 (dk_at dksX5_need_0 8 rfl rfl)
theorem dX5_need_11 : decode cX5_need 11 = .ok (.aload_n 0, 1) := dk_42 (dk_at dksX5_need_0 11 rfl rfl)
theorem dX5_need_12 : decode cX5_need 12 = .ok (.iload_n 2, 1) := dk_28 (dk_at dksX5_need_0 12 rfl rfl)
theorem dX5_need_13 : decode cX5_need 13 = .ok (.putfield 214, 3) := dk_181 0 214 (dk_at dksX5_need_0 13 rfl rfl)
theorem dX5_need_16 : decode cX5_need 16 = .ok (.aload_n 0, 1) := dk_42 (dk_at dksX5_need_0 16 rfl rfl)
theorem dX5_need_17 : decode cX5_need 17 = .ok (.aload_n 0, 1) := dk_42 (dk_at dksX5_need_0 17 rfl rfl)
theorem dX5_need_18 : decode cX5_need 18 = .ok (.getfield 220, 3) := dk_180 0 220 (dk_at dksX5_need_0 18 rfl rfl)
theorem dX5_need_21 : decode cX5_need 21 = .ok (.putfield 236, 3) := dk_181 0 236 (dk_at dksX5_need_0 21 rfl rfl)
theorem dX5_need_24 : decode cX5_need 24 = .ok (.return_, 1) := dk_177 (dk_at dksX5_need_1 0 rfl rfl)
abbrev cX5_spells : ByteArray := prog_15_method_63_code
def yX5_spells : MethodName := ⟨RX5, "spells", "()V"⟩
def dkwX5_spells_3 : List UInt8 := [180, 0, 31, 42, 180, 0, 220, 27, 96, 51, 79, 132, 1, 1, 167, 255, 228, 177]
abbrev dktX5_spells_3 : List UInt8 := dkwX5_spells_3 ++ []
def dkwX5_spells_2 : List UInt8 := [100, 167, 0, 4, 3, 181, 0, 63, 3, 60, 27, 42, 180, 0, 63, 162, 0, 26, 42, 180, 0, 22, 27, 42]
abbrev dktX5_spells_2 : List UInt8 := dkwX5_spells_2 ++ dktX5_spells_3
def dkwX5_spells_1 : List UInt8 := [167, 0, 4, 3, 4, 182, 0, 242, 42, 42, 180, 0, 214, 154, 0, 15, 42, 180, 0, 217, 42, 180, 0, 220]
abbrev dktX5_spells_1 : List UInt8 := dkwX5_spells_1 ++ dktX5_spells_2
def dkwX5_spells_0 : List UInt8 := [42, 42, 180, 0, 223, 4, 160, 0, 21, 42, 180, 0, 217, 42, 180, 0, 220, 100, 16, 6, 163, 0, 7, 4]
abbrev dktX5_spells_0 : List UInt8 := dkwX5_spells_0 ++ dktX5_spells_1
theorem dksX5_spells_0 : cX5_spells.data.toList.drop 0 = dktX5_spells_0 := by decide +kernel
theorem dksX5_spells_1 : cX5_spells.data.toList.drop 24 = dktX5_spells_1 := dk_seg dksX5_spells_0 24 rfl rfl
theorem dksX5_spells_2 : cX5_spells.data.toList.drop 48 = dktX5_spells_2 := dk_seg dksX5_spells_1 24 rfl rfl
theorem dksX5_spells_3 : cX5_spells.data.toList.drop 72 = dktX5_spells_3 := dk_seg dksX5_spells_2 24 rfl rfl
theorem dX5_spells_0 : decode cX5_spells 0 = .ok (.aload_n 0, 1) := dk_42 (dk_at dksX5_spells_0 0 rfl rfl)
theorem dX5_spells_1 : decode cX5_spells 1 = .ok (.aload_n 0, 1) := dk_42 (dk_at dksX5_spells_0 1 rfl rfl)
theorem dX5_spells_2 : decode cX5_spells 2 = .ok (.getfield 223, 3) := dk_180 0 223 (dk_at dksX5_spells_0 2 rfl rfl)
theorem dX5_spells_5 : decode cX5_spells 5 = .ok (.iconst 1, 1) := dk_4 (dk_at dksX5_spells_0 5 rfl rfl)
theorem dX5_spells_6 : decode cX5_spells 6 = .ok (.if_icmp .ne 21, 3) := dk_160 0 21 (dk_at dksX5_spells_0 6 rfl rfl)
theorem dX5_spells_9 : decode cX5_spells 9 = .ok (.aload_n 0, 1) := dk_42 (dk_at dksX5_spells_0 9 rfl rfl)
theorem dX5_spells_10 : decode cX5_spells 10 = .ok (.getfield 217, 3) := dk_180 0 217 (dk_at dksX5_spells_0 10 rfl rfl)
theorem dX5_spells_13 : decode cX5_spells 13 = .ok (.aload_n 0, 1) := dk_42 (dk_at dksX5_spells_0 13 rfl rfl)
theorem dX5_spells_14 : decode cX5_spells 14 = .ok (.getfield 220, 3) := dk_180 0 220 (dk_at dksX5_spells_0 14 rfl rfl)
theorem dX5_spells_17 : decode cX5_spells 17 = .ok (.isub, 1) := dk_100 (dk_at dksX5_spells_0 17 rfl rfl)
theorem dX5_spells_18 : decode cX5_spells 18 = .ok (.bipush 6, 2) := dk_16 6 (dk_at dksX5_spells_0 18 rfl rfl)
theorem dX5_spells_20 : decode cX5_spells 20 = .ok (.if_icmp .gt 7, 3) := dk_163 0 7 (dk_at dksX5_spells_0 20 rfl rfl)
theorem dX5_spells_23 : decode cX5_spells 23 = .ok (.iconst 1, 1) := dk_4 (dk_at dksX5_spells_0 23 rfl rfl)
theorem dX5_spells_24 : decode cX5_spells 24 = .ok (.goto 4, 3) := dk_167 0 4 (dk_at dksX5_spells_1 0 rfl rfl)
theorem dX5_spells_27 : decode cX5_spells 27 = .ok (.iconst 0, 1) := dk_3 (dk_at dksX5_spells_1 3 rfl rfl)
theorem dX5_spells_28 : decode cX5_spells 28 = .ok (.iconst 1, 1) := dk_4 (dk_at dksX5_spells_1 4 rfl rfl)
theorem dX5_spells_29 : decode cX5_spells 29 = .ok (.invokevirtual 242, 3) := dk_182 0 242 (dk_at dksX5_spells_1 5 rfl rfl)
theorem dX5_spells_32 : decode cX5_spells 32 = .ok (.aload_n 0, 1) := dk_42 (dk_at dksX5_spells_1 8 rfl rfl)
theorem dX5_spells_33 : decode cX5_spells 33 = .ok (.aload_n 0, 1) := dk_42 (dk_at dksX5_spells_1 9 rfl rfl)
theorem dX5_spells_34 : decode cX5_spells 34 = .ok (.getfield 214, 3) := dk_180 0 214 (dk_at dksX5_spells_1 10 rfl rfl)
theorem dX5_spells_37 : decode cX5_spells 37 = .ok (.ifCond .ne 15, 3) := dk_154 0 15 (dk_at dksX5_spells_1 13 rfl rfl)
theorem dX5_spells_40 : decode cX5_spells 40 = .ok (.aload_n 0, 1) := dk_42 (dk_at dksX5_spells_1 16 rfl rfl)
theorem dX5_spells_41 : decode cX5_spells 41 = .ok (.getfield 217, 3) := dk_180 0 217 (dk_at dksX5_spells_1 17 rfl rfl)
theorem dX5_spells_44 : decode cX5_spells 44 = .ok (.aload_n 0, 1) := dk_42 (dk_at dksX5_spells_1 20 rfl rfl)
theorem dX5_spells_45 : decode cX5_spells 45 = .ok (.getfield 220, 3) := dk_180 0 220 (dk_at dksX5_spells_1 21 rfl rfl)
theorem dX5_spells_48 : decode cX5_spells 48 = .ok (.isub, 1) := dk_100 (dk_at dksX5_spells_2 0 rfl rfl)
theorem dX5_spells_49 : decode cX5_spells 49 = .ok (.goto 4, 3) := dk_167 0 4 (dk_at dksX5_spells_2 1 rfl rfl)
theorem dX5_spells_52 : decode cX5_spells 52 = .ok (.iconst 0, 1) := dk_3 (dk_at dksX5_spells_2 4 rfl rfl)
theorem dX5_spells_53 : decode cX5_spells 53 = .ok (.putfield 63, 3) := dk_181 0 63 (dk_at dksX5_spells_2 5 rfl rfl)
theorem dX5_spells_56 : decode cX5_spells 56 = .ok (.iconst 0, 1) := dk_3 (dk_at dksX5_spells_2 8 rfl rfl)
theorem dX5_spells_57 : decode cX5_spells 57 = .ok (.istore_n 1, 1) := dk_60 (dk_at dksX5_spells_2 9 rfl rfl)
theorem dX5_spells_58 : decode cX5_spells 58 = .ok (.iload_n 1, 1) := dk_27 (dk_at dksX5_spells_2 10 rfl rfl)
theorem dX5_spells_59 : decode cX5_spells 59 = .ok (.aload_n 0, 1) := dk_42 (dk_at dksX5_spells_2 11 rfl rfl)
theorem dX5_spells_60 : decode cX5_spells 60 = .ok (.getfield 63, 3) := dk_180 0 63 (dk_at dksX5_spells_2 12 rfl rfl)
theorem dX5_spells_63 : decode cX5_spells 63 = .ok (.if_icmp .ge 26, 3) := dk_162 0 26 (dk_at dksX5_spells_2 15 rfl rfl)
theorem dX5_spells_66 : decode cX5_spells 66 = .ok (.aload_n 0, 1) := dk_42 (dk_at dksX5_spells_2 18 rfl rfl)
theorem dX5_spells_67 : decode cX5_spells 67 = .ok (.getfield 22, 3) := dk_180 0 22 (dk_at dksX5_spells_2 19 rfl rfl)
theorem dX5_spells_70 : decode cX5_spells 70 = .ok (.iload_n 1, 1) := dk_27 (dk_at dksX5_spells_2 22 rfl rfl)
theorem dX5_spells_71 : decode cX5_spells 71 = .ok (.aload_n 0, 1) := dk_42 (dk_at dksX5_spells_2 23 rfl rfl)
theorem dX5_spells_72 : decode cX5_spells 72 = .ok (.getfield 31, 3) := dk_180 0 31 (dk_at dksX5_spells_3 0 rfl rfl)
theorem dX5_spells_75 : decode cX5_spells 75 = .ok (.aload_n 0, 1) := dk_42 (dk_at dksX5_spells_3 3 rfl rfl)
theorem dX5_spells_76 : decode cX5_spells 76 = .ok (.getfield 220, 3) := dk_180 0 220 (dk_at dksX5_spells_3 4 rfl rfl)
theorem dX5_spells_79 : decode cX5_spells 79 = .ok (.iload_n 1, 1) := dk_27 (dk_at dksX5_spells_3 7 rfl rfl)
theorem dX5_spells_80 : decode cX5_spells 80 = .ok (.iadd, 1) := dk_96 (dk_at dksX5_spells_3 8 rfl rfl)
theorem dX5_spells_81 : decode cX5_spells 81 = .ok (.baload, 1) := dk_51 (dk_at dksX5_spells_3 9 rfl rfl)
theorem dX5_spells_82 : decode cX5_spells 82 = .ok (.iastore, 1) := dk_79 (dk_at dksX5_spells_3 10 rfl rfl)
theorem dX5_spells_83 : decode cX5_spells 83 = .ok (.iinc 1 1, 3) := dk_132 1 1 (dk_at dksX5_spells_3 11 rfl rfl)
theorem dX5_spells_86 : decode cX5_spells 86 = .ok (.goto (-28), 3) := dk_167 255 228 (dk_at dksX5_spells_3 14 rfl rfl)
theorem dX5_spells_89 : decode cX5_spells 89 = .ok (.return_, 1) := dk_177 (dk_at dksX5_spells_3 17 rfl rfl)
abbrev cX5_named : ByteArray := prog_15_method_14_code
def yX5_named : MethodName := ⟨RX5, "named", "()I"⟩
def dkwX5_named_4 : List UInt8 := [167, 255, 167, 2, 172]
abbrev dktX5_named_4 : List UInt8 := dkwX5_named_4 ++ []
def dkwX5_named_3 : List UInt8 := [160, 0, 7, 4, 167, 0, 4, 3, 61, 132, 3, 1, 167, 255, 213, 28, 153, 0, 5, 27, 172, 132, 1, 1]
abbrev dktX5_named_3 : List UInt8 := dkwX5_named_3 ++ dktX5_named_4
def dkwX5_named_2 : List UInt8 := [153, 0, 37, 42, 180, 0, 9, 27, 184, 0, 84, 4, 96, 29, 96, 46, 42, 180, 0, 22, 29, 46]
abbrev dktX5_named_2 : List UInt8 := dkwX5_named_2 ++ dktX5_named_3
def dkwX5_named_1 : List UInt8 := [180, 0, 63, 160, 0, 7, 4, 167, 0, 4, 3, 61, 3, 62, 29, 42, 180, 0, 63, 162, 0, 41, 28]
abbrev dktX5_named_1 : List UInt8 := dkwX5_named_1 ++ dktX5_named_2
def dkwX5_named_0 : List UInt8 := [3, 60, 27, 42, 180, 0, 9, 3, 46, 162, 0, 85, 42, 180, 0, 9, 27, 184, 0, 84, 46, 42]
abbrev dktX5_named_0 : List UInt8 := dkwX5_named_0 ++ dktX5_named_1
theorem dksX5_named_0 : cX5_named.data.toList.drop 0 = dktX5_named_0 := by decide +kernel
theorem dksX5_named_1 : cX5_named.data.toList.drop 22 = dktX5_named_1 := dk_seg dksX5_named_0 22 rfl rfl
theorem dksX5_named_2 : cX5_named.data.toList.drop 45 = dktX5_named_2 := dk_seg dksX5_named_1 23 rfl rfl
theorem dksX5_named_3 : cX5_named.data.toList.drop 67 = dktX5_named_3 := dk_seg dksX5_named_2 22 rfl rfl
theorem dksX5_named_4 : cX5_named.data.toList.drop 91 = dktX5_named_4 := dk_seg dksX5_named_3 24 rfl rfl
theorem dX5_named_0 : decode cX5_named 0 = .ok (.iconst 0, 1) := dk_3 (dk_at dksX5_named_0 0 rfl rfl)
theorem dX5_named_1 : decode cX5_named 1 = .ok (.istore_n 1, 1) := dk_60 (dk_at dksX5_named_0 1 rfl rfl)
theorem dX5_named_2 : decode cX5_named 2 = .ok (.iload_n 1, 1) := dk_27 (dk_at dksX5_named_0 2 rfl rfl)
theorem dX5_named_3 : decode cX5_named 3 = .ok (.aload_n 0, 1) := dk_42 (dk_at dksX5_named_0 3 rfl rfl)
theorem dX5_named_4 : decode cX5_named 4 = .ok (.getfield 9, 3) := dk_180 0 9 (dk_at dksX5_named_0 4 rfl rfl)
theorem dX5_named_7 : decode cX5_named 7 = .ok (.iconst 0, 1) := dk_3 (dk_at dksX5_named_0 7 rfl rfl)
theorem dX5_named_8 : decode cX5_named 8 = .ok (.iaload, 1) := dk_46 (dk_at dksX5_named_0 8 rfl rfl)
theorem dX5_named_9 : decode cX5_named 9 = .ok (.if_icmp .ge 85, 3) := dk_162 0 85 (dk_at dksX5_named_0 9 rfl rfl)
theorem dX5_named_12 : decode cX5_named 12 = .ok (.aload_n 0, 1) := dk_42 (dk_at dksX5_named_0 12 rfl rfl)
theorem dX5_named_13 : decode cX5_named 13 = .ok (.getfield 9, 3) := dk_180 0 9 (dk_at dksX5_named_0 13 rfl rfl)
theorem dX5_named_16 : decode cX5_named 16 = .ok (.iload_n 1, 1) := dk_27 (dk_at dksX5_named_0 16 rfl rfl)
theorem dX5_named_17 : decode cX5_named 17 = .ok (.invokestatic 84, 3) := dk_184 0 84 (dk_at dksX5_named_0 17 rfl rfl)
theorem dX5_named_20 : decode cX5_named 20 = .ok (.iaload, 1) := dk_46 (dk_at dksX5_named_0 20 rfl rfl)
theorem dX5_named_21 : decode cX5_named 21 = .ok (.aload_n 0, 1) := dk_42 (dk_at dksX5_named_0 21 rfl rfl)
theorem dX5_named_22 : decode cX5_named 22 = .ok (.getfield 63, 3) := dk_180 0 63 (dk_at dksX5_named_1 0 rfl rfl)
theorem dX5_named_25 : decode cX5_named 25 = .ok (.if_icmp .ne 7, 3) := dk_160 0 7 (dk_at dksX5_named_1 3 rfl rfl)
theorem dX5_named_28 : decode cX5_named 28 = .ok (.iconst 1, 1) := dk_4 (dk_at dksX5_named_1 6 rfl rfl)
theorem dX5_named_29 : decode cX5_named 29 = .ok (.goto 4, 3) := dk_167 0 4 (dk_at dksX5_named_1 7 rfl rfl)
theorem dX5_named_32 : decode cX5_named 32 = .ok (.iconst 0, 1) := dk_3 (dk_at dksX5_named_1 10 rfl rfl)
theorem dX5_named_33 : decode cX5_named 33 = .ok (.istore_n 2, 1) := dk_61 (dk_at dksX5_named_1 11 rfl rfl)
theorem dX5_named_34 : decode cX5_named 34 = .ok (.iconst 0, 1) := dk_3 (dk_at dksX5_named_1 12 rfl rfl)
theorem dX5_named_35 : decode cX5_named 35 = .ok (.istore_n 3, 1) := dk_62 (dk_at dksX5_named_1 13 rfl rfl)
theorem dX5_named_36 : decode cX5_named 36 = .ok (.iload_n 3, 1) := dk_29 (dk_at dksX5_named_1 14 rfl rfl)
theorem dX5_named_37 : decode cX5_named 37 = .ok (.aload_n 0, 1) := dk_42 (dk_at dksX5_named_1 15 rfl rfl)
theorem dX5_named_38 : decode cX5_named 38 = .ok (.getfield 63, 3) := dk_180 0 63 (dk_at dksX5_named_1 16 rfl rfl)
theorem dX5_named_41 : decode cX5_named 41 = .ok (.if_icmp .ge 41, 3) := dk_162 0 41 (dk_at dksX5_named_1 19 rfl rfl)
theorem dX5_named_44 : decode cX5_named 44 = .ok (.iload_n 2, 1) := dk_28 (dk_at dksX5_named_1 22 rfl rfl)
theorem dX5_named_45 : decode cX5_named 45 = .ok (.ifCond .eq 37, 3) := dk_153 0 37 (dk_at dksX5_named_2 0 rfl rfl)
theorem dX5_named_48 : decode cX5_named 48 = .ok (.aload_n 0, 1) := dk_42 (dk_at dksX5_named_2 3 rfl rfl)
theorem dX5_named_49 : decode cX5_named 49 = .ok (.getfield 9, 3) := dk_180 0 9 (dk_at dksX5_named_2 4 rfl rfl)
theorem dX5_named_52 : decode cX5_named 52 = .ok (.iload_n 1, 1) := dk_27 (dk_at dksX5_named_2 7 rfl rfl)
theorem dX5_named_53 : decode cX5_named 53 = .ok (.invokestatic 84, 3) := dk_184 0 84 (dk_at dksX5_named_2 8 rfl rfl)
theorem dX5_named_56 : decode cX5_named 56 = .ok (.iconst 1, 1) := dk_4 (dk_at dksX5_named_2 11 rfl rfl)
theorem dX5_named_57 : decode cX5_named 57 = .ok (.iadd, 1) := dk_96 (dk_at dksX5_named_2 12 rfl rfl)
theorem dX5_named_58 : decode cX5_named 58 = .ok (.iload_n 3, 1) := dk_29 (dk_at dksX5_named_2 13 rfl rfl)
theorem dX5_named_59 : decode cX5_named 59 = .ok (.iadd, 1) := dk_96 (dk_at dksX5_named_2 14 rfl rfl)
theorem dX5_named_60 : decode cX5_named 60 = .ok (.iaload, 1) := dk_46 (dk_at dksX5_named_2 15 rfl rfl)
theorem dX5_named_61 : decode cX5_named 61 = .ok (.aload_n 0, 1) := dk_42 (dk_at dksX5_named_2 16 rfl rfl)
theorem dX5_named_62 : decode cX5_named 62 = .ok (.getfield 22, 3) := dk_180 0 22 (dk_at dksX5_named_2 17 rfl rfl)
theorem dX5_named_65 : decode cX5_named 65 = .ok (.iload_n 3, 1) := dk_29 (dk_at dksX5_named_2 20 rfl rfl)
theorem dX5_named_66 : decode cX5_named 66 = .ok (.iaload, 1) := dk_46 (dk_at dksX5_named_2 21 rfl rfl)
theorem dX5_named_67 : decode cX5_named 67 = .ok (.if_icmp .ne 7, 3) := dk_160 0 7 (dk_at dksX5_named_3 0 rfl rfl)
theorem dX5_named_70 : decode cX5_named 70 = .ok (.iconst 1, 1) := dk_4 (dk_at dksX5_named_3 3 rfl rfl)
theorem dX5_named_71 : decode cX5_named 71 = .ok (.goto 4, 3) := dk_167 0 4 (dk_at dksX5_named_3 4 rfl rfl)
theorem dX5_named_74 : decode cX5_named 74 = .ok (.iconst 0, 1) := dk_3 (dk_at dksX5_named_3 7 rfl rfl)
theorem dX5_named_75 : decode cX5_named 75 = .ok (.istore_n 2, 1) := dk_61 (dk_at dksX5_named_3 8 rfl rfl)
theorem dX5_named_76 : decode cX5_named 76 = .ok (.iinc 3 1, 3) := dk_132 3 1 (dk_at dksX5_named_3 9 rfl rfl)
theorem dX5_named_79 : decode cX5_named 79 = .ok (.goto (-43), 3) := dk_167 255 213 (dk_at dksX5_named_3 12 rfl rfl)
theorem dX5_named_82 : decode cX5_named 82 = .ok (.iload_n 2, 1) := dk_28 (dk_at dksX5_named_3 15 rfl rfl)
theorem dX5_named_83 : decode cX5_named 83 = .ok (.ifCond .eq 5, 3) := dk_153 0 5 (dk_at dksX5_named_3 16 rfl rfl)
theorem dX5_named_86 : decode cX5_named 86 = .ok (.iload_n 1, 1) := dk_27 (dk_at dksX5_named_3 19 rfl rfl)
theorem dX5_named_87 : decode cX5_named 87 = .ok (.ireturn, 1) := dk_172 (dk_at dksX5_named_3 20 rfl rfl)
theorem dX5_named_88 : decode cX5_named 88 = .ok (.iinc 1 1, 3) := dk_132 1 1 (dk_at dksX5_named_3 21 rfl rfl)
theorem dX5_named_91 : decode cX5_named 91 = .ok (.goto (-89), 3) := dk_167 255 167 (dk_at dksX5_named_4 0 rfl rfl)
theorem dX5_named_94 : decode cX5_named 94 = .ok (.iconst (-1), 1) := dk_2 (dk_at dksX5_named_4 3 rfl rfl)
theorem dX5_named_95 : decode cX5_named 95 = .ok (.ireturn, 1) := dk_172 (dk_at dksX5_named_4 4 rfl rfl)
abbrev cX5_number : ByteArray := prog_15_method_61_code
def yX5_number : MethodName := ⟨RX5, "number", "(II)I"⟩
def dkwX5_number_0 : List UInt8 := [42, 27, 28, 182, 0, 246, 62, 42, 182, 0, 239, 29, 172]
abbrev dktX5_number_0 : List UInt8 := dkwX5_number_0 ++ []
theorem dksX5_number_0 : cX5_number.data.toList.drop 0 = dktX5_number_0 := by decide +kernel
theorem dX5_number_0 : decode cX5_number 0 = .ok (.aload_n 0, 1) := dk_42 (dk_at dksX5_number_0 0 rfl rfl)
theorem dX5_number_1 : decode cX5_number 1 = .ok (.iload_n 1, 1) := dk_27 (dk_at dksX5_number_0 1 rfl rfl)
theorem dX5_number_2 : decode cX5_number 2 = .ok (.iload_n 2, 1) := dk_28 (dk_at dksX5_number_0 2 rfl rfl)
theorem dX5_number_3 : decode cX5_number 3 = .ok (.invokevirtual 246, 3) := dk_182 0 246 (dk_at dksX5_number_0 3 rfl rfl)
theorem dX5_number_6 : decode cX5_number 6 = .ok (.istore_n 3, 1) := dk_62 (dk_at dksX5_number_0 6 rfl rfl)
theorem dX5_number_7 : decode cX5_number 7 = .ok (.aload_n 0, 1) := dk_42 (dk_at dksX5_number_0 7 rfl rfl)
theorem dX5_number_8 : decode cX5_number 8 = .ok (.invokevirtual 239, 3) := dk_182 0 239 (dk_at dksX5_number_0 8 rfl rfl)
theorem dX5_number_11 : decode cX5_number 11 = .ok (.iload_n 3, 1) := dk_29 (dk_at dksX5_number_0 11 rfl rfl)
theorem dX5_number_12 : decode cX5_number 12 = .ok (.ireturn, 1) := dk_172 (dk_at dksX5_number_0 12 rfl rfl)
abbrev cX5_numberHere : ByteArray := prog_15_method_60_code
def yX5_numberHere : MethodName := ⟨RX5, "numberHere", "(II)I"⟩
def dkwX5_numberHere_2 : List UInt8 := [167, 0, 4, 27, 172]
abbrev dktX5_numberHere_2 : List UInt8 := dkwX5_numberHere_2 ++ []
def dkwX5_numberHere_1 : List UInt8 := [27, 133, 28, 133, 184, 0, 199, 5, 182, 0, 242, 42, 180, 0, 214, 154, 0, 10, 42, 180, 0, 233]
abbrev dktX5_numberHere_1 : List UInt8 := dkwX5_numberHere_1 ++ dktX5_numberHere_2
def dkwX5_numberHere_0 : List UInt8 := [42, 42, 180, 0, 223, 5, 160, 0, 7, 4, 167, 0, 4, 3, 4, 182, 0, 242, 42, 42, 180, 0, 233, 133]
abbrev dktX5_numberHere_0 : List UInt8 := dkwX5_numberHere_0 ++ dktX5_numberHere_1
theorem dksX5_numberHere_0 : cX5_numberHere.data.toList.drop 0 = dktX5_numberHere_0 := by decide +kernel
theorem dksX5_numberHere_1 : cX5_numberHere.data.toList.drop 24 = dktX5_numberHere_1 := dk_seg dksX5_numberHere_0 24 rfl rfl
theorem dksX5_numberHere_2 : cX5_numberHere.data.toList.drop 46 = dktX5_numberHere_2 := dk_seg dksX5_numberHere_1 22 rfl rfl
theorem dX5_numberHere_0 : decode cX5_numberHere 0 = .ok (.aload_n 0, 1) := dk_42 (dk_at dksX5_numberHere_0 0 rfl rfl)
theorem dX5_numberHere_1 : decode cX5_numberHere 1 = .ok (.aload_n 0, 1) := dk_42 (dk_at dksX5_numberHere_0 1 rfl rfl)
theorem dX5_numberHere_2 : decode cX5_numberHere 2 = .ok (.getfield 223, 3) := dk_180 0 223 (dk_at dksX5_numberHere_0 2 rfl rfl)
theorem dX5_numberHere_5 : decode cX5_numberHere 5 = .ok (.iconst 2, 1) := dk_5 (dk_at dksX5_numberHere_0 5 rfl rfl)
theorem dX5_numberHere_6 : decode cX5_numberHere 6 = .ok (.if_icmp .ne 7, 3) := dk_160 0 7 (dk_at dksX5_numberHere_0 6 rfl rfl)
theorem dX5_numberHere_9 : decode cX5_numberHere 9 = .ok (.iconst 1, 1) := dk_4 (dk_at dksX5_numberHere_0 9 rfl rfl)
theorem dX5_numberHere_10 : decode cX5_numberHere 10 = .ok (.goto 4, 3) := dk_167 0 4 (dk_at dksX5_numberHere_0 10 rfl rfl)
theorem dX5_numberHere_13 : decode cX5_numberHere 13 = .ok (.iconst 0, 1) := dk_3 (dk_at dksX5_numberHere_0 13 rfl rfl)
theorem dX5_numberHere_14 : decode cX5_numberHere 14 = .ok (.iconst 1, 1) := dk_4 (dk_at dksX5_numberHere_0 14 rfl rfl)
theorem dX5_numberHere_15 : decode cX5_numberHere 15 = .ok (.invokevirtual 242, 3) := dk_182 0 242 (dk_at dksX5_numberHere_0 15 rfl rfl)
theorem dX5_numberHere_18 : decode cX5_numberHere 18 = .ok (.aload_n 0, 1) := dk_42 (dk_at dksX5_numberHere_0 18 rfl rfl)
theorem dX5_numberHere_19 : decode cX5_numberHere 19 = .ok (.aload_n 0, 1) := dk_42 (dk_at dksX5_numberHere_0 19 rfl rfl)
theorem dX5_numberHere_20 : decode cX5_numberHere 20 = .ok (.getfield 233, 3) := dk_180 0 233 (dk_at dksX5_numberHere_0 20 rfl rfl)
theorem dX5_numberHere_23 : decode cX5_numberHere 23 = .ok (.i2l, 1) := dk_133 (dk_at dksX5_numberHere_0 23 rfl rfl)
theorem dX5_numberHere_24 : decode cX5_numberHere 24 = .ok (.iload_n 1, 1) := dk_27 (dk_at dksX5_numberHere_1 0 rfl rfl)
theorem dX5_numberHere_25 : decode cX5_numberHere 25 = .ok (.i2l, 1) := dk_133 (dk_at dksX5_numberHere_1 1 rfl rfl)
theorem dX5_numberHere_26 : decode cX5_numberHere 26 = .ok (.iload_n 2, 1) := dk_28 (dk_at dksX5_numberHere_1 2 rfl rfl)
theorem dX5_numberHere_27 : decode cX5_numberHere 27 = .ok (.i2l, 1) := dk_133 (dk_at dksX5_numberHere_1 3 rfl rfl)
theorem dX5_numberHere_28 : decode cX5_numberHere 28 = .ok (.invokestatic 199, 3) := dk_184 0 199 (dk_at dksX5_numberHere_1 4 rfl rfl)
theorem dX5_numberHere_31 : decode cX5_numberHere 31 = .ok (.iconst 2, 1) := dk_5 (dk_at dksX5_numberHere_1 7 rfl rfl)
theorem dX5_numberHere_32 : decode cX5_numberHere 32 = .ok (.invokevirtual 242, 3) := dk_182 0 242 (dk_at dksX5_numberHere_1 8 rfl rfl)
theorem dX5_numberHere_35 : decode cX5_numberHere 35 = .ok (.aload_n 0, 1) := dk_42 (dk_at dksX5_numberHere_1 11 rfl rfl)
theorem dX5_numberHere_36 : decode cX5_numberHere 36 = .ok (.getfield 214, 3) := dk_180 0 214 (dk_at dksX5_numberHere_1 12 rfl rfl)
theorem dX5_numberHere_39 : decode cX5_numberHere 39 = .ok (.ifCond .ne 10, 3) := dk_154 0 10 (dk_at dksX5_numberHere_1 15 rfl rfl)
theorem dX5_numberHere_42 : decode cX5_numberHere 42 = .ok (.aload_n 0, 1) := dk_42 (dk_at dksX5_numberHere_1 18 rfl rfl)
theorem dX5_numberHere_43 : decode cX5_numberHere 43 = .ok (.getfield 233, 3) := dk_180 0 233 (dk_at dksX5_numberHere_1 19 rfl rfl)
theorem dX5_numberHere_46 : decode cX5_numberHere 46 = .ok (.goto 4, 3) := dk_167 0 4 (dk_at dksX5_numberHere_2 0 rfl rfl)
theorem dX5_numberHere_49 : decode cX5_numberHere 49 = .ok (.iload_n 1, 1) := dk_27 (dk_at dksX5_numberHere_2 3 rfl rfl)
theorem dX5_numberHere_50 : decode cX5_numberHere 50 = .ok (.ireturn, 1) := dk_172 (dk_at dksX5_numberHere_2 4 rfl rfl)
abbrev cX5_readsWay : ByteArray := prog_15_method_68_code
def yX5_readsWay : MethodName := ⟨RX5, "readsWay", "()V"⟩
def dkwX5_readsWay_3 : List UInt8 := [16, 9, 182, 1, 12, 62, 42, 180, 0, 214, 154, 0, 10, 42, 27, 28, 29, 182, 0, 74, 177]
abbrev dktX5_readsWay_3 : List UInt8 := dkwX5_readsWay_3 ++ []
def dkwX5_readsWay_2 : List UInt8 := [27, 28, 182, 0, 169, 2, 160, 0, 7, 4, 167, 0, 4, 3, 7, 182, 0, 242, 42, 182, 0, 239, 42, 4]
abbrev dktX5_readsWay_2 : List UInt8 := dkwX5_readsWay_2 ++ dktX5_readsWay_3
def dkwX5_readsWay_1 : List UInt8 := [182, 0, 239, 42, 2, 182, 1, 15, 60, 42, 27, 182, 0, 255, 61, 42, 42, 180, 0, 214, 157, 0, 13, 42]
abbrev dktX5_readsWay_1 : List UInt8 := dkwX5_readsWay_1 ++ dktX5_readsWay_2
def dkwX5_readsWay_0 : List UInt8 := [42, 42, 180, 0, 9, 4, 46, 16, 20, 162, 0, 7, 4, 167, 0, 4, 3, 8, 182, 0, 242, 42]
abbrev dktX5_readsWay_0 : List UInt8 := dkwX5_readsWay_0 ++ dktX5_readsWay_1
theorem dksX5_readsWay_0 : cX5_readsWay.data.toList.drop 0 = dktX5_readsWay_0 := by decide +kernel
theorem dksX5_readsWay_1 : cX5_readsWay.data.toList.drop 22 = dktX5_readsWay_1 := dk_seg dksX5_readsWay_0 22 rfl rfl
theorem dksX5_readsWay_2 : cX5_readsWay.data.toList.drop 46 = dktX5_readsWay_2 := dk_seg dksX5_readsWay_1 24 rfl rfl
theorem dksX5_readsWay_3 : cX5_readsWay.data.toList.drop 70 = dktX5_readsWay_3 := dk_seg dksX5_readsWay_2 24 rfl rfl
theorem dX5_readsWay_0 : decode cX5_readsWay 0 = .ok (.aload_n 0, 1) := dk_42 (dk_at dksX5_readsWay_0 0 rfl rfl)
theorem dX5_readsWay_1 : decode cX5_readsWay 1 = .ok (.aload_n 0, 1) := dk_42 (dk_at dksX5_readsWay_0 1 rfl rfl)
theorem dX5_readsWay_2 : decode cX5_readsWay 2 = .ok (.getfield 9, 3) := dk_180 0 9 (dk_at dksX5_readsWay_0 2 rfl rfl)
theorem dX5_readsWay_5 : decode cX5_readsWay 5 = .ok (.iconst 1, 1) := dk_4 (dk_at dksX5_readsWay_0 5 rfl rfl)
theorem dX5_readsWay_6 : decode cX5_readsWay 6 = .ok (.iaload, 1) := dk_46 (dk_at dksX5_readsWay_0 6 rfl rfl)
theorem dX5_readsWay_7 : decode cX5_readsWay 7 = .ok (.bipush 20, 2) := dk_16 20 (dk_at dksX5_readsWay_0 7 rfl rfl)
theorem dX5_readsWay_9 : decode cX5_readsWay 9 = .ok (.if_icmp .ge 7, 3) := dk_162 0 7 (dk_at dksX5_readsWay_0 9 rfl rfl)
theorem dX5_readsWay_12 : decode cX5_readsWay 12 = .ok (.iconst 1, 1) := dk_4 (dk_at dksX5_readsWay_0 12 rfl rfl)
theorem dX5_readsWay_13 : decode cX5_readsWay 13 = .ok (.goto 4, 3) := dk_167 0 4 (dk_at dksX5_readsWay_0 13 rfl rfl)
theorem dX5_readsWay_16 : decode cX5_readsWay 16 = .ok (.iconst 0, 1) := dk_3 (dk_at dksX5_readsWay_0 16 rfl rfl)
theorem dX5_readsWay_17 : decode cX5_readsWay 17 = .ok (.iconst 5, 1) := dk_8 (dk_at dksX5_readsWay_0 17 rfl rfl)
theorem dX5_readsWay_18 : decode cX5_readsWay 18 = .ok (.invokevirtual 242, 3) := dk_182 0 242 (dk_at dksX5_readsWay_0 18 rfl rfl)
theorem dX5_readsWay_21 : decode cX5_readsWay 21 = .ok (.aload_n 0, 1) := dk_42 (dk_at dksX5_readsWay_0 21 rfl rfl)
theorem dX5_readsWay_22 : decode cX5_readsWay 22 = .ok (.invokevirtual 239, 3) := dk_182 0 239 (dk_at dksX5_readsWay_1 0 rfl rfl)
theorem dX5_readsWay_25 : decode cX5_readsWay 25 = .ok (.aload_n 0, 1) := dk_42 (dk_at dksX5_readsWay_1 3 rfl rfl)
theorem dX5_readsWay_26 : decode cX5_readsWay 26 = .ok (.iconst (-1), 1) := dk_2 (dk_at dksX5_readsWay_1 4 rfl rfl)
theorem dX5_readsWay_27 : decode cX5_readsWay 27 = .ok (.invokevirtual 271, 3) := dk_182 1 15 (dk_at dksX5_readsWay_1 5 rfl rfl)
theorem dX5_readsWay_30 : decode cX5_readsWay 30 = .ok (.istore_n 1, 1) := dk_60 (dk_at dksX5_readsWay_1 8 rfl rfl)
theorem dX5_readsWay_31 : decode cX5_readsWay 31 = .ok (.aload_n 0, 1) := dk_42 (dk_at dksX5_readsWay_1 9 rfl rfl)
theorem dX5_readsWay_32 : decode cX5_readsWay 32 = .ok (.iload_n 1, 1) := dk_27 (dk_at dksX5_readsWay_1 10 rfl rfl)
theorem dX5_readsWay_33 : decode cX5_readsWay 33 = .ok (.invokevirtual 255, 3) := dk_182 0 255 (dk_at dksX5_readsWay_1 11 rfl rfl)
theorem dX5_readsWay_36 : decode cX5_readsWay 36 = .ok (.istore_n 2, 1) := dk_61 (dk_at dksX5_readsWay_1 14 rfl rfl)
theorem dX5_readsWay_37 : decode cX5_readsWay 37 = .ok (.aload_n 0, 1) := dk_42 (dk_at dksX5_readsWay_1 15 rfl rfl)
theorem dX5_readsWay_38 : decode cX5_readsWay 38 = .ok (.aload_n 0, 1) := dk_42 (dk_at dksX5_readsWay_1 16 rfl rfl)
theorem dX5_readsWay_39 : decode cX5_readsWay 39 = .ok (.getfield 214, 3) := dk_180 0 214 (dk_at dksX5_readsWay_1 17 rfl rfl)
theorem dX5_readsWay_42 : decode cX5_readsWay 42 = .ok (.ifCond .gt 13, 3) := dk_157 0 13 (dk_at dksX5_readsWay_1 20 rfl rfl)
theorem dX5_readsWay_45 : decode cX5_readsWay 45 = .ok (.aload_n 0, 1) := dk_42 (dk_at dksX5_readsWay_1 23 rfl rfl)
theorem dX5_readsWay_46 : decode cX5_readsWay 46 = .ok (.iload_n 1, 1) := dk_27 (dk_at dksX5_readsWay_2 0 rfl rfl)
theorem dX5_readsWay_47 : decode cX5_readsWay 47 = .ok (.iload_n 2, 1) := dk_28 (dk_at dksX5_readsWay_2 1 rfl rfl)
theorem dX5_readsWay_48 : decode cX5_readsWay 48 = .ok (.invokevirtual 169, 3) := dk_182 0 169 (dk_at dksX5_readsWay_2 2 rfl rfl)
theorem dX5_readsWay_51 : decode cX5_readsWay 51 = .ok (.iconst (-1), 1) := dk_2 (dk_at dksX5_readsWay_2 5 rfl rfl)
theorem dX5_readsWay_52 : decode cX5_readsWay 52 = .ok (.if_icmp .ne 7, 3) := dk_160 0 7 (dk_at dksX5_readsWay_2 6 rfl rfl)
theorem dX5_readsWay_55 : decode cX5_readsWay 55 = .ok (.iconst 1, 1) := dk_4 (dk_at dksX5_readsWay_2 9 rfl rfl)
theorem dX5_readsWay_56 : decode cX5_readsWay 56 = .ok (.goto 4, 3) := dk_167 0 4 (dk_at dksX5_readsWay_2 10 rfl rfl)
theorem dX5_readsWay_59 : decode cX5_readsWay 59 = .ok (.iconst 0, 1) := dk_3 (dk_at dksX5_readsWay_2 13 rfl rfl)
theorem dX5_readsWay_60 : decode cX5_readsWay 60 = .ok (.iconst 4, 1) := dk_7 (dk_at dksX5_readsWay_2 14 rfl rfl)
theorem dX5_readsWay_61 : decode cX5_readsWay 61 = .ok (.invokevirtual 242, 3) := dk_182 0 242 (dk_at dksX5_readsWay_2 15 rfl rfl)
theorem dX5_readsWay_64 : decode cX5_readsWay 64 = .ok (.aload_n 0, 1) := dk_42 (dk_at dksX5_readsWay_2 18 rfl rfl)
theorem dX5_readsWay_65 : decode cX5_readsWay 65 = .ok (.invokevirtual 239, 3) := dk_182 0 239 (dk_at dksX5_readsWay_2 19 rfl rfl)
theorem dX5_readsWay_68 : decode cX5_readsWay 68 = .ok (.aload_n 0, 1) := dk_42 (dk_at dksX5_readsWay_2 22 rfl rfl)
theorem dX5_readsWay_69 : decode cX5_readsWay 69 = .ok (.iconst 1, 1) := dk_4 (dk_at dksX5_readsWay_2 23 rfl rfl)
theorem dX5_readsWay_70 : decode cX5_readsWay 70 = .ok (.bipush 9, 2) := dk_16 9 (dk_at dksX5_readsWay_3 0 rfl rfl)
theorem dX5_readsWay_72 : decode cX5_readsWay 72 = .ok (.invokevirtual 268, 3) := dk_182 1 12 (dk_at dksX5_readsWay_3 2 rfl rfl)
theorem dX5_readsWay_75 : decode cX5_readsWay 75 = .ok (.istore_n 3, 1) := dk_62 (dk_at dksX5_readsWay_3 5 rfl rfl)
theorem dX5_readsWay_76 : decode cX5_readsWay 76 = .ok (.aload_n 0, 1) := dk_42 (dk_at dksX5_readsWay_3 6 rfl rfl)
theorem dX5_readsWay_77 : decode cX5_readsWay 77 = .ok (.getfield 214, 3) := dk_180 0 214 (dk_at dksX5_readsWay_3 7 rfl rfl)
theorem dX5_readsWay_80 : decode cX5_readsWay 80 = .ok (.ifCond .ne 10, 3) := dk_154 0 10 (dk_at dksX5_readsWay_3 10 rfl rfl)
theorem dX5_readsWay_83 : decode cX5_readsWay 83 = .ok (.aload_n 0, 1) := dk_42 (dk_at dksX5_readsWay_3 13 rfl rfl)
theorem dX5_readsWay_84 : decode cX5_readsWay 84 = .ok (.iload_n 1, 1) := dk_27 (dk_at dksX5_readsWay_3 14 rfl rfl)
theorem dX5_readsWay_85 : decode cX5_readsWay 85 = .ok (.iload_n 2, 1) := dk_28 (dk_at dksX5_readsWay_3 15 rfl rfl)
theorem dX5_readsWay_86 : decode cX5_readsWay 86 = .ok (.iload_n 3, 1) := dk_29 (dk_at dksX5_readsWay_3 16 rfl rfl)
theorem dX5_readsWay_87 : decode cX5_readsWay 87 = .ok (.invokevirtual 74, 3) := dk_182 0 74 (dk_at dksX5_readsWay_3 17 rfl rfl)
theorem dX5_readsWay_90 : decode cX5_readsWay 90 = .ok (.return_, 1) := dk_177 (dk_at dksX5_readsWay_3 20 rfl rfl)
abbrev cX5_roofOfText : ByteArray := prog_15_method_65_code
def yX5_roofOfText : MethodName := ⟨RX5, "roofOfText", "(I)I"⟩
def dkwX5_roofOfText_0 : List UInt8 := [42, 27, 182, 0, 255, 61, 42, 182, 0, 239, 28, 172]
abbrev dktX5_roofOfText_0 : List UInt8 := dkwX5_roofOfText_0 ++ []
theorem dksX5_roofOfText_0 : cX5_roofOfText.data.toList.drop 0 = dktX5_roofOfText_0 := by decide +kernel
theorem dX5_roofOfText_0 : decode cX5_roofOfText 0 = .ok (.aload_n 0, 1) := dk_42 (dk_at dksX5_roofOfText_0 0 rfl rfl)
theorem dX5_roofOfText_1 : decode cX5_roofOfText 1 = .ok (.iload_n 1, 1) := dk_27 (dk_at dksX5_roofOfText_0 1 rfl rfl)
theorem dX5_roofOfText_2 : decode cX5_roofOfText 2 = .ok (.invokevirtual 255, 3) := dk_182 0 255 (dk_at dksX5_roofOfText_0 2 rfl rfl)
theorem dX5_roofOfText_5 : decode cX5_roofOfText 5 = .ok (.istore_n 2, 1) := dk_61 (dk_at dksX5_roofOfText_0 5 rfl rfl)
theorem dX5_roofOfText_6 : decode cX5_roofOfText 6 = .ok (.aload_n 0, 1) := dk_42 (dk_at dksX5_roofOfText_0 6 rfl rfl)
theorem dX5_roofOfText_7 : decode cX5_roofOfText 7 = .ok (.invokevirtual 239, 3) := dk_182 0 239 (dk_at dksX5_roofOfText_0 7 rfl rfl)
theorem dX5_roofOfText_10 : decode cX5_roofOfText 10 = .ok (.iload_n 2, 1) := dk_28 (dk_at dksX5_roofOfText_0 10 rfl rfl)
theorem dX5_roofOfText_11 : decode cX5_roofOfText 11 = .ok (.ireturn, 1) := dk_172 (dk_at dksX5_roofOfText_0 11 rfl rfl)
abbrev cX5_roofHere : ByteArray := prog_15_method_64_code
def yX5_roofHere : MethodName := ⟨RX5, "roofHere", "(I)I"⟩
def dkwX5_roofHere_2 : List UInt8 := [182, 0, 242, 3, 28, 184, 0, 129, 172]
abbrev dktX5_roofHere_2 : List UInt8 := dkwX5_roofHere_2 ++ []
def dkwX5_roofHere_1 : List UInt8 := [180, 0, 214, 157, 0, 13, 28, 2, 159, 0, 12, 28, 27, 159, 0, 7, 4, 167, 0, 4, 3, 6]
abbrev dktX5_roofHere_1 : List UInt8 := dkwX5_roofHere_1 ++ dktX5_roofHere_2
def dkwX5_roofHere_0 : List UInt8 := [42, 182, 0, 249, 42, 180, 0, 214, 154, 0, 10, 42, 182, 0, 252, 167, 0, 4, 3, 61, 42, 42]
abbrev dktX5_roofHere_0 : List UInt8 := dkwX5_roofHere_0 ++ dktX5_roofHere_1
theorem dksX5_roofHere_0 : cX5_roofHere.data.toList.drop 0 = dktX5_roofHere_0 := by decide +kernel
theorem dksX5_roofHere_1 : cX5_roofHere.data.toList.drop 22 = dktX5_roofHere_1 := dk_seg dksX5_roofHere_0 22 rfl rfl
theorem dksX5_roofHere_2 : cX5_roofHere.data.toList.drop 44 = dktX5_roofHere_2 := dk_seg dksX5_roofHere_1 22 rfl rfl
theorem dX5_roofHere_0 : decode cX5_roofHere 0 = .ok (.aload_n 0, 1) := dk_42 (dk_at dksX5_roofHere_0 0 rfl rfl)
theorem dX5_roofHere_1 : decode cX5_roofHere 1 = .ok (.invokevirtual 249, 3) := dk_182 0 249 (dk_at dksX5_roofHere_0 1 rfl rfl)
theorem dX5_roofHere_4 : decode cX5_roofHere 4 = .ok (.aload_n 0, 1) := dk_42 (dk_at dksX5_roofHere_0 4 rfl rfl)
theorem dX5_roofHere_5 : decode cX5_roofHere 5 = .ok (.getfield 214, 3) := dk_180 0 214 (dk_at dksX5_roofHere_0 5 rfl rfl)
theorem dX5_roofHere_8 : decode cX5_roofHere 8 = .ok (.ifCond .ne 10, 3) := dk_154 0 10 (dk_at dksX5_roofHere_0 8 rfl rfl)
theorem dX5_roofHere_11 : decode cX5_roofHere 11 = .ok (.aload_n 0, 1) := dk_42 (dk_at dksX5_roofHere_0 11 rfl rfl)
theorem dX5_roofHere_12 : decode cX5_roofHere 12 = .ok (.invokevirtual 252, 3) := dk_182 0 252 (dk_at dksX5_roofHere_0 12 rfl rfl)
theorem dX5_roofHere_15 : decode cX5_roofHere 15 = .ok (.goto 4, 3) := dk_167 0 4 (dk_at dksX5_roofHere_0 15 rfl rfl)
theorem dX5_roofHere_18 : decode cX5_roofHere 18 = .ok (.iconst 0, 1) := dk_3 (dk_at dksX5_roofHere_0 18 rfl rfl)
theorem dX5_roofHere_19 : decode cX5_roofHere 19 = .ok (.istore_n 2, 1) := dk_61 (dk_at dksX5_roofHere_0 19 rfl rfl)
theorem dX5_roofHere_20 : decode cX5_roofHere 20 = .ok (.aload_n 0, 1) := dk_42 (dk_at dksX5_roofHere_0 20 rfl rfl)
theorem dX5_roofHere_21 : decode cX5_roofHere 21 = .ok (.aload_n 0, 1) := dk_42 (dk_at dksX5_roofHere_0 21 rfl rfl)
theorem dX5_roofHere_22 : decode cX5_roofHere 22 = .ok (.getfield 214, 3) := dk_180 0 214 (dk_at dksX5_roofHere_1 0 rfl rfl)
theorem dX5_roofHere_25 : decode cX5_roofHere 25 = .ok (.ifCond .gt 13, 3) := dk_157 0 13 (dk_at dksX5_roofHere_1 3 rfl rfl)
theorem dX5_roofHere_28 : decode cX5_roofHere 28 = .ok (.iload_n 2, 1) := dk_28 (dk_at dksX5_roofHere_1 6 rfl rfl)
theorem dX5_roofHere_29 : decode cX5_roofHere 29 = .ok (.iconst (-1), 1) := dk_2 (dk_at dksX5_roofHere_1 7 rfl rfl)
theorem dX5_roofHere_30 : decode cX5_roofHere 30 = .ok (.if_icmp .eq 12, 3) := dk_159 0 12 (dk_at dksX5_roofHere_1 8 rfl rfl)
theorem dX5_roofHere_33 : decode cX5_roofHere 33 = .ok (.iload_n 2, 1) := dk_28 (dk_at dksX5_roofHere_1 11 rfl rfl)
theorem dX5_roofHere_34 : decode cX5_roofHere 34 = .ok (.iload_n 1, 1) := dk_27 (dk_at dksX5_roofHere_1 12 rfl rfl)
theorem dX5_roofHere_35 : decode cX5_roofHere 35 = .ok (.if_icmp .eq 7, 3) := dk_159 0 7 (dk_at dksX5_roofHere_1 13 rfl rfl)
theorem dX5_roofHere_38 : decode cX5_roofHere 38 = .ok (.iconst 1, 1) := dk_4 (dk_at dksX5_roofHere_1 16 rfl rfl)
theorem dX5_roofHere_39 : decode cX5_roofHere 39 = .ok (.goto 4, 3) := dk_167 0 4 (dk_at dksX5_roofHere_1 17 rfl rfl)
theorem dX5_roofHere_42 : decode cX5_roofHere 42 = .ok (.iconst 0, 1) := dk_3 (dk_at dksX5_roofHere_1 20 rfl rfl)
theorem dX5_roofHere_43 : decode cX5_roofHere 43 = .ok (.iconst 3, 1) := dk_6 (dk_at dksX5_roofHere_1 21 rfl rfl)
theorem dX5_roofHere_44 : decode cX5_roofHere 44 = .ok (.invokevirtual 242, 3) := dk_182 0 242 (dk_at dksX5_roofHere_2 0 rfl rfl)
theorem dX5_roofHere_47 : decode cX5_roofHere 47 = .ok (.iconst 0, 1) := dk_3 (dk_at dksX5_roofHere_2 3 rfl rfl)
theorem dX5_roofHere_48 : decode cX5_roofHere 48 = .ok (.iload_n 2, 1) := dk_28 (dk_at dksX5_roofHere_2 4 rfl rfl)
theorem dX5_roofHere_49 : decode cX5_roofHere 49 = .ok (.invokestatic 129, 3) := dk_184 0 129 (dk_at dksX5_roofHere_2 5 rfl rfl)
theorem dX5_roofHere_52 : decode cX5_roofHere 52 = .ok (.ireturn, 1) := dk_172 (dk_at dksX5_roofHere_2 8 rfl rfl)
abbrev cX5_wayBetween : ByteArray := prog_15_method_19_code
def yX5_wayBetween : MethodName := ⟨RX5, "wayBetween", "(II)I"⟩
def dkwX5_wayBetween_1 : List UInt8 := [153, 0, 14, 42, 29, 28, 182, 0, 91, 153, 0, 5, 29, 172, 132, 3, 1, 167, 255, 218, 2, 172]
abbrev dktX5_wayBetween_1 : List UInt8 := dkwX5_wayBetween_1 ++ []
def dkwX5_wayBetween_0 : List UInt8 := [3, 62, 29, 42, 180, 0, 9, 4, 46, 162, 0, 34, 27, 28, 159, 0, 23, 42, 29, 27, 182, 0, 91]
abbrev dktX5_wayBetween_0 : List UInt8 := dkwX5_wayBetween_0 ++ dktX5_wayBetween_1
theorem dksX5_wayBetween_0 : cX5_wayBetween.data.toList.drop 0 = dktX5_wayBetween_0 := by decide +kernel
theorem dksX5_wayBetween_1 : cX5_wayBetween.data.toList.drop 23 = dktX5_wayBetween_1 := dk_seg dksX5_wayBetween_0 23 rfl rfl
theorem dX5_wayBetween_0 : decode cX5_wayBetween 0 = .ok (.iconst 0, 1) := dk_3 (dk_at dksX5_wayBetween_0 0 rfl rfl)
theorem dX5_wayBetween_1 : decode cX5_wayBetween 1 = .ok (.istore_n 3, 1) := dk_62 (dk_at dksX5_wayBetween_0 1 rfl rfl)
theorem dX5_wayBetween_2 : decode cX5_wayBetween 2 = .ok (.iload_n 3, 1) := dk_29 (dk_at dksX5_wayBetween_0 2 rfl rfl)
theorem dX5_wayBetween_3 : decode cX5_wayBetween 3 = .ok (.aload_n 0, 1) := dk_42 (dk_at dksX5_wayBetween_0 3 rfl rfl)
theorem dX5_wayBetween_4 : decode cX5_wayBetween 4 = .ok (.getfield 9, 3) := dk_180 0 9 (dk_at dksX5_wayBetween_0 4 rfl rfl)
theorem dX5_wayBetween_7 : decode cX5_wayBetween 7 = .ok (.iconst 1, 1) := dk_4 (dk_at dksX5_wayBetween_0 7 rfl rfl)
theorem dX5_wayBetween_8 : decode cX5_wayBetween 8 = .ok (.iaload, 1) := dk_46 (dk_at dksX5_wayBetween_0 8 rfl rfl)
theorem dX5_wayBetween_9 : decode cX5_wayBetween 9 = .ok (.if_icmp .ge 34, 3) := dk_162 0 34 (dk_at dksX5_wayBetween_0 9 rfl rfl)
theorem dX5_wayBetween_12 : decode cX5_wayBetween 12 = .ok (.iload_n 1, 1) := dk_27 (dk_at dksX5_wayBetween_0 12 rfl rfl)
theorem dX5_wayBetween_13 : decode cX5_wayBetween 13 = .ok (.iload_n 2, 1) := dk_28 (dk_at dksX5_wayBetween_0 13 rfl rfl)
theorem dX5_wayBetween_14 : decode cX5_wayBetween 14 = .ok (.if_icmp .eq 23, 3) := dk_159 0 23 (dk_at dksX5_wayBetween_0 14 rfl rfl)
theorem dX5_wayBetween_17 : decode cX5_wayBetween 17 = .ok (.aload_n 0, 1) := dk_42 (dk_at dksX5_wayBetween_0 17 rfl rfl)
theorem dX5_wayBetween_18 : decode cX5_wayBetween 18 = .ok (.iload_n 3, 1) := dk_29 (dk_at dksX5_wayBetween_0 18 rfl rfl)
theorem dX5_wayBetween_19 : decode cX5_wayBetween 19 = .ok (.iload_n 1, 1) := dk_27 (dk_at dksX5_wayBetween_0 19 rfl rfl)
theorem dX5_wayBetween_20 : decode cX5_wayBetween 20 = .ok (.invokevirtual 91, 3) := dk_182 0 91 (dk_at dksX5_wayBetween_0 20 rfl rfl)
theorem dX5_wayBetween_23 : decode cX5_wayBetween 23 = .ok (.ifCond .eq 14, 3) := dk_153 0 14 (dk_at dksX5_wayBetween_1 0 rfl rfl)
theorem dX5_wayBetween_26 : decode cX5_wayBetween 26 = .ok (.aload_n 0, 1) := dk_42 (dk_at dksX5_wayBetween_1 3 rfl rfl)
theorem dX5_wayBetween_27 : decode cX5_wayBetween 27 = .ok (.iload_n 3, 1) := dk_29 (dk_at dksX5_wayBetween_1 4 rfl rfl)
theorem dX5_wayBetween_28 : decode cX5_wayBetween 28 = .ok (.iload_n 2, 1) := dk_28 (dk_at dksX5_wayBetween_1 5 rfl rfl)
theorem dX5_wayBetween_29 : decode cX5_wayBetween 29 = .ok (.invokevirtual 91, 3) := dk_182 0 91 (dk_at dksX5_wayBetween_1 6 rfl rfl)
theorem dX5_wayBetween_32 : decode cX5_wayBetween 32 = .ok (.ifCond .eq 5, 3) := dk_153 0 5 (dk_at dksX5_wayBetween_1 9 rfl rfl)
theorem dX5_wayBetween_35 : decode cX5_wayBetween 35 = .ok (.iload_n 3, 1) := dk_29 (dk_at dksX5_wayBetween_1 12 rfl rfl)
theorem dX5_wayBetween_36 : decode cX5_wayBetween 36 = .ok (.ireturn, 1) := dk_172 (dk_at dksX5_wayBetween_1 13 rfl rfl)
theorem dX5_wayBetween_37 : decode cX5_wayBetween 37 = .ok (.iinc 3 1, 3) := dk_132 3 1 (dk_at dksX5_wayBetween_1 14 rfl rfl)
theorem dX5_wayBetween_40 : decode cX5_wayBetween 40 = .ok (.goto (-38), 3) := dk_167 255 218 (dk_at dksX5_wayBetween_1 17 rfl rfl)
theorem dX5_wayBetween_43 : decode cX5_wayBetween 43 = .ok (.iconst (-1), 1) := dk_2 (dk_at dksX5_wayBetween_1 20 rfl rfl)
theorem dX5_wayBetween_44 : decode cX5_wayBetween 44 = .ok (.ireturn, 1) := dk_172 (dk_at dksX5_wayBetween_1 21 rfl rfl)
abbrev cX5_ends : ByteArray := prog_15_method_17_code
def yX5_ends : MethodName := ⟨RX5, "ends", "(II)Z"⟩
def dkwX5_ends_1 : List UInt8 := [28, 160, 0, 7, 4, 167, 0, 4, 3, 172]
abbrev dktX5_ends_1 : List UInt8 := dkwX5_ends_1 ++ []
def dkwX5_ends_0 : List UInt8 := [42, 180, 0, 9, 27, 184, 0, 88, 46, 28, 159, 0, 18, 42, 180, 0, 9, 27, 184, 0, 88, 4, 96, 46]
abbrev dktX5_ends_0 : List UInt8 := dkwX5_ends_0 ++ dktX5_ends_1
theorem dksX5_ends_0 : cX5_ends.data.toList.drop 0 = dktX5_ends_0 := by decide +kernel
theorem dksX5_ends_1 : cX5_ends.data.toList.drop 24 = dktX5_ends_1 := dk_seg dksX5_ends_0 24 rfl rfl
theorem dX5_ends_0 : decode cX5_ends 0 = .ok (.aload_n 0, 1) := dk_42 (dk_at dksX5_ends_0 0 rfl rfl)
theorem dX5_ends_1 : decode cX5_ends 1 = .ok (.getfield 9, 3) := dk_180 0 9 (dk_at dksX5_ends_0 1 rfl rfl)
theorem dX5_ends_4 : decode cX5_ends 4 = .ok (.iload_n 1, 1) := dk_27 (dk_at dksX5_ends_0 4 rfl rfl)
theorem dX5_ends_5 : decode cX5_ends 5 = .ok (.invokestatic 88, 3) := dk_184 0 88 (dk_at dksX5_ends_0 5 rfl rfl)
theorem dX5_ends_8 : decode cX5_ends 8 = .ok (.iaload, 1) := dk_46 (dk_at dksX5_ends_0 8 rfl rfl)
theorem dX5_ends_9 : decode cX5_ends 9 = .ok (.iload_n 2, 1) := dk_28 (dk_at dksX5_ends_0 9 rfl rfl)
theorem dX5_ends_10 : decode cX5_ends 10 = .ok (.if_icmp .eq 18, 3) := dk_159 0 18 (dk_at dksX5_ends_0 10 rfl rfl)
theorem dX5_ends_13 : decode cX5_ends 13 = .ok (.aload_n 0, 1) := dk_42 (dk_at dksX5_ends_0 13 rfl rfl)
theorem dX5_ends_14 : decode cX5_ends 14 = .ok (.getfield 9, 3) := dk_180 0 9 (dk_at dksX5_ends_0 14 rfl rfl)
theorem dX5_ends_17 : decode cX5_ends 17 = .ok (.iload_n 1, 1) := dk_27 (dk_at dksX5_ends_0 17 rfl rfl)
theorem dX5_ends_18 : decode cX5_ends 18 = .ok (.invokestatic 88, 3) := dk_184 0 88 (dk_at dksX5_ends_0 18 rfl rfl)
theorem dX5_ends_21 : decode cX5_ends 21 = .ok (.iconst 1, 1) := dk_4 (dk_at dksX5_ends_0 21 rfl rfl)
theorem dX5_ends_22 : decode cX5_ends 22 = .ok (.iadd, 1) := dk_96 (dk_at dksX5_ends_0 22 rfl rfl)
theorem dX5_ends_23 : decode cX5_ends 23 = .ok (.iaload, 1) := dk_46 (dk_at dksX5_ends_0 23 rfl rfl)
theorem dX5_ends_24 : decode cX5_ends 24 = .ok (.iload_n 2, 1) := dk_28 (dk_at dksX5_ends_1 0 rfl rfl)
theorem dX5_ends_25 : decode cX5_ends 25 = .ok (.if_icmp .ne 7, 3) := dk_160 0 7 (dk_at dksX5_ends_1 1 rfl rfl)
theorem dX5_ends_28 : decode cX5_ends 28 = .ok (.iconst 1, 1) := dk_4 (dk_at dksX5_ends_1 4 rfl rfl)
theorem dX5_ends_29 : decode cX5_ends 29 = .ok (.goto 4, 3) := dk_167 0 4 (dk_at dksX5_ends_1 5 rfl rfl)
theorem dX5_ends_32 : decode cX5_ends 32 = .ok (.iconst 0, 1) := dk_3 (dk_at dksX5_ends_1 8 rfl rfl)
theorem dX5_ends_33 : decode cX5_ends 33 = .ok (.ireturn, 1) := dk_172 (dk_at dksX5_ends_1 9 rfl rfl)
abbrev cX5_readsSetting : ByteArray := prog_15_method_69_code
def yX5_readsSetting : MethodName := ⟨RX5, "readsSetting", "()V"⟩
def dkwX5_readsSetting_2 : List UInt8 := [27, 28, 79, 177]
abbrev dktX5_readsSetting_2 : List UInt8 := dkwX5_readsSetting_2 ++ []
def dkwX5_readsSetting_1 : List UInt8 := [42, 180, 0, 214, 154, 0, 23, 42, 27, 184, 1, 21, 27, 184, 1, 24, 182, 1, 12, 61, 42, 180, 0, 9]
abbrev dktX5_readsSetting_1 : List UInt8 := dkwX5_readsSetting_1 ++ dktX5_readsSetting_2
def dkwX5_readsSetting_0 : List UInt8 := [42, 182, 1, 18, 60, 42, 27, 2, 159, 0, 7, 4, 167, 0, 4, 3, 4, 182, 0, 242, 42, 182, 0, 239]
abbrev dktX5_readsSetting_0 : List UInt8 := dkwX5_readsSetting_0 ++ dktX5_readsSetting_1
theorem dksX5_readsSetting_0 : cX5_readsSetting.data.toList.drop 0 = dktX5_readsSetting_0 := by decide +kernel
theorem dksX5_readsSetting_1 : cX5_readsSetting.data.toList.drop 24 = dktX5_readsSetting_1 := dk_seg dksX5_readsSetting_0 24 rfl rfl
theorem dksX5_readsSetting_2 : cX5_readsSetting.data.toList.drop 48 = dktX5_readsSetting_2 := dk_seg dksX5_readsSetting_1 24 rfl rfl
theorem dX5_readsSetting_0 : decode cX5_readsSetting 0 = .ok (.aload_n 0, 1) := dk_42 (dk_at dksX5_readsSetting_0 0 rfl rfl)
theorem dX5_readsSetting_1 : decode cX5_readsSetting 1 = .ok (.invokevirtual 274, 3) := dk_182 1 18 (dk_at dksX5_readsSetting_0 1 rfl rfl)
theorem dX5_readsSetting_4 : decode cX5_readsSetting 4 = .ok (.istore_n 1, 1) := dk_60 (dk_at dksX5_readsSetting_0 4 rfl rfl)
theorem dX5_readsSetting_5 : decode cX5_readsSetting 5 = .ok (.aload_n 0, 1) := dk_42 (dk_at dksX5_readsSetting_0 5 rfl rfl)
theorem dX5_readsSetting_6 : decode cX5_readsSetting 6 = .ok (.iload_n 1, 1) := dk_27 (dk_at dksX5_readsSetting_0 6 rfl rfl)
theorem dX5_readsSetting_7 : decode cX5_readsSetting 7 = .ok (.iconst (-1), 1) := dk_2 (dk_at dksX5_readsSetting_0 7 rfl rfl)
theorem dX5_readsSetting_8 : decode cX5_readsSetting 8 = .ok (.if_icmp .eq 7, 3) := dk_159 0 7 (dk_at dksX5_readsSetting_0 8 rfl rfl)
theorem dX5_readsSetting_11 : decode cX5_readsSetting 11 = .ok (.iconst 1, 1) := dk_4 (dk_at dksX5_readsSetting_0 11 rfl rfl)
theorem dX5_readsSetting_12 : decode cX5_readsSetting 12 = .ok (.goto 4, 3) := dk_167 0 4 (dk_at dksX5_readsSetting_0 12 rfl rfl)
theorem dX5_readsSetting_15 : decode cX5_readsSetting 15 = .ok (.iconst 0, 1) := dk_3 (dk_at dksX5_readsSetting_0 15 rfl rfl)
theorem dX5_readsSetting_16 : decode cX5_readsSetting 16 = .ok (.iconst 1, 1) := dk_4 (dk_at dksX5_readsSetting_0 16 rfl rfl)
theorem dX5_readsSetting_17 : decode cX5_readsSetting 17 = .ok (.invokevirtual 242, 3) := dk_182 0 242 (dk_at dksX5_readsSetting_0 17 rfl rfl)
theorem dX5_readsSetting_20 : decode cX5_readsSetting 20 = .ok (.aload_n 0, 1) := dk_42 (dk_at dksX5_readsSetting_0 20 rfl rfl)
theorem dX5_readsSetting_21 : decode cX5_readsSetting 21 = .ok (.invokevirtual 239, 3) := dk_182 0 239 (dk_at dksX5_readsSetting_0 21 rfl rfl)
theorem dX5_readsSetting_24 : decode cX5_readsSetting 24 = .ok (.aload_n 0, 1) := dk_42 (dk_at dksX5_readsSetting_1 0 rfl rfl)
theorem dX5_readsSetting_25 : decode cX5_readsSetting 25 = .ok (.getfield 214, 3) := dk_180 0 214 (dk_at dksX5_readsSetting_1 1 rfl rfl)
theorem dX5_readsSetting_28 : decode cX5_readsSetting 28 = .ok (.ifCond .ne 23, 3) := dk_154 0 23 (dk_at dksX5_readsSetting_1 4 rfl rfl)
theorem dX5_readsSetting_31 : decode cX5_readsSetting 31 = .ok (.aload_n 0, 1) := dk_42 (dk_at dksX5_readsSetting_1 7 rfl rfl)
theorem dX5_readsSetting_32 : decode cX5_readsSetting 32 = .ok (.iload_n 1, 1) := dk_27 (dk_at dksX5_readsSetting_1 8 rfl rfl)
theorem dX5_readsSetting_33 : decode cX5_readsSetting 33 = .ok (.invokestatic 277, 3) := dk_184 1 21 (dk_at dksX5_readsSetting_1 9 rfl rfl)
theorem dX5_readsSetting_36 : decode cX5_readsSetting 36 = .ok (.iload_n 1, 1) := dk_27 (dk_at dksX5_readsSetting_1 12 rfl rfl)
theorem dX5_readsSetting_37 : decode cX5_readsSetting 37 = .ok (.invokestatic 280, 3) := dk_184 1 24 (dk_at dksX5_readsSetting_1 13 rfl rfl)
theorem dX5_readsSetting_40 : decode cX5_readsSetting 40 = .ok (.invokevirtual 268, 3) := dk_182 1 12 (dk_at dksX5_readsSetting_1 16 rfl rfl)
theorem dX5_readsSetting_43 : decode cX5_readsSetting 43 = .ok (.istore_n 2, 1) := dk_61 (dk_at dksX5_readsSetting_1 19 rfl rfl)
theorem dX5_readsSetting_44 : decode cX5_readsSetting 44 = .ok (.aload_n 0, 1) := dk_42 (dk_at dksX5_readsSetting_1 20 rfl rfl)
theorem dX5_readsSetting_45 : decode cX5_readsSetting 45 = .ok (.getfield 9, 3) := dk_180 0 9 (dk_at dksX5_readsSetting_1 21 rfl rfl)
theorem dX5_readsSetting_48 : decode cX5_readsSetting 48 = .ok (.iload_n 1, 1) := dk_27 (dk_at dksX5_readsSetting_2 0 rfl rfl)
theorem dX5_readsSetting_49 : decode cX5_readsSetting 49 = .ok (.iload_n 2, 1) := dk_28 (dk_at dksX5_readsSetting_2 1 rfl rfl)
theorem dX5_readsSetting_50 : decode cX5_readsSetting 50 = .ok (.iastore, 1) := dk_79 (dk_at dksX5_readsSetting_2 2 rfl rfl)
theorem dX5_readsSetting_51 : decode cX5_readsSetting 51 = .ok (.return_, 1) := dk_177 (dk_at dksX5_readsSetting_2 3 rfl rfl)
abbrev cX5_settingHere : ByteArray := prog_15_method_66_code
def yX5_settingHere : MethodName := ⟨RX5, "settingHere", "()I"⟩
def dkwX5_settingHere_1 : List UInt8 := [8, 167, 0, 19, 42, 19, 1, 10, 182, 1, 4, 153, 0, 8, 16, 6, 167, 0, 4, 2, 172]
abbrev dktX5_settingHere_1 : List UInt8 := dkwX5_settingHere_1 ++ []
def dkwX5_settingHere_0 : List UInt8 := [42, 19, 1, 2, 182, 1, 4, 153, 0, 7, 7, 167, 0, 33, 42, 19, 1, 8, 182, 1, 4, 153, 0, 7]
abbrev dktX5_settingHere_0 : List UInt8 := dkwX5_settingHere_0 ++ dktX5_settingHere_1
theorem dksX5_settingHere_0 : cX5_settingHere.data.toList.drop 0 = dktX5_settingHere_0 := by decide +kernel
theorem dksX5_settingHere_1 : cX5_settingHere.data.toList.drop 24 = dktX5_settingHere_1 := dk_seg dksX5_settingHere_0 24 rfl rfl
theorem dX5_settingHere_0 : decode cX5_settingHere 0 = .ok (.aload_n 0, 1) := dk_42 (dk_at dksX5_settingHere_0 0 rfl rfl)
theorem dX5_settingHere_1 : decode cX5_settingHere 1 = .ok (.ldc_w 258, 3) := dk_19 1 2 (dk_at dksX5_settingHere_0 1 rfl rfl)
theorem dX5_settingHere_4 : decode cX5_settingHere 4 = .ok (.invokevirtual 260, 3) := dk_182 1 4 (dk_at dksX5_settingHere_0 4 rfl rfl)
theorem dX5_settingHere_7 : decode cX5_settingHere 7 = .ok (.ifCond .eq 7, 3) := dk_153 0 7 (dk_at dksX5_settingHere_0 7 rfl rfl)
theorem dX5_settingHere_10 : decode cX5_settingHere 10 = .ok (.iconst 4, 1) := dk_7 (dk_at dksX5_settingHere_0 10 rfl rfl)
theorem dX5_settingHere_11 : decode cX5_settingHere 11 = .ok (.goto 33, 3) := dk_167 0 33 (dk_at dksX5_settingHere_0 11 rfl rfl)
theorem dX5_settingHere_14 : decode cX5_settingHere 14 = .ok (.aload_n 0, 1) := dk_42 (dk_at dksX5_settingHere_0 14 rfl rfl)
theorem dX5_settingHere_15 : decode cX5_settingHere 15 = .ok (.ldc_w 264, 3) := dk_19 1 8 (dk_at dksX5_settingHere_0 15 rfl rfl)
theorem dX5_settingHere_18 : decode cX5_settingHere 18 = .ok (.invokevirtual 260, 3) := dk_182 1 4 (dk_at dksX5_settingHere_0 18 rfl rfl)
theorem dX5_settingHere_21 : decode cX5_settingHere 21 = .ok (.ifCond .eq 7, 3) := dk_153 0 7 (dk_at dksX5_settingHere_0 21 rfl rfl)
theorem dX5_settingHere_24 : decode cX5_settingHere 24 = .ok (.iconst 5, 1) := dk_8 (dk_at dksX5_settingHere_1 0 rfl rfl)
theorem dX5_settingHere_25 : decode cX5_settingHere 25 = .ok (.goto 19, 3) := dk_167 0 19 (dk_at dksX5_settingHere_1 1 rfl rfl)
theorem dX5_settingHere_28 : decode cX5_settingHere 28 = .ok (.aload_n 0, 1) := dk_42 (dk_at dksX5_settingHere_1 4 rfl rfl)
theorem dX5_settingHere_29 : decode cX5_settingHere 29 = .ok (.ldc_w 266, 3) := dk_19 1 10 (dk_at dksX5_settingHere_1 5 rfl rfl)
theorem dX5_settingHere_32 : decode cX5_settingHere 32 = .ok (.invokevirtual 260, 3) := dk_182 1 4 (dk_at dksX5_settingHere_1 8 rfl rfl)
theorem dX5_settingHere_35 : decode cX5_settingHere 35 = .ok (.ifCond .eq 8, 3) := dk_153 0 8 (dk_at dksX5_settingHere_1 11 rfl rfl)
theorem dX5_settingHere_38 : decode cX5_settingHere 38 = .ok (.bipush 6, 2) := dk_16 6 (dk_at dksX5_settingHere_1 14 rfl rfl)
theorem dX5_settingHere_40 : decode cX5_settingHere 40 = .ok (.goto 4, 3) := dk_167 0 4 (dk_at dksX5_settingHere_1 16 rfl rfl)
theorem dX5_settingHere_43 : decode cX5_settingHere 43 = .ok (.iconst (-1), 1) := dk_2 (dk_at dksX5_settingHere_1 19 rfl rfl)
theorem dX5_settingHere_44 : decode cX5_settingHere 44 = .ok (.ireturn, 1) := dk_172 (dk_at dksX5_settingHere_1 20 rfl rfl)
abbrev cX5_lowOf : ByteArray := prog_15_method_45_code
def yX5_lowOf : MethodName := ⟨RX5, "lowOf", "(I)I"⟩
def dkwX5_lowOf_0 : List UInt8 := [26, 8, 160, 0, 7, 4, 167, 0, 4, 3, 172]
abbrev dktX5_lowOf_0 : List UInt8 := dkwX5_lowOf_0 ++ []
theorem dksX5_lowOf_0 : cX5_lowOf.data.toList.drop 0 = dktX5_lowOf_0 := by decide +kernel
theorem dX5_lowOf_0 : decode cX5_lowOf 0 = .ok (.iload_n 0, 1) := dk_26 (dk_at dksX5_lowOf_0 0 rfl rfl)
theorem dX5_lowOf_1 : decode cX5_lowOf 1 = .ok (.iconst 5, 1) := dk_8 (dk_at dksX5_lowOf_0 1 rfl rfl)
theorem dX5_lowOf_2 : decode cX5_lowOf 2 = .ok (.if_icmp .ne 7, 3) := dk_160 0 7 (dk_at dksX5_lowOf_0 2 rfl rfl)
theorem dX5_lowOf_5 : decode cX5_lowOf 5 = .ok (.iconst 1, 1) := dk_4 (dk_at dksX5_lowOf_0 5 rfl rfl)
theorem dX5_lowOf_6 : decode cX5_lowOf 6 = .ok (.goto 4, 3) := dk_167 0 4 (dk_at dksX5_lowOf_0 6 rfl rfl)
theorem dX5_lowOf_9 : decode cX5_lowOf 9 = .ok (.iconst 0, 1) := dk_3 (dk_at dksX5_lowOf_0 9 rfl rfl)
theorem dX5_lowOf_10 : decode cX5_lowOf 10 = .ok (.ireturn, 1) := dk_172 (dk_at dksX5_lowOf_0 10 rfl rfl)
abbrev cX5_highOf : ByteArray := prog_15_method_46_code
def yX5_highOf : MethodName := ⟨RX5, "highOf", "(I)I"⟩
def dkwX5_highOf_0 : List UInt8 := [26, 8, 160, 0, 8, 16, 60, 167, 0, 14, 26, 7, 160, 0, 8, 16, 9, 167, 0, 4, 6, 172]
abbrev dktX5_highOf_0 : List UInt8 := dkwX5_highOf_0 ++ []
theorem dksX5_highOf_0 : cX5_highOf.data.toList.drop 0 = dktX5_highOf_0 := by decide +kernel
theorem dX5_highOf_0 : decode cX5_highOf 0 = .ok (.iload_n 0, 1) := dk_26 (dk_at dksX5_highOf_0 0 rfl rfl)
theorem dX5_highOf_1 : decode cX5_highOf 1 = .ok (.iconst 5, 1) := dk_8 (dk_at dksX5_highOf_0 1 rfl rfl)
theorem dX5_highOf_2 : decode cX5_highOf 2 = .ok (.if_icmp .ne 8, 3) := dk_160 0 8 (dk_at dksX5_highOf_0 2 rfl rfl)
theorem dX5_highOf_5 : decode cX5_highOf 5 = .ok (.bipush 60, 2) := dk_16 60 (dk_at dksX5_highOf_0 5 rfl rfl)
theorem dX5_highOf_7 : decode cX5_highOf 7 = .ok (.goto 14, 3) := dk_167 0 14 (dk_at dksX5_highOf_0 7 rfl rfl)
theorem dX5_highOf_10 : decode cX5_highOf 10 = .ok (.iload_n 0, 1) := dk_26 (dk_at dksX5_highOf_0 10 rfl rfl)
theorem dX5_highOf_11 : decode cX5_highOf 11 = .ok (.iconst 4, 1) := dk_7 (dk_at dksX5_highOf_0 11 rfl rfl)
theorem dX5_highOf_12 : decode cX5_highOf 12 = .ok (.if_icmp .ne 8, 3) := dk_160 0 8 (dk_at dksX5_highOf_0 12 rfl rfl)
theorem dX5_highOf_15 : decode cX5_highOf 15 = .ok (.bipush 9, 2) := dk_16 9 (dk_at dksX5_highOf_0 15 rfl rfl)
theorem dX5_highOf_17 : decode cX5_highOf 17 = .ok (.goto 4, 3) := dk_167 0 4 (dk_at dksX5_highOf_0 17 rfl rfl)
theorem dX5_highOf_20 : decode cX5_highOf 20 = .ok (.iconst 3, 1) := dk_6 (dk_at dksX5_highOf_0 20 rfl rfl)
theorem dX5_highOf_21 : decode cX5_highOf 21 = .ok (.ireturn, 1) := dk_172 (dk_at dksX5_highOf_0 21 rfl rfl)
abbrev cX5_semicolon : ByteArray := prog_15_method_62_code
def yX5_semicolon : MethodName := ⟨RX5, "semicolon", "()V"⟩
def dkwX5_semicolon_0 : List UInt8 := [42, 42, 180, 0, 223, 6, 160, 0, 7, 4, 167, 0, 4, 3, 4, 182, 0, 242, 42, 182, 0, 239, 177]
abbrev dktX5_semicolon_0 : List UInt8 := dkwX5_semicolon_0 ++ []
theorem dksX5_semicolon_0 : cX5_semicolon.data.toList.drop 0 = dktX5_semicolon_0 := by decide +kernel
theorem dX5_semicolon_0 : decode cX5_semicolon 0 = .ok (.aload_n 0, 1) := dk_42 (dk_at dksX5_semicolon_0 0 rfl rfl)
theorem dX5_semicolon_1 : decode cX5_semicolon 1 = .ok (.aload_n 0, 1) := dk_42 (dk_at dksX5_semicolon_0 1 rfl rfl)
theorem dX5_semicolon_2 : decode cX5_semicolon 2 = .ok (.getfield 223, 3) := dk_180 0 223 (dk_at dksX5_semicolon_0 2 rfl rfl)
theorem dX5_semicolon_5 : decode cX5_semicolon 5 = .ok (.iconst 3, 1) := dk_6 (dk_at dksX5_semicolon_0 5 rfl rfl)
theorem dX5_semicolon_6 : decode cX5_semicolon 6 = .ok (.if_icmp .ne 7, 3) := dk_160 0 7 (dk_at dksX5_semicolon_0 6 rfl rfl)
theorem dX5_semicolon_9 : decode cX5_semicolon 9 = .ok (.iconst 1, 1) := dk_4 (dk_at dksX5_semicolon_0 9 rfl rfl)
theorem dX5_semicolon_10 : decode cX5_semicolon 10 = .ok (.goto 4, 3) := dk_167 0 4 (dk_at dksX5_semicolon_0 10 rfl rfl)
theorem dX5_semicolon_13 : decode cX5_semicolon 13 = .ok (.iconst 0, 1) := dk_3 (dk_at dksX5_semicolon_0 13 rfl rfl)
theorem dX5_semicolon_14 : decode cX5_semicolon 14 = .ok (.iconst 1, 1) := dk_4 (dk_at dksX5_semicolon_0 14 rfl rfl)
theorem dX5_semicolon_15 : decode cX5_semicolon 15 = .ok (.invokevirtual 242, 3) := dk_182 0 242 (dk_at dksX5_semicolon_0 15 rfl rfl)
theorem dX5_semicolon_18 : decode cX5_semicolon 18 = .ok (.aload_n 0, 1) := dk_42 (dk_at dksX5_semicolon_0 18 rfl rfl)
theorem dX5_semicolon_19 : decode cX5_semicolon 19 = .ok (.invokevirtual 239, 3) := dk_182 0 239 (dk_at dksX5_semicolon_0 19 rfl rfl)
theorem dX5_semicolon_22 : decode cX5_semicolon 22 = .ok (.return_, 1) := dk_177 (dk_at dksX5_semicolon_0 22 rfl rfl)
abbrev cX5_ending : ByteArray := prog_15_method_58_code
def yX5_ending : MethodName := ⟨RX5, "ending", "()V"⟩
def dkwX5_ending_1 : List UInt8 := [181, 0, 35, 42, 3, 181, 0, 193, 177]
abbrev dktX5_ending_1 : List UInt8 := dkwX5_ending_1 ++ []
def dkwX5_ending_0 : List UInt8 := [42, 42, 180, 0, 214, 181, 0, 203, 42, 42, 180, 0, 214, 154, 0, 7, 2, 167, 0, 7, 42, 180, 0, 236]
abbrev dktX5_ending_0 : List UInt8 := dkwX5_ending_0 ++ dktX5_ending_1
theorem dksX5_ending_0 : cX5_ending.data.toList.drop 0 = dktX5_ending_0 := by decide +kernel
theorem dksX5_ending_1 : cX5_ending.data.toList.drop 24 = dktX5_ending_1 := dk_seg dksX5_ending_0 24 rfl rfl
theorem dX5_ending_0 : decode cX5_ending 0 = .ok (.aload_n 0, 1) := dk_42 (dk_at dksX5_ending_0 0 rfl rfl)
theorem dX5_ending_1 : decode cX5_ending 1 = .ok (.aload_n 0, 1) := dk_42 (dk_at dksX5_ending_0 1 rfl rfl)
theorem dX5_ending_2 : decode cX5_ending 2 = .ok (.getfield 214, 3) := dk_180 0 214 (dk_at dksX5_ending_0 2 rfl rfl)
theorem dX5_ending_5 : decode cX5_ending 5 = .ok (.putfield 203, 3) := dk_181 0 203 (dk_at dksX5_ending_0 5 rfl rfl)
theorem dX5_ending_8 : decode cX5_ending 8 = .ok (.aload_n 0, 1) := dk_42 (dk_at dksX5_ending_0 8 rfl rfl)
theorem dX5_ending_9 : decode cX5_ending 9 = .ok (.aload_n 0, 1) := dk_42 (dk_at dksX5_ending_0 9 rfl rfl)
theorem dX5_ending_10 : decode cX5_ending 10 = .ok (.getfield 214, 3) := dk_180 0 214 (dk_at dksX5_ending_0 10 rfl rfl)
theorem dX5_ending_13 : decode cX5_ending 13 = .ok (.ifCond .ne 7, 3) := dk_154 0 7 (dk_at dksX5_ending_0 13 rfl rfl)
theorem dX5_ending_16 : decode cX5_ending 16 = .ok (.iconst (-1), 1) := dk_2 (dk_at dksX5_ending_0 16 rfl rfl)
theorem dX5_ending_17 : decode cX5_ending 17 = .ok (.goto 7, 3) := dk_167 0 7 (dk_at dksX5_ending_0 17 rfl rfl)
theorem dX5_ending_20 : decode cX5_ending 20 = .ok (.aload_n 0, 1) := dk_42 (dk_at dksX5_ending_0 20 rfl rfl)
theorem dX5_ending_21 : decode cX5_ending 21 = .ok (.getfield 236, 3) := dk_180 0 236 (dk_at dksX5_ending_0 21 rfl rfl)
theorem dX5_ending_24 : decode cX5_ending 24 = .ok (.putfield 35, 3) := dk_181 0 35 (dk_at dksX5_ending_1 0 rfl rfl)
theorem dX5_ending_27 : decode cX5_ending 27 = .ok (.aload_n 0, 1) := dk_42 (dk_at dksX5_ending_1 3 rfl rfl)
theorem dX5_ending_28 : decode cX5_ending 28 = .ok (.iconst 0, 1) := dk_3 (dk_at dksX5_ending_1 4 rfl rfl)
theorem dX5_ending_29 : decode cX5_ending 29 = .ok (.putfield 193, 3) := dk_181 0 193 (dk_at dksX5_ending_1 5 rfl rfl)
theorem dX5_ending_32 : decode cX5_ending 32 = .ok (.return_, 1) := dk_177 (dk_at dksX5_ending_1 8 rfl rfl)
abbrev cX5_gives : ByteArray := prog_15_method_12_code
def yX5_gives : MethodName := ⟨RX5, "gives", "([II)I"⟩
def dkwX5_gives_1 : List UInt8 := [28, 172]
abbrev dktX5_gives_1 : List UInt8 := dkwX5_gives_1 ++ []
def dkwX5_gives_0 : List UInt8 := [3, 62, 29, 17, 4, 6, 162, 0, 18, 42, 180, 0, 9, 29, 43, 29, 46, 79, 132, 3, 1, 167, 255, 237]
abbrev dktX5_gives_0 : List UInt8 := dkwX5_gives_0 ++ dktX5_gives_1
theorem dksX5_gives_0 : cX5_gives.data.toList.drop 0 = dktX5_gives_0 := by decide +kernel
theorem dksX5_gives_1 : cX5_gives.data.toList.drop 24 = dktX5_gives_1 := dk_seg dksX5_gives_0 24 rfl rfl
theorem dX5_gives_0 : decode cX5_gives 0 = .ok (.iconst 0, 1) := dk_3 (dk_at dksX5_gives_0 0 rfl rfl)
theorem dX5_gives_1 : decode cX5_gives 1 = .ok (.istore_n 3, 1) := dk_62 (dk_at dksX5_gives_0 1 rfl rfl)
theorem dX5_gives_2 : decode cX5_gives 2 = .ok (.iload_n 3, 1) := dk_29 (dk_at dksX5_gives_0 2 rfl rfl)
theorem dX5_gives_3 : decode cX5_gives 3 = .ok (.sipush 1030, 3) := dk_17 4 6 (dk_at dksX5_gives_0 3 rfl rfl)
theorem dX5_gives_6 : decode cX5_gives 6 = .ok (.if_icmp .ge 18, 3) := dk_162 0 18 (dk_at dksX5_gives_0 6 rfl rfl)
theorem dX5_gives_9 : decode cX5_gives 9 = .ok (.aload_n 0, 1) := dk_42 (dk_at dksX5_gives_0 9 rfl rfl)
theorem dX5_gives_10 : decode cX5_gives 10 = .ok (.getfield 9, 3) := dk_180 0 9 (dk_at dksX5_gives_0 10 rfl rfl)
theorem dX5_gives_13 : decode cX5_gives 13 = .ok (.iload_n 3, 1) := dk_29 (dk_at dksX5_gives_0 13 rfl rfl)
theorem dX5_gives_14 : decode cX5_gives 14 = .ok (.aload_n 1, 1) := dk_43 (dk_at dksX5_gives_0 14 rfl rfl)
theorem dX5_gives_15 : decode cX5_gives 15 = .ok (.iload_n 3, 1) := dk_29 (dk_at dksX5_gives_0 15 rfl rfl)
theorem dX5_gives_16 : decode cX5_gives 16 = .ok (.iaload, 1) := dk_46 (dk_at dksX5_gives_0 16 rfl rfl)
theorem dX5_gives_17 : decode cX5_gives 17 = .ok (.iastore, 1) := dk_79 (dk_at dksX5_gives_0 17 rfl rfl)
theorem dX5_gives_18 : decode cX5_gives 18 = .ok (.iinc 3 1, 3) := dk_132 3 1 (dk_at dksX5_gives_0 18 rfl rfl)
theorem dX5_gives_21 : decode cX5_gives 21 = .ok (.goto (-19), 3) := dk_167 255 237 (dk_at dksX5_gives_0 21 rfl rfl)
theorem dX5_gives_24 : decode cX5_gives 24 = .ok (.iload_n 2, 1) := dk_28 (dk_at dksX5_gives_1 0 rfl rfl)
theorem dX5_gives_25 : decode cX5_gives 25 = .ok (.ireturn, 1) := dk_172 (dk_at dksX5_gives_1 1 rfl rfl)
abbrev cX5_playScript : ByteArray := prog_15_method_77_code
def yX5_playScript : MethodName := ⟨RX5, "playScript", "()I"⟩
def dkwX5_playScript_3 : List UInt8 := [132, 1, 1, 167, 255, 237, 27, 172]
abbrev dktX5_playScript_3 : List UInt8 := dkwX5_playScript_3 ++ []
def dkwX5_playScript_2 : List UInt8 := [2, 172, 42, 182, 1, 101, 3, 60, 27, 42, 180, 1, 77, 162, 0, 17, 42, 27, 182, 1, 104, 153, 0, 9]
abbrev dktX5_playScript_2 : List UInt8 := dkwX5_playScript_2 ++ dktX5_playScript_3
def dkwX5_playScript_1 : List UInt8 := [180, 0, 223, 153, 0, 10, 42, 182, 1, 98, 167, 255, 238, 42, 182, 1, 53, 42, 180, 0, 214, 158, 0, 5]
abbrev dktX5_playScript_1 : List UInt8 := dkwX5_playScript_1 ++ dktX5_playScript_2
def dkwX5_playScript_0 : List UInt8 := [42, 3, 181, 0, 78, 42, 3, 181, 1, 77, 42, 182, 1, 47, 42, 180, 0, 214, 154, 0, 17, 42]
abbrev dktX5_playScript_0 : List UInt8 := dkwX5_playScript_0 ++ dktX5_playScript_1
theorem dksX5_playScript_0 : cX5_playScript.data.toList.drop 0 = dktX5_playScript_0 := by decide +kernel
theorem dksX5_playScript_1 : cX5_playScript.data.toList.drop 22 = dktX5_playScript_1 := dk_seg dksX5_playScript_0 22 rfl rfl
theorem dksX5_playScript_2 : cX5_playScript.data.toList.drop 46 = dktX5_playScript_2 := dk_seg dksX5_playScript_1 24 rfl rfl
theorem dksX5_playScript_3 : cX5_playScript.data.toList.drop 70 = dktX5_playScript_3 := dk_seg dksX5_playScript_2 24 rfl rfl
theorem dX5_playScript_0 : decode cX5_playScript 0 = .ok (.aload_n 0, 1) := dk_42 (dk_at dksX5_playScript_0 0 rfl rfl)
theorem dX5_playScript_1 : decode cX5_playScript 1 = .ok (.iconst 0, 1) := dk_3 (dk_at dksX5_playScript_0 1 rfl rfl)
theorem dX5_playScript_2 : decode cX5_playScript 2 = .ok (.putfield 78, 3) := dk_181 0 78 (dk_at dksX5_playScript_0 2 rfl rfl)
theorem dX5_playScript_5 : decode cX5_playScript 5 = .ok (.aload_n 0, 1) := dk_42 (dk_at dksX5_playScript_0 5 rfl rfl)
theorem dX5_playScript_6 : decode cX5_playScript 6 = .ok (.iconst 0, 1) := dk_3 (dk_at dksX5_playScript_0 6 rfl rfl)
theorem dX5_playScript_7 : decode cX5_playScript 7 = .ok (.putfield 333, 3) := dk_181 1 77 (dk_at dksX5_playScript_0 7 rfl rfl)
theorem dX5_playScript_10 : decode cX5_playScript 10 = .ok (.aload_n 0, 1) := dk_42 (dk_at dksX5_playScript_0 10 rfl rfl)
theorem dX5_playScript_11 : decode cX5_playScript 11 = .ok (.invokevirtual 303, 3) := dk_182 1 47 (dk_at dksX5_playScript_0 11 rfl rfl)
theorem dX5_playScript_14 : decode cX5_playScript 14 = .ok (.aload_n 0, 1) := dk_42 (dk_at dksX5_playScript_0 14 rfl rfl)
theorem dX5_playScript_15 : decode cX5_playScript 15 = .ok (.getfield 214, 3) := dk_180 0 214 (dk_at dksX5_playScript_0 15 rfl rfl)
theorem dX5_playScript_18 : decode cX5_playScript 18 = .ok (.ifCond .ne 17, 3) := dk_154 0 17 (dk_at dksX5_playScript_0 18 rfl rfl)
theorem dX5_playScript_21 : decode cX5_playScript 21 = .ok (.aload_n 0, 1) := dk_42 (dk_at dksX5_playScript_0 21 rfl rfl)
theorem dX5_playScript_22 : decode cX5_playScript 22 = .ok (.getfield 223, 3) := dk_180 0 223 (dk_at dksX5_playScript_1 0 rfl rfl)
theorem dX5_playScript_25 : decode cX5_playScript 25 = .ok (.ifCond .eq 10, 3) := dk_153 0 10 (dk_at dksX5_playScript_1 3 rfl rfl)
theorem dX5_playScript_28 : decode cX5_playScript 28 = .ok (.aload_n 0, 1) := dk_42 (dk_at dksX5_playScript_1 6 rfl rfl)
theorem dX5_playScript_29 : decode cX5_playScript 29 = .ok (.invokevirtual 354, 3) := dk_182 1 98 (dk_at dksX5_playScript_1 7 rfl rfl)
theorem dX5_playScript_32 : decode cX5_playScript 32 = .ok (.goto (-18), 3) := dk_167 255 238 (dk_at dksX5_playScript_1 10 rfl rfl)
theorem dX5_playScript_35 : decode cX5_playScript 35 = .ok (.aload_n 0, 1) := dk_42 (dk_at dksX5_playScript_1 13 rfl rfl)
theorem dX5_playScript_36 : decode cX5_playScript 36 = .ok (.invokevirtual 309, 3) := dk_182 1 53 (dk_at dksX5_playScript_1 14 rfl rfl)
theorem dX5_playScript_39 : decode cX5_playScript 39 = .ok (.aload_n 0, 1) := dk_42 (dk_at dksX5_playScript_1 17 rfl rfl)
theorem dX5_playScript_40 : decode cX5_playScript 40 = .ok (.getfield 214, 3) := dk_180 0 214 (dk_at dksX5_playScript_1 18 rfl rfl)
theorem dX5_playScript_43 : decode cX5_playScript 43 = .ok (.ifCond .le 5, 3) := dk_158 0 5 (dk_at dksX5_playScript_1 21 rfl rfl)
theorem dX5_playScript_46 : decode cX5_playScript 46 = .ok (.iconst (-1), 1) := dk_2 (dk_at dksX5_playScript_2 0 rfl rfl)
theorem dX5_playScript_47 : decode cX5_playScript 47 = .ok (.ireturn, 1) := dk_172 (dk_at dksX5_playScript_2 1 rfl rfl)
theorem dX5_playScript_48 : decode cX5_playScript 48 = .ok (.aload_n 0, 1) := dk_42 (dk_at dksX5_playScript_2 2 rfl rfl)
theorem dX5_playScript_49 : decode cX5_playScript 49 = .ok (.invokevirtual 357, 3) := dk_182 1 101 (dk_at dksX5_playScript_2 3 rfl rfl)
theorem dX5_playScript_52 : decode cX5_playScript 52 = .ok (.iconst 0, 1) := dk_3 (dk_at dksX5_playScript_2 6 rfl rfl)
theorem dX5_playScript_53 : decode cX5_playScript 53 = .ok (.istore_n 1, 1) := dk_60 (dk_at dksX5_playScript_2 7 rfl rfl)
theorem dX5_playScript_54 : decode cX5_playScript 54 = .ok (.iload_n 1, 1) := dk_27 (dk_at dksX5_playScript_2 8 rfl rfl)
theorem dX5_playScript_55 : decode cX5_playScript 55 = .ok (.aload_n 0, 1) := dk_42 (dk_at dksX5_playScript_2 9 rfl rfl)
theorem dX5_playScript_56 : decode cX5_playScript 56 = .ok (.getfield 333, 3) := dk_180 1 77 (dk_at dksX5_playScript_2 10 rfl rfl)
theorem dX5_playScript_59 : decode cX5_playScript 59 = .ok (.if_icmp .ge 17, 3) := dk_162 0 17 (dk_at dksX5_playScript_2 13 rfl rfl)
theorem dX5_playScript_62 : decode cX5_playScript 62 = .ok (.aload_n 0, 1) := dk_42 (dk_at dksX5_playScript_2 16 rfl rfl)
theorem dX5_playScript_63 : decode cX5_playScript 63 = .ok (.iload_n 1, 1) := dk_27 (dk_at dksX5_playScript_2 17 rfl rfl)
theorem dX5_playScript_64 : decode cX5_playScript 64 = .ok (.invokevirtual 360, 3) := dk_182 1 104 (dk_at dksX5_playScript_2 18 rfl rfl)
theorem dX5_playScript_67 : decode cX5_playScript 67 = .ok (.ifCond .eq 9, 3) := dk_153 0 9 (dk_at dksX5_playScript_2 21 rfl rfl)
theorem dX5_playScript_70 : decode cX5_playScript 70 = .ok (.iinc 1 1, 3) := dk_132 1 1 (dk_at dksX5_playScript_3 0 rfl rfl)
theorem dX5_playScript_73 : decode cX5_playScript 73 = .ok (.goto (-19), 3) := dk_167 255 237 (dk_at dksX5_playScript_3 3 rfl rfl)
theorem dX5_playScript_76 : decode cX5_playScript 76 = .ok (.iload_n 1, 1) := dk_27 (dk_at dksX5_playScript_3 6 rfl rfl)
theorem dX5_playScript_77 : decode cX5_playScript 77 = .ok (.ireturn, 1) := dk_172 (dk_at dksX5_playScript_3 7 rfl rfl)
abbrev cX5_readsDeed : ByteArray := prog_15_method_74_code
def yX5_readsDeed : MethodName := ⟨RX5, "readsDeed", "()V"⟩
def dkwX5_readsDeed_12 : List UInt8 := [180, 1, 77, 4, 96, 181, 1, 77, 177]
abbrev dktX5_readsDeed_12 : List UInt8 := dkwX5_readsDeed_12 ++ []
def dkwX5_readsDeed_11 : List UInt8 := [29, 5, 96, 42, 28, 184, 1, 21, 28, 184, 1, 24, 182, 1, 12, 79, 42, 182, 1, 40, 42, 89]
abbrev dktX5_readsDeed_11 : List UInt8 := dkwX5_readsDeed_11 ++ dktX5_readsDeed_12
def dkwX5_readsDeed_10 : List UInt8 := [29, 4, 96, 46, 182, 1, 15, 79, 167, 0, 32, 42, 180, 0, 39, 29, 4, 96, 28, 79, 42, 180, 0, 39]
abbrev dktX5_readsDeed_10 : List UInt8 := dkwX5_readsDeed_10 ++ dktX5_readsDeed_11
def dkwX5_readsDeed_9 : List UInt8 := [180, 0, 39, 29, 4, 96, 42, 2, 182, 1, 15, 79, 42, 180, 0, 39, 29, 5, 96, 42, 42, 180, 0, 39]
abbrev dktX5_readsDeed_9 : List UInt8 := dkwX5_readsDeed_9 ++ dktX5_readsDeed_10
def dkwX5_readsDeed_8 : List UInt8 := [182, 1, 15, 79, 42, 180, 0, 39, 29, 5, 96, 42, 4, 16, 99, 182, 1, 12, 79, 167, 0, 68, 42]
abbrev dktX5_readsDeed_8 : List UInt8 := dkwX5_readsDeed_8 ++ dktX5_readsDeed_9
def dkwX5_readsDeed_7 : List UInt8 := [4, 96, 42, 4, 17, 0, 200, 182, 1, 12, 79, 167, 0, 99, 42, 180, 0, 39, 29, 4, 96, 42, 2]
abbrev dktX5_readsDeed_7 : List UInt8 := dkwX5_readsDeed_7 ++ dktX5_readsDeed_8
def dkwX5_readsDeed_6 : List UInt8 := [180, 0, 39, 29, 4, 96, 46, 182, 1, 15, 79, 42, 29, 182, 1, 80, 167, 0, 118, 42, 180, 0, 39, 29]
abbrev dktX5_readsDeed_6 : List UInt8 := dkwX5_readsDeed_6 ++ dktX5_readsDeed_7
def dkwX5_readsDeed_5 : List UInt8 := [42, 180, 0, 39, 29, 4, 96, 42, 2, 182, 1, 15, 79, 42, 180, 0, 39, 29, 5, 96, 42, 42]
abbrev dktX5_readsDeed_5 : List UInt8 := dkwX5_readsDeed_5 ++ dktX5_readsDeed_6
def dkwX5_readsDeed_4 : List UInt8 := [170, 0, 0, 0, 0, 0, 0, 163, 0, 0, 0, 0, 0, 0, 0, 4, 0, 0, 0, 36, 0, 0, 0, 36, 0, 0, 0, 77, 0, 0, 0, 96, 0, 0, 0, 127]
abbrev dktX5_readsDeed_4 : List UInt8 := dkwX5_readsDeed_4 ++ dktX5_readsDeed_5
def dkwX5_readsDeed_3 : List UInt8 := [27, 79, 27]
abbrev dktX5_readsDeed_3 : List UInt8 := dkwX5_readsDeed_3 ++ dktX5_readsDeed_4
def dkwX5_readsDeed_2 : List UInt8 := [182, 0, 239, 42, 180, 0, 214, 158, 0, 4, 177, 16, 12, 42, 180, 1, 77, 104, 62, 42, 180, 0, 39, 29]
abbrev dktX5_readsDeed_2 : List UInt8 := dkwX5_readsDeed_2 ++ dktX5_readsDeed_3
def dkwX5_readsDeed_1 : List UInt8 := [182, 0, 242, 42, 42, 180, 1, 77, 16, 30, 162, 0, 7, 4, 167, 0, 4, 3, 8, 182, 0, 242, 42]
abbrev dktX5_readsDeed_1 : List UInt8 := dkwX5_readsDeed_1 ++ dktX5_readsDeed_2
def dkwX5_readsDeed_0 : List UInt8 := [42, 182, 1, 74, 60, 42, 182, 1, 18, 61, 42, 27, 2, 159, 0, 7, 4, 167, 0, 4, 3, 4]
abbrev dktX5_readsDeed_0 : List UInt8 := dkwX5_readsDeed_0 ++ dktX5_readsDeed_1
theorem dksX5_readsDeed_0 : cX5_readsDeed.data.toList.drop 0 = dktX5_readsDeed_0 := by decide +kernel
theorem dksX5_readsDeed_1 : cX5_readsDeed.data.toList.drop 22 = dktX5_readsDeed_1 := dk_seg dksX5_readsDeed_0 22 rfl rfl
theorem dksX5_readsDeed_2 : cX5_readsDeed.data.toList.drop 45 = dktX5_readsDeed_2 := dk_seg dksX5_readsDeed_1 23 rfl rfl
theorem dksX5_readsDeed_3 : cX5_readsDeed.data.toList.drop 69 = dktX5_readsDeed_3 := dk_seg dksX5_readsDeed_2 24 rfl rfl
theorem dksX5_readsDeed_4 : cX5_readsDeed.data.toList.drop 72 = dktX5_readsDeed_4 := dk_seg dksX5_readsDeed_3 3 rfl rfl
theorem dksX5_readsDeed_5 : cX5_readsDeed.data.toList.drop 108 = dktX5_readsDeed_5 := dk_seg dksX5_readsDeed_4 36 rfl rfl
theorem dksX5_readsDeed_6 : cX5_readsDeed.data.toList.drop 130 = dktX5_readsDeed_6 := dk_seg dksX5_readsDeed_5 22 rfl rfl
theorem dksX5_readsDeed_7 : cX5_readsDeed.data.toList.drop 154 = dktX5_readsDeed_7 := dk_seg dksX5_readsDeed_6 24 rfl rfl
theorem dksX5_readsDeed_8 : cX5_readsDeed.data.toList.drop 177 = dktX5_readsDeed_8 := dk_seg dksX5_readsDeed_7 23 rfl rfl
theorem dksX5_readsDeed_9 : cX5_readsDeed.data.toList.drop 200 = dktX5_readsDeed_9 := dk_seg dksX5_readsDeed_8 23 rfl rfl
theorem dksX5_readsDeed_10 : cX5_readsDeed.data.toList.drop 224 = dktX5_readsDeed_10 := dk_seg dksX5_readsDeed_9 24 rfl rfl
theorem dksX5_readsDeed_11 : cX5_readsDeed.data.toList.drop 248 = dktX5_readsDeed_11 := dk_seg dksX5_readsDeed_10 24 rfl rfl
theorem dksX5_readsDeed_12 : cX5_readsDeed.data.toList.drop 270 = dktX5_readsDeed_12 := dk_seg dksX5_readsDeed_11 22 rfl rfl
theorem dX5_readsDeed_0 : decode cX5_readsDeed 0 = .ok (.aload_n 0, 1) := dk_42 (dk_at dksX5_readsDeed_0 0 rfl rfl)
theorem dX5_readsDeed_1 : decode cX5_readsDeed 1 = .ok (.invokevirtual 330, 3) := dk_182 1 74 (dk_at dksX5_readsDeed_0 1 rfl rfl)
theorem dX5_readsDeed_4 : decode cX5_readsDeed 4 = .ok (.istore_n 1, 1) := dk_60 (dk_at dksX5_readsDeed_0 4 rfl rfl)
theorem dX5_readsDeed_5 : decode cX5_readsDeed 5 = .ok (.aload_n 0, 1) := dk_42 (dk_at dksX5_readsDeed_0 5 rfl rfl)
theorem dX5_readsDeed_6 : decode cX5_readsDeed 6 = .ok (.invokevirtual 274, 3) := dk_182 1 18 (dk_at dksX5_readsDeed_0 6 rfl rfl)
theorem dX5_readsDeed_9 : decode cX5_readsDeed 9 = .ok (.istore_n 2, 1) := dk_61 (dk_at dksX5_readsDeed_0 9 rfl rfl)
theorem dX5_readsDeed_10 : decode cX5_readsDeed 10 = .ok (.aload_n 0, 1) := dk_42 (dk_at dksX5_readsDeed_0 10 rfl rfl)
theorem dX5_readsDeed_11 : decode cX5_readsDeed 11 = .ok (.iload_n 1, 1) := dk_27 (dk_at dksX5_readsDeed_0 11 rfl rfl)
theorem dX5_readsDeed_12 : decode cX5_readsDeed 12 = .ok (.iconst (-1), 1) := dk_2 (dk_at dksX5_readsDeed_0 12 rfl rfl)
theorem dX5_readsDeed_13 : decode cX5_readsDeed 13 = .ok (.if_icmp .eq 7, 3) := dk_159 0 7 (dk_at dksX5_readsDeed_0 13 rfl rfl)
theorem dX5_readsDeed_16 : decode cX5_readsDeed 16 = .ok (.iconst 1, 1) := dk_4 (dk_at dksX5_readsDeed_0 16 rfl rfl)
theorem dX5_readsDeed_17 : decode cX5_readsDeed 17 = .ok (.goto 4, 3) := dk_167 0 4 (dk_at dksX5_readsDeed_0 17 rfl rfl)
theorem dX5_readsDeed_20 : decode cX5_readsDeed 20 = .ok (.iconst 0, 1) := dk_3 (dk_at dksX5_readsDeed_0 20 rfl rfl)
theorem dX5_readsDeed_21 : decode cX5_readsDeed 21 = .ok (.iconst 1, 1) := dk_4 (dk_at dksX5_readsDeed_0 21 rfl rfl)
theorem dX5_readsDeed_22 : decode cX5_readsDeed 22 = .ok (.invokevirtual 242, 3) := dk_182 0 242 (dk_at dksX5_readsDeed_1 0 rfl rfl)
theorem dX5_readsDeed_25 : decode cX5_readsDeed 25 = .ok (.aload_n 0, 1) := dk_42 (dk_at dksX5_readsDeed_1 3 rfl rfl)
theorem dX5_readsDeed_26 : decode cX5_readsDeed 26 = .ok (.aload_n 0, 1) := dk_42 (dk_at dksX5_readsDeed_1 4 rfl rfl)
theorem dX5_readsDeed_27 : decode cX5_readsDeed 27 = .ok (.getfield 333, 3) := dk_180 1 77 (dk_at dksX5_readsDeed_1 5 rfl rfl)
theorem dX5_readsDeed_30 : decode cX5_readsDeed 30 = .ok (.bipush 30, 2) := dk_16 30 (dk_at dksX5_readsDeed_1 8 rfl rfl)
theorem dX5_readsDeed_32 : decode cX5_readsDeed 32 = .ok (.if_icmp .ge 7, 3) := dk_162 0 7 (dk_at dksX5_readsDeed_1 10 rfl rfl)
theorem dX5_readsDeed_35 : decode cX5_readsDeed 35 = .ok (.iconst 1, 1) := dk_4 (dk_at dksX5_readsDeed_1 13 rfl rfl)
theorem dX5_readsDeed_36 : decode cX5_readsDeed 36 = .ok (.goto 4, 3) := dk_167 0 4 (dk_at dksX5_readsDeed_1 14 rfl rfl)
theorem dX5_readsDeed_39 : decode cX5_readsDeed 39 = .ok (.iconst 0, 1) := dk_3 (dk_at dksX5_readsDeed_1 17 rfl rfl)
theorem dX5_readsDeed_40 : decode cX5_readsDeed 40 = .ok (.iconst 5, 1) := dk_8 (dk_at dksX5_readsDeed_1 18 rfl rfl)
theorem dX5_readsDeed_41 : decode cX5_readsDeed 41 = .ok (.invokevirtual 242, 3) := dk_182 0 242 (dk_at dksX5_readsDeed_1 19 rfl rfl)
theorem dX5_readsDeed_44 : decode cX5_readsDeed 44 = .ok (.aload_n 0, 1) := dk_42 (dk_at dksX5_readsDeed_1 22 rfl rfl)
theorem dX5_readsDeed_45 : decode cX5_readsDeed 45 = .ok (.invokevirtual 239, 3) := dk_182 0 239 (dk_at dksX5_readsDeed_2 0 rfl rfl)
theorem dX5_readsDeed_48 : decode cX5_readsDeed 48 = .ok (.aload_n 0, 1) := dk_42 (dk_at dksX5_readsDeed_2 3 rfl rfl)
theorem dX5_readsDeed_49 : decode cX5_readsDeed 49 = .ok (.getfield 214, 3) := dk_180 0 214 (dk_at dksX5_readsDeed_2 4 rfl rfl)
theorem dX5_readsDeed_52 : decode cX5_readsDeed 52 = .ok (.ifCond .le 4, 3) := dk_158 0 4 (dk_at dksX5_readsDeed_2 7 rfl rfl)
theorem dX5_readsDeed_55 : decode cX5_readsDeed 55 = .ok (.return_, 1) := dk_177 (dk_at dksX5_readsDeed_2 10 rfl rfl)
theorem dX5_readsDeed_56 : decode cX5_readsDeed 56 = .ok (.bipush 12, 2) := dk_16 12 (dk_at dksX5_readsDeed_2 11 rfl rfl)
theorem dX5_readsDeed_58 : decode cX5_readsDeed 58 = .ok (.aload_n 0, 1) := dk_42 (dk_at dksX5_readsDeed_2 13 rfl rfl)
theorem dX5_readsDeed_59 : decode cX5_readsDeed 59 = .ok (.getfield 333, 3) := dk_180 1 77 (dk_at dksX5_readsDeed_2 14 rfl rfl)
theorem dX5_readsDeed_62 : decode cX5_readsDeed 62 = .ok (.imul, 1) := dk_104 (dk_at dksX5_readsDeed_2 17 rfl rfl)
theorem dX5_readsDeed_63 : decode cX5_readsDeed 63 = .ok (.istore_n 3, 1) := dk_62 (dk_at dksX5_readsDeed_2 18 rfl rfl)
theorem dX5_readsDeed_64 : decode cX5_readsDeed 64 = .ok (.aload_n 0, 1) := dk_42 (dk_at dksX5_readsDeed_2 19 rfl rfl)
theorem dX5_readsDeed_65 : decode cX5_readsDeed 65 = .ok (.getfield 39, 3) := dk_180 0 39 (dk_at dksX5_readsDeed_2 20 rfl rfl)
theorem dX5_readsDeed_68 : decode cX5_readsDeed 68 = .ok (.iload_n 3, 1) := dk_29 (dk_at dksX5_readsDeed_2 23 rfl rfl)
theorem dX5_readsDeed_69 : decode cX5_readsDeed 69 = .ok (.iload_n 1, 1) := dk_27 (dk_at dksX5_readsDeed_3 0 rfl rfl)
theorem dX5_readsDeed_70 : decode cX5_readsDeed 70 = .ok (.iastore, 1) := dk_79 (dk_at dksX5_readsDeed_3 1 rfl rfl)
theorem dX5_readsDeed_71 : decode cX5_readsDeed 71 = .ok (.iload_n 1, 1) := dk_27 (dk_at dksX5_readsDeed_3 2 rfl rfl)
theorem dX5_readsDeed_72 : decode cX5_readsDeed 72 = .ok (.tableswitch 163 0 4 #[36, 36, 77, 96, 127], 36) := by decide +kernel
theorem dX5_readsDeed_108 : decode cX5_readsDeed 108 = .ok (.aload_n 0, 1) := dk_42 (dk_at dksX5_readsDeed_5 0 rfl rfl)
theorem dX5_readsDeed_109 : decode cX5_readsDeed 109 = .ok (.getfield 39, 3) := dk_180 0 39 (dk_at dksX5_readsDeed_5 1 rfl rfl)
theorem dX5_readsDeed_112 : decode cX5_readsDeed 112 = .ok (.iload_n 3, 1) := dk_29 (dk_at dksX5_readsDeed_5 4 rfl rfl)
theorem dX5_readsDeed_113 : decode cX5_readsDeed 113 = .ok (.iconst 1, 1) := dk_4 (dk_at dksX5_readsDeed_5 5 rfl rfl)
theorem dX5_readsDeed_114 : decode cX5_readsDeed 114 = .ok (.iadd, 1) := dk_96 (dk_at dksX5_readsDeed_5 6 rfl rfl)
theorem dX5_readsDeed_115 : decode cX5_readsDeed 115 = .ok (.aload_n 0, 1) := dk_42 (dk_at dksX5_readsDeed_5 7 rfl rfl)
theorem dX5_readsDeed_116 : decode cX5_readsDeed 116 = .ok (.iconst (-1), 1) := dk_2 (dk_at dksX5_readsDeed_5 8 rfl rfl)
theorem dX5_readsDeed_117 : decode cX5_readsDeed 117 = .ok (.invokevirtual 271, 3) := dk_182 1 15 (dk_at dksX5_readsDeed_5 9 rfl rfl)
theorem dX5_readsDeed_120 : decode cX5_readsDeed 120 = .ok (.iastore, 1) := dk_79 (dk_at dksX5_readsDeed_5 12 rfl rfl)
theorem dX5_readsDeed_121 : decode cX5_readsDeed 121 = .ok (.aload_n 0, 1) := dk_42 (dk_at dksX5_readsDeed_5 13 rfl rfl)
theorem dX5_readsDeed_122 : decode cX5_readsDeed 122 = .ok (.getfield 39, 3) := dk_180 0 39 (dk_at dksX5_readsDeed_5 14 rfl rfl)
theorem dX5_readsDeed_125 : decode cX5_readsDeed 125 = .ok (.iload_n 3, 1) := dk_29 (dk_at dksX5_readsDeed_5 17 rfl rfl)
theorem dX5_readsDeed_126 : decode cX5_readsDeed 126 = .ok (.iconst 2, 1) := dk_5 (dk_at dksX5_readsDeed_5 18 rfl rfl)
theorem dX5_readsDeed_127 : decode cX5_readsDeed 127 = .ok (.iadd, 1) := dk_96 (dk_at dksX5_readsDeed_5 19 rfl rfl)
theorem dX5_readsDeed_128 : decode cX5_readsDeed 128 = .ok (.aload_n 0, 1) := dk_42 (dk_at dksX5_readsDeed_5 20 rfl rfl)
theorem dX5_readsDeed_129 : decode cX5_readsDeed 129 = .ok (.aload_n 0, 1) := dk_42 (dk_at dksX5_readsDeed_5 21 rfl rfl)
theorem dX5_readsDeed_130 : decode cX5_readsDeed 130 = .ok (.getfield 39, 3) := dk_180 0 39 (dk_at dksX5_readsDeed_6 0 rfl rfl)
theorem dX5_readsDeed_133 : decode cX5_readsDeed 133 = .ok (.iload_n 3, 1) := dk_29 (dk_at dksX5_readsDeed_6 3 rfl rfl)
theorem dX5_readsDeed_134 : decode cX5_readsDeed 134 = .ok (.iconst 1, 1) := dk_4 (dk_at dksX5_readsDeed_6 4 rfl rfl)
theorem dX5_readsDeed_135 : decode cX5_readsDeed 135 = .ok (.iadd, 1) := dk_96 (dk_at dksX5_readsDeed_6 5 rfl rfl)
theorem dX5_readsDeed_136 : decode cX5_readsDeed 136 = .ok (.iaload, 1) := dk_46 (dk_at dksX5_readsDeed_6 6 rfl rfl)
theorem dX5_readsDeed_137 : decode cX5_readsDeed 137 = .ok (.invokevirtual 271, 3) := dk_182 1 15 (dk_at dksX5_readsDeed_6 7 rfl rfl)
theorem dX5_readsDeed_140 : decode cX5_readsDeed 140 = .ok (.iastore, 1) := dk_79 (dk_at dksX5_readsDeed_6 10 rfl rfl)
theorem dX5_readsDeed_141 : decode cX5_readsDeed 141 = .ok (.aload_n 0, 1) := dk_42 (dk_at dksX5_readsDeed_6 11 rfl rfl)
theorem dX5_readsDeed_142 : decode cX5_readsDeed 142 = .ok (.iload_n 3, 1) := dk_29 (dk_at dksX5_readsDeed_6 12 rfl rfl)
theorem dX5_readsDeed_143 : decode cX5_readsDeed 143 = .ok (.invokevirtual 336, 3) := dk_182 1 80 (dk_at dksX5_readsDeed_6 13 rfl rfl)
theorem dX5_readsDeed_146 : decode cX5_readsDeed 146 = .ok (.goto 118, 3) := dk_167 0 118 (dk_at dksX5_readsDeed_6 16 rfl rfl)
theorem dX5_readsDeed_149 : decode cX5_readsDeed 149 = .ok (.aload_n 0, 1) := dk_42 (dk_at dksX5_readsDeed_6 19 rfl rfl)
theorem dX5_readsDeed_150 : decode cX5_readsDeed 150 = .ok (.getfield 39, 3) := dk_180 0 39 (dk_at dksX5_readsDeed_6 20 rfl rfl)
theorem dX5_readsDeed_153 : decode cX5_readsDeed 153 = .ok (.iload_n 3, 1) := dk_29 (dk_at dksX5_readsDeed_6 23 rfl rfl)
theorem dX5_readsDeed_154 : decode cX5_readsDeed 154 = .ok (.iconst 1, 1) := dk_4 (dk_at dksX5_readsDeed_7 0 rfl rfl)
theorem dX5_readsDeed_155 : decode cX5_readsDeed 155 = .ok (.iadd, 1) := dk_96 (dk_at dksX5_readsDeed_7 1 rfl rfl)
theorem dX5_readsDeed_156 : decode cX5_readsDeed 156 = .ok (.aload_n 0, 1) := dk_42 (dk_at dksX5_readsDeed_7 2 rfl rfl)
theorem dX5_readsDeed_157 : decode cX5_readsDeed 157 = .ok (.iconst 1, 1) := dk_4 (dk_at dksX5_readsDeed_7 3 rfl rfl)
theorem dX5_readsDeed_158 : decode cX5_readsDeed 158 = .ok (.sipush 200, 3) := dk_17 0 200 (dk_at dksX5_readsDeed_7 4 rfl rfl)
theorem dX5_readsDeed_161 : decode cX5_readsDeed 161 = .ok (.invokevirtual 268, 3) := dk_182 1 12 (dk_at dksX5_readsDeed_7 7 rfl rfl)
theorem dX5_readsDeed_164 : decode cX5_readsDeed 164 = .ok (.iastore, 1) := dk_79 (dk_at dksX5_readsDeed_7 10 rfl rfl)
theorem dX5_readsDeed_165 : decode cX5_readsDeed 165 = .ok (.goto 99, 3) := dk_167 0 99 (dk_at dksX5_readsDeed_7 11 rfl rfl)
theorem dX5_readsDeed_168 : decode cX5_readsDeed 168 = .ok (.aload_n 0, 1) := dk_42 (dk_at dksX5_readsDeed_7 14 rfl rfl)
theorem dX5_readsDeed_169 : decode cX5_readsDeed 169 = .ok (.getfield 39, 3) := dk_180 0 39 (dk_at dksX5_readsDeed_7 15 rfl rfl)
theorem dX5_readsDeed_172 : decode cX5_readsDeed 172 = .ok (.iload_n 3, 1) := dk_29 (dk_at dksX5_readsDeed_7 18 rfl rfl)
theorem dX5_readsDeed_173 : decode cX5_readsDeed 173 = .ok (.iconst 1, 1) := dk_4 (dk_at dksX5_readsDeed_7 19 rfl rfl)
theorem dX5_readsDeed_174 : decode cX5_readsDeed 174 = .ok (.iadd, 1) := dk_96 (dk_at dksX5_readsDeed_7 20 rfl rfl)
theorem dX5_readsDeed_175 : decode cX5_readsDeed 175 = .ok (.aload_n 0, 1) := dk_42 (dk_at dksX5_readsDeed_7 21 rfl rfl)
theorem dX5_readsDeed_176 : decode cX5_readsDeed 176 = .ok (.iconst (-1), 1) := dk_2 (dk_at dksX5_readsDeed_7 22 rfl rfl)
theorem dX5_readsDeed_177 : decode cX5_readsDeed 177 = .ok (.invokevirtual 271, 3) := dk_182 1 15 (dk_at dksX5_readsDeed_8 0 rfl rfl)
theorem dX5_readsDeed_180 : decode cX5_readsDeed 180 = .ok (.iastore, 1) := dk_79 (dk_at dksX5_readsDeed_8 3 rfl rfl)
theorem dX5_readsDeed_181 : decode cX5_readsDeed 181 = .ok (.aload_n 0, 1) := dk_42 (dk_at dksX5_readsDeed_8 4 rfl rfl)
theorem dX5_readsDeed_182 : decode cX5_readsDeed 182 = .ok (.getfield 39, 3) := dk_180 0 39 (dk_at dksX5_readsDeed_8 5 rfl rfl)
theorem dX5_readsDeed_185 : decode cX5_readsDeed 185 = .ok (.iload_n 3, 1) := dk_29 (dk_at dksX5_readsDeed_8 8 rfl rfl)
theorem dX5_readsDeed_186 : decode cX5_readsDeed 186 = .ok (.iconst 2, 1) := dk_5 (dk_at dksX5_readsDeed_8 9 rfl rfl)
theorem dX5_readsDeed_187 : decode cX5_readsDeed 187 = .ok (.iadd, 1) := dk_96 (dk_at dksX5_readsDeed_8 10 rfl rfl)
theorem dX5_readsDeed_188 : decode cX5_readsDeed 188 = .ok (.aload_n 0, 1) := dk_42 (dk_at dksX5_readsDeed_8 11 rfl rfl)
theorem dX5_readsDeed_189 : decode cX5_readsDeed 189 = .ok (.iconst 1, 1) := dk_4 (dk_at dksX5_readsDeed_8 12 rfl rfl)
theorem dX5_readsDeed_190 : decode cX5_readsDeed 190 = .ok (.bipush 99, 2) := dk_16 99 (dk_at dksX5_readsDeed_8 13 rfl rfl)
theorem dX5_readsDeed_192 : decode cX5_readsDeed 192 = .ok (.invokevirtual 268, 3) := dk_182 1 12 (dk_at dksX5_readsDeed_8 15 rfl rfl)
theorem dX5_readsDeed_195 : decode cX5_readsDeed 195 = .ok (.iastore, 1) := dk_79 (dk_at dksX5_readsDeed_8 18 rfl rfl)
theorem dX5_readsDeed_196 : decode cX5_readsDeed 196 = .ok (.goto 68, 3) := dk_167 0 68 (dk_at dksX5_readsDeed_8 19 rfl rfl)
theorem dX5_readsDeed_199 : decode cX5_readsDeed 199 = .ok (.aload_n 0, 1) := dk_42 (dk_at dksX5_readsDeed_8 22 rfl rfl)
theorem dX5_readsDeed_200 : decode cX5_readsDeed 200 = .ok (.getfield 39, 3) := dk_180 0 39 (dk_at dksX5_readsDeed_9 0 rfl rfl)
theorem dX5_readsDeed_203 : decode cX5_readsDeed 203 = .ok (.iload_n 3, 1) := dk_29 (dk_at dksX5_readsDeed_9 3 rfl rfl)
theorem dX5_readsDeed_204 : decode cX5_readsDeed 204 = .ok (.iconst 1, 1) := dk_4 (dk_at dksX5_readsDeed_9 4 rfl rfl)
theorem dX5_readsDeed_205 : decode cX5_readsDeed 205 = .ok (.iadd, 1) := dk_96 (dk_at dksX5_readsDeed_9 5 rfl rfl)
theorem dX5_readsDeed_206 : decode cX5_readsDeed 206 = .ok (.aload_n 0, 1) := dk_42 (dk_at dksX5_readsDeed_9 6 rfl rfl)
theorem dX5_readsDeed_207 : decode cX5_readsDeed 207 = .ok (.iconst (-1), 1) := dk_2 (dk_at dksX5_readsDeed_9 7 rfl rfl)
theorem dX5_readsDeed_208 : decode cX5_readsDeed 208 = .ok (.invokevirtual 271, 3) := dk_182 1 15 (dk_at dksX5_readsDeed_9 8 rfl rfl)
theorem dX5_readsDeed_211 : decode cX5_readsDeed 211 = .ok (.iastore, 1) := dk_79 (dk_at dksX5_readsDeed_9 11 rfl rfl)
theorem dX5_readsDeed_212 : decode cX5_readsDeed 212 = .ok (.aload_n 0, 1) := dk_42 (dk_at dksX5_readsDeed_9 12 rfl rfl)
theorem dX5_readsDeed_213 : decode cX5_readsDeed 213 = .ok (.getfield 39, 3) := dk_180 0 39 (dk_at dksX5_readsDeed_9 13 rfl rfl)
theorem dX5_readsDeed_216 : decode cX5_readsDeed 216 = .ok (.iload_n 3, 1) := dk_29 (dk_at dksX5_readsDeed_9 16 rfl rfl)
theorem dX5_readsDeed_217 : decode cX5_readsDeed 217 = .ok (.iconst 2, 1) := dk_5 (dk_at dksX5_readsDeed_9 17 rfl rfl)
theorem dX5_readsDeed_218 : decode cX5_readsDeed 218 = .ok (.iadd, 1) := dk_96 (dk_at dksX5_readsDeed_9 18 rfl rfl)
theorem dX5_readsDeed_219 : decode cX5_readsDeed 219 = .ok (.aload_n 0, 1) := dk_42 (dk_at dksX5_readsDeed_9 19 rfl rfl)
theorem dX5_readsDeed_220 : decode cX5_readsDeed 220 = .ok (.aload_n 0, 1) := dk_42 (dk_at dksX5_readsDeed_9 20 rfl rfl)
theorem dX5_readsDeed_221 : decode cX5_readsDeed 221 = .ok (.getfield 39, 3) := dk_180 0 39 (dk_at dksX5_readsDeed_9 21 rfl rfl)
theorem dX5_readsDeed_224 : decode cX5_readsDeed 224 = .ok (.iload_n 3, 1) := dk_29 (dk_at dksX5_readsDeed_10 0 rfl rfl)
theorem dX5_readsDeed_225 : decode cX5_readsDeed 225 = .ok (.iconst 1, 1) := dk_4 (dk_at dksX5_readsDeed_10 1 rfl rfl)
theorem dX5_readsDeed_226 : decode cX5_readsDeed 226 = .ok (.iadd, 1) := dk_96 (dk_at dksX5_readsDeed_10 2 rfl rfl)
theorem dX5_readsDeed_227 : decode cX5_readsDeed 227 = .ok (.iaload, 1) := dk_46 (dk_at dksX5_readsDeed_10 3 rfl rfl)
theorem dX5_readsDeed_228 : decode cX5_readsDeed 228 = .ok (.invokevirtual 271, 3) := dk_182 1 15 (dk_at dksX5_readsDeed_10 4 rfl rfl)
theorem dX5_readsDeed_231 : decode cX5_readsDeed 231 = .ok (.iastore, 1) := dk_79 (dk_at dksX5_readsDeed_10 7 rfl rfl)
theorem dX5_readsDeed_232 : decode cX5_readsDeed 232 = .ok (.goto 32, 3) := dk_167 0 32 (dk_at dksX5_readsDeed_10 8 rfl rfl)
theorem dX5_readsDeed_235 : decode cX5_readsDeed 235 = .ok (.aload_n 0, 1) := dk_42 (dk_at dksX5_readsDeed_10 11 rfl rfl)
theorem dX5_readsDeed_236 : decode cX5_readsDeed 236 = .ok (.getfield 39, 3) := dk_180 0 39 (dk_at dksX5_readsDeed_10 12 rfl rfl)
theorem dX5_readsDeed_239 : decode cX5_readsDeed 239 = .ok (.iload_n 3, 1) := dk_29 (dk_at dksX5_readsDeed_10 15 rfl rfl)
theorem dX5_readsDeed_240 : decode cX5_readsDeed 240 = .ok (.iconst 1, 1) := dk_4 (dk_at dksX5_readsDeed_10 16 rfl rfl)
theorem dX5_readsDeed_241 : decode cX5_readsDeed 241 = .ok (.iadd, 1) := dk_96 (dk_at dksX5_readsDeed_10 17 rfl rfl)
theorem dX5_readsDeed_242 : decode cX5_readsDeed 242 = .ok (.iload_n 2, 1) := dk_28 (dk_at dksX5_readsDeed_10 18 rfl rfl)
theorem dX5_readsDeed_243 : decode cX5_readsDeed 243 = .ok (.iastore, 1) := dk_79 (dk_at dksX5_readsDeed_10 19 rfl rfl)
theorem dX5_readsDeed_244 : decode cX5_readsDeed 244 = .ok (.aload_n 0, 1) := dk_42 (dk_at dksX5_readsDeed_10 20 rfl rfl)
theorem dX5_readsDeed_245 : decode cX5_readsDeed 245 = .ok (.getfield 39, 3) := dk_180 0 39 (dk_at dksX5_readsDeed_10 21 rfl rfl)
theorem dX5_readsDeed_248 : decode cX5_readsDeed 248 = .ok (.iload_n 3, 1) := dk_29 (dk_at dksX5_readsDeed_11 0 rfl rfl)
theorem dX5_readsDeed_249 : decode cX5_readsDeed 249 = .ok (.iconst 2, 1) := dk_5 (dk_at dksX5_readsDeed_11 1 rfl rfl)
theorem dX5_readsDeed_250 : decode cX5_readsDeed 250 = .ok (.iadd, 1) := dk_96 (dk_at dksX5_readsDeed_11 2 rfl rfl)
theorem dX5_readsDeed_251 : decode cX5_readsDeed 251 = .ok (.aload_n 0, 1) := dk_42 (dk_at dksX5_readsDeed_11 3 rfl rfl)
theorem dX5_readsDeed_252 : decode cX5_readsDeed 252 = .ok (.iload_n 2, 1) := dk_28 (dk_at dksX5_readsDeed_11 4 rfl rfl)
theorem dX5_readsDeed_253 : decode cX5_readsDeed 253 = .ok (.invokestatic 277, 3) := dk_184 1 21 (dk_at dksX5_readsDeed_11 5 rfl rfl)
theorem dX5_readsDeed_256 : decode cX5_readsDeed 256 = .ok (.iload_n 2, 1) := dk_28 (dk_at dksX5_readsDeed_11 8 rfl rfl)
theorem dX5_readsDeed_257 : decode cX5_readsDeed 257 = .ok (.invokestatic 280, 3) := dk_184 1 24 (dk_at dksX5_readsDeed_11 9 rfl rfl)
theorem dX5_readsDeed_260 : decode cX5_readsDeed 260 = .ok (.invokevirtual 268, 3) := dk_182 1 12 (dk_at dksX5_readsDeed_11 12 rfl rfl)
theorem dX5_readsDeed_263 : decode cX5_readsDeed 263 = .ok (.iastore, 1) := dk_79 (dk_at dksX5_readsDeed_11 15 rfl rfl)
theorem dX5_readsDeed_264 : decode cX5_readsDeed 264 = .ok (.aload_n 0, 1) := dk_42 (dk_at dksX5_readsDeed_11 16 rfl rfl)
theorem dX5_readsDeed_265 : decode cX5_readsDeed 265 = .ok (.invokevirtual 296, 3) := dk_182 1 40 (dk_at dksX5_readsDeed_11 17 rfl rfl)
theorem dX5_readsDeed_268 : decode cX5_readsDeed 268 = .ok (.aload_n 0, 1) := dk_42 (dk_at dksX5_readsDeed_11 20 rfl rfl)
theorem dX5_readsDeed_269 : decode cX5_readsDeed 269 = .ok (.dup, 1) := dk_89 (dk_at dksX5_readsDeed_11 21 rfl rfl)
theorem dX5_readsDeed_270 : decode cX5_readsDeed 270 = .ok (.getfield 333, 3) := dk_180 1 77 (dk_at dksX5_readsDeed_12 0 rfl rfl)
theorem dX5_readsDeed_273 : decode cX5_readsDeed 273 = .ok (.iconst 1, 1) := dk_4 (dk_at dksX5_readsDeed_12 3 rfl rfl)
theorem dX5_readsDeed_274 : decode cX5_readsDeed 274 = .ok (.iadd, 1) := dk_96 (dk_at dksX5_readsDeed_12 4 rfl rfl)
theorem dX5_readsDeed_275 : decode cX5_readsDeed 275 = .ok (.putfield 333, 3) := dk_181 1 77 (dk_at dksX5_readsDeed_12 5 rfl rfl)
theorem dX5_readsDeed_278 : decode cX5_readsDeed 278 = .ok (.return_, 1) := dk_177 (dk_at dksX5_readsDeed_12 8 rfl rfl)
abbrev cX5_kindHere : ByteArray := prog_15_method_72_code
def yX5_kindHere : MethodName := ⟨RX5, "kindHere", "()I"⟩
def dkwX5_kindHere_3 : List UInt8 := [8, 172]
abbrev dktX5_kindHere_3 : List UInt8 := dkwX5_kindHere_3 ++ []
def dkwX5_kindHere_2 : List UInt8 := [42, 19, 1, 72, 182, 1, 4, 153, 0, 5, 7, 172, 42, 182, 1, 18, 2, 160, 0, 7, 2, 167, 0, 4]
abbrev dktX5_kindHere_2 : List UInt8 := dkwX5_kindHere_2 ++ dktX5_kindHere_3
def dkwX5_kindHere_1 : List UInt8 := [42, 19, 1, 68, 182, 1, 4, 153, 0, 5, 5, 172, 42, 19, 1, 70, 182, 1, 4, 153, 0, 5, 6, 172]
abbrev dktX5_kindHere_1 : List UInt8 := dkwX5_kindHere_1 ++ dktX5_kindHere_2
def dkwX5_kindHere_0 : List UInt8 := [42, 19, 1, 64, 182, 1, 4, 153, 0, 5, 3, 172, 42, 19, 1, 66, 182, 1, 4, 153, 0, 5, 4, 172]
abbrev dktX5_kindHere_0 : List UInt8 := dkwX5_kindHere_0 ++ dktX5_kindHere_1
theorem dksX5_kindHere_0 : cX5_kindHere.data.toList.drop 0 = dktX5_kindHere_0 := by decide +kernel
theorem dksX5_kindHere_1 : cX5_kindHere.data.toList.drop 24 = dktX5_kindHere_1 := dk_seg dksX5_kindHere_0 24 rfl rfl
theorem dksX5_kindHere_2 : cX5_kindHere.data.toList.drop 48 = dktX5_kindHere_2 := dk_seg dksX5_kindHere_1 24 rfl rfl
theorem dksX5_kindHere_3 : cX5_kindHere.data.toList.drop 72 = dktX5_kindHere_3 := dk_seg dksX5_kindHere_2 24 rfl rfl
theorem dX5_kindHere_0 : decode cX5_kindHere 0 = .ok (.aload_n 0, 1) := dk_42 (dk_at dksX5_kindHere_0 0 rfl rfl)
theorem dX5_kindHere_1 : decode cX5_kindHere 1 = .ok (.ldc_w 320, 3) := dk_19 1 64 (dk_at dksX5_kindHere_0 1 rfl rfl)
theorem dX5_kindHere_4 : decode cX5_kindHere 4 = .ok (.invokevirtual 260, 3) := dk_182 1 4 (dk_at dksX5_kindHere_0 4 rfl rfl)
theorem dX5_kindHere_7 : decode cX5_kindHere 7 = .ok (.ifCond .eq 5, 3) := dk_153 0 5 (dk_at dksX5_kindHere_0 7 rfl rfl)
theorem dX5_kindHere_10 : decode cX5_kindHere 10 = .ok (.iconst 0, 1) := dk_3 (dk_at dksX5_kindHere_0 10 rfl rfl)
theorem dX5_kindHere_11 : decode cX5_kindHere 11 = .ok (.ireturn, 1) := dk_172 (dk_at dksX5_kindHere_0 11 rfl rfl)
theorem dX5_kindHere_12 : decode cX5_kindHere 12 = .ok (.aload_n 0, 1) := dk_42 (dk_at dksX5_kindHere_0 12 rfl rfl)
theorem dX5_kindHere_13 : decode cX5_kindHere 13 = .ok (.ldc_w 322, 3) := dk_19 1 66 (dk_at dksX5_kindHere_0 13 rfl rfl)
theorem dX5_kindHere_16 : decode cX5_kindHere 16 = .ok (.invokevirtual 260, 3) := dk_182 1 4 (dk_at dksX5_kindHere_0 16 rfl rfl)
theorem dX5_kindHere_19 : decode cX5_kindHere 19 = .ok (.ifCond .eq 5, 3) := dk_153 0 5 (dk_at dksX5_kindHere_0 19 rfl rfl)
theorem dX5_kindHere_22 : decode cX5_kindHere 22 = .ok (.iconst 1, 1) := dk_4 (dk_at dksX5_kindHere_0 22 rfl rfl)
theorem dX5_kindHere_23 : decode cX5_kindHere 23 = .ok (.ireturn, 1) := dk_172 (dk_at dksX5_kindHere_0 23 rfl rfl)
theorem dX5_kindHere_24 : decode cX5_kindHere 24 = .ok (.aload_n 0, 1) := dk_42 (dk_at dksX5_kindHere_1 0 rfl rfl)
theorem dX5_kindHere_25 : decode cX5_kindHere 25 = .ok (.ldc_w 324, 3) := dk_19 1 68 (dk_at dksX5_kindHere_1 1 rfl rfl)
theorem dX5_kindHere_28 : decode cX5_kindHere 28 = .ok (.invokevirtual 260, 3) := dk_182 1 4 (dk_at dksX5_kindHere_1 4 rfl rfl)
theorem dX5_kindHere_31 : decode cX5_kindHere 31 = .ok (.ifCond .eq 5, 3) := dk_153 0 5 (dk_at dksX5_kindHere_1 7 rfl rfl)
theorem dX5_kindHere_34 : decode cX5_kindHere 34 = .ok (.iconst 2, 1) := dk_5 (dk_at dksX5_kindHere_1 10 rfl rfl)
theorem dX5_kindHere_35 : decode cX5_kindHere 35 = .ok (.ireturn, 1) := dk_172 (dk_at dksX5_kindHere_1 11 rfl rfl)
theorem dX5_kindHere_36 : decode cX5_kindHere 36 = .ok (.aload_n 0, 1) := dk_42 (dk_at dksX5_kindHere_1 12 rfl rfl)
theorem dX5_kindHere_37 : decode cX5_kindHere 37 = .ok (.ldc_w 326, 3) := dk_19 1 70 (dk_at dksX5_kindHere_1 13 rfl rfl)
theorem dX5_kindHere_40 : decode cX5_kindHere 40 = .ok (.invokevirtual 260, 3) := dk_182 1 4 (dk_at dksX5_kindHere_1 16 rfl rfl)
theorem dX5_kindHere_43 : decode cX5_kindHere 43 = .ok (.ifCond .eq 5, 3) := dk_153 0 5 (dk_at dksX5_kindHere_1 19 rfl rfl)
theorem dX5_kindHere_46 : decode cX5_kindHere 46 = .ok (.iconst 3, 1) := dk_6 (dk_at dksX5_kindHere_1 22 rfl rfl)
theorem dX5_kindHere_47 : decode cX5_kindHere 47 = .ok (.ireturn, 1) := dk_172 (dk_at dksX5_kindHere_1 23 rfl rfl)
theorem dX5_kindHere_48 : decode cX5_kindHere 48 = .ok (.aload_n 0, 1) := dk_42 (dk_at dksX5_kindHere_2 0 rfl rfl)
theorem dX5_kindHere_49 : decode cX5_kindHere 49 = .ok (.ldc_w 328, 3) := dk_19 1 72 (dk_at dksX5_kindHere_2 1 rfl rfl)
theorem dX5_kindHere_52 : decode cX5_kindHere 52 = .ok (.invokevirtual 260, 3) := dk_182 1 4 (dk_at dksX5_kindHere_2 4 rfl rfl)
theorem dX5_kindHere_55 : decode cX5_kindHere 55 = .ok (.ifCond .eq 5, 3) := dk_153 0 5 (dk_at dksX5_kindHere_2 7 rfl rfl)
theorem dX5_kindHere_58 : decode cX5_kindHere 58 = .ok (.iconst 4, 1) := dk_7 (dk_at dksX5_kindHere_2 10 rfl rfl)
theorem dX5_kindHere_59 : decode cX5_kindHere 59 = .ok (.ireturn, 1) := dk_172 (dk_at dksX5_kindHere_2 11 rfl rfl)
theorem dX5_kindHere_60 : decode cX5_kindHere 60 = .ok (.aload_n 0, 1) := dk_42 (dk_at dksX5_kindHere_2 12 rfl rfl)
theorem dX5_kindHere_61 : decode cX5_kindHere 61 = .ok (.invokevirtual 274, 3) := dk_182 1 18 (dk_at dksX5_kindHere_2 13 rfl rfl)
theorem dX5_kindHere_64 : decode cX5_kindHere 64 = .ok (.iconst (-1), 1) := dk_2 (dk_at dksX5_kindHere_2 16 rfl rfl)
theorem dX5_kindHere_65 : decode cX5_kindHere 65 = .ok (.if_icmp .ne 7, 3) := dk_160 0 7 (dk_at dksX5_kindHere_2 17 rfl rfl)
theorem dX5_kindHere_68 : decode cX5_kindHere 68 = .ok (.iconst (-1), 1) := dk_2 (dk_at dksX5_kindHere_2 20 rfl rfl)
theorem dX5_kindHere_69 : decode cX5_kindHere 69 = .ok (.goto 4, 3) := dk_167 0 4 (dk_at dksX5_kindHere_2 21 rfl rfl)
theorem dX5_kindHere_72 : decode cX5_kindHere 72 = .ok (.iconst 5, 1) := dk_8 (dk_at dksX5_kindHere_3 0 rfl rfl)
theorem dX5_kindHere_73 : decode cX5_kindHere 73 = .ok (.ireturn, 1) := dk_172 (dk_at dksX5_kindHere_3 1 rfl rfl)
abbrev cX5_readsNotes : ByteArray := prog_15_method_73_code
def yX5_readsNotes : MethodName := ⟨RX5, "readsNotes", "(I)V"⟩
def dkwX5_readsNotes_3 : List UInt8 := [6, 96, 28, 79, 177]
abbrev dktX5_readsNotes_3 : List UInt8 := dkwX5_readsNotes_3 ++ []
def dkwX5_readsNotes_2 : List UInt8 := [42, 182, 0, 239, 42, 180, 0, 214, 154, 0, 11, 42, 180, 0, 223, 5, 159, 255, 195, 42, 180, 0, 39, 27]
abbrev dktX5_readsNotes_2 : List UInt8 := dkwX5_readsNotes_2 ++ dktX5_readsNotes_3
def dkwX5_readsNotes_1 : List UInt8 := [182, 0, 242, 42, 180, 0, 214, 154, 0, 17, 42, 180, 0, 39, 27, 7, 96, 28, 96, 29, 79, 132, 2, 1]
abbrev dktX5_readsNotes_1 : List UInt8 := dkwX5_readsNotes_1 ++ dktX5_readsNotes_2
def dkwX5_readsNotes_0 : List UInt8 := [3, 61, 42, 3, 16, 7, 182, 0, 246, 62, 42, 28, 16, 8, 162, 0, 7, 4, 167, 0, 4, 3, 8]
abbrev dktX5_readsNotes_0 : List UInt8 := dkwX5_readsNotes_0 ++ dktX5_readsNotes_1
theorem dksX5_readsNotes_0 : cX5_readsNotes.data.toList.drop 0 = dktX5_readsNotes_0 := by decide +kernel
theorem dksX5_readsNotes_1 : cX5_readsNotes.data.toList.drop 23 = dktX5_readsNotes_1 := dk_seg dksX5_readsNotes_0 23 rfl rfl
theorem dksX5_readsNotes_2 : cX5_readsNotes.data.toList.drop 47 = dktX5_readsNotes_2 := dk_seg dksX5_readsNotes_1 24 rfl rfl
theorem dksX5_readsNotes_3 : cX5_readsNotes.data.toList.drop 71 = dktX5_readsNotes_3 := dk_seg dksX5_readsNotes_2 24 rfl rfl
theorem dX5_readsNotes_0 : decode cX5_readsNotes 0 = .ok (.iconst 0, 1) := dk_3 (dk_at dksX5_readsNotes_0 0 rfl rfl)
theorem dX5_readsNotes_1 : decode cX5_readsNotes 1 = .ok (.istore_n 2, 1) := dk_61 (dk_at dksX5_readsNotes_0 1 rfl rfl)
theorem dX5_readsNotes_2 : decode cX5_readsNotes 2 = .ok (.aload_n 0, 1) := dk_42 (dk_at dksX5_readsNotes_0 2 rfl rfl)
theorem dX5_readsNotes_3 : decode cX5_readsNotes 3 = .ok (.iconst 0, 1) := dk_3 (dk_at dksX5_readsNotes_0 3 rfl rfl)
theorem dX5_readsNotes_4 : decode cX5_readsNotes 4 = .ok (.bipush 7, 2) := dk_16 7 (dk_at dksX5_readsNotes_0 4 rfl rfl)
theorem dX5_readsNotes_6 : decode cX5_readsNotes 6 = .ok (.invokevirtual 246, 3) := dk_182 0 246 (dk_at dksX5_readsNotes_0 6 rfl rfl)
theorem dX5_readsNotes_9 : decode cX5_readsNotes 9 = .ok (.istore_n 3, 1) := dk_62 (dk_at dksX5_readsNotes_0 9 rfl rfl)
theorem dX5_readsNotes_10 : decode cX5_readsNotes 10 = .ok (.aload_n 0, 1) := dk_42 (dk_at dksX5_readsNotes_0 10 rfl rfl)
theorem dX5_readsNotes_11 : decode cX5_readsNotes 11 = .ok (.iload_n 2, 1) := dk_28 (dk_at dksX5_readsNotes_0 11 rfl rfl)
theorem dX5_readsNotes_12 : decode cX5_readsNotes 12 = .ok (.bipush 8, 2) := dk_16 8 (dk_at dksX5_readsNotes_0 12 rfl rfl)
theorem dX5_readsNotes_14 : decode cX5_readsNotes 14 = .ok (.if_icmp .ge 7, 3) := dk_162 0 7 (dk_at dksX5_readsNotes_0 14 rfl rfl)
theorem dX5_readsNotes_17 : decode cX5_readsNotes 17 = .ok (.iconst 1, 1) := dk_4 (dk_at dksX5_readsNotes_0 17 rfl rfl)
theorem dX5_readsNotes_18 : decode cX5_readsNotes 18 = .ok (.goto 4, 3) := dk_167 0 4 (dk_at dksX5_readsNotes_0 18 rfl rfl)
theorem dX5_readsNotes_21 : decode cX5_readsNotes 21 = .ok (.iconst 0, 1) := dk_3 (dk_at dksX5_readsNotes_0 21 rfl rfl)
theorem dX5_readsNotes_22 : decode cX5_readsNotes 22 = .ok (.iconst 5, 1) := dk_8 (dk_at dksX5_readsNotes_0 22 rfl rfl)
theorem dX5_readsNotes_23 : decode cX5_readsNotes 23 = .ok (.invokevirtual 242, 3) := dk_182 0 242 (dk_at dksX5_readsNotes_1 0 rfl rfl)
theorem dX5_readsNotes_26 : decode cX5_readsNotes 26 = .ok (.aload_n 0, 1) := dk_42 (dk_at dksX5_readsNotes_1 3 rfl rfl)
theorem dX5_readsNotes_27 : decode cX5_readsNotes 27 = .ok (.getfield 214, 3) := dk_180 0 214 (dk_at dksX5_readsNotes_1 4 rfl rfl)
theorem dX5_readsNotes_30 : decode cX5_readsNotes 30 = .ok (.ifCond .ne 17, 3) := dk_154 0 17 (dk_at dksX5_readsNotes_1 7 rfl rfl)
theorem dX5_readsNotes_33 : decode cX5_readsNotes 33 = .ok (.aload_n 0, 1) := dk_42 (dk_at dksX5_readsNotes_1 10 rfl rfl)
theorem dX5_readsNotes_34 : decode cX5_readsNotes 34 = .ok (.getfield 39, 3) := dk_180 0 39 (dk_at dksX5_readsNotes_1 11 rfl rfl)
theorem dX5_readsNotes_37 : decode cX5_readsNotes 37 = .ok (.iload_n 1, 1) := dk_27 (dk_at dksX5_readsNotes_1 14 rfl rfl)
theorem dX5_readsNotes_38 : decode cX5_readsNotes 38 = .ok (.iconst 4, 1) := dk_7 (dk_at dksX5_readsNotes_1 15 rfl rfl)
theorem dX5_readsNotes_39 : decode cX5_readsNotes 39 = .ok (.iadd, 1) := dk_96 (dk_at dksX5_readsNotes_1 16 rfl rfl)
theorem dX5_readsNotes_40 : decode cX5_readsNotes 40 = .ok (.iload_n 2, 1) := dk_28 (dk_at dksX5_readsNotes_1 17 rfl rfl)
theorem dX5_readsNotes_41 : decode cX5_readsNotes 41 = .ok (.iadd, 1) := dk_96 (dk_at dksX5_readsNotes_1 18 rfl rfl)
theorem dX5_readsNotes_42 : decode cX5_readsNotes 42 = .ok (.iload_n 3, 1) := dk_29 (dk_at dksX5_readsNotes_1 19 rfl rfl)
theorem dX5_readsNotes_43 : decode cX5_readsNotes 43 = .ok (.iastore, 1) := dk_79 (dk_at dksX5_readsNotes_1 20 rfl rfl)
theorem dX5_readsNotes_44 : decode cX5_readsNotes 44 = .ok (.iinc 2 1, 3) := dk_132 2 1 (dk_at dksX5_readsNotes_1 21 rfl rfl)
theorem dX5_readsNotes_47 : decode cX5_readsNotes 47 = .ok (.aload_n 0, 1) := dk_42 (dk_at dksX5_readsNotes_2 0 rfl rfl)
theorem dX5_readsNotes_48 : decode cX5_readsNotes 48 = .ok (.invokevirtual 239, 3) := dk_182 0 239 (dk_at dksX5_readsNotes_2 1 rfl rfl)
theorem dX5_readsNotes_51 : decode cX5_readsNotes 51 = .ok (.aload_n 0, 1) := dk_42 (dk_at dksX5_readsNotes_2 4 rfl rfl)
theorem dX5_readsNotes_52 : decode cX5_readsNotes 52 = .ok (.getfield 214, 3) := dk_180 0 214 (dk_at dksX5_readsNotes_2 5 rfl rfl)
theorem dX5_readsNotes_55 : decode cX5_readsNotes 55 = .ok (.ifCond .ne 11, 3) := dk_154 0 11 (dk_at dksX5_readsNotes_2 8 rfl rfl)
theorem dX5_readsNotes_58 : decode cX5_readsNotes 58 = .ok (.aload_n 0, 1) := dk_42 (dk_at dksX5_readsNotes_2 11 rfl rfl)
theorem dX5_readsNotes_59 : decode cX5_readsNotes 59 = .ok (.getfield 223, 3) := dk_180 0 223 (dk_at dksX5_readsNotes_2 12 rfl rfl)
theorem dX5_readsNotes_62 : decode cX5_readsNotes 62 = .ok (.iconst 2, 1) := dk_5 (dk_at dksX5_readsNotes_2 15 rfl rfl)
theorem dX5_readsNotes_63 : decode cX5_readsNotes 63 = .ok (.if_icmp .eq (-61), 3) := dk_159 255 195 (dk_at dksX5_readsNotes_2 16 rfl rfl)
theorem dX5_readsNotes_66 : decode cX5_readsNotes 66 = .ok (.aload_n 0, 1) := dk_42 (dk_at dksX5_readsNotes_2 19 rfl rfl)
theorem dX5_readsNotes_67 : decode cX5_readsNotes 67 = .ok (.getfield 39, 3) := dk_180 0 39 (dk_at dksX5_readsNotes_2 20 rfl rfl)
theorem dX5_readsNotes_70 : decode cX5_readsNotes 70 = .ok (.iload_n 1, 1) := dk_27 (dk_at dksX5_readsNotes_2 23 rfl rfl)
theorem dX5_readsNotes_71 : decode cX5_readsNotes 71 = .ok (.iconst 3, 1) := dk_6 (dk_at dksX5_readsNotes_3 0 rfl rfl)
theorem dX5_readsNotes_72 : decode cX5_readsNotes 72 = .ok (.iadd, 1) := dk_96 (dk_at dksX5_readsNotes_3 1 rfl rfl)
theorem dX5_readsNotes_73 : decode cX5_readsNotes 73 = .ok (.iload_n 2, 1) := dk_28 (dk_at dksX5_readsNotes_3 2 rfl rfl)
theorem dX5_readsNotes_74 : decode cX5_readsNotes 74 = .ok (.iastore, 1) := dk_79 (dk_at dksX5_readsNotes_3 3 rfl rfl)
theorem dX5_readsNotes_75 : decode cX5_readsNotes 75 = .ok (.return_, 1) := dk_177 (dk_at dksX5_readsNotes_3 4 rfl rfl)
abbrev cX5_remembers : ByteArray := prog_15_method_13_code
def yX5_remembers : MethodName := ⟨RX5, "remembers", "()V"⟩
def dkwX5_remembers_4 : List UInt8 := [181, 0, 81, 177]
abbrev dktX5_remembers_4 : List UInt8 := dkwX5_remembers_4 ++ []
def dkwX5_remembers_3 : List UInt8 := [104, 27, 96, 42, 180, 0, 9, 27, 46, 79, 132, 1, 1, 167, 255, 225, 42, 89, 180, 0, 81, 4, 96]
abbrev dktX5_remembers_3 : List UInt8 := dkwX5_remembers_3 ++ dktX5_remembers_4
def dkwX5_remembers_2 : List UInt8 := [100, 181, 0, 81, 3, 60, 27, 17, 4, 6, 162, 0, 30, 42, 180, 0, 19, 17, 4, 6, 42, 180, 0, 81]
abbrev dktX5_remembers_2 : List UInt8 := dkwX5_remembers_2 ++ dktX5_remembers_3
def dkwX5_remembers_1 : List UInt8 := [27, 17, 4, 6, 100, 42, 180, 0, 19, 27, 46, 79, 132, 1, 1, 167, 255, 230, 42, 89, 180, 0, 81, 4]
abbrev dktX5_remembers_1 : List UInt8 := dkwX5_remembers_1 ++ dktX5_remembers_2
def dkwX5_remembers_0 : List UInt8 := [42, 180, 0, 81, 16, 8, 160, 0, 46, 17, 4, 6, 60, 27, 17, 32, 48, 162, 0, 25, 42, 180, 0, 19]
abbrev dktX5_remembers_0 : List UInt8 := dkwX5_remembers_0 ++ dktX5_remembers_1
theorem dksX5_remembers_0 : cX5_remembers.data.toList.drop 0 = dktX5_remembers_0 := by decide +kernel
theorem dksX5_remembers_1 : cX5_remembers.data.toList.drop 24 = dktX5_remembers_1 := dk_seg dksX5_remembers_0 24 rfl rfl
theorem dksX5_remembers_2 : cX5_remembers.data.toList.drop 48 = dktX5_remembers_2 := dk_seg dksX5_remembers_1 24 rfl rfl
theorem dksX5_remembers_3 : cX5_remembers.data.toList.drop 72 = dktX5_remembers_3 := dk_seg dksX5_remembers_2 24 rfl rfl
theorem dksX5_remembers_4 : cX5_remembers.data.toList.drop 95 = dktX5_remembers_4 := dk_seg dksX5_remembers_3 23 rfl rfl
theorem dX5_remembers_0 : decode cX5_remembers 0 = .ok (.aload_n 0, 1) := dk_42 (dk_at dksX5_remembers_0 0 rfl rfl)
theorem dX5_remembers_1 : decode cX5_remembers 1 = .ok (.getfield 81, 3) := dk_180 0 81 (dk_at dksX5_remembers_0 1 rfl rfl)
theorem dX5_remembers_4 : decode cX5_remembers 4 = .ok (.bipush 8, 2) := dk_16 8 (dk_at dksX5_remembers_0 4 rfl rfl)
theorem dX5_remembers_6 : decode cX5_remembers 6 = .ok (.if_icmp .ne 46, 3) := dk_160 0 46 (dk_at dksX5_remembers_0 6 rfl rfl)
theorem dX5_remembers_9 : decode cX5_remembers 9 = .ok (.sipush 1030, 3) := dk_17 4 6 (dk_at dksX5_remembers_0 9 rfl rfl)
theorem dX5_remembers_12 : decode cX5_remembers 12 = .ok (.istore_n 1, 1) := dk_60 (dk_at dksX5_remembers_0 12 rfl rfl)
theorem dX5_remembers_13 : decode cX5_remembers 13 = .ok (.iload_n 1, 1) := dk_27 (dk_at dksX5_remembers_0 13 rfl rfl)
theorem dX5_remembers_14 : decode cX5_remembers 14 = .ok (.sipush 8240, 3) := dk_17 32 48 (dk_at dksX5_remembers_0 14 rfl rfl)
theorem dX5_remembers_17 : decode cX5_remembers 17 = .ok (.if_icmp .ge 25, 3) := dk_162 0 25 (dk_at dksX5_remembers_0 17 rfl rfl)
theorem dX5_remembers_20 : decode cX5_remembers 20 = .ok (.aload_n 0, 1) := dk_42 (dk_at dksX5_remembers_0 20 rfl rfl)
theorem dX5_remembers_21 : decode cX5_remembers 21 = .ok (.getfield 19, 3) := dk_180 0 19 (dk_at dksX5_remembers_0 21 rfl rfl)
theorem dX5_remembers_24 : decode cX5_remembers 24 = .ok (.iload_n 1, 1) := dk_27 (dk_at dksX5_remembers_1 0 rfl rfl)
theorem dX5_remembers_25 : decode cX5_remembers 25 = .ok (.sipush 1030, 3) := dk_17 4 6 (dk_at dksX5_remembers_1 1 rfl rfl)
theorem dX5_remembers_28 : decode cX5_remembers 28 = .ok (.isub, 1) := dk_100 (dk_at dksX5_remembers_1 4 rfl rfl)
theorem dX5_remembers_29 : decode cX5_remembers 29 = .ok (.aload_n 0, 1) := dk_42 (dk_at dksX5_remembers_1 5 rfl rfl)
theorem dX5_remembers_30 : decode cX5_remembers 30 = .ok (.getfield 19, 3) := dk_180 0 19 (dk_at dksX5_remembers_1 6 rfl rfl)
theorem dX5_remembers_33 : decode cX5_remembers 33 = .ok (.iload_n 1, 1) := dk_27 (dk_at dksX5_remembers_1 9 rfl rfl)
theorem dX5_remembers_34 : decode cX5_remembers 34 = .ok (.iaload, 1) := dk_46 (dk_at dksX5_remembers_1 10 rfl rfl)
theorem dX5_remembers_35 : decode cX5_remembers 35 = .ok (.iastore, 1) := dk_79 (dk_at dksX5_remembers_1 11 rfl rfl)
theorem dX5_remembers_36 : decode cX5_remembers 36 = .ok (.iinc 1 1, 3) := dk_132 1 1 (dk_at dksX5_remembers_1 12 rfl rfl)
theorem dX5_remembers_39 : decode cX5_remembers 39 = .ok (.goto (-26), 3) := dk_167 255 230 (dk_at dksX5_remembers_1 15 rfl rfl)
theorem dX5_remembers_42 : decode cX5_remembers 42 = .ok (.aload_n 0, 1) := dk_42 (dk_at dksX5_remembers_1 18 rfl rfl)
theorem dX5_remembers_43 : decode cX5_remembers 43 = .ok (.dup, 1) := dk_89 (dk_at dksX5_remembers_1 19 rfl rfl)
theorem dX5_remembers_44 : decode cX5_remembers 44 = .ok (.getfield 81, 3) := dk_180 0 81 (dk_at dksX5_remembers_1 20 rfl rfl)
theorem dX5_remembers_47 : decode cX5_remembers 47 = .ok (.iconst 1, 1) := dk_4 (dk_at dksX5_remembers_1 23 rfl rfl)
theorem dX5_remembers_48 : decode cX5_remembers 48 = .ok (.isub, 1) := dk_100 (dk_at dksX5_remembers_2 0 rfl rfl)
theorem dX5_remembers_49 : decode cX5_remembers 49 = .ok (.putfield 81, 3) := dk_181 0 81 (dk_at dksX5_remembers_2 1 rfl rfl)
theorem dX5_remembers_52 : decode cX5_remembers 52 = .ok (.iconst 0, 1) := dk_3 (dk_at dksX5_remembers_2 4 rfl rfl)
theorem dX5_remembers_53 : decode cX5_remembers 53 = .ok (.istore_n 1, 1) := dk_60 (dk_at dksX5_remembers_2 5 rfl rfl)
theorem dX5_remembers_54 : decode cX5_remembers 54 = .ok (.iload_n 1, 1) := dk_27 (dk_at dksX5_remembers_2 6 rfl rfl)
theorem dX5_remembers_55 : decode cX5_remembers 55 = .ok (.sipush 1030, 3) := dk_17 4 6 (dk_at dksX5_remembers_2 7 rfl rfl)
theorem dX5_remembers_58 : decode cX5_remembers 58 = .ok (.if_icmp .ge 30, 3) := dk_162 0 30 (dk_at dksX5_remembers_2 10 rfl rfl)
theorem dX5_remembers_61 : decode cX5_remembers 61 = .ok (.aload_n 0, 1) := dk_42 (dk_at dksX5_remembers_2 13 rfl rfl)
theorem dX5_remembers_62 : decode cX5_remembers 62 = .ok (.getfield 19, 3) := dk_180 0 19 (dk_at dksX5_remembers_2 14 rfl rfl)
theorem dX5_remembers_65 : decode cX5_remembers 65 = .ok (.sipush 1030, 3) := dk_17 4 6 (dk_at dksX5_remembers_2 17 rfl rfl)
theorem dX5_remembers_68 : decode cX5_remembers 68 = .ok (.aload_n 0, 1) := dk_42 (dk_at dksX5_remembers_2 20 rfl rfl)
theorem dX5_remembers_69 : decode cX5_remembers 69 = .ok (.getfield 81, 3) := dk_180 0 81 (dk_at dksX5_remembers_2 21 rfl rfl)
theorem dX5_remembers_72 : decode cX5_remembers 72 = .ok (.imul, 1) := dk_104 (dk_at dksX5_remembers_3 0 rfl rfl)
theorem dX5_remembers_73 : decode cX5_remembers 73 = .ok (.iload_n 1, 1) := dk_27 (dk_at dksX5_remembers_3 1 rfl rfl)
theorem dX5_remembers_74 : decode cX5_remembers 74 = .ok (.iadd, 1) := dk_96 (dk_at dksX5_remembers_3 2 rfl rfl)
theorem dX5_remembers_75 : decode cX5_remembers 75 = .ok (.aload_n 0, 1) := dk_42 (dk_at dksX5_remembers_3 3 rfl rfl)
theorem dX5_remembers_76 : decode cX5_remembers 76 = .ok (.getfield 9, 3) := dk_180 0 9 (dk_at dksX5_remembers_3 4 rfl rfl)
theorem dX5_remembers_79 : decode cX5_remembers 79 = .ok (.iload_n 1, 1) := dk_27 (dk_at dksX5_remembers_3 7 rfl rfl)
theorem dX5_remembers_80 : decode cX5_remembers 80 = .ok (.iaload, 1) := dk_46 (dk_at dksX5_remembers_3 8 rfl rfl)
theorem dX5_remembers_81 : decode cX5_remembers 81 = .ok (.iastore, 1) := dk_79 (dk_at dksX5_remembers_3 9 rfl rfl)
theorem dX5_remembers_82 : decode cX5_remembers 82 = .ok (.iinc 1 1, 3) := dk_132 1 1 (dk_at dksX5_remembers_3 10 rfl rfl)
theorem dX5_remembers_85 : decode cX5_remembers 85 = .ok (.goto (-31), 3) := dk_167 255 225 (dk_at dksX5_remembers_3 13 rfl rfl)
theorem dX5_remembers_88 : decode cX5_remembers 88 = .ok (.aload_n 0, 1) := dk_42 (dk_at dksX5_remembers_3 16 rfl rfl)
theorem dX5_remembers_89 : decode cX5_remembers 89 = .ok (.dup, 1) := dk_89 (dk_at dksX5_remembers_3 17 rfl rfl)
theorem dX5_remembers_90 : decode cX5_remembers 90 = .ok (.getfield 81, 3) := dk_180 0 81 (dk_at dksX5_remembers_3 18 rfl rfl)
theorem dX5_remembers_93 : decode cX5_remembers 93 = .ok (.iconst 1, 1) := dk_4 (dk_at dksX5_remembers_3 21 rfl rfl)
theorem dX5_remembers_94 : decode cX5_remembers 94 = .ok (.iadd, 1) := dk_96 (dk_at dksX5_remembers_3 22 rfl rfl)
theorem dX5_remembers_95 : decode cX5_remembers 95 = .ok (.putfield 81, 3) := dk_181 0 81 (dk_at dksX5_remembers_4 0 rfl rfl)
theorem dX5_remembers_98 : decode cX5_remembers 98 = .ok (.return_, 1) := dk_177 (dk_at dksX5_remembers_4 3 rfl rfl)
abbrev cX5_does : ByteArray := prog_15_method_76_code
def yX5_does : MethodName := ⟨RX5, "does", "(I)Z"⟩
def dkwX5_does_8 : List UInt8 := [167, 0, 4, 3, 172, 42, 29, 21, 4, 182, 1, 95, 155, 0, 7, 4, 167, 0, 4, 3, 172]
abbrev dktX5_does_8 : List UInt8 := dkwX5_does_8 ++ []
def dkwX5_does_7 : List UInt8 := [182, 0, 169, 2, 159, 0, 21, 42, 42, 29, 21, 4, 182, 0, 169, 182, 1, 92, 155, 0, 7, 4]
abbrev dktX5_does_7 : List UInt8 := dkwX5_does_7 ++ dktX5_does_8
def dkwX5_does_6 : List UInt8 := [163, 0, 17, 42, 29, 21, 4, 182, 1, 89, 158, 0, 7, 4, 167, 0, 4, 3, 172, 42, 29, 21, 4]
abbrev dktX5_does_6 : List UInt8 := dkwX5_does_6 ++ dktX5_does_7
def dkwX5_does_5 : List UInt8 := [167, 0, 4, 3, 172, 42, 180, 0, 9, 29, 184, 0, 84, 16, 10, 96, 46, 21, 4, 96, 17, 39, 15]
abbrev dktX5_does_5 : List UInt8 := dkwX5_does_5 ++ dktX5_does_6
def dkwX5_does_4 : List UInt8 := [172, 42, 180, 0, 9, 6, 46, 29, 96, 17, 39, 15, 163, 0, 15, 42, 29, 182, 1, 86, 155, 0, 7, 4]
abbrev dktX5_does_4 : List UInt8 := dkwX5_does_4 ++ dktX5_does_5
def dkwX5_does_3 : List UInt8 := [42, 180, 0, 9, 5, 46, 16, 30, 162, 0, 15, 42, 28, 182, 1, 83, 155, 0, 7, 4, 167, 0, 4, 3]
abbrev dktX5_does_3 : List UInt8 := dkwX5_does_3 ++ dktX5_does_4
def dkwX5_does_2 : List UInt8 := [170, 0, 0, 0, 0, 155, 0, 0, 0, 0, 0, 0, 0, 4, 0, 0, 0, 34, 0, 0, 0, 34, 0, 0, 0, 59, 0, 0, 0, 87, 0, 0, 0, 124]
abbrev dktX5_does_2 : List UInt8 := dkwX5_does_2 ++ dktX5_does_3
def dkwX5_does_1 : List UInt8 := [42, 180, 0, 39, 28, 46]
abbrev dktX5_does_1 : List UInt8 := dkwX5_does_1 ++ dktX5_does_2
def dkwX5_does_0 : List UInt8 := [16, 12, 27, 104, 61, 42, 180, 0, 39, 28, 4, 96, 46, 62, 42, 180, 0, 39, 28, 5, 96, 46, 54, 4]
abbrev dktX5_does_0 : List UInt8 := dkwX5_does_0 ++ dktX5_does_1
theorem dksX5_does_0 : cX5_does.data.toList.drop 0 = dktX5_does_0 := by decide +kernel
theorem dksX5_does_1 : cX5_does.data.toList.drop 24 = dktX5_does_1 := dk_seg dksX5_does_0 24 rfl rfl
theorem dksX5_does_2 : cX5_does.data.toList.drop 30 = dktX5_does_2 := dk_seg dksX5_does_1 6 rfl rfl
theorem dksX5_does_3 : cX5_does.data.toList.drop 64 = dktX5_does_3 := dk_seg dksX5_does_2 34 rfl rfl
theorem dksX5_does_4 : cX5_does.data.toList.drop 88 = dktX5_does_4 := dk_seg dksX5_does_3 24 rfl rfl
theorem dksX5_does_5 : cX5_does.data.toList.drop 112 = dktX5_does_5 := dk_seg dksX5_does_4 24 rfl rfl
theorem dksX5_does_6 : cX5_does.data.toList.drop 135 = dktX5_does_6 := dk_seg dksX5_does_5 23 rfl rfl
theorem dksX5_does_7 : cX5_does.data.toList.drop 158 = dktX5_does_7 := dk_seg dksX5_does_6 23 rfl rfl
theorem dksX5_does_8 : cX5_does.data.toList.drop 180 = dktX5_does_8 := dk_seg dksX5_does_7 22 rfl rfl
theorem dX5_does_0 : decode cX5_does 0 = .ok (.bipush 12, 2) := dk_16 12 (dk_at dksX5_does_0 0 rfl rfl)
theorem dX5_does_2 : decode cX5_does 2 = .ok (.iload_n 1, 1) := dk_27 (dk_at dksX5_does_0 2 rfl rfl)
theorem dX5_does_3 : decode cX5_does 3 = .ok (.imul, 1) := dk_104 (dk_at dksX5_does_0 3 rfl rfl)
theorem dX5_does_4 : decode cX5_does 4 = .ok (.istore_n 2, 1) := dk_61 (dk_at dksX5_does_0 4 rfl rfl)
theorem dX5_does_5 : decode cX5_does 5 = .ok (.aload_n 0, 1) := dk_42 (dk_at dksX5_does_0 5 rfl rfl)
theorem dX5_does_6 : decode cX5_does 6 = .ok (.getfield 39, 3) := dk_180 0 39 (dk_at dksX5_does_0 6 rfl rfl)
theorem dX5_does_9 : decode cX5_does 9 = .ok (.iload_n 2, 1) := dk_28 (dk_at dksX5_does_0 9 rfl rfl)
theorem dX5_does_10 : decode cX5_does 10 = .ok (.iconst 1, 1) := dk_4 (dk_at dksX5_does_0 10 rfl rfl)
theorem dX5_does_11 : decode cX5_does 11 = .ok (.iadd, 1) := dk_96 (dk_at dksX5_does_0 11 rfl rfl)
theorem dX5_does_12 : decode cX5_does 12 = .ok (.iaload, 1) := dk_46 (dk_at dksX5_does_0 12 rfl rfl)
theorem dX5_does_13 : decode cX5_does 13 = .ok (.istore_n 3, 1) := dk_62 (dk_at dksX5_does_0 13 rfl rfl)
theorem dX5_does_14 : decode cX5_does 14 = .ok (.aload_n 0, 1) := dk_42 (dk_at dksX5_does_0 14 rfl rfl)
theorem dX5_does_15 : decode cX5_does 15 = .ok (.getfield 39, 3) := dk_180 0 39 (dk_at dksX5_does_0 15 rfl rfl)
theorem dX5_does_18 : decode cX5_does 18 = .ok (.iload_n 2, 1) := dk_28 (dk_at dksX5_does_0 18 rfl rfl)
theorem dX5_does_19 : decode cX5_does 19 = .ok (.iconst 2, 1) := dk_5 (dk_at dksX5_does_0 19 rfl rfl)
theorem dX5_does_20 : decode cX5_does 20 = .ok (.iadd, 1) := dk_96 (dk_at dksX5_does_0 20 rfl rfl)
theorem dX5_does_21 : decode cX5_does 21 = .ok (.iaload, 1) := dk_46 (dk_at dksX5_does_0 21 rfl rfl)
theorem dX5_does_22 : decode cX5_does 22 = .ok (.istore 4, 2) := dk_54 4 (dk_at dksX5_does_0 22 rfl rfl)
theorem dX5_does_24 : decode cX5_does 24 = .ok (.aload_n 0, 1) := dk_42 (dk_at dksX5_does_1 0 rfl rfl)
theorem dX5_does_25 : decode cX5_does 25 = .ok (.getfield 39, 3) := dk_180 0 39 (dk_at dksX5_does_1 1 rfl rfl)
theorem dX5_does_28 : decode cX5_does 28 = .ok (.iload_n 2, 1) := dk_28 (dk_at dksX5_does_1 4 rfl rfl)
theorem dX5_does_29 : decode cX5_does 29 = .ok (.iaload, 1) := dk_46 (dk_at dksX5_does_1 5 rfl rfl)
theorem dX5_does_30 : decode cX5_does 30 = .ok (.tableswitch 155 0 4 #[34, 34, 59, 87, 124], 34) := by decide +kernel
theorem dX5_does_64 : decode cX5_does 64 = .ok (.aload_n 0, 1) := dk_42 (dk_at dksX5_does_3 0 rfl rfl)
theorem dX5_does_65 : decode cX5_does 65 = .ok (.getfield 9, 3) := dk_180 0 9 (dk_at dksX5_does_3 1 rfl rfl)
theorem dX5_does_68 : decode cX5_does 68 = .ok (.iconst 2, 1) := dk_5 (dk_at dksX5_does_3 4 rfl rfl)
theorem dX5_does_69 : decode cX5_does 69 = .ok (.iaload, 1) := dk_46 (dk_at dksX5_does_3 5 rfl rfl)
theorem dX5_does_70 : decode cX5_does 70 = .ok (.bipush 30, 2) := dk_16 30 (dk_at dksX5_does_3 6 rfl rfl)
theorem dX5_does_72 : decode cX5_does 72 = .ok (.if_icmp .ge 15, 3) := dk_162 0 15 (dk_at dksX5_does_3 8 rfl rfl)
theorem dX5_does_75 : decode cX5_does 75 = .ok (.aload_n 0, 1) := dk_42 (dk_at dksX5_does_3 11 rfl rfl)
theorem dX5_does_76 : decode cX5_does 76 = .ok (.iload_n 2, 1) := dk_28 (dk_at dksX5_does_3 12 rfl rfl)
theorem dX5_does_77 : decode cX5_does 77 = .ok (.invokevirtual 339, 3) := dk_182 1 83 (dk_at dksX5_does_3 13 rfl rfl)
theorem dX5_does_80 : decode cX5_does 80 = .ok (.ifCond .lt 7, 3) := dk_155 0 7 (dk_at dksX5_does_3 16 rfl rfl)
theorem dX5_does_83 : decode cX5_does 83 = .ok (.iconst 1, 1) := dk_4 (dk_at dksX5_does_3 19 rfl rfl)
theorem dX5_does_84 : decode cX5_does 84 = .ok (.goto 4, 3) := dk_167 0 4 (dk_at dksX5_does_3 20 rfl rfl)
theorem dX5_does_87 : decode cX5_does 87 = .ok (.iconst 0, 1) := dk_3 (dk_at dksX5_does_3 23 rfl rfl)
theorem dX5_does_88 : decode cX5_does 88 = .ok (.ireturn, 1) := dk_172 (dk_at dksX5_does_4 0 rfl rfl)
theorem dX5_does_89 : decode cX5_does 89 = .ok (.aload_n 0, 1) := dk_42 (dk_at dksX5_does_4 1 rfl rfl)
theorem dX5_does_90 : decode cX5_does 90 = .ok (.getfield 9, 3) := dk_180 0 9 (dk_at dksX5_does_4 2 rfl rfl)
theorem dX5_does_93 : decode cX5_does 93 = .ok (.iconst 3, 1) := dk_6 (dk_at dksX5_does_4 5 rfl rfl)
theorem dX5_does_94 : decode cX5_does 94 = .ok (.iaload, 1) := dk_46 (dk_at dksX5_does_4 6 rfl rfl)
theorem dX5_does_95 : decode cX5_does 95 = .ok (.iload_n 3, 1) := dk_29 (dk_at dksX5_does_4 7 rfl rfl)
theorem dX5_does_96 : decode cX5_does 96 = .ok (.iadd, 1) := dk_96 (dk_at dksX5_does_4 8 rfl rfl)
theorem dX5_does_97 : decode cX5_does 97 = .ok (.sipush 9999, 3) := dk_17 39 15 (dk_at dksX5_does_4 9 rfl rfl)
theorem dX5_does_100 : decode cX5_does 100 = .ok (.if_icmp .gt 15, 3) := dk_163 0 15 (dk_at dksX5_does_4 12 rfl rfl)
theorem dX5_does_103 : decode cX5_does 103 = .ok (.aload_n 0, 1) := dk_42 (dk_at dksX5_does_4 15 rfl rfl)
theorem dX5_does_104 : decode cX5_does 104 = .ok (.iload_n 3, 1) := dk_29 (dk_at dksX5_does_4 16 rfl rfl)
theorem dX5_does_105 : decode cX5_does 105 = .ok (.invokevirtual 342, 3) := dk_182 1 86 (dk_at dksX5_does_4 17 rfl rfl)
theorem dX5_does_108 : decode cX5_does 108 = .ok (.ifCond .lt 7, 3) := dk_155 0 7 (dk_at dksX5_does_4 20 rfl rfl)
theorem dX5_does_111 : decode cX5_does 111 = .ok (.iconst 1, 1) := dk_4 (dk_at dksX5_does_4 23 rfl rfl)
theorem dX5_does_112 : decode cX5_does 112 = .ok (.goto 4, 3) := dk_167 0 4 (dk_at dksX5_does_5 0 rfl rfl)
theorem dX5_does_115 : decode cX5_does 115 = .ok (.iconst 0, 1) := dk_3 (dk_at dksX5_does_5 3 rfl rfl)
theorem dX5_does_116 : decode cX5_does 116 = .ok (.ireturn, 1) := dk_172 (dk_at dksX5_does_5 4 rfl rfl)
theorem dX5_does_117 : decode cX5_does 117 = .ok (.aload_n 0, 1) := dk_42 (dk_at dksX5_does_5 5 rfl rfl)
theorem dX5_does_118 : decode cX5_does 118 = .ok (.getfield 9, 3) := dk_180 0 9 (dk_at dksX5_does_5 6 rfl rfl)
theorem dX5_does_121 : decode cX5_does 121 = .ok (.iload_n 3, 1) := dk_29 (dk_at dksX5_does_5 9 rfl rfl)
theorem dX5_does_122 : decode cX5_does 122 = .ok (.invokestatic 84, 3) := dk_184 0 84 (dk_at dksX5_does_5 10 rfl rfl)
theorem dX5_does_125 : decode cX5_does 125 = .ok (.bipush 10, 2) := dk_16 10 (dk_at dksX5_does_5 13 rfl rfl)
theorem dX5_does_127 : decode cX5_does 127 = .ok (.iadd, 1) := dk_96 (dk_at dksX5_does_5 15 rfl rfl)
theorem dX5_does_128 : decode cX5_does 128 = .ok (.iaload, 1) := dk_46 (dk_at dksX5_does_5 16 rfl rfl)
theorem dX5_does_129 : decode cX5_does 129 = .ok (.iload 4, 2) := dk_21 4 (dk_at dksX5_does_5 17 rfl rfl)
theorem dX5_does_131 : decode cX5_does 131 = .ok (.iadd, 1) := dk_96 (dk_at dksX5_does_5 19 rfl rfl)
theorem dX5_does_132 : decode cX5_does 132 = .ok (.sipush 9999, 3) := dk_17 39 15 (dk_at dksX5_does_5 20 rfl rfl)
theorem dX5_does_135 : decode cX5_does 135 = .ok (.if_icmp .gt 17, 3) := dk_163 0 17 (dk_at dksX5_does_6 0 rfl rfl)
theorem dX5_does_138 : decode cX5_does 138 = .ok (.aload_n 0, 1) := dk_42 (dk_at dksX5_does_6 3 rfl rfl)
theorem dX5_does_139 : decode cX5_does 139 = .ok (.iload_n 3, 1) := dk_29 (dk_at dksX5_does_6 4 rfl rfl)
theorem dX5_does_140 : decode cX5_does 140 = .ok (.iload 4, 2) := dk_21 4 (dk_at dksX5_does_6 5 rfl rfl)
theorem dX5_does_142 : decode cX5_does 142 = .ok (.invokevirtual 345, 3) := dk_182 1 89 (dk_at dksX5_does_6 7 rfl rfl)
theorem dX5_does_145 : decode cX5_does 145 = .ok (.ifCond .le 7, 3) := dk_158 0 7 (dk_at dksX5_does_6 10 rfl rfl)
theorem dX5_does_148 : decode cX5_does 148 = .ok (.iconst 1, 1) := dk_4 (dk_at dksX5_does_6 13 rfl rfl)
theorem dX5_does_149 : decode cX5_does 149 = .ok (.goto 4, 3) := dk_167 0 4 (dk_at dksX5_does_6 14 rfl rfl)
theorem dX5_does_152 : decode cX5_does 152 = .ok (.iconst 0, 1) := dk_3 (dk_at dksX5_does_6 17 rfl rfl)
theorem dX5_does_153 : decode cX5_does 153 = .ok (.ireturn, 1) := dk_172 (dk_at dksX5_does_6 18 rfl rfl)
theorem dX5_does_154 : decode cX5_does 154 = .ok (.aload_n 0, 1) := dk_42 (dk_at dksX5_does_6 19 rfl rfl)
theorem dX5_does_155 : decode cX5_does 155 = .ok (.iload_n 3, 1) := dk_29 (dk_at dksX5_does_6 20 rfl rfl)
theorem dX5_does_156 : decode cX5_does 156 = .ok (.iload 4, 2) := dk_21 4 (dk_at dksX5_does_6 21 rfl rfl)
theorem dX5_does_158 : decode cX5_does 158 = .ok (.invokevirtual 169, 3) := dk_182 0 169 (dk_at dksX5_does_7 0 rfl rfl)
theorem dX5_does_161 : decode cX5_does 161 = .ok (.iconst (-1), 1) := dk_2 (dk_at dksX5_does_7 3 rfl rfl)
theorem dX5_does_162 : decode cX5_does 162 = .ok (.if_icmp .eq 21, 3) := dk_159 0 21 (dk_at dksX5_does_7 4 rfl rfl)
theorem dX5_does_165 : decode cX5_does 165 = .ok (.aload_n 0, 1) := dk_42 (dk_at dksX5_does_7 7 rfl rfl)
theorem dX5_does_166 : decode cX5_does 166 = .ok (.aload_n 0, 1) := dk_42 (dk_at dksX5_does_7 8 rfl rfl)
theorem dX5_does_167 : decode cX5_does 167 = .ok (.iload_n 3, 1) := dk_29 (dk_at dksX5_does_7 9 rfl rfl)
theorem dX5_does_168 : decode cX5_does 168 = .ok (.iload 4, 2) := dk_21 4 (dk_at dksX5_does_7 10 rfl rfl)
theorem dX5_does_170 : decode cX5_does 170 = .ok (.invokevirtual 169, 3) := dk_182 0 169 (dk_at dksX5_does_7 12 rfl rfl)
theorem dX5_does_173 : decode cX5_does 173 = .ok (.invokevirtual 348, 3) := dk_182 1 92 (dk_at dksX5_does_7 15 rfl rfl)
theorem dX5_does_176 : decode cX5_does 176 = .ok (.ifCond .lt 7, 3) := dk_155 0 7 (dk_at dksX5_does_7 18 rfl rfl)
theorem dX5_does_179 : decode cX5_does 179 = .ok (.iconst 1, 1) := dk_4 (dk_at dksX5_does_7 21 rfl rfl)
theorem dX5_does_180 : decode cX5_does 180 = .ok (.goto 4, 3) := dk_167 0 4 (dk_at dksX5_does_8 0 rfl rfl)
theorem dX5_does_183 : decode cX5_does 183 = .ok (.iconst 0, 1) := dk_3 (dk_at dksX5_does_8 3 rfl rfl)
theorem dX5_does_184 : decode cX5_does 184 = .ok (.ireturn, 1) := dk_172 (dk_at dksX5_does_8 4 rfl rfl)
theorem dX5_does_185 : decode cX5_does 185 = .ok (.aload_n 0, 1) := dk_42 (dk_at dksX5_does_8 5 rfl rfl)
theorem dX5_does_186 : decode cX5_does 186 = .ok (.iload_n 3, 1) := dk_29 (dk_at dksX5_does_8 6 rfl rfl)
theorem dX5_does_187 : decode cX5_does 187 = .ok (.iload 4, 2) := dk_21 4 (dk_at dksX5_does_8 7 rfl rfl)
theorem dX5_does_189 : decode cX5_does 189 = .ok (.invokevirtual 351, 3) := dk_182 1 95 (dk_at dksX5_does_8 9 rfl rfl)
theorem dX5_does_192 : decode cX5_does 192 = .ok (.ifCond .lt 7, 3) := dk_155 0 7 (dk_at dksX5_does_8 12 rfl rfl)
theorem dX5_does_195 : decode cX5_does 195 = .ok (.iconst 1, 1) := dk_4 (dk_at dksX5_does_8 15 rfl rfl)
theorem dX5_does_196 : decode cX5_does 196 = .ok (.goto 4, 3) := dk_167 0 4 (dk_at dksX5_does_8 16 rfl rfl)
theorem dX5_does_199 : decode cX5_does 199 = .ok (.iconst 0, 1) := dk_3 (dk_at dksX5_does_8 19 rfl rfl)
theorem dX5_does_200 : decode cX5_does 200 = .ok (.ireturn, 1) := dk_172 (dk_at dksX5_does_8 20 rfl rfl)
abbrev cX5_sendsDeed : ByteArray := prog_15_method_75_code
def yX5_sendsDeed : MethodName := ⟨RX5, "sendsDeed", "(I)I"⟩
def dkwX5_sendsDeed_3 : List UInt8 := [160, 0, 7, 4, 167, 0, 4, 3, 182, 0, 144, 172]
abbrev dktX5_sendsDeed_3 : List UInt8 := dkwX5_sendsDeed_3 ++ []
def dkwX5_sendsDeed_2 : List UInt8 := [180, 0, 39, 27, 4, 96, 46, 42, 180, 0, 39, 27, 5, 96, 46, 3, 42, 180, 0, 39, 27, 46, 4]
abbrev dktX5_sendsDeed_2 : List UInt8 := dkwX5_sendsDeed_2 ++ dktX5_sendsDeed_3
def dkwX5_sendsDeed_1 : List UInt8 := [180, 0, 28, 28, 42, 180, 0, 39, 27, 7, 96, 28, 96, 46, 79, 132, 2, 1, 167, 255, 229, 42, 42]
abbrev dktX5_sendsDeed_1 : List UInt8 := dkwX5_sendsDeed_1 ++ dktX5_sendsDeed_2
def dkwX5_sendsDeed_0 : List UInt8 := [42, 42, 180, 0, 39, 27, 6, 96, 46, 181, 0, 119, 3, 61, 28, 42, 180, 0, 119, 162, 0, 25, 42]
abbrev dktX5_sendsDeed_0 : List UInt8 := dkwX5_sendsDeed_0 ++ dktX5_sendsDeed_1
theorem dksX5_sendsDeed_0 : cX5_sendsDeed.data.toList.drop 0 = dktX5_sendsDeed_0 := by decide +kernel
theorem dksX5_sendsDeed_1 : cX5_sendsDeed.data.toList.drop 23 = dktX5_sendsDeed_1 := dk_seg dksX5_sendsDeed_0 23 rfl rfl
theorem dksX5_sendsDeed_2 : cX5_sendsDeed.data.toList.drop 46 = dktX5_sendsDeed_2 := dk_seg dksX5_sendsDeed_1 23 rfl rfl
theorem dksX5_sendsDeed_3 : cX5_sendsDeed.data.toList.drop 69 = dktX5_sendsDeed_3 := dk_seg dksX5_sendsDeed_2 23 rfl rfl
theorem dX5_sendsDeed_0 : decode cX5_sendsDeed 0 = .ok (.aload_n 0, 1) := dk_42 (dk_at dksX5_sendsDeed_0 0 rfl rfl)
theorem dX5_sendsDeed_1 : decode cX5_sendsDeed 1 = .ok (.aload_n 0, 1) := dk_42 (dk_at dksX5_sendsDeed_0 1 rfl rfl)
theorem dX5_sendsDeed_2 : decode cX5_sendsDeed 2 = .ok (.getfield 39, 3) := dk_180 0 39 (dk_at dksX5_sendsDeed_0 2 rfl rfl)
theorem dX5_sendsDeed_5 : decode cX5_sendsDeed 5 = .ok (.iload_n 1, 1) := dk_27 (dk_at dksX5_sendsDeed_0 5 rfl rfl)
theorem dX5_sendsDeed_6 : decode cX5_sendsDeed 6 = .ok (.iconst 3, 1) := dk_6 (dk_at dksX5_sendsDeed_0 6 rfl rfl)
theorem dX5_sendsDeed_7 : decode cX5_sendsDeed 7 = .ok (.iadd, 1) := dk_96 (dk_at dksX5_sendsDeed_0 7 rfl rfl)
theorem dX5_sendsDeed_8 : decode cX5_sendsDeed 8 = .ok (.iaload, 1) := dk_46 (dk_at dksX5_sendsDeed_0 8 rfl rfl)
theorem dX5_sendsDeed_9 : decode cX5_sendsDeed 9 = .ok (.putfield 119, 3) := dk_181 0 119 (dk_at dksX5_sendsDeed_0 9 rfl rfl)
theorem dX5_sendsDeed_12 : decode cX5_sendsDeed 12 = .ok (.iconst 0, 1) := dk_3 (dk_at dksX5_sendsDeed_0 12 rfl rfl)
theorem dX5_sendsDeed_13 : decode cX5_sendsDeed 13 = .ok (.istore_n 2, 1) := dk_61 (dk_at dksX5_sendsDeed_0 13 rfl rfl)
theorem dX5_sendsDeed_14 : decode cX5_sendsDeed 14 = .ok (.iload_n 2, 1) := dk_28 (dk_at dksX5_sendsDeed_0 14 rfl rfl)
theorem dX5_sendsDeed_15 : decode cX5_sendsDeed 15 = .ok (.aload_n 0, 1) := dk_42 (dk_at dksX5_sendsDeed_0 15 rfl rfl)
theorem dX5_sendsDeed_16 : decode cX5_sendsDeed 16 = .ok (.getfield 119, 3) := dk_180 0 119 (dk_at dksX5_sendsDeed_0 16 rfl rfl)
theorem dX5_sendsDeed_19 : decode cX5_sendsDeed 19 = .ok (.if_icmp .ge 25, 3) := dk_162 0 25 (dk_at dksX5_sendsDeed_0 19 rfl rfl)
theorem dX5_sendsDeed_22 : decode cX5_sendsDeed 22 = .ok (.aload_n 0, 1) := dk_42 (dk_at dksX5_sendsDeed_0 22 rfl rfl)
theorem dX5_sendsDeed_23 : decode cX5_sendsDeed 23 = .ok (.getfield 28, 3) := dk_180 0 28 (dk_at dksX5_sendsDeed_1 0 rfl rfl)
theorem dX5_sendsDeed_26 : decode cX5_sendsDeed 26 = .ok (.iload_n 2, 1) := dk_28 (dk_at dksX5_sendsDeed_1 3 rfl rfl)
theorem dX5_sendsDeed_27 : decode cX5_sendsDeed 27 = .ok (.aload_n 0, 1) := dk_42 (dk_at dksX5_sendsDeed_1 4 rfl rfl)
theorem dX5_sendsDeed_28 : decode cX5_sendsDeed 28 = .ok (.getfield 39, 3) := dk_180 0 39 (dk_at dksX5_sendsDeed_1 5 rfl rfl)
theorem dX5_sendsDeed_31 : decode cX5_sendsDeed 31 = .ok (.iload_n 1, 1) := dk_27 (dk_at dksX5_sendsDeed_1 8 rfl rfl)
theorem dX5_sendsDeed_32 : decode cX5_sendsDeed 32 = .ok (.iconst 4, 1) := dk_7 (dk_at dksX5_sendsDeed_1 9 rfl rfl)
theorem dX5_sendsDeed_33 : decode cX5_sendsDeed 33 = .ok (.iadd, 1) := dk_96 (dk_at dksX5_sendsDeed_1 10 rfl rfl)
theorem dX5_sendsDeed_34 : decode cX5_sendsDeed 34 = .ok (.iload_n 2, 1) := dk_28 (dk_at dksX5_sendsDeed_1 11 rfl rfl)
theorem dX5_sendsDeed_35 : decode cX5_sendsDeed 35 = .ok (.iadd, 1) := dk_96 (dk_at dksX5_sendsDeed_1 12 rfl rfl)
theorem dX5_sendsDeed_36 : decode cX5_sendsDeed 36 = .ok (.iaload, 1) := dk_46 (dk_at dksX5_sendsDeed_1 13 rfl rfl)
theorem dX5_sendsDeed_37 : decode cX5_sendsDeed 37 = .ok (.iastore, 1) := dk_79 (dk_at dksX5_sendsDeed_1 14 rfl rfl)
theorem dX5_sendsDeed_38 : decode cX5_sendsDeed 38 = .ok (.iinc 2 1, 3) := dk_132 2 1 (dk_at dksX5_sendsDeed_1 15 rfl rfl)
theorem dX5_sendsDeed_41 : decode cX5_sendsDeed 41 = .ok (.goto (-27), 3) := dk_167 255 229 (dk_at dksX5_sendsDeed_1 18 rfl rfl)
theorem dX5_sendsDeed_44 : decode cX5_sendsDeed 44 = .ok (.aload_n 0, 1) := dk_42 (dk_at dksX5_sendsDeed_1 21 rfl rfl)
theorem dX5_sendsDeed_45 : decode cX5_sendsDeed 45 = .ok (.aload_n 0, 1) := dk_42 (dk_at dksX5_sendsDeed_1 22 rfl rfl)
theorem dX5_sendsDeed_46 : decode cX5_sendsDeed 46 = .ok (.getfield 39, 3) := dk_180 0 39 (dk_at dksX5_sendsDeed_2 0 rfl rfl)
theorem dX5_sendsDeed_49 : decode cX5_sendsDeed 49 = .ok (.iload_n 1, 1) := dk_27 (dk_at dksX5_sendsDeed_2 3 rfl rfl)
theorem dX5_sendsDeed_50 : decode cX5_sendsDeed 50 = .ok (.iconst 1, 1) := dk_4 (dk_at dksX5_sendsDeed_2 4 rfl rfl)
theorem dX5_sendsDeed_51 : decode cX5_sendsDeed 51 = .ok (.iadd, 1) := dk_96 (dk_at dksX5_sendsDeed_2 5 rfl rfl)
theorem dX5_sendsDeed_52 : decode cX5_sendsDeed 52 = .ok (.iaload, 1) := dk_46 (dk_at dksX5_sendsDeed_2 6 rfl rfl)
theorem dX5_sendsDeed_53 : decode cX5_sendsDeed 53 = .ok (.aload_n 0, 1) := dk_42 (dk_at dksX5_sendsDeed_2 7 rfl rfl)
theorem dX5_sendsDeed_54 : decode cX5_sendsDeed 54 = .ok (.getfield 39, 3) := dk_180 0 39 (dk_at dksX5_sendsDeed_2 8 rfl rfl)
theorem dX5_sendsDeed_57 : decode cX5_sendsDeed 57 = .ok (.iload_n 1, 1) := dk_27 (dk_at dksX5_sendsDeed_2 11 rfl rfl)
theorem dX5_sendsDeed_58 : decode cX5_sendsDeed 58 = .ok (.iconst 2, 1) := dk_5 (dk_at dksX5_sendsDeed_2 12 rfl rfl)
theorem dX5_sendsDeed_59 : decode cX5_sendsDeed 59 = .ok (.iadd, 1) := dk_96 (dk_at dksX5_sendsDeed_2 13 rfl rfl)
theorem dX5_sendsDeed_60 : decode cX5_sendsDeed 60 = .ok (.iaload, 1) := dk_46 (dk_at dksX5_sendsDeed_2 14 rfl rfl)
theorem dX5_sendsDeed_61 : decode cX5_sendsDeed 61 = .ok (.iconst 0, 1) := dk_3 (dk_at dksX5_sendsDeed_2 15 rfl rfl)
theorem dX5_sendsDeed_62 : decode cX5_sendsDeed 62 = .ok (.aload_n 0, 1) := dk_42 (dk_at dksX5_sendsDeed_2 16 rfl rfl)
theorem dX5_sendsDeed_63 : decode cX5_sendsDeed 63 = .ok (.getfield 39, 3) := dk_180 0 39 (dk_at dksX5_sendsDeed_2 17 rfl rfl)
theorem dX5_sendsDeed_66 : decode cX5_sendsDeed 66 = .ok (.iload_n 1, 1) := dk_27 (dk_at dksX5_sendsDeed_2 20 rfl rfl)
theorem dX5_sendsDeed_67 : decode cX5_sendsDeed 67 = .ok (.iaload, 1) := dk_46 (dk_at dksX5_sendsDeed_2 21 rfl rfl)
theorem dX5_sendsDeed_68 : decode cX5_sendsDeed 68 = .ok (.iconst 1, 1) := dk_4 (dk_at dksX5_sendsDeed_2 22 rfl rfl)
theorem dX5_sendsDeed_69 : decode cX5_sendsDeed 69 = .ok (.if_icmp .ne 7, 3) := dk_160 0 7 (dk_at dksX5_sendsDeed_3 0 rfl rfl)
theorem dX5_sendsDeed_72 : decode cX5_sendsDeed 72 = .ok (.iconst 1, 1) := dk_4 (dk_at dksX5_sendsDeed_3 3 rfl rfl)
theorem dX5_sendsDeed_73 : decode cX5_sendsDeed 73 = .ok (.goto 4, 3) := dk_167 0 4 (dk_at dksX5_sendsDeed_3 4 rfl rfl)
theorem dX5_sendsDeed_76 : decode cX5_sendsDeed 76 = .ok (.iconst 0, 1) := dk_3 (dk_at dksX5_sendsDeed_3 7 rfl rfl)
theorem dX5_sendsDeed_77 : decode cX5_sendsDeed 77 = .ok (.invokevirtual 144, 3) := dk_182 0 144 (dk_at dksX5_sendsDeed_3 8 rfl rfl)
theorem dX5_sendsDeed_80 : decode cX5_sendsDeed 80 = .ok (.ireturn, 1) := dk_172 (dk_at dksX5_sendsDeed_3 11 rfl rfl)
abbrev cX5_newTune : ByteArray := prog_15_method_30_code
def yX5_newTune : MethodName := ⟨RX5, "newTune", "(IIZZ)I"⟩
def dkwX5_newTune_8 : List UInt8 := [184, 0, 115, 182, 0, 126, 21, 5, 172]
abbrev dktX5_newTune_8 : List UInt8 := dkwX5_newTune_8 ++ []
def dkwX5_newTune_7 : List UInt8 := [182, 0, 122, 42, 180, 0, 9, 5, 92, 46, 4, 96, 79, 42, 4, 4, 182, 0, 126, 42, 5, 29]
abbrev dktX5_newTune_7 : List UInt8 := dkwX5_newTune_7 ++ dktX5_newTune_8
def dkwX5_newTune_6 : List UInt8 := [16, 11, 96, 21, 7, 96, 42, 180, 0, 28, 21, 7, 46, 79, 132, 7, 1, 167, 255, 224, 42, 21, 5]
abbrev dktX5_newTune_6 : List UInt8 := dkwX5_newTune_6 ++ dktX5_newTune_7
def dkwX5_newTune_5 : List UInt8 := [21, 4, 184, 0, 115, 79, 3, 54, 7, 21, 7, 42, 180, 0, 119, 162, 0, 29, 42, 180, 0, 9, 21, 6]
abbrev dktX5_newTune_5 : List UInt8 := dkwX5_newTune_5 ++ dktX5_newTune_6
def dkwX5_newTune_4 : List UInt8 := [79, 42, 180, 0, 9, 21, 6, 16, 6, 96, 29, 184, 0, 115, 79, 42, 180, 0, 9, 21, 6, 16, 7, 96]
abbrev dktX5_newTune_4 : List UInt8 := dkwX5_newTune_4 ++ dktX5_newTune_5
def dkwX5_newTune_3 : List UInt8 := [42, 180, 0, 119, 79, 42, 180, 0, 9, 21, 6, 7, 96, 27, 79, 42, 180, 0, 9, 21, 6, 8, 96, 2]
abbrev dktX5_newTune_3 : List UInt8 := dkwX5_newTune_3 ++ dktX5_newTune_4
def dkwX5_newTune_2 : List UInt8 := [21, 6, 3, 96, 27, 79, 42, 180, 0, 9, 21, 6, 4, 96, 28, 79, 42, 180, 0, 9, 21, 6, 5, 96]
abbrev dktX5_newTune_2 : List UInt8 := dkwX5_newTune_2 ++ dktX5_newTune_3
def dkwX5_newTune_1 : List UInt8 := [162, 0, 20, 42, 180, 0, 9, 21, 6, 21, 7, 96, 3, 79, 132, 7, 1, 167, 255, 235, 42, 180, 0, 9]
abbrev dktX5_newTune_1 : List UInt8 := dkwX5_newTune_1 ++ dktX5_newTune_2
def dkwX5_newTune_0 : List UInt8 := [42, 180, 0, 9, 5, 46, 54, 5, 21, 5, 184, 0, 109, 54, 6, 3, 54, 7, 21, 7, 16, 27]
abbrev dktX5_newTune_0 : List UInt8 := dkwX5_newTune_0 ++ dktX5_newTune_1
theorem dksX5_newTune_0 : cX5_newTune.data.toList.drop 0 = dktX5_newTune_0 := by decide +kernel
theorem dksX5_newTune_1 : cX5_newTune.data.toList.drop 22 = dktX5_newTune_1 := dk_seg dksX5_newTune_0 22 rfl rfl
theorem dksX5_newTune_2 : cX5_newTune.data.toList.drop 46 = dktX5_newTune_2 := dk_seg dksX5_newTune_1 24 rfl rfl
theorem dksX5_newTune_3 : cX5_newTune.data.toList.drop 70 = dktX5_newTune_3 := dk_seg dksX5_newTune_2 24 rfl rfl
theorem dksX5_newTune_4 : cX5_newTune.data.toList.drop 94 = dktX5_newTune_4 := dk_seg dksX5_newTune_3 24 rfl rfl
theorem dksX5_newTune_5 : cX5_newTune.data.toList.drop 118 = dktX5_newTune_5 := dk_seg dksX5_newTune_4 24 rfl rfl
theorem dksX5_newTune_6 : cX5_newTune.data.toList.drop 142 = dktX5_newTune_6 := dk_seg dksX5_newTune_5 24 rfl rfl
theorem dksX5_newTune_7 : cX5_newTune.data.toList.drop 165 = dktX5_newTune_7 := dk_seg dksX5_newTune_6 23 rfl rfl
theorem dksX5_newTune_8 : cX5_newTune.data.toList.drop 187 = dktX5_newTune_8 := dk_seg dksX5_newTune_7 22 rfl rfl
theorem dX5_newTune_0 : decode cX5_newTune 0 = .ok (.aload_n 0, 1) := dk_42 (dk_at dksX5_newTune_0 0 rfl rfl)
theorem dX5_newTune_1 : decode cX5_newTune 1 = .ok (.getfield 9, 3) := dk_180 0 9 (dk_at dksX5_newTune_0 1 rfl rfl)
theorem dX5_newTune_4 : decode cX5_newTune 4 = .ok (.iconst 2, 1) := dk_5 (dk_at dksX5_newTune_0 4 rfl rfl)
theorem dX5_newTune_5 : decode cX5_newTune 5 = .ok (.iaload, 1) := dk_46 (dk_at dksX5_newTune_0 5 rfl rfl)
theorem dX5_newTune_6 : decode cX5_newTune 6 = .ok (.istore 5, 2) := dk_54 5 (dk_at dksX5_newTune_0 6 rfl rfl)
theorem dX5_newTune_8 : decode cX5_newTune 8 = .ok (.iload 5, 2) := dk_21 5 (dk_at dksX5_newTune_0 8 rfl rfl)
theorem dX5_newTune_10 : decode cX5_newTune 10 = .ok (.invokestatic 109, 3) := dk_184 0 109 (dk_at dksX5_newTune_0 10 rfl rfl)
theorem dX5_newTune_13 : decode cX5_newTune 13 = .ok (.istore 6, 2) := dk_54 6 (dk_at dksX5_newTune_0 13 rfl rfl)
theorem dX5_newTune_15 : decode cX5_newTune 15 = .ok (.iconst 0, 1) := dk_3 (dk_at dksX5_newTune_0 15 rfl rfl)
theorem dX5_newTune_16 : decode cX5_newTune 16 = .ok (.istore 7, 2) := dk_54 7 (dk_at dksX5_newTune_0 16 rfl rfl)
theorem dX5_newTune_18 : decode cX5_newTune 18 = .ok (.iload 7, 2) := dk_21 7 (dk_at dksX5_newTune_0 18 rfl rfl)
theorem dX5_newTune_20 : decode cX5_newTune 20 = .ok (.bipush 27, 2) := dk_16 27 (dk_at dksX5_newTune_0 20 rfl rfl)
theorem dX5_newTune_22 : decode cX5_newTune 22 = .ok (.if_icmp .ge 20, 3) := dk_162 0 20 (dk_at dksX5_newTune_1 0 rfl rfl)
theorem dX5_newTune_25 : decode cX5_newTune 25 = .ok (.aload_n 0, 1) := dk_42 (dk_at dksX5_newTune_1 3 rfl rfl)
theorem dX5_newTune_26 : decode cX5_newTune 26 = .ok (.getfield 9, 3) := dk_180 0 9 (dk_at dksX5_newTune_1 4 rfl rfl)
theorem dX5_newTune_29 : decode cX5_newTune 29 = .ok (.iload 6, 2) := dk_21 6 (dk_at dksX5_newTune_1 7 rfl rfl)
theorem dX5_newTune_31 : decode cX5_newTune 31 = .ok (.iload 7, 2) := dk_21 7 (dk_at dksX5_newTune_1 9 rfl rfl)
theorem dX5_newTune_33 : decode cX5_newTune 33 = .ok (.iadd, 1) := dk_96 (dk_at dksX5_newTune_1 11 rfl rfl)
theorem dX5_newTune_34 : decode cX5_newTune 34 = .ok (.iconst 0, 1) := dk_3 (dk_at dksX5_newTune_1 12 rfl rfl)
theorem dX5_newTune_35 : decode cX5_newTune 35 = .ok (.iastore, 1) := dk_79 (dk_at dksX5_newTune_1 13 rfl rfl)
theorem dX5_newTune_36 : decode cX5_newTune 36 = .ok (.iinc 7 1, 3) := dk_132 7 1 (dk_at dksX5_newTune_1 14 rfl rfl)
theorem dX5_newTune_39 : decode cX5_newTune 39 = .ok (.goto (-21), 3) := dk_167 255 235 (dk_at dksX5_newTune_1 17 rfl rfl)
theorem dX5_newTune_42 : decode cX5_newTune 42 = .ok (.aload_n 0, 1) := dk_42 (dk_at dksX5_newTune_1 20 rfl rfl)
theorem dX5_newTune_43 : decode cX5_newTune 43 = .ok (.getfield 9, 3) := dk_180 0 9 (dk_at dksX5_newTune_1 21 rfl rfl)
theorem dX5_newTune_46 : decode cX5_newTune 46 = .ok (.iload 6, 2) := dk_21 6 (dk_at dksX5_newTune_2 0 rfl rfl)
theorem dX5_newTune_48 : decode cX5_newTune 48 = .ok (.iconst 0, 1) := dk_3 (dk_at dksX5_newTune_2 2 rfl rfl)
theorem dX5_newTune_49 : decode cX5_newTune 49 = .ok (.iadd, 1) := dk_96 (dk_at dksX5_newTune_2 3 rfl rfl)
theorem dX5_newTune_50 : decode cX5_newTune 50 = .ok (.iload_n 1, 1) := dk_27 (dk_at dksX5_newTune_2 4 rfl rfl)
theorem dX5_newTune_51 : decode cX5_newTune 51 = .ok (.iastore, 1) := dk_79 (dk_at dksX5_newTune_2 5 rfl rfl)
theorem dX5_newTune_52 : decode cX5_newTune 52 = .ok (.aload_n 0, 1) := dk_42 (dk_at dksX5_newTune_2 6 rfl rfl)
theorem dX5_newTune_53 : decode cX5_newTune 53 = .ok (.getfield 9, 3) := dk_180 0 9 (dk_at dksX5_newTune_2 7 rfl rfl)
theorem dX5_newTune_56 : decode cX5_newTune 56 = .ok (.iload 6, 2) := dk_21 6 (dk_at dksX5_newTune_2 10 rfl rfl)
theorem dX5_newTune_58 : decode cX5_newTune 58 = .ok (.iconst 1, 1) := dk_4 (dk_at dksX5_newTune_2 12 rfl rfl)
theorem dX5_newTune_59 : decode cX5_newTune 59 = .ok (.iadd, 1) := dk_96 (dk_at dksX5_newTune_2 13 rfl rfl)
theorem dX5_newTune_60 : decode cX5_newTune 60 = .ok (.iload_n 2, 1) := dk_28 (dk_at dksX5_newTune_2 14 rfl rfl)
theorem dX5_newTune_61 : decode cX5_newTune 61 = .ok (.iastore, 1) := dk_79 (dk_at dksX5_newTune_2 15 rfl rfl)
theorem dX5_newTune_62 : decode cX5_newTune 62 = .ok (.aload_n 0, 1) := dk_42 (dk_at dksX5_newTune_2 16 rfl rfl)
theorem dX5_newTune_63 : decode cX5_newTune 63 = .ok (.getfield 9, 3) := dk_180 0 9 (dk_at dksX5_newTune_2 17 rfl rfl)
theorem dX5_newTune_66 : decode cX5_newTune 66 = .ok (.iload 6, 2) := dk_21 6 (dk_at dksX5_newTune_2 20 rfl rfl)
theorem dX5_newTune_68 : decode cX5_newTune 68 = .ok (.iconst 2, 1) := dk_5 (dk_at dksX5_newTune_2 22 rfl rfl)
theorem dX5_newTune_69 : decode cX5_newTune 69 = .ok (.iadd, 1) := dk_96 (dk_at dksX5_newTune_2 23 rfl rfl)
theorem dX5_newTune_70 : decode cX5_newTune 70 = .ok (.aload_n 0, 1) := dk_42 (dk_at dksX5_newTune_3 0 rfl rfl)
theorem dX5_newTune_71 : decode cX5_newTune 71 = .ok (.getfield 119, 3) := dk_180 0 119 (dk_at dksX5_newTune_3 1 rfl rfl)
theorem dX5_newTune_74 : decode cX5_newTune 74 = .ok (.iastore, 1) := dk_79 (dk_at dksX5_newTune_3 4 rfl rfl)
theorem dX5_newTune_75 : decode cX5_newTune 75 = .ok (.aload_n 0, 1) := dk_42 (dk_at dksX5_newTune_3 5 rfl rfl)
theorem dX5_newTune_76 : decode cX5_newTune 76 = .ok (.getfield 9, 3) := dk_180 0 9 (dk_at dksX5_newTune_3 6 rfl rfl)
theorem dX5_newTune_79 : decode cX5_newTune 79 = .ok (.iload 6, 2) := dk_21 6 (dk_at dksX5_newTune_3 9 rfl rfl)
theorem dX5_newTune_81 : decode cX5_newTune 81 = .ok (.iconst 4, 1) := dk_7 (dk_at dksX5_newTune_3 11 rfl rfl)
theorem dX5_newTune_82 : decode cX5_newTune 82 = .ok (.iadd, 1) := dk_96 (dk_at dksX5_newTune_3 12 rfl rfl)
theorem dX5_newTune_83 : decode cX5_newTune 83 = .ok (.iload_n 1, 1) := dk_27 (dk_at dksX5_newTune_3 13 rfl rfl)
theorem dX5_newTune_84 : decode cX5_newTune 84 = .ok (.iastore, 1) := dk_79 (dk_at dksX5_newTune_3 14 rfl rfl)
theorem dX5_newTune_85 : decode cX5_newTune 85 = .ok (.aload_n 0, 1) := dk_42 (dk_at dksX5_newTune_3 15 rfl rfl)
theorem dX5_newTune_86 : decode cX5_newTune 86 = .ok (.getfield 9, 3) := dk_180 0 9 (dk_at dksX5_newTune_3 16 rfl rfl)
theorem dX5_newTune_89 : decode cX5_newTune 89 = .ok (.iload 6, 2) := dk_21 6 (dk_at dksX5_newTune_3 19 rfl rfl)
theorem dX5_newTune_91 : decode cX5_newTune 91 = .ok (.iconst 5, 1) := dk_8 (dk_at dksX5_newTune_3 21 rfl rfl)
theorem dX5_newTune_92 : decode cX5_newTune 92 = .ok (.iadd, 1) := dk_96 (dk_at dksX5_newTune_3 22 rfl rfl)
theorem dX5_newTune_93 : decode cX5_newTune 93 = .ok (.iconst (-1), 1) := dk_2 (dk_at dksX5_newTune_3 23 rfl rfl)
theorem dX5_newTune_94 : decode cX5_newTune 94 = .ok (.iastore, 1) := dk_79 (dk_at dksX5_newTune_4 0 rfl rfl)
theorem dX5_newTune_95 : decode cX5_newTune 95 = .ok (.aload_n 0, 1) := dk_42 (dk_at dksX5_newTune_4 1 rfl rfl)
theorem dX5_newTune_96 : decode cX5_newTune 96 = .ok (.getfield 9, 3) := dk_180 0 9 (dk_at dksX5_newTune_4 2 rfl rfl)
theorem dX5_newTune_99 : decode cX5_newTune 99 = .ok (.iload 6, 2) := dk_21 6 (dk_at dksX5_newTune_4 5 rfl rfl)
theorem dX5_newTune_101 : decode cX5_newTune 101 = .ok (.bipush 6, 2) := dk_16 6 (dk_at dksX5_newTune_4 7 rfl rfl)
theorem dX5_newTune_103 : decode cX5_newTune 103 = .ok (.iadd, 1) := dk_96 (dk_at dksX5_newTune_4 9 rfl rfl)
theorem dX5_newTune_104 : decode cX5_newTune 104 = .ok (.iload_n 3, 1) := dk_29 (dk_at dksX5_newTune_4 10 rfl rfl)
theorem dX5_newTune_105 : decode cX5_newTune 105 = .ok (.invokestatic 115, 3) := dk_184 0 115 (dk_at dksX5_newTune_4 11 rfl rfl)
theorem dX5_newTune_108 : decode cX5_newTune 108 = .ok (.iastore, 1) := dk_79 (dk_at dksX5_newTune_4 14 rfl rfl)
theorem dX5_newTune_109 : decode cX5_newTune 109 = .ok (.aload_n 0, 1) := dk_42 (dk_at dksX5_newTune_4 15 rfl rfl)
theorem dX5_newTune_110 : decode cX5_newTune 110 = .ok (.getfield 9, 3) := dk_180 0 9 (dk_at dksX5_newTune_4 16 rfl rfl)
theorem dX5_newTune_113 : decode cX5_newTune 113 = .ok (.iload 6, 2) := dk_21 6 (dk_at dksX5_newTune_4 19 rfl rfl)
theorem dX5_newTune_115 : decode cX5_newTune 115 = .ok (.bipush 7, 2) := dk_16 7 (dk_at dksX5_newTune_4 21 rfl rfl)
theorem dX5_newTune_117 : decode cX5_newTune 117 = .ok (.iadd, 1) := dk_96 (dk_at dksX5_newTune_4 23 rfl rfl)
theorem dX5_newTune_118 : decode cX5_newTune 118 = .ok (.iload 4, 2) := dk_21 4 (dk_at dksX5_newTune_5 0 rfl rfl)
theorem dX5_newTune_120 : decode cX5_newTune 120 = .ok (.invokestatic 115, 3) := dk_184 0 115 (dk_at dksX5_newTune_5 2 rfl rfl)
theorem dX5_newTune_123 : decode cX5_newTune 123 = .ok (.iastore, 1) := dk_79 (dk_at dksX5_newTune_5 5 rfl rfl)
theorem dX5_newTune_124 : decode cX5_newTune 124 = .ok (.iconst 0, 1) := dk_3 (dk_at dksX5_newTune_5 6 rfl rfl)
theorem dX5_newTune_125 : decode cX5_newTune 125 = .ok (.istore 7, 2) := dk_54 7 (dk_at dksX5_newTune_5 7 rfl rfl)
theorem dX5_newTune_127 : decode cX5_newTune 127 = .ok (.iload 7, 2) := dk_21 7 (dk_at dksX5_newTune_5 9 rfl rfl)
theorem dX5_newTune_129 : decode cX5_newTune 129 = .ok (.aload_n 0, 1) := dk_42 (dk_at dksX5_newTune_5 11 rfl rfl)
theorem dX5_newTune_130 : decode cX5_newTune 130 = .ok (.getfield 119, 3) := dk_180 0 119 (dk_at dksX5_newTune_5 12 rfl rfl)
theorem dX5_newTune_133 : decode cX5_newTune 133 = .ok (.if_icmp .ge 29, 3) := dk_162 0 29 (dk_at dksX5_newTune_5 15 rfl rfl)
theorem dX5_newTune_136 : decode cX5_newTune 136 = .ok (.aload_n 0, 1) := dk_42 (dk_at dksX5_newTune_5 18 rfl rfl)
theorem dX5_newTune_137 : decode cX5_newTune 137 = .ok (.getfield 9, 3) := dk_180 0 9 (dk_at dksX5_newTune_5 19 rfl rfl)
theorem dX5_newTune_140 : decode cX5_newTune 140 = .ok (.iload 6, 2) := dk_21 6 (dk_at dksX5_newTune_5 22 rfl rfl)
theorem dX5_newTune_142 : decode cX5_newTune 142 = .ok (.bipush 11, 2) := dk_16 11 (dk_at dksX5_newTune_6 0 rfl rfl)
theorem dX5_newTune_144 : decode cX5_newTune 144 = .ok (.iadd, 1) := dk_96 (dk_at dksX5_newTune_6 2 rfl rfl)
theorem dX5_newTune_145 : decode cX5_newTune 145 = .ok (.iload 7, 2) := dk_21 7 (dk_at dksX5_newTune_6 3 rfl rfl)
theorem dX5_newTune_147 : decode cX5_newTune 147 = .ok (.iadd, 1) := dk_96 (dk_at dksX5_newTune_6 5 rfl rfl)
theorem dX5_newTune_148 : decode cX5_newTune 148 = .ok (.aload_n 0, 1) := dk_42 (dk_at dksX5_newTune_6 6 rfl rfl)
theorem dX5_newTune_149 : decode cX5_newTune 149 = .ok (.getfield 28, 3) := dk_180 0 28 (dk_at dksX5_newTune_6 7 rfl rfl)
theorem dX5_newTune_152 : decode cX5_newTune 152 = .ok (.iload 7, 2) := dk_21 7 (dk_at dksX5_newTune_6 10 rfl rfl)
theorem dX5_newTune_154 : decode cX5_newTune 154 = .ok (.iaload, 1) := dk_46 (dk_at dksX5_newTune_6 12 rfl rfl)
theorem dX5_newTune_155 : decode cX5_newTune 155 = .ok (.iastore, 1) := dk_79 (dk_at dksX5_newTune_6 13 rfl rfl)
theorem dX5_newTune_156 : decode cX5_newTune 156 = .ok (.iinc 7 1, 3) := dk_132 7 1 (dk_at dksX5_newTune_6 14 rfl rfl)
theorem dX5_newTune_159 : decode cX5_newTune 159 = .ok (.goto (-32), 3) := dk_167 255 224 (dk_at dksX5_newTune_6 17 rfl rfl)
theorem dX5_newTune_162 : decode cX5_newTune 162 = .ok (.aload_n 0, 1) := dk_42 (dk_at dksX5_newTune_6 20 rfl rfl)
theorem dX5_newTune_163 : decode cX5_newTune 163 = .ok (.iload 5, 2) := dk_21 5 (dk_at dksX5_newTune_6 21 rfl rfl)
theorem dX5_newTune_165 : decode cX5_newTune 165 = .ok (.invokevirtual 122, 3) := dk_182 0 122 (dk_at dksX5_newTune_7 0 rfl rfl)
theorem dX5_newTune_168 : decode cX5_newTune 168 = .ok (.aload_n 0, 1) := dk_42 (dk_at dksX5_newTune_7 3 rfl rfl)
theorem dX5_newTune_169 : decode cX5_newTune 169 = .ok (.getfield 9, 3) := dk_180 0 9 (dk_at dksX5_newTune_7 4 rfl rfl)
theorem dX5_newTune_172 : decode cX5_newTune 172 = .ok (.iconst 2, 1) := dk_5 (dk_at dksX5_newTune_7 7 rfl rfl)
theorem dX5_newTune_173 : decode cX5_newTune 173 = .ok (.dup2, 1) := dk_92 (dk_at dksX5_newTune_7 8 rfl rfl)
theorem dX5_newTune_174 : decode cX5_newTune 174 = .ok (.iaload, 1) := dk_46 (dk_at dksX5_newTune_7 9 rfl rfl)
theorem dX5_newTune_175 : decode cX5_newTune 175 = .ok (.iconst 1, 1) := dk_4 (dk_at dksX5_newTune_7 10 rfl rfl)
theorem dX5_newTune_176 : decode cX5_newTune 176 = .ok (.iadd, 1) := dk_96 (dk_at dksX5_newTune_7 11 rfl rfl)
theorem dX5_newTune_177 : decode cX5_newTune 177 = .ok (.iastore, 1) := dk_79 (dk_at dksX5_newTune_7 12 rfl rfl)
theorem dX5_newTune_178 : decode cX5_newTune 178 = .ok (.aload_n 0, 1) := dk_42 (dk_at dksX5_newTune_7 13 rfl rfl)
theorem dX5_newTune_179 : decode cX5_newTune 179 = .ok (.iconst 1, 1) := dk_4 (dk_at dksX5_newTune_7 14 rfl rfl)
theorem dX5_newTune_180 : decode cX5_newTune 180 = .ok (.iconst 1, 1) := dk_4 (dk_at dksX5_newTune_7 15 rfl rfl)
theorem dX5_newTune_181 : decode cX5_newTune 181 = .ok (.invokevirtual 126, 3) := dk_182 0 126 (dk_at dksX5_newTune_7 16 rfl rfl)
theorem dX5_newTune_184 : decode cX5_newTune 184 = .ok (.aload_n 0, 1) := dk_42 (dk_at dksX5_newTune_7 19 rfl rfl)
theorem dX5_newTune_185 : decode cX5_newTune 185 = .ok (.iconst 2, 1) := dk_5 (dk_at dksX5_newTune_7 20 rfl rfl)
theorem dX5_newTune_186 : decode cX5_newTune 186 = .ok (.iload_n 3, 1) := dk_29 (dk_at dksX5_newTune_7 21 rfl rfl)
theorem dX5_newTune_187 : decode cX5_newTune 187 = .ok (.invokestatic 115, 3) := dk_184 0 115 (dk_at dksX5_newTune_8 0 rfl rfl)
theorem dX5_newTune_190 : decode cX5_newTune 190 = .ok (.invokevirtual 126, 3) := dk_182 0 126 (dk_at dksX5_newTune_8 3 rfl rfl)
theorem dX5_newTune_193 : decode cX5_newTune 193 = .ok (.iload 5, 2) := dk_21 5 (dk_at dksX5_newTune_8 6 rfl rfl)
theorem dX5_newTune_195 : decode cX5_newTune 195 = .ok (.ireturn, 1) := dk_172 (dk_at dksX5_newTune_8 8 rfl rfl)
abbrev cX5_t : ByteArray := prog_15_method_8_code
def yX5_t : MethodName := ⟨RX5, "t", "(I)I"⟩
def dkwX5_t_0 : List UInt8 := [17, 0, 220, 16, 27, 26, 104, 96, 172]
abbrev dktX5_t_0 : List UInt8 := dkwX5_t_0 ++ []
theorem dksX5_t_0 : cX5_t.data.toList.drop 0 = dktX5_t_0 := by decide +kernel
theorem dX5_t_0 : decode cX5_t 0 = .ok (.sipush 220, 3) := dk_17 0 220 (dk_at dksX5_t_0 0 rfl rfl)
theorem dX5_t_3 : decode cX5_t 3 = .ok (.bipush 27, 2) := dk_16 27 (dk_at dksX5_t_0 3 rfl rfl)
theorem dX5_t_5 : decode cX5_t 5 = .ok (.iload_n 0, 1) := dk_26 (dk_at dksX5_t_0 5 rfl rfl)
theorem dX5_t_6 : decode cX5_t 6 = .ok (.imul, 1) := dk_104 (dk_at dksX5_t_0 6 rfl rfl)
theorem dX5_t_7 : decode cX5_t 7 = .ok (.iadd, 1) := dk_96 (dk_at dksX5_t_0 7 rfl rfl)
theorem dX5_t_8 : decode cX5_t 8 = .ok (.ireturn, 1) := dk_172 (dk_at dksX5_t_0 8 rfl rfl)
abbrev cX5_one : ByteArray := prog_15_method_4_code
def yX5_one : MethodName := ⟨RX5, "one", "(Z)I"⟩
def dkwX5_one_0 : List UInt8 := [26, 153, 0, 7, 4, 167, 0, 4, 3, 172]
abbrev dktX5_one_0 : List UInt8 := dkwX5_one_0 ++ []
theorem dksX5_one_0 : cX5_one.data.toList.drop 0 = dktX5_one_0 := by decide +kernel
theorem dX5_one_0 : decode cX5_one 0 = .ok (.iload_n 0, 1) := dk_26 (dk_at dksX5_one_0 0 rfl rfl)
theorem dX5_one_1 : decode cX5_one 1 = .ok (.ifCond .eq 7, 3) := dk_153 0 7 (dk_at dksX5_one_0 1 rfl rfl)
theorem dX5_one_4 : decode cX5_one 4 = .ok (.iconst 1, 1) := dk_4 (dk_at dksX5_one_0 4 rfl rfl)
theorem dX5_one_5 : decode cX5_one 5 = .ok (.goto 4, 3) := dk_167 0 4 (dk_at dksX5_one_0 5 rfl rfl)
theorem dX5_one_8 : decode cX5_one 8 = .ok (.iconst 0, 1) := dk_3 (dk_at dksX5_one_0 8 rfl rfl)
theorem dX5_one_9 : decode cX5_one 9 = .ok (.ireturn, 1) := dk_172 (dk_at dksX5_one_0 9 rfl rfl)
abbrev cX5_hearsAsSent : ByteArray := prog_15_method_29_code
def yX5_hearsAsSent : MethodName := ⟨RX5, "hearsAsSent", "(I)V"⟩
def dkwX5_hearsAsSent_1 : List UInt8 := [180, 0, 9, 27, 184, 0, 109, 16, 11, 96, 28, 96, 46, 79, 132, 2, 1, 167, 255, 219, 177]
abbrev dktX5_hearsAsSent_1 : List UInt8 := dkwX5_hearsAsSent_1 ++ []
def dkwX5_hearsAsSent_0 : List UInt8 := [3, 61, 28, 16, 8, 162, 0, 37, 42, 180, 0, 9, 27, 184, 0, 109, 16, 19, 96, 28, 96, 42]
abbrev dktX5_hearsAsSent_0 : List UInt8 := dkwX5_hearsAsSent_0 ++ dktX5_hearsAsSent_1
theorem dksX5_hearsAsSent_0 : cX5_hearsAsSent.data.toList.drop 0 = dktX5_hearsAsSent_0 := by decide +kernel
theorem dksX5_hearsAsSent_1 : cX5_hearsAsSent.data.toList.drop 22 = dktX5_hearsAsSent_1 := dk_seg dksX5_hearsAsSent_0 22 rfl rfl
theorem dX5_hearsAsSent_0 : decode cX5_hearsAsSent 0 = .ok (.iconst 0, 1) := dk_3 (dk_at dksX5_hearsAsSent_0 0 rfl rfl)
theorem dX5_hearsAsSent_1 : decode cX5_hearsAsSent 1 = .ok (.istore_n 2, 1) := dk_61 (dk_at dksX5_hearsAsSent_0 1 rfl rfl)
theorem dX5_hearsAsSent_2 : decode cX5_hearsAsSent 2 = .ok (.iload_n 2, 1) := dk_28 (dk_at dksX5_hearsAsSent_0 2 rfl rfl)
theorem dX5_hearsAsSent_3 : decode cX5_hearsAsSent 3 = .ok (.bipush 8, 2) := dk_16 8 (dk_at dksX5_hearsAsSent_0 3 rfl rfl)
theorem dX5_hearsAsSent_5 : decode cX5_hearsAsSent 5 = .ok (.if_icmp .ge 37, 3) := dk_162 0 37 (dk_at dksX5_hearsAsSent_0 5 rfl rfl)
theorem dX5_hearsAsSent_8 : decode cX5_hearsAsSent 8 = .ok (.aload_n 0, 1) := dk_42 (dk_at dksX5_hearsAsSent_0 8 rfl rfl)
theorem dX5_hearsAsSent_9 : decode cX5_hearsAsSent 9 = .ok (.getfield 9, 3) := dk_180 0 9 (dk_at dksX5_hearsAsSent_0 9 rfl rfl)
theorem dX5_hearsAsSent_12 : decode cX5_hearsAsSent 12 = .ok (.iload_n 1, 1) := dk_27 (dk_at dksX5_hearsAsSent_0 12 rfl rfl)
theorem dX5_hearsAsSent_13 : decode cX5_hearsAsSent 13 = .ok (.invokestatic 109, 3) := dk_184 0 109 (dk_at dksX5_hearsAsSent_0 13 rfl rfl)
theorem dX5_hearsAsSent_16 : decode cX5_hearsAsSent 16 = .ok (.bipush 19, 2) := dk_16 19 (dk_at dksX5_hearsAsSent_0 16 rfl rfl)
theorem dX5_hearsAsSent_18 : decode cX5_hearsAsSent 18 = .ok (.iadd, 1) := dk_96 (dk_at dksX5_hearsAsSent_0 18 rfl rfl)
theorem dX5_hearsAsSent_19 : decode cX5_hearsAsSent 19 = .ok (.iload_n 2, 1) := dk_28 (dk_at dksX5_hearsAsSent_0 19 rfl rfl)
theorem dX5_hearsAsSent_20 : decode cX5_hearsAsSent 20 = .ok (.iadd, 1) := dk_96 (dk_at dksX5_hearsAsSent_0 20 rfl rfl)
theorem dX5_hearsAsSent_21 : decode cX5_hearsAsSent 21 = .ok (.aload_n 0, 1) := dk_42 (dk_at dksX5_hearsAsSent_0 21 rfl rfl)
theorem dX5_hearsAsSent_22 : decode cX5_hearsAsSent 22 = .ok (.getfield 9, 3) := dk_180 0 9 (dk_at dksX5_hearsAsSent_1 0 rfl rfl)
theorem dX5_hearsAsSent_25 : decode cX5_hearsAsSent 25 = .ok (.iload_n 1, 1) := dk_27 (dk_at dksX5_hearsAsSent_1 3 rfl rfl)
theorem dX5_hearsAsSent_26 : decode cX5_hearsAsSent 26 = .ok (.invokestatic 109, 3) := dk_184 0 109 (dk_at dksX5_hearsAsSent_1 4 rfl rfl)
theorem dX5_hearsAsSent_29 : decode cX5_hearsAsSent 29 = .ok (.bipush 11, 2) := dk_16 11 (dk_at dksX5_hearsAsSent_1 7 rfl rfl)
theorem dX5_hearsAsSent_31 : decode cX5_hearsAsSent 31 = .ok (.iadd, 1) := dk_96 (dk_at dksX5_hearsAsSent_1 9 rfl rfl)
theorem dX5_hearsAsSent_32 : decode cX5_hearsAsSent 32 = .ok (.iload_n 2, 1) := dk_28 (dk_at dksX5_hearsAsSent_1 10 rfl rfl)
theorem dX5_hearsAsSent_33 : decode cX5_hearsAsSent 33 = .ok (.iadd, 1) := dk_96 (dk_at dksX5_hearsAsSent_1 11 rfl rfl)
theorem dX5_hearsAsSent_34 : decode cX5_hearsAsSent 34 = .ok (.iaload, 1) := dk_46 (dk_at dksX5_hearsAsSent_1 12 rfl rfl)
theorem dX5_hearsAsSent_35 : decode cX5_hearsAsSent 35 = .ok (.iastore, 1) := dk_79 (dk_at dksX5_hearsAsSent_1 13 rfl rfl)
theorem dX5_hearsAsSent_36 : decode cX5_hearsAsSent 36 = .ok (.iinc 2 1, 3) := dk_132 2 1 (dk_at dksX5_hearsAsSent_1 14 rfl rfl)
theorem dX5_hearsAsSent_39 : decode cX5_hearsAsSent 39 = .ok (.goto (-37), 3) := dk_167 255 219 (dk_at dksX5_hearsAsSent_1 17 rfl rfl)
theorem dX5_hearsAsSent_42 : decode cX5_hearsAsSent 42 = .ok (.return_, 1) := dk_177 (dk_at dksX5_hearsAsSent_1 20 rfl rfl)
abbrev cX5_counts : ByteArray := prog_15_method_9_code
def yX5_counts : MethodName := ⟨RX5, "counts", "(II)V"⟩
def dkwX5_counts_0 : List UInt8 := [42, 180, 0, 9, 16, 10, 27, 96, 92, 46, 28, 96, 79, 177]
abbrev dktX5_counts_0 : List UInt8 := dkwX5_counts_0 ++ []
theorem dksX5_counts_0 : cX5_counts.data.toList.drop 0 = dktX5_counts_0 := by decide +kernel
theorem dX5_counts_0 : decode cX5_counts 0 = .ok (.aload_n 0, 1) := dk_42 (dk_at dksX5_counts_0 0 rfl rfl)
theorem dX5_counts_1 : decode cX5_counts 1 = .ok (.getfield 9, 3) := dk_180 0 9 (dk_at dksX5_counts_0 1 rfl rfl)
theorem dX5_counts_4 : decode cX5_counts 4 = .ok (.bipush 10, 2) := dk_16 10 (dk_at dksX5_counts_0 4 rfl rfl)
theorem dX5_counts_6 : decode cX5_counts 6 = .ok (.iload_n 1, 1) := dk_27 (dk_at dksX5_counts_0 6 rfl rfl)
theorem dX5_counts_7 : decode cX5_counts 7 = .ok (.iadd, 1) := dk_96 (dk_at dksX5_counts_0 7 rfl rfl)
theorem dX5_counts_8 : decode cX5_counts 8 = .ok (.dup2, 1) := dk_92 (dk_at dksX5_counts_0 8 rfl rfl)
theorem dX5_counts_9 : decode cX5_counts 9 = .ok (.iaload, 1) := dk_46 (dk_at dksX5_counts_0 9 rfl rfl)
theorem dX5_counts_10 : decode cX5_counts 10 = .ok (.iload_n 2, 1) := dk_28 (dk_at dksX5_counts_0 10 rfl rfl)
theorem dX5_counts_11 : decode cX5_counts 11 = .ok (.iadd, 1) := dk_96 (dk_at dksX5_counts_0 11 rfl rfl)
theorem dX5_counts_12 : decode cX5_counts 12 = .ok (.iastore, 1) := dk_79 (dk_at dksX5_counts_0 12 rfl rfl)
theorem dX5_counts_13 : decode cX5_counts 13 = .ok (.return_, 1) := dk_177 (dk_at dksX5_counts_0 13 rfl rfl)
abbrev cX5_goes : ByteArray := prog_15_method_42_code
def yX5_goes : MethodName := ⟨RX5, "goes", "(I)I"⟩
def dkwX5_goes_1 : List UInt8 := [167, 255, 244, 42, 180, 0, 9, 16, 15, 46, 28, 100, 172]
abbrev dktX5_goes_1 : List UInt8 := dkwX5_goes_1 ++ []
def dkwX5_goes_0 : List UInt8 := [42, 180, 0, 9, 16, 15, 46, 61, 3, 62, 29, 27, 162, 0, 13, 42, 182, 0, 190, 132, 3, 1]
abbrev dktX5_goes_0 : List UInt8 := dkwX5_goes_0 ++ dktX5_goes_1
theorem dksX5_goes_0 : cX5_goes.data.toList.drop 0 = dktX5_goes_0 := by decide +kernel
theorem dksX5_goes_1 : cX5_goes.data.toList.drop 22 = dktX5_goes_1 := dk_seg dksX5_goes_0 22 rfl rfl
theorem dX5_goes_0 : decode cX5_goes 0 = .ok (.aload_n 0, 1) := dk_42 (dk_at dksX5_goes_0 0 rfl rfl)
theorem dX5_goes_1 : decode cX5_goes 1 = .ok (.getfield 9, 3) := dk_180 0 9 (dk_at dksX5_goes_0 1 rfl rfl)
theorem dX5_goes_4 : decode cX5_goes 4 = .ok (.bipush 15, 2) := dk_16 15 (dk_at dksX5_goes_0 4 rfl rfl)
theorem dX5_goes_6 : decode cX5_goes 6 = .ok (.iaload, 1) := dk_46 (dk_at dksX5_goes_0 6 rfl rfl)
theorem dX5_goes_7 : decode cX5_goes 7 = .ok (.istore_n 2, 1) := dk_61 (dk_at dksX5_goes_0 7 rfl rfl)
theorem dX5_goes_8 : decode cX5_goes 8 = .ok (.iconst 0, 1) := dk_3 (dk_at dksX5_goes_0 8 rfl rfl)
theorem dX5_goes_9 : decode cX5_goes 9 = .ok (.istore_n 3, 1) := dk_62 (dk_at dksX5_goes_0 9 rfl rfl)
theorem dX5_goes_10 : decode cX5_goes 10 = .ok (.iload_n 3, 1) := dk_29 (dk_at dksX5_goes_0 10 rfl rfl)
theorem dX5_goes_11 : decode cX5_goes 11 = .ok (.iload_n 1, 1) := dk_27 (dk_at dksX5_goes_0 11 rfl rfl)
theorem dX5_goes_12 : decode cX5_goes 12 = .ok (.if_icmp .ge 13, 3) := dk_162 0 13 (dk_at dksX5_goes_0 12 rfl rfl)
theorem dX5_goes_15 : decode cX5_goes 15 = .ok (.aload_n 0, 1) := dk_42 (dk_at dksX5_goes_0 15 rfl rfl)
theorem dX5_goes_16 : decode cX5_goes 16 = .ok (.invokevirtual 190, 3) := dk_182 0 190 (dk_at dksX5_goes_0 16 rfl rfl)
theorem dX5_goes_19 : decode cX5_goes 19 = .ok (.iinc 3 1, 3) := dk_132 3 1 (dk_at dksX5_goes_0 19 rfl rfl)
theorem dX5_goes_22 : decode cX5_goes 22 = .ok (.goto (-12), 3) := dk_167 255 244 (dk_at dksX5_goes_1 0 rfl rfl)
theorem dX5_goes_25 : decode cX5_goes 25 = .ok (.aload_n 0, 1) := dk_42 (dk_at dksX5_goes_1 3 rfl rfl)
theorem dX5_goes_26 : decode cX5_goes 26 = .ok (.getfield 9, 3) := dk_180 0 9 (dk_at dksX5_goes_1 4 rfl rfl)
theorem dX5_goes_29 : decode cX5_goes 29 = .ok (.bipush 15, 2) := dk_16 15 (dk_at dksX5_goes_1 7 rfl rfl)
theorem dX5_goes_31 : decode cX5_goes 31 = .ok (.iaload, 1) := dk_46 (dk_at dksX5_goes_1 9 rfl rfl)
theorem dX5_goes_32 : decode cX5_goes 32 = .ok (.iload_n 2, 1) := dk_28 (dk_at dksX5_goes_1 10 rfl rfl)
theorem dX5_goes_33 : decode cX5_goes 33 = .ok (.isub, 1) := dk_100 (dk_at dksX5_goes_1 11 rfl rfl)
theorem dX5_goes_34 : decode cX5_goes 34 = .ok (.ireturn, 1) := dk_172 (dk_at dksX5_goes_1 12 rfl rfl)
abbrev cX5_ticks : ByteArray := prog_15_method_41_code
def yX5_ticks : MethodName := ⟨RX5, "ticks", "()V"⟩
def dkwX5_ticks_4 : List UInt8 := [182, 0, 187, 177]
abbrev dktX5_ticks_4 : List UInt8 := dkwX5_ticks_4 ++ []
def dkwX5_ticks_3 : List UInt8 := [182, 0, 181, 61, 28, 2, 159, 0, 9, 42, 28, 27, 182, 0, 184, 132, 1, 1, 167, 255, 190, 42]
abbrev dktX5_ticks_3 : List UInt8 := dkwX5_ticks_3 ++ dktX5_ticks_4
def dkwX5_ticks_2 : List UInt8 := [162, 0, 44, 42, 27, 42, 180, 0, 9, 6, 46, 182, 0, 178, 153, 0, 7, 2, 167, 0, 8, 42, 27]
abbrev dktX5_ticks_2 : List UInt8 := dkwX5_ticks_2 ++ dktX5_ticks_3
def dkwX5_ticks_1 : List UInt8 := [180, 0, 9, 3, 46, 162, 0, 62, 42, 180, 0, 9, 6, 46, 16, 60, 112, 42, 180, 0, 9, 8, 46]
abbrev dktX5_ticks_1 : List UInt8 := dkwX5_ticks_1 ++ dktX5_ticks_2
def dkwX5_ticks_0 : List UInt8 := [42, 180, 0, 9, 6, 92, 46, 4, 96, 79, 42, 3, 4, 182, 0, 126, 42, 182, 0, 175, 3, 60, 27, 42]
abbrev dktX5_ticks_0 : List UInt8 := dkwX5_ticks_0 ++ dktX5_ticks_1
theorem dksX5_ticks_0 : cX5_ticks.data.toList.drop 0 = dktX5_ticks_0 := by decide +kernel
theorem dksX5_ticks_1 : cX5_ticks.data.toList.drop 24 = dktX5_ticks_1 := dk_seg dksX5_ticks_0 24 rfl rfl
theorem dksX5_ticks_2 : cX5_ticks.data.toList.drop 47 = dktX5_ticks_2 := dk_seg dksX5_ticks_1 23 rfl rfl
theorem dksX5_ticks_3 : cX5_ticks.data.toList.drop 70 = dktX5_ticks_3 := dk_seg dksX5_ticks_2 23 rfl rfl
theorem dksX5_ticks_4 : cX5_ticks.data.toList.drop 92 = dktX5_ticks_4 := dk_seg dksX5_ticks_3 22 rfl rfl
theorem dX5_ticks_0 : decode cX5_ticks 0 = .ok (.aload_n 0, 1) := dk_42 (dk_at dksX5_ticks_0 0 rfl rfl)
theorem dX5_ticks_1 : decode cX5_ticks 1 = .ok (.getfield 9, 3) := dk_180 0 9 (dk_at dksX5_ticks_0 1 rfl rfl)
theorem dX5_ticks_4 : decode cX5_ticks 4 = .ok (.iconst 3, 1) := dk_6 (dk_at dksX5_ticks_0 4 rfl rfl)
theorem dX5_ticks_5 : decode cX5_ticks 5 = .ok (.dup2, 1) := dk_92 (dk_at dksX5_ticks_0 5 rfl rfl)
theorem dX5_ticks_6 : decode cX5_ticks 6 = .ok (.iaload, 1) := dk_46 (dk_at dksX5_ticks_0 6 rfl rfl)
theorem dX5_ticks_7 : decode cX5_ticks 7 = .ok (.iconst 1, 1) := dk_4 (dk_at dksX5_ticks_0 7 rfl rfl)
theorem dX5_ticks_8 : decode cX5_ticks 8 = .ok (.iadd, 1) := dk_96 (dk_at dksX5_ticks_0 8 rfl rfl)
theorem dX5_ticks_9 : decode cX5_ticks 9 = .ok (.iastore, 1) := dk_79 (dk_at dksX5_ticks_0 9 rfl rfl)
theorem dX5_ticks_10 : decode cX5_ticks 10 = .ok (.aload_n 0, 1) := dk_42 (dk_at dksX5_ticks_0 10 rfl rfl)
theorem dX5_ticks_11 : decode cX5_ticks 11 = .ok (.iconst 0, 1) := dk_3 (dk_at dksX5_ticks_0 11 rfl rfl)
theorem dX5_ticks_12 : decode cX5_ticks 12 = .ok (.iconst 1, 1) := dk_4 (dk_at dksX5_ticks_0 12 rfl rfl)
theorem dX5_ticks_13 : decode cX5_ticks 13 = .ok (.invokevirtual 126, 3) := dk_182 0 126 (dk_at dksX5_ticks_0 13 rfl rfl)
theorem dX5_ticks_16 : decode cX5_ticks 16 = .ok (.aload_n 0, 1) := dk_42 (dk_at dksX5_ticks_0 16 rfl rfl)
theorem dX5_ticks_17 : decode cX5_ticks 17 = .ok (.invokevirtual 175, 3) := dk_182 0 175 (dk_at dksX5_ticks_0 17 rfl rfl)
theorem dX5_ticks_20 : decode cX5_ticks 20 = .ok (.iconst 0, 1) := dk_3 (dk_at dksX5_ticks_0 20 rfl rfl)
theorem dX5_ticks_21 : decode cX5_ticks 21 = .ok (.istore_n 1, 1) := dk_60 (dk_at dksX5_ticks_0 21 rfl rfl)
theorem dX5_ticks_22 : decode cX5_ticks 22 = .ok (.iload_n 1, 1) := dk_27 (dk_at dksX5_ticks_0 22 rfl rfl)
theorem dX5_ticks_23 : decode cX5_ticks 23 = .ok (.aload_n 0, 1) := dk_42 (dk_at dksX5_ticks_0 23 rfl rfl)
theorem dX5_ticks_24 : decode cX5_ticks 24 = .ok (.getfield 9, 3) := dk_180 0 9 (dk_at dksX5_ticks_1 0 rfl rfl)
theorem dX5_ticks_27 : decode cX5_ticks 27 = .ok (.iconst 0, 1) := dk_3 (dk_at dksX5_ticks_1 3 rfl rfl)
theorem dX5_ticks_28 : decode cX5_ticks 28 = .ok (.iaload, 1) := dk_46 (dk_at dksX5_ticks_1 4 rfl rfl)
theorem dX5_ticks_29 : decode cX5_ticks 29 = .ok (.if_icmp .ge 62, 3) := dk_162 0 62 (dk_at dksX5_ticks_1 5 rfl rfl)
theorem dX5_ticks_32 : decode cX5_ticks 32 = .ok (.aload_n 0, 1) := dk_42 (dk_at dksX5_ticks_1 8 rfl rfl)
theorem dX5_ticks_33 : decode cX5_ticks 33 = .ok (.getfield 9, 3) := dk_180 0 9 (dk_at dksX5_ticks_1 9 rfl rfl)
theorem dX5_ticks_36 : decode cX5_ticks 36 = .ok (.iconst 3, 1) := dk_6 (dk_at dksX5_ticks_1 12 rfl rfl)
theorem dX5_ticks_37 : decode cX5_ticks 37 = .ok (.iaload, 1) := dk_46 (dk_at dksX5_ticks_1 13 rfl rfl)
theorem dX5_ticks_38 : decode cX5_ticks 38 = .ok (.bipush 60, 2) := dk_16 60 (dk_at dksX5_ticks_1 14 rfl rfl)
theorem dX5_ticks_40 : decode cX5_ticks 40 = .ok (.irem, 1) := dk_112 (dk_at dksX5_ticks_1 16 rfl rfl)
theorem dX5_ticks_41 : decode cX5_ticks 41 = .ok (.aload_n 0, 1) := dk_42 (dk_at dksX5_ticks_1 17 rfl rfl)
theorem dX5_ticks_42 : decode cX5_ticks 42 = .ok (.getfield 9, 3) := dk_180 0 9 (dk_at dksX5_ticks_1 18 rfl rfl)
theorem dX5_ticks_45 : decode cX5_ticks 45 = .ok (.iconst 5, 1) := dk_8 (dk_at dksX5_ticks_1 21 rfl rfl)
theorem dX5_ticks_46 : decode cX5_ticks 46 = .ok (.iaload, 1) := dk_46 (dk_at dksX5_ticks_1 22 rfl rfl)
theorem dX5_ticks_47 : decode cX5_ticks 47 = .ok (.if_icmp .ge 44, 3) := dk_162 0 44 (dk_at dksX5_ticks_2 0 rfl rfl)
theorem dX5_ticks_50 : decode cX5_ticks 50 = .ok (.aload_n 0, 1) := dk_42 (dk_at dksX5_ticks_2 3 rfl rfl)
theorem dX5_ticks_51 : decode cX5_ticks 51 = .ok (.iload_n 1, 1) := dk_27 (dk_at dksX5_ticks_2 4 rfl rfl)
theorem dX5_ticks_52 : decode cX5_ticks 52 = .ok (.aload_n 0, 1) := dk_42 (dk_at dksX5_ticks_2 5 rfl rfl)
theorem dX5_ticks_53 : decode cX5_ticks 53 = .ok (.getfield 9, 3) := dk_180 0 9 (dk_at dksX5_ticks_2 6 rfl rfl)
theorem dX5_ticks_56 : decode cX5_ticks 56 = .ok (.iconst 3, 1) := dk_6 (dk_at dksX5_ticks_2 9 rfl rfl)
theorem dX5_ticks_57 : decode cX5_ticks 57 = .ok (.iaload, 1) := dk_46 (dk_at dksX5_ticks_2 10 rfl rfl)
theorem dX5_ticks_58 : decode cX5_ticks 58 = .ok (.invokevirtual 178, 3) := dk_182 0 178 (dk_at dksX5_ticks_2 11 rfl rfl)
theorem dX5_ticks_61 : decode cX5_ticks 61 = .ok (.ifCond .eq 7, 3) := dk_153 0 7 (dk_at dksX5_ticks_2 14 rfl rfl)
theorem dX5_ticks_64 : decode cX5_ticks 64 = .ok (.iconst (-1), 1) := dk_2 (dk_at dksX5_ticks_2 17 rfl rfl)
theorem dX5_ticks_65 : decode cX5_ticks 65 = .ok (.goto 8, 3) := dk_167 0 8 (dk_at dksX5_ticks_2 18 rfl rfl)
theorem dX5_ticks_68 : decode cX5_ticks 68 = .ok (.aload_n 0, 1) := dk_42 (dk_at dksX5_ticks_2 21 rfl rfl)
theorem dX5_ticks_69 : decode cX5_ticks 69 = .ok (.iload_n 1, 1) := dk_27 (dk_at dksX5_ticks_2 22 rfl rfl)
theorem dX5_ticks_70 : decode cX5_ticks 70 = .ok (.invokevirtual 181, 3) := dk_182 0 181 (dk_at dksX5_ticks_3 0 rfl rfl)
theorem dX5_ticks_73 : decode cX5_ticks 73 = .ok (.istore_n 2, 1) := dk_61 (dk_at dksX5_ticks_3 3 rfl rfl)
theorem dX5_ticks_74 : decode cX5_ticks 74 = .ok (.iload_n 2, 1) := dk_28 (dk_at dksX5_ticks_3 4 rfl rfl)
theorem dX5_ticks_75 : decode cX5_ticks 75 = .ok (.iconst (-1), 1) := dk_2 (dk_at dksX5_ticks_3 5 rfl rfl)
theorem dX5_ticks_76 : decode cX5_ticks 76 = .ok (.if_icmp .eq 9, 3) := dk_159 0 9 (dk_at dksX5_ticks_3 6 rfl rfl)
theorem dX5_ticks_79 : decode cX5_ticks 79 = .ok (.aload_n 0, 1) := dk_42 (dk_at dksX5_ticks_3 9 rfl rfl)
theorem dX5_ticks_80 : decode cX5_ticks 80 = .ok (.iload_n 2, 1) := dk_28 (dk_at dksX5_ticks_3 10 rfl rfl)
theorem dX5_ticks_81 : decode cX5_ticks 81 = .ok (.iload_n 1, 1) := dk_27 (dk_at dksX5_ticks_3 11 rfl rfl)
theorem dX5_ticks_82 : decode cX5_ticks 82 = .ok (.invokevirtual 184, 3) := dk_182 0 184 (dk_at dksX5_ticks_3 12 rfl rfl)
theorem dX5_ticks_85 : decode cX5_ticks 85 = .ok (.iinc 1 1, 3) := dk_132 1 1 (dk_at dksX5_ticks_3 15 rfl rfl)
theorem dX5_ticks_88 : decode cX5_ticks 88 = .ok (.goto (-66), 3) := dk_167 255 190 (dk_at dksX5_ticks_3 18 rfl rfl)
theorem dX5_ticks_91 : decode cX5_ticks 91 = .ok (.aload_n 0, 1) := dk_42 (dk_at dksX5_ticks_3 21 rfl rfl)
theorem dX5_ticks_92 : decode cX5_ticks 92 = .ok (.invokevirtual 187, 3) := dk_182 0 187 (dk_at dksX5_ticks_4 0 rfl rfl)
theorem dX5_ticks_95 : decode cX5_ticks 95 = .ok (.return_, 1) := dk_177 (dk_at dksX5_ticks_4 3 rfl rfl)
abbrev cX5_arrives : ByteArray := prog_15_method_39_code
def yX5_arrives : MethodName := ⟨RX5, "arrives", "()V"⟩
def dkwX5_arrives_2 : List UInt8 := [160, 0, 8, 42, 28, 182, 0, 172, 132, 2, 1, 167, 255, 208, 177]
abbrev dktX5_arrives_2 : List UInt8 := dkwX5_arrives_2 ++ []
def dkwX5_arrives_1 : List UInt8 := [46, 4, 160, 0, 28, 42, 180, 0, 9, 28, 184, 0, 109, 8, 96, 46, 42, 180, 0, 9, 6, 46]
abbrev dktX5_arrives_1 : List UInt8 := dkwX5_arrives_1 ++ dktX5_arrives_2
def dkwX5_arrives_0 : List UInt8 := [42, 180, 0, 9, 5, 46, 60, 3, 61, 28, 27, 162, 0, 49, 42, 180, 0, 9, 28, 184, 0, 109, 6, 96]
abbrev dktX5_arrives_0 : List UInt8 := dkwX5_arrives_0 ++ dktX5_arrives_1
theorem dksX5_arrives_0 : cX5_arrives.data.toList.drop 0 = dktX5_arrives_0 := by decide +kernel
theorem dksX5_arrives_1 : cX5_arrives.data.toList.drop 24 = dktX5_arrives_1 := dk_seg dksX5_arrives_0 24 rfl rfl
theorem dksX5_arrives_2 : cX5_arrives.data.toList.drop 46 = dktX5_arrives_2 := dk_seg dksX5_arrives_1 22 rfl rfl
theorem dX5_arrives_0 : decode cX5_arrives 0 = .ok (.aload_n 0, 1) := dk_42 (dk_at dksX5_arrives_0 0 rfl rfl)
theorem dX5_arrives_1 : decode cX5_arrives 1 = .ok (.getfield 9, 3) := dk_180 0 9 (dk_at dksX5_arrives_0 1 rfl rfl)
theorem dX5_arrives_4 : decode cX5_arrives 4 = .ok (.iconst 2, 1) := dk_5 (dk_at dksX5_arrives_0 4 rfl rfl)
theorem dX5_arrives_5 : decode cX5_arrives 5 = .ok (.iaload, 1) := dk_46 (dk_at dksX5_arrives_0 5 rfl rfl)
theorem dX5_arrives_6 : decode cX5_arrives 6 = .ok (.istore_n 1, 1) := dk_60 (dk_at dksX5_arrives_0 6 rfl rfl)
theorem dX5_arrives_7 : decode cX5_arrives 7 = .ok (.iconst 0, 1) := dk_3 (dk_at dksX5_arrives_0 7 rfl rfl)
theorem dX5_arrives_8 : decode cX5_arrives 8 = .ok (.istore_n 2, 1) := dk_61 (dk_at dksX5_arrives_0 8 rfl rfl)
theorem dX5_arrives_9 : decode cX5_arrives 9 = .ok (.iload_n 2, 1) := dk_28 (dk_at dksX5_arrives_0 9 rfl rfl)
theorem dX5_arrives_10 : decode cX5_arrives 10 = .ok (.iload_n 1, 1) := dk_27 (dk_at dksX5_arrives_0 10 rfl rfl)
theorem dX5_arrives_11 : decode cX5_arrives 11 = .ok (.if_icmp .ge 49, 3) := dk_162 0 49 (dk_at dksX5_arrives_0 11 rfl rfl)
theorem dX5_arrives_14 : decode cX5_arrives 14 = .ok (.aload_n 0, 1) := dk_42 (dk_at dksX5_arrives_0 14 rfl rfl)
theorem dX5_arrives_15 : decode cX5_arrives 15 = .ok (.getfield 9, 3) := dk_180 0 9 (dk_at dksX5_arrives_0 15 rfl rfl)
theorem dX5_arrives_18 : decode cX5_arrives 18 = .ok (.iload_n 2, 1) := dk_28 (dk_at dksX5_arrives_0 18 rfl rfl)
theorem dX5_arrives_19 : decode cX5_arrives 19 = .ok (.invokestatic 109, 3) := dk_184 0 109 (dk_at dksX5_arrives_0 19 rfl rfl)
theorem dX5_arrives_22 : decode cX5_arrives 22 = .ok (.iconst 3, 1) := dk_6 (dk_at dksX5_arrives_0 22 rfl rfl)
theorem dX5_arrives_23 : decode cX5_arrives 23 = .ok (.iadd, 1) := dk_96 (dk_at dksX5_arrives_0 23 rfl rfl)
theorem dX5_arrives_24 : decode cX5_arrives 24 = .ok (.iaload, 1) := dk_46 (dk_at dksX5_arrives_1 0 rfl rfl)
theorem dX5_arrives_25 : decode cX5_arrives 25 = .ok (.iconst 1, 1) := dk_4 (dk_at dksX5_arrives_1 1 rfl rfl)
theorem dX5_arrives_26 : decode cX5_arrives 26 = .ok (.if_icmp .ne 28, 3) := dk_160 0 28 (dk_at dksX5_arrives_1 2 rfl rfl)
theorem dX5_arrives_29 : decode cX5_arrives 29 = .ok (.aload_n 0, 1) := dk_42 (dk_at dksX5_arrives_1 5 rfl rfl)
theorem dX5_arrives_30 : decode cX5_arrives 30 = .ok (.getfield 9, 3) := dk_180 0 9 (dk_at dksX5_arrives_1 6 rfl rfl)
theorem dX5_arrives_33 : decode cX5_arrives 33 = .ok (.iload_n 2, 1) := dk_28 (dk_at dksX5_arrives_1 9 rfl rfl)
theorem dX5_arrives_34 : decode cX5_arrives 34 = .ok (.invokestatic 109, 3) := dk_184 0 109 (dk_at dksX5_arrives_1 10 rfl rfl)
theorem dX5_arrives_37 : decode cX5_arrives 37 = .ok (.iconst 5, 1) := dk_8 (dk_at dksX5_arrives_1 13 rfl rfl)
theorem dX5_arrives_38 : decode cX5_arrives 38 = .ok (.iadd, 1) := dk_96 (dk_at dksX5_arrives_1 14 rfl rfl)
theorem dX5_arrives_39 : decode cX5_arrives 39 = .ok (.iaload, 1) := dk_46 (dk_at dksX5_arrives_1 15 rfl rfl)
theorem dX5_arrives_40 : decode cX5_arrives 40 = .ok (.aload_n 0, 1) := dk_42 (dk_at dksX5_arrives_1 16 rfl rfl)
theorem dX5_arrives_41 : decode cX5_arrives 41 = .ok (.getfield 9, 3) := dk_180 0 9 (dk_at dksX5_arrives_1 17 rfl rfl)
theorem dX5_arrives_44 : decode cX5_arrives 44 = .ok (.iconst 3, 1) := dk_6 (dk_at dksX5_arrives_1 20 rfl rfl)
theorem dX5_arrives_45 : decode cX5_arrives 45 = .ok (.iaload, 1) := dk_46 (dk_at dksX5_arrives_1 21 rfl rfl)
theorem dX5_arrives_46 : decode cX5_arrives 46 = .ok (.if_icmp .ne 8, 3) := dk_160 0 8 (dk_at dksX5_arrives_2 0 rfl rfl)
theorem dX5_arrives_49 : decode cX5_arrives 49 = .ok (.aload_n 0, 1) := dk_42 (dk_at dksX5_arrives_2 3 rfl rfl)
theorem dX5_arrives_50 : decode cX5_arrives 50 = .ok (.iload_n 2, 1) := dk_28 (dk_at dksX5_arrives_2 4 rfl rfl)
theorem dX5_arrives_51 : decode cX5_arrives 51 = .ok (.invokevirtual 172, 3) := dk_182 0 172 (dk_at dksX5_arrives_2 5 rfl rfl)
theorem dX5_arrives_54 : decode cX5_arrives 54 = .ok (.iinc 2 1, 3) := dk_132 2 1 (dk_at dksX5_arrives_2 8 rfl rfl)
theorem dX5_arrives_57 : decode cX5_arrives 57 = .ok (.goto (-48), 3) := dk_167 255 208 (dk_at dksX5_arrives_2 11 rfl rfl)
theorem dX5_arrives_60 : decode cX5_arrives 60 = .ok (.return_, 1) := dk_177 (dk_at dksX5_arrives_2 14 rfl rfl)
abbrev cX5_comes : ByteArray := prog_15_method_34_code
def yX5_comes : MethodName := ⟨RX5, "comes", "(I)V"⟩
def dkwX5_comes_6 : List UInt8 := [154, 0, 7, 4, 167, 0, 4, 3, 184, 0, 115, 182, 0, 126, 42, 27, 182, 0, 151, 177]
abbrev dktX5_comes_6 : List UInt8 := dkwX5_comes_6 ++ []
def dkwX5_comes_5 : List UInt8 := [180, 0, 9, 28, 6, 96, 5, 79, 42, 8, 4, 182, 0, 126, 42, 16, 6, 42, 27, 182, 0, 141]
abbrev dktX5_comes_5 : List UInt8 := dkwX5_comes_5 ++ dktX5_comes_6
def dkwX5_comes_4 : List UInt8 := [180, 0, 9, 28, 7, 96, 42, 180, 0, 9, 28, 3, 96, 46, 79, 42, 16, 7, 4, 182, 0, 126, 177, 42]
abbrev dktX5_comes_4 : List UInt8 := dkwX5_comes_4 ++ dktX5_comes_5
def dkwX5_comes_3 : List UInt8 := [162, 0, 45, 42, 180, 0, 9, 28, 16, 8, 96, 92, 46, 4, 96, 79, 42, 27, 182, 0, 122, 42]
abbrev dktX5_comes_3 : List UInt8 := dkwX5_comes_3 ++ dktX5_comes_4
def dkwX5_comes_2 : List UInt8 := [42, 27, 182, 0, 141, 158, 0, 64, 42, 180, 0, 9, 28, 16, 8, 96, 46, 42, 180, 0, 9, 16, 6, 46]
abbrev dktX5_comes_2 : List UInt8 := dkwX5_comes_2 ++ dktX5_comes_3
def dkwX5_comes_1 : List UInt8 := [6, 96, 3, 79, 42, 180, 0, 9, 28, 7, 96, 46, 42, 180, 0, 9, 28, 4, 96, 46, 159, 0, 4, 177]
abbrev dktX5_comes_1 : List UInt8 := dkwX5_comes_1 ++ dktX5_comes_2
def dkwX5_comes_0 : List UInt8 := [27, 184, 0, 109, 61, 42, 27, 182, 0, 148, 42, 180, 0, 9, 28, 8, 96, 2, 79, 42, 180, 0, 9, 28]
abbrev dktX5_comes_0 : List UInt8 := dkwX5_comes_0 ++ dktX5_comes_1
theorem dksX5_comes_0 : cX5_comes.data.toList.drop 0 = dktX5_comes_0 := by decide +kernel
theorem dksX5_comes_1 : cX5_comes.data.toList.drop 24 = dktX5_comes_1 := dk_seg dksX5_comes_0 24 rfl rfl
theorem dksX5_comes_2 : cX5_comes.data.toList.drop 48 = dktX5_comes_2 := dk_seg dksX5_comes_1 24 rfl rfl
theorem dksX5_comes_3 : cX5_comes.data.toList.drop 72 = dktX5_comes_3 := dk_seg dksX5_comes_2 24 rfl rfl
theorem dksX5_comes_4 : cX5_comes.data.toList.drop 94 = dktX5_comes_4 := dk_seg dksX5_comes_3 22 rfl rfl
theorem dksX5_comes_5 : cX5_comes.data.toList.drop 118 = dktX5_comes_5 := dk_seg dksX5_comes_4 24 rfl rfl
theorem dksX5_comes_6 : cX5_comes.data.toList.drop 140 = dktX5_comes_6 := dk_seg dksX5_comes_5 22 rfl rfl
theorem dX5_comes_0 : decode cX5_comes 0 = .ok (.iload_n 1, 1) := dk_27 (dk_at dksX5_comes_0 0 rfl rfl)
theorem dX5_comes_1 : decode cX5_comes 1 = .ok (.invokestatic 109, 3) := dk_184 0 109 (dk_at dksX5_comes_0 1 rfl rfl)
theorem dX5_comes_4 : decode cX5_comes 4 = .ok (.istore_n 2, 1) := dk_61 (dk_at dksX5_comes_0 4 rfl rfl)
theorem dX5_comes_5 : decode cX5_comes 5 = .ok (.aload_n 0, 1) := dk_42 (dk_at dksX5_comes_0 5 rfl rfl)
theorem dX5_comes_6 : decode cX5_comes 6 = .ok (.iload_n 1, 1) := dk_27 (dk_at dksX5_comes_0 6 rfl rfl)
theorem dX5_comes_7 : decode cX5_comes 7 = .ok (.invokevirtual 148, 3) := dk_182 0 148 (dk_at dksX5_comes_0 7 rfl rfl)
theorem dX5_comes_10 : decode cX5_comes 10 = .ok (.aload_n 0, 1) := dk_42 (dk_at dksX5_comes_0 10 rfl rfl)
theorem dX5_comes_11 : decode cX5_comes 11 = .ok (.getfield 9, 3) := dk_180 0 9 (dk_at dksX5_comes_0 11 rfl rfl)
theorem dX5_comes_14 : decode cX5_comes 14 = .ok (.iload_n 2, 1) := dk_28 (dk_at dksX5_comes_0 14 rfl rfl)
theorem dX5_comes_15 : decode cX5_comes 15 = .ok (.iconst 5, 1) := dk_8 (dk_at dksX5_comes_0 15 rfl rfl)
theorem dX5_comes_16 : decode cX5_comes 16 = .ok (.iadd, 1) := dk_96 (dk_at dksX5_comes_0 16 rfl rfl)
theorem dX5_comes_17 : decode cX5_comes 17 = .ok (.iconst (-1), 1) := dk_2 (dk_at dksX5_comes_0 17 rfl rfl)
theorem dX5_comes_18 : decode cX5_comes 18 = .ok (.iastore, 1) := dk_79 (dk_at dksX5_comes_0 18 rfl rfl)
theorem dX5_comes_19 : decode cX5_comes 19 = .ok (.aload_n 0, 1) := dk_42 (dk_at dksX5_comes_0 19 rfl rfl)
theorem dX5_comes_20 : decode cX5_comes 20 = .ok (.getfield 9, 3) := dk_180 0 9 (dk_at dksX5_comes_0 20 rfl rfl)
theorem dX5_comes_23 : decode cX5_comes 23 = .ok (.iload_n 2, 1) := dk_28 (dk_at dksX5_comes_0 23 rfl rfl)
theorem dX5_comes_24 : decode cX5_comes 24 = .ok (.iconst 3, 1) := dk_6 (dk_at dksX5_comes_1 0 rfl rfl)
theorem dX5_comes_25 : decode cX5_comes 25 = .ok (.iadd, 1) := dk_96 (dk_at dksX5_comes_1 1 rfl rfl)
theorem dX5_comes_26 : decode cX5_comes 26 = .ok (.iconst 0, 1) := dk_3 (dk_at dksX5_comes_1 2 rfl rfl)
theorem dX5_comes_27 : decode cX5_comes 27 = .ok (.iastore, 1) := dk_79 (dk_at dksX5_comes_1 3 rfl rfl)
theorem dX5_comes_28 : decode cX5_comes 28 = .ok (.aload_n 0, 1) := dk_42 (dk_at dksX5_comes_1 4 rfl rfl)
theorem dX5_comes_29 : decode cX5_comes 29 = .ok (.getfield 9, 3) := dk_180 0 9 (dk_at dksX5_comes_1 5 rfl rfl)
theorem dX5_comes_32 : decode cX5_comes 32 = .ok (.iload_n 2, 1) := dk_28 (dk_at dksX5_comes_1 8 rfl rfl)
theorem dX5_comes_33 : decode cX5_comes 33 = .ok (.iconst 4, 1) := dk_7 (dk_at dksX5_comes_1 9 rfl rfl)
theorem dX5_comes_34 : decode cX5_comes 34 = .ok (.iadd, 1) := dk_96 (dk_at dksX5_comes_1 10 rfl rfl)
theorem dX5_comes_35 : decode cX5_comes 35 = .ok (.iaload, 1) := dk_46 (dk_at dksX5_comes_1 11 rfl rfl)
theorem dX5_comes_36 : decode cX5_comes 36 = .ok (.aload_n 0, 1) := dk_42 (dk_at dksX5_comes_1 12 rfl rfl)
theorem dX5_comes_37 : decode cX5_comes 37 = .ok (.getfield 9, 3) := dk_180 0 9 (dk_at dksX5_comes_1 13 rfl rfl)
theorem dX5_comes_40 : decode cX5_comes 40 = .ok (.iload_n 2, 1) := dk_28 (dk_at dksX5_comes_1 16 rfl rfl)
theorem dX5_comes_41 : decode cX5_comes 41 = .ok (.iconst 1, 1) := dk_4 (dk_at dksX5_comes_1 17 rfl rfl)
theorem dX5_comes_42 : decode cX5_comes 42 = .ok (.iadd, 1) := dk_96 (dk_at dksX5_comes_1 18 rfl rfl)
theorem dX5_comes_43 : decode cX5_comes 43 = .ok (.iaload, 1) := dk_46 (dk_at dksX5_comes_1 19 rfl rfl)
theorem dX5_comes_44 : decode cX5_comes 44 = .ok (.if_icmp .eq 4, 3) := dk_159 0 4 (dk_at dksX5_comes_1 20 rfl rfl)
theorem dX5_comes_47 : decode cX5_comes 47 = .ok (.return_, 1) := dk_177 (dk_at dksX5_comes_1 23 rfl rfl)
theorem dX5_comes_48 : decode cX5_comes 48 = .ok (.aload_n 0, 1) := dk_42 (dk_at dksX5_comes_2 0 rfl rfl)
theorem dX5_comes_49 : decode cX5_comes 49 = .ok (.iload_n 1, 1) := dk_27 (dk_at dksX5_comes_2 1 rfl rfl)
theorem dX5_comes_50 : decode cX5_comes 50 = .ok (.invokevirtual 141, 3) := dk_182 0 141 (dk_at dksX5_comes_2 2 rfl rfl)
theorem dX5_comes_53 : decode cX5_comes 53 = .ok (.ifCond .le 64, 3) := dk_158 0 64 (dk_at dksX5_comes_2 5 rfl rfl)
theorem dX5_comes_56 : decode cX5_comes 56 = .ok (.aload_n 0, 1) := dk_42 (dk_at dksX5_comes_2 8 rfl rfl)
theorem dX5_comes_57 : decode cX5_comes 57 = .ok (.getfield 9, 3) := dk_180 0 9 (dk_at dksX5_comes_2 9 rfl rfl)
theorem dX5_comes_60 : decode cX5_comes 60 = .ok (.iload_n 2, 1) := dk_28 (dk_at dksX5_comes_2 12 rfl rfl)
theorem dX5_comes_61 : decode cX5_comes 61 = .ok (.bipush 8, 2) := dk_16 8 (dk_at dksX5_comes_2 13 rfl rfl)
theorem dX5_comes_63 : decode cX5_comes 63 = .ok (.iadd, 1) := dk_96 (dk_at dksX5_comes_2 15 rfl rfl)
theorem dX5_comes_64 : decode cX5_comes 64 = .ok (.iaload, 1) := dk_46 (dk_at dksX5_comes_2 16 rfl rfl)
theorem dX5_comes_65 : decode cX5_comes 65 = .ok (.aload_n 0, 1) := dk_42 (dk_at dksX5_comes_2 17 rfl rfl)
theorem dX5_comes_66 : decode cX5_comes 66 = .ok (.getfield 9, 3) := dk_180 0 9 (dk_at dksX5_comes_2 18 rfl rfl)
theorem dX5_comes_69 : decode cX5_comes 69 = .ok (.bipush 6, 2) := dk_16 6 (dk_at dksX5_comes_2 21 rfl rfl)
theorem dX5_comes_71 : decode cX5_comes 71 = .ok (.iaload, 1) := dk_46 (dk_at dksX5_comes_2 23 rfl rfl)
theorem dX5_comes_72 : decode cX5_comes 72 = .ok (.if_icmp .ge 45, 3) := dk_162 0 45 (dk_at dksX5_comes_3 0 rfl rfl)
theorem dX5_comes_75 : decode cX5_comes 75 = .ok (.aload_n 0, 1) := dk_42 (dk_at dksX5_comes_3 3 rfl rfl)
theorem dX5_comes_76 : decode cX5_comes 76 = .ok (.getfield 9, 3) := dk_180 0 9 (dk_at dksX5_comes_3 4 rfl rfl)
theorem dX5_comes_79 : decode cX5_comes 79 = .ok (.iload_n 2, 1) := dk_28 (dk_at dksX5_comes_3 7 rfl rfl)
theorem dX5_comes_80 : decode cX5_comes 80 = .ok (.bipush 8, 2) := dk_16 8 (dk_at dksX5_comes_3 8 rfl rfl)
theorem dX5_comes_82 : decode cX5_comes 82 = .ok (.iadd, 1) := dk_96 (dk_at dksX5_comes_3 10 rfl rfl)
theorem dX5_comes_83 : decode cX5_comes 83 = .ok (.dup2, 1) := dk_92 (dk_at dksX5_comes_3 11 rfl rfl)
theorem dX5_comes_84 : decode cX5_comes 84 = .ok (.iaload, 1) := dk_46 (dk_at dksX5_comes_3 12 rfl rfl)
theorem dX5_comes_85 : decode cX5_comes 85 = .ok (.iconst 1, 1) := dk_4 (dk_at dksX5_comes_3 13 rfl rfl)
theorem dX5_comes_86 : decode cX5_comes 86 = .ok (.iadd, 1) := dk_96 (dk_at dksX5_comes_3 14 rfl rfl)
theorem dX5_comes_87 : decode cX5_comes 87 = .ok (.iastore, 1) := dk_79 (dk_at dksX5_comes_3 15 rfl rfl)
theorem dX5_comes_88 : decode cX5_comes 88 = .ok (.aload_n 0, 1) := dk_42 (dk_at dksX5_comes_3 16 rfl rfl)
theorem dX5_comes_89 : decode cX5_comes 89 = .ok (.iload_n 1, 1) := dk_27 (dk_at dksX5_comes_3 17 rfl rfl)
theorem dX5_comes_90 : decode cX5_comes 90 = .ok (.invokevirtual 122, 3) := dk_182 0 122 (dk_at dksX5_comes_3 18 rfl rfl)
theorem dX5_comes_93 : decode cX5_comes 93 = .ok (.aload_n 0, 1) := dk_42 (dk_at dksX5_comes_3 21 rfl rfl)
theorem dX5_comes_94 : decode cX5_comes 94 = .ok (.getfield 9, 3) := dk_180 0 9 (dk_at dksX5_comes_4 0 rfl rfl)
theorem dX5_comes_97 : decode cX5_comes 97 = .ok (.iload_n 2, 1) := dk_28 (dk_at dksX5_comes_4 3 rfl rfl)
theorem dX5_comes_98 : decode cX5_comes 98 = .ok (.iconst 4, 1) := dk_7 (dk_at dksX5_comes_4 4 rfl rfl)
theorem dX5_comes_99 : decode cX5_comes 99 = .ok (.iadd, 1) := dk_96 (dk_at dksX5_comes_4 5 rfl rfl)
theorem dX5_comes_100 : decode cX5_comes 100 = .ok (.aload_n 0, 1) := dk_42 (dk_at dksX5_comes_4 6 rfl rfl)
theorem dX5_comes_101 : decode cX5_comes 101 = .ok (.getfield 9, 3) := dk_180 0 9 (dk_at dksX5_comes_4 7 rfl rfl)
theorem dX5_comes_104 : decode cX5_comes 104 = .ok (.iload_n 2, 1) := dk_28 (dk_at dksX5_comes_4 10 rfl rfl)
theorem dX5_comes_105 : decode cX5_comes 105 = .ok (.iconst 0, 1) := dk_3 (dk_at dksX5_comes_4 11 rfl rfl)
theorem dX5_comes_106 : decode cX5_comes 106 = .ok (.iadd, 1) := dk_96 (dk_at dksX5_comes_4 12 rfl rfl)
theorem dX5_comes_107 : decode cX5_comes 107 = .ok (.iaload, 1) := dk_46 (dk_at dksX5_comes_4 13 rfl rfl)
theorem dX5_comes_108 : decode cX5_comes 108 = .ok (.iastore, 1) := dk_79 (dk_at dksX5_comes_4 14 rfl rfl)
theorem dX5_comes_109 : decode cX5_comes 109 = .ok (.aload_n 0, 1) := dk_42 (dk_at dksX5_comes_4 15 rfl rfl)
theorem dX5_comes_110 : decode cX5_comes 110 = .ok (.bipush 7, 2) := dk_16 7 (dk_at dksX5_comes_4 16 rfl rfl)
theorem dX5_comes_112 : decode cX5_comes 112 = .ok (.iconst 1, 1) := dk_4 (dk_at dksX5_comes_4 18 rfl rfl)
theorem dX5_comes_113 : decode cX5_comes 113 = .ok (.invokevirtual 126, 3) := dk_182 0 126 (dk_at dksX5_comes_4 19 rfl rfl)
theorem dX5_comes_116 : decode cX5_comes 116 = .ok (.return_, 1) := dk_177 (dk_at dksX5_comes_4 22 rfl rfl)
theorem dX5_comes_117 : decode cX5_comes 117 = .ok (.aload_n 0, 1) := dk_42 (dk_at dksX5_comes_4 23 rfl rfl)
theorem dX5_comes_118 : decode cX5_comes 118 = .ok (.getfield 9, 3) := dk_180 0 9 (dk_at dksX5_comes_5 0 rfl rfl)
theorem dX5_comes_121 : decode cX5_comes 121 = .ok (.iload_n 2, 1) := dk_28 (dk_at dksX5_comes_5 3 rfl rfl)
theorem dX5_comes_122 : decode cX5_comes 122 = .ok (.iconst 3, 1) := dk_6 (dk_at dksX5_comes_5 4 rfl rfl)
theorem dX5_comes_123 : decode cX5_comes 123 = .ok (.iadd, 1) := dk_96 (dk_at dksX5_comes_5 5 rfl rfl)
theorem dX5_comes_124 : decode cX5_comes 124 = .ok (.iconst 2, 1) := dk_5 (dk_at dksX5_comes_5 6 rfl rfl)
theorem dX5_comes_125 : decode cX5_comes 125 = .ok (.iastore, 1) := dk_79 (dk_at dksX5_comes_5 7 rfl rfl)
theorem dX5_comes_126 : decode cX5_comes 126 = .ok (.aload_n 0, 1) := dk_42 (dk_at dksX5_comes_5 8 rfl rfl)
theorem dX5_comes_127 : decode cX5_comes 127 = .ok (.iconst 5, 1) := dk_8 (dk_at dksX5_comes_5 9 rfl rfl)
theorem dX5_comes_128 : decode cX5_comes 128 = .ok (.iconst 1, 1) := dk_4 (dk_at dksX5_comes_5 10 rfl rfl)
theorem dX5_comes_129 : decode cX5_comes 129 = .ok (.invokevirtual 126, 3) := dk_182 0 126 (dk_at dksX5_comes_5 11 rfl rfl)
theorem dX5_comes_132 : decode cX5_comes 132 = .ok (.aload_n 0, 1) := dk_42 (dk_at dksX5_comes_5 14 rfl rfl)
theorem dX5_comes_133 : decode cX5_comes 133 = .ok (.bipush 6, 2) := dk_16 6 (dk_at dksX5_comes_5 15 rfl rfl)
theorem dX5_comes_135 : decode cX5_comes 135 = .ok (.aload_n 0, 1) := dk_42 (dk_at dksX5_comes_5 17 rfl rfl)
theorem dX5_comes_136 : decode cX5_comes 136 = .ok (.iload_n 1, 1) := dk_27 (dk_at dksX5_comes_5 18 rfl rfl)
theorem dX5_comes_137 : decode cX5_comes 137 = .ok (.invokevirtual 141, 3) := dk_182 0 141 (dk_at dksX5_comes_5 19 rfl rfl)
theorem dX5_comes_140 : decode cX5_comes 140 = .ok (.ifCond .ne 7, 3) := dk_154 0 7 (dk_at dksX5_comes_6 0 rfl rfl)
theorem dX5_comes_143 : decode cX5_comes 143 = .ok (.iconst 1, 1) := dk_4 (dk_at dksX5_comes_6 3 rfl rfl)
theorem dX5_comes_144 : decode cX5_comes 144 = .ok (.goto 4, 3) := dk_167 0 4 (dk_at dksX5_comes_6 4 rfl rfl)
theorem dX5_comes_147 : decode cX5_comes 147 = .ok (.iconst 0, 1) := dk_3 (dk_at dksX5_comes_6 7 rfl rfl)
theorem dX5_comes_148 : decode cX5_comes 148 = .ok (.invokestatic 115, 3) := dk_184 0 115 (dk_at dksX5_comes_6 8 rfl rfl)
theorem dX5_comes_151 : decode cX5_comes 151 = .ok (.invokevirtual 126, 3) := dk_182 0 126 (dk_at dksX5_comes_6 11 rfl rfl)
theorem dX5_comes_154 : decode cX5_comes 154 = .ok (.aload_n 0, 1) := dk_42 (dk_at dksX5_comes_6 14 rfl rfl)
theorem dX5_comes_155 : decode cX5_comes 155 = .ok (.iload_n 1, 1) := dk_27 (dk_at dksX5_comes_6 15 rfl rfl)
theorem dX5_comes_156 : decode cX5_comes 156 = .ok (.invokevirtual 151, 3) := dk_182 0 151 (dk_at dksX5_comes_6 16 rfl rfl)
theorem dX5_comes_159 : decode cX5_comes 159 = .ok (.return_, 1) := dk_177 (dk_at dksX5_comes_6 19 rfl rfl)
abbrev cX5_blurs : ByteArray := prog_15_method_32_code
def yX5_blurs : MethodName := ⟨RX5, "blurs", "(I)V"⟩
def dkwX5_blurs_4 : List UInt8 := [42, 7, 21, 4, 182, 0, 126, 177]
abbrev dktX5_blurs_4 : List UInt8 := dkwX5_blurs_4 ++ []
def dkwX5_blurs_3 : List UInt8 := [180, 0, 9, 21, 6, 42, 180, 0, 9, 21, 6, 46, 4, 96, 16, 8, 112, 79, 132, 5, 1, 167, 255, 214]
abbrev dktX5_blurs_3 : List UInt8 := dkwX5_blurs_3 ++ dktX5_blurs_4
def dkwX5_blurs_2 : List UInt8 := [54, 5, 21, 5, 21, 4, 162, 0, 41, 28, 16, 19, 96, 27, 21, 5, 96, 29, 112, 96, 54, 6, 42]
abbrev dktX5_blurs_2 : List UInt8 := dkwX5_blurs_2 ++ dktX5_blurs_3
def dkwX5_blurs_1 : List UInt8 := [180, 0, 9, 28, 16, 10, 96, 46, 42, 180, 0, 9, 28, 7, 96, 46, 29, 182, 0, 137, 54, 4, 3]
abbrev dktX5_blurs_1 : List UInt8 := dkwX5_blurs_1 ++ dktX5_blurs_2
def dkwX5_blurs_0 : List UInt8 := [27, 184, 0, 109, 61, 42, 180, 0, 9, 28, 5, 96, 46, 62, 42, 42, 180, 0, 9, 7, 46, 42]
abbrev dktX5_blurs_0 : List UInt8 := dkwX5_blurs_0 ++ dktX5_blurs_1
theorem dksX5_blurs_0 : cX5_blurs.data.toList.drop 0 = dktX5_blurs_0 := by decide +kernel
theorem dksX5_blurs_1 : cX5_blurs.data.toList.drop 22 = dktX5_blurs_1 := dk_seg dksX5_blurs_0 22 rfl rfl
theorem dksX5_blurs_2 : cX5_blurs.data.toList.drop 45 = dktX5_blurs_2 := dk_seg dksX5_blurs_1 23 rfl rfl
theorem dksX5_blurs_3 : cX5_blurs.data.toList.drop 68 = dktX5_blurs_3 := dk_seg dksX5_blurs_2 23 rfl rfl
theorem dksX5_blurs_4 : cX5_blurs.data.toList.drop 92 = dktX5_blurs_4 := dk_seg dksX5_blurs_3 24 rfl rfl
theorem dX5_blurs_0 : decode cX5_blurs 0 = .ok (.iload_n 1, 1) := dk_27 (dk_at dksX5_blurs_0 0 rfl rfl)
theorem dX5_blurs_1 : decode cX5_blurs 1 = .ok (.invokestatic 109, 3) := dk_184 0 109 (dk_at dksX5_blurs_0 1 rfl rfl)
theorem dX5_blurs_4 : decode cX5_blurs 4 = .ok (.istore_n 2, 1) := dk_61 (dk_at dksX5_blurs_0 4 rfl rfl)
theorem dX5_blurs_5 : decode cX5_blurs 5 = .ok (.aload_n 0, 1) := dk_42 (dk_at dksX5_blurs_0 5 rfl rfl)
theorem dX5_blurs_6 : decode cX5_blurs 6 = .ok (.getfield 9, 3) := dk_180 0 9 (dk_at dksX5_blurs_0 6 rfl rfl)
theorem dX5_blurs_9 : decode cX5_blurs 9 = .ok (.iload_n 2, 1) := dk_28 (dk_at dksX5_blurs_0 9 rfl rfl)
theorem dX5_blurs_10 : decode cX5_blurs 10 = .ok (.iconst 2, 1) := dk_5 (dk_at dksX5_blurs_0 10 rfl rfl)
theorem dX5_blurs_11 : decode cX5_blurs 11 = .ok (.iadd, 1) := dk_96 (dk_at dksX5_blurs_0 11 rfl rfl)
theorem dX5_blurs_12 : decode cX5_blurs 12 = .ok (.iaload, 1) := dk_46 (dk_at dksX5_blurs_0 12 rfl rfl)
theorem dX5_blurs_13 : decode cX5_blurs 13 = .ok (.istore_n 3, 1) := dk_62 (dk_at dksX5_blurs_0 13 rfl rfl)
theorem dX5_blurs_14 : decode cX5_blurs 14 = .ok (.aload_n 0, 1) := dk_42 (dk_at dksX5_blurs_0 14 rfl rfl)
theorem dX5_blurs_15 : decode cX5_blurs 15 = .ok (.aload_n 0, 1) := dk_42 (dk_at dksX5_blurs_0 15 rfl rfl)
theorem dX5_blurs_16 : decode cX5_blurs 16 = .ok (.getfield 9, 3) := dk_180 0 9 (dk_at dksX5_blurs_0 16 rfl rfl)
theorem dX5_blurs_19 : decode cX5_blurs 19 = .ok (.iconst 4, 1) := dk_7 (dk_at dksX5_blurs_0 19 rfl rfl)
theorem dX5_blurs_20 : decode cX5_blurs 20 = .ok (.iaload, 1) := dk_46 (dk_at dksX5_blurs_0 20 rfl rfl)
theorem dX5_blurs_21 : decode cX5_blurs 21 = .ok (.aload_n 0, 1) := dk_42 (dk_at dksX5_blurs_0 21 rfl rfl)
theorem dX5_blurs_22 : decode cX5_blurs 22 = .ok (.getfield 9, 3) := dk_180 0 9 (dk_at dksX5_blurs_1 0 rfl rfl)
theorem dX5_blurs_25 : decode cX5_blurs 25 = .ok (.iload_n 2, 1) := dk_28 (dk_at dksX5_blurs_1 3 rfl rfl)
theorem dX5_blurs_26 : decode cX5_blurs 26 = .ok (.bipush 10, 2) := dk_16 10 (dk_at dksX5_blurs_1 4 rfl rfl)
theorem dX5_blurs_28 : decode cX5_blurs 28 = .ok (.iadd, 1) := dk_96 (dk_at dksX5_blurs_1 6 rfl rfl)
theorem dX5_blurs_29 : decode cX5_blurs 29 = .ok (.iaload, 1) := dk_46 (dk_at dksX5_blurs_1 7 rfl rfl)
theorem dX5_blurs_30 : decode cX5_blurs 30 = .ok (.aload_n 0, 1) := dk_42 (dk_at dksX5_blurs_1 8 rfl rfl)
theorem dX5_blurs_31 : decode cX5_blurs 31 = .ok (.getfield 9, 3) := dk_180 0 9 (dk_at dksX5_blurs_1 9 rfl rfl)
theorem dX5_blurs_34 : decode cX5_blurs 34 = .ok (.iload_n 2, 1) := dk_28 (dk_at dksX5_blurs_1 12 rfl rfl)
theorem dX5_blurs_35 : decode cX5_blurs 35 = .ok (.iconst 4, 1) := dk_7 (dk_at dksX5_blurs_1 13 rfl rfl)
theorem dX5_blurs_36 : decode cX5_blurs 36 = .ok (.iadd, 1) := dk_96 (dk_at dksX5_blurs_1 14 rfl rfl)
theorem dX5_blurs_37 : decode cX5_blurs 37 = .ok (.iaload, 1) := dk_46 (dk_at dksX5_blurs_1 15 rfl rfl)
theorem dX5_blurs_38 : decode cX5_blurs 38 = .ok (.iload_n 3, 1) := dk_29 (dk_at dksX5_blurs_1 16 rfl rfl)
theorem dX5_blurs_39 : decode cX5_blurs 39 = .ok (.invokevirtual 137, 3) := dk_182 0 137 (dk_at dksX5_blurs_1 17 rfl rfl)
theorem dX5_blurs_42 : decode cX5_blurs 42 = .ok (.istore 4, 2) := dk_54 4 (dk_at dksX5_blurs_1 20 rfl rfl)
theorem dX5_blurs_44 : decode cX5_blurs 44 = .ok (.iconst 0, 1) := dk_3 (dk_at dksX5_blurs_1 22 rfl rfl)
theorem dX5_blurs_45 : decode cX5_blurs 45 = .ok (.istore 5, 2) := dk_54 5 (dk_at dksX5_blurs_2 0 rfl rfl)
theorem dX5_blurs_47 : decode cX5_blurs 47 = .ok (.iload 5, 2) := dk_21 5 (dk_at dksX5_blurs_2 2 rfl rfl)
theorem dX5_blurs_49 : decode cX5_blurs 49 = .ok (.iload 4, 2) := dk_21 4 (dk_at dksX5_blurs_2 4 rfl rfl)
theorem dX5_blurs_51 : decode cX5_blurs 51 = .ok (.if_icmp .ge 41, 3) := dk_162 0 41 (dk_at dksX5_blurs_2 6 rfl rfl)
theorem dX5_blurs_54 : decode cX5_blurs 54 = .ok (.iload_n 2, 1) := dk_28 (dk_at dksX5_blurs_2 9 rfl rfl)
theorem dX5_blurs_55 : decode cX5_blurs 55 = .ok (.bipush 19, 2) := dk_16 19 (dk_at dksX5_blurs_2 10 rfl rfl)
theorem dX5_blurs_57 : decode cX5_blurs 57 = .ok (.iadd, 1) := dk_96 (dk_at dksX5_blurs_2 12 rfl rfl)
theorem dX5_blurs_58 : decode cX5_blurs 58 = .ok (.iload_n 1, 1) := dk_27 (dk_at dksX5_blurs_2 13 rfl rfl)
theorem dX5_blurs_59 : decode cX5_blurs 59 = .ok (.iload 5, 2) := dk_21 5 (dk_at dksX5_blurs_2 14 rfl rfl)
theorem dX5_blurs_61 : decode cX5_blurs 61 = .ok (.iadd, 1) := dk_96 (dk_at dksX5_blurs_2 16 rfl rfl)
theorem dX5_blurs_62 : decode cX5_blurs 62 = .ok (.iload_n 3, 1) := dk_29 (dk_at dksX5_blurs_2 17 rfl rfl)
theorem dX5_blurs_63 : decode cX5_blurs 63 = .ok (.irem, 1) := dk_112 (dk_at dksX5_blurs_2 18 rfl rfl)
theorem dX5_blurs_64 : decode cX5_blurs 64 = .ok (.iadd, 1) := dk_96 (dk_at dksX5_blurs_2 19 rfl rfl)
theorem dX5_blurs_65 : decode cX5_blurs 65 = .ok (.istore 6, 2) := dk_54 6 (dk_at dksX5_blurs_2 20 rfl rfl)
theorem dX5_blurs_67 : decode cX5_blurs 67 = .ok (.aload_n 0, 1) := dk_42 (dk_at dksX5_blurs_2 22 rfl rfl)
theorem dX5_blurs_68 : decode cX5_blurs 68 = .ok (.getfield 9, 3) := dk_180 0 9 (dk_at dksX5_blurs_3 0 rfl rfl)
theorem dX5_blurs_71 : decode cX5_blurs 71 = .ok (.iload 6, 2) := dk_21 6 (dk_at dksX5_blurs_3 3 rfl rfl)
theorem dX5_blurs_73 : decode cX5_blurs 73 = .ok (.aload_n 0, 1) := dk_42 (dk_at dksX5_blurs_3 5 rfl rfl)
theorem dX5_blurs_74 : decode cX5_blurs 74 = .ok (.getfield 9, 3) := dk_180 0 9 (dk_at dksX5_blurs_3 6 rfl rfl)
theorem dX5_blurs_77 : decode cX5_blurs 77 = .ok (.iload 6, 2) := dk_21 6 (dk_at dksX5_blurs_3 9 rfl rfl)
theorem dX5_blurs_79 : decode cX5_blurs 79 = .ok (.iaload, 1) := dk_46 (dk_at dksX5_blurs_3 11 rfl rfl)
theorem dX5_blurs_80 : decode cX5_blurs 80 = .ok (.iconst 1, 1) := dk_4 (dk_at dksX5_blurs_3 12 rfl rfl)
theorem dX5_blurs_81 : decode cX5_blurs 81 = .ok (.iadd, 1) := dk_96 (dk_at dksX5_blurs_3 13 rfl rfl)
theorem dX5_blurs_82 : decode cX5_blurs 82 = .ok (.bipush 8, 2) := dk_16 8 (dk_at dksX5_blurs_3 14 rfl rfl)
theorem dX5_blurs_84 : decode cX5_blurs 84 = .ok (.irem, 1) := dk_112 (dk_at dksX5_blurs_3 16 rfl rfl)
theorem dX5_blurs_85 : decode cX5_blurs 85 = .ok (.iastore, 1) := dk_79 (dk_at dksX5_blurs_3 17 rfl rfl)
theorem dX5_blurs_86 : decode cX5_blurs 86 = .ok (.iinc 5 1, 3) := dk_132 5 1 (dk_at dksX5_blurs_3 18 rfl rfl)
theorem dX5_blurs_89 : decode cX5_blurs 89 = .ok (.goto (-42), 3) := dk_167 255 214 (dk_at dksX5_blurs_3 21 rfl rfl)
theorem dX5_blurs_92 : decode cX5_blurs 92 = .ok (.aload_n 0, 1) := dk_42 (dk_at dksX5_blurs_4 0 rfl rfl)
theorem dX5_blurs_93 : decode cX5_blurs 93 = .ok (.iconst 4, 1) := dk_7 (dk_at dksX5_blurs_4 1 rfl rfl)
theorem dX5_blurs_94 : decode cX5_blurs 94 = .ok (.iload 4, 2) := dk_21 4 (dk_at dksX5_blurs_4 2 rfl rfl)
theorem dX5_blurs_96 : decode cX5_blurs 96 = .ok (.invokevirtual 126, 3) := dk_182 0 126 (dk_at dksX5_blurs_4 4 rfl rfl)
theorem dX5_blurs_99 : decode cX5_blurs 99 = .ok (.return_, 1) := dk_177 (dk_at dksX5_blurs_4 7 rfl rfl)
abbrev cX5_wrongBy : ByteArray := prog_15_method_31_code
def yX5_wrongBy : MethodName := ⟨RX5, "wrongBy", "(IIII)I"⟩
def dkwX5_wrongBy_1 : List UInt8 := [16, 10, 108, 184, 0, 134, 172]
abbrev dktX5_wrongBy_1 : List UInt8 := dkwX5_wrongBy_1 ++ []
def dkwX5_wrongBy_0 : List UInt8 := [21, 4, 3, 27, 28, 104, 6, 42, 180, 0, 9, 29, 184, 0, 84, 16, 8, 96, 46, 104, 100, 184, 0, 129]
abbrev dktX5_wrongBy_0 : List UInt8 := dkwX5_wrongBy_0 ++ dktX5_wrongBy_1
theorem dksX5_wrongBy_0 : cX5_wrongBy.data.toList.drop 0 = dktX5_wrongBy_0 := by decide +kernel
theorem dksX5_wrongBy_1 : cX5_wrongBy.data.toList.drop 24 = dktX5_wrongBy_1 := dk_seg dksX5_wrongBy_0 24 rfl rfl
theorem dX5_wrongBy_0 : decode cX5_wrongBy 0 = .ok (.iload 4, 2) := dk_21 4 (dk_at dksX5_wrongBy_0 0 rfl rfl)
theorem dX5_wrongBy_2 : decode cX5_wrongBy 2 = .ok (.iconst 0, 1) := dk_3 (dk_at dksX5_wrongBy_0 2 rfl rfl)
theorem dX5_wrongBy_3 : decode cX5_wrongBy 3 = .ok (.iload_n 1, 1) := dk_27 (dk_at dksX5_wrongBy_0 3 rfl rfl)
theorem dX5_wrongBy_4 : decode cX5_wrongBy 4 = .ok (.iload_n 2, 1) := dk_28 (dk_at dksX5_wrongBy_0 4 rfl rfl)
theorem dX5_wrongBy_5 : decode cX5_wrongBy 5 = .ok (.imul, 1) := dk_104 (dk_at dksX5_wrongBy_0 5 rfl rfl)
theorem dX5_wrongBy_6 : decode cX5_wrongBy 6 = .ok (.iconst 3, 1) := dk_6 (dk_at dksX5_wrongBy_0 6 rfl rfl)
theorem dX5_wrongBy_7 : decode cX5_wrongBy 7 = .ok (.aload_n 0, 1) := dk_42 (dk_at dksX5_wrongBy_0 7 rfl rfl)
theorem dX5_wrongBy_8 : decode cX5_wrongBy 8 = .ok (.getfield 9, 3) := dk_180 0 9 (dk_at dksX5_wrongBy_0 8 rfl rfl)
theorem dX5_wrongBy_11 : decode cX5_wrongBy 11 = .ok (.iload_n 3, 1) := dk_29 (dk_at dksX5_wrongBy_0 11 rfl rfl)
theorem dX5_wrongBy_12 : decode cX5_wrongBy 12 = .ok (.invokestatic 84, 3) := dk_184 0 84 (dk_at dksX5_wrongBy_0 12 rfl rfl)
theorem dX5_wrongBy_15 : decode cX5_wrongBy 15 = .ok (.bipush 8, 2) := dk_16 8 (dk_at dksX5_wrongBy_0 15 rfl rfl)
theorem dX5_wrongBy_17 : decode cX5_wrongBy 17 = .ok (.iadd, 1) := dk_96 (dk_at dksX5_wrongBy_0 17 rfl rfl)
theorem dX5_wrongBy_18 : decode cX5_wrongBy 18 = .ok (.iaload, 1) := dk_46 (dk_at dksX5_wrongBy_0 18 rfl rfl)
theorem dX5_wrongBy_19 : decode cX5_wrongBy 19 = .ok (.imul, 1) := dk_104 (dk_at dksX5_wrongBy_0 19 rfl rfl)
theorem dX5_wrongBy_20 : decode cX5_wrongBy 20 = .ok (.isub, 1) := dk_100 (dk_at dksX5_wrongBy_0 20 rfl rfl)
theorem dX5_wrongBy_21 : decode cX5_wrongBy 21 = .ok (.invokestatic 129, 3) := dk_184 0 129 (dk_at dksX5_wrongBy_0 21 rfl rfl)
theorem dX5_wrongBy_24 : decode cX5_wrongBy 24 = .ok (.bipush 10, 2) := dk_16 10 (dk_at dksX5_wrongBy_1 0 rfl rfl)
theorem dX5_wrongBy_26 : decode cX5_wrongBy 26 = .ok (.idiv, 1) := dk_108 (dk_at dksX5_wrongBy_1 2 rfl rfl)
theorem dX5_wrongBy_27 : decode cX5_wrongBy 27 = .ok (.invokestatic 134, 3) := dk_184 0 134 (dk_at dksX5_wrongBy_1 3 rfl rfl)
theorem dX5_wrongBy_30 : decode cX5_wrongBy 30 = .ok (.ireturn, 1) := dk_172 (dk_at dksX5_wrongBy_1 6 rfl rfl)
abbrev cX5_unlike : ByteArray := prog_15_method_28_code
def yX5_unlike : MethodName := ⟨RX5, "unlike", "(I)I"⟩
def dkwX5_unlike_2 : List UInt8 := [159, 0, 7, 4, 167, 0, 4, 3, 184, 0, 115, 96, 61, 132, 3, 1, 167, 255, 196, 28, 172]
abbrev dktX5_unlike_2 : List UInt8 := dkwX5_unlike_2 ++ []
def dkwX5_unlike_1 : List UInt8 := [27, 184, 0, 109, 16, 11, 96, 29, 96, 46, 42, 180, 0, 9, 27, 184, 0, 109, 16, 19, 96, 29, 96, 46]
abbrev dktX5_unlike_1 : List UInt8 := dkwX5_unlike_1 ++ dktX5_unlike_2
def dkwX5_unlike_0 : List UInt8 := [3, 61, 3, 62, 29, 42, 180, 0, 9, 27, 184, 0, 109, 5, 96, 46, 162, 0, 51, 28, 42, 180, 0, 9]
abbrev dktX5_unlike_0 : List UInt8 := dkwX5_unlike_0 ++ dktX5_unlike_1
theorem dksX5_unlike_0 : cX5_unlike.data.toList.drop 0 = dktX5_unlike_0 := by decide +kernel
theorem dksX5_unlike_1 : cX5_unlike.data.toList.drop 24 = dktX5_unlike_1 := dk_seg dksX5_unlike_0 24 rfl rfl
theorem dksX5_unlike_2 : cX5_unlike.data.toList.drop 48 = dktX5_unlike_2 := dk_seg dksX5_unlike_1 24 rfl rfl
theorem dX5_unlike_0 : decode cX5_unlike 0 = .ok (.iconst 0, 1) := dk_3 (dk_at dksX5_unlike_0 0 rfl rfl)
theorem dX5_unlike_1 : decode cX5_unlike 1 = .ok (.istore_n 2, 1) := dk_61 (dk_at dksX5_unlike_0 1 rfl rfl)
theorem dX5_unlike_2 : decode cX5_unlike 2 = .ok (.iconst 0, 1) := dk_3 (dk_at dksX5_unlike_0 2 rfl rfl)
theorem dX5_unlike_3 : decode cX5_unlike 3 = .ok (.istore_n 3, 1) := dk_62 (dk_at dksX5_unlike_0 3 rfl rfl)
theorem dX5_unlike_4 : decode cX5_unlike 4 = .ok (.iload_n 3, 1) := dk_29 (dk_at dksX5_unlike_0 4 rfl rfl)
theorem dX5_unlike_5 : decode cX5_unlike 5 = .ok (.aload_n 0, 1) := dk_42 (dk_at dksX5_unlike_0 5 rfl rfl)
theorem dX5_unlike_6 : decode cX5_unlike 6 = .ok (.getfield 9, 3) := dk_180 0 9 (dk_at dksX5_unlike_0 6 rfl rfl)
theorem dX5_unlike_9 : decode cX5_unlike 9 = .ok (.iload_n 1, 1) := dk_27 (dk_at dksX5_unlike_0 9 rfl rfl)
theorem dX5_unlike_10 : decode cX5_unlike 10 = .ok (.invokestatic 109, 3) := dk_184 0 109 (dk_at dksX5_unlike_0 10 rfl rfl)
theorem dX5_unlike_13 : decode cX5_unlike 13 = .ok (.iconst 2, 1) := dk_5 (dk_at dksX5_unlike_0 13 rfl rfl)
theorem dX5_unlike_14 : decode cX5_unlike 14 = .ok (.iadd, 1) := dk_96 (dk_at dksX5_unlike_0 14 rfl rfl)
theorem dX5_unlike_15 : decode cX5_unlike 15 = .ok (.iaload, 1) := dk_46 (dk_at dksX5_unlike_0 15 rfl rfl)
theorem dX5_unlike_16 : decode cX5_unlike 16 = .ok (.if_icmp .ge 51, 3) := dk_162 0 51 (dk_at dksX5_unlike_0 16 rfl rfl)
theorem dX5_unlike_19 : decode cX5_unlike 19 = .ok (.iload_n 2, 1) := dk_28 (dk_at dksX5_unlike_0 19 rfl rfl)
theorem dX5_unlike_20 : decode cX5_unlike 20 = .ok (.aload_n 0, 1) := dk_42 (dk_at dksX5_unlike_0 20 rfl rfl)
theorem dX5_unlike_21 : decode cX5_unlike 21 = .ok (.getfield 9, 3) := dk_180 0 9 (dk_at dksX5_unlike_0 21 rfl rfl)
theorem dX5_unlike_24 : decode cX5_unlike 24 = .ok (.iload_n 1, 1) := dk_27 (dk_at dksX5_unlike_1 0 rfl rfl)
theorem dX5_unlike_25 : decode cX5_unlike 25 = .ok (.invokestatic 109, 3) := dk_184 0 109 (dk_at dksX5_unlike_1 1 rfl rfl)
theorem dX5_unlike_28 : decode cX5_unlike 28 = .ok (.bipush 11, 2) := dk_16 11 (dk_at dksX5_unlike_1 4 rfl rfl)
theorem dX5_unlike_30 : decode cX5_unlike 30 = .ok (.iadd, 1) := dk_96 (dk_at dksX5_unlike_1 6 rfl rfl)
theorem dX5_unlike_31 : decode cX5_unlike 31 = .ok (.iload_n 3, 1) := dk_29 (dk_at dksX5_unlike_1 7 rfl rfl)
theorem dX5_unlike_32 : decode cX5_unlike 32 = .ok (.iadd, 1) := dk_96 (dk_at dksX5_unlike_1 8 rfl rfl)
theorem dX5_unlike_33 : decode cX5_unlike 33 = .ok (.iaload, 1) := dk_46 (dk_at dksX5_unlike_1 9 rfl rfl)
theorem dX5_unlike_34 : decode cX5_unlike 34 = .ok (.aload_n 0, 1) := dk_42 (dk_at dksX5_unlike_1 10 rfl rfl)
theorem dX5_unlike_35 : decode cX5_unlike 35 = .ok (.getfield 9, 3) := dk_180 0 9 (dk_at dksX5_unlike_1 11 rfl rfl)
theorem dX5_unlike_38 : decode cX5_unlike 38 = .ok (.iload_n 1, 1) := dk_27 (dk_at dksX5_unlike_1 14 rfl rfl)
theorem dX5_unlike_39 : decode cX5_unlike 39 = .ok (.invokestatic 109, 3) := dk_184 0 109 (dk_at dksX5_unlike_1 15 rfl rfl)
theorem dX5_unlike_42 : decode cX5_unlike 42 = .ok (.bipush 19, 2) := dk_16 19 (dk_at dksX5_unlike_1 18 rfl rfl)
theorem dX5_unlike_44 : decode cX5_unlike 44 = .ok (.iadd, 1) := dk_96 (dk_at dksX5_unlike_1 20 rfl rfl)
theorem dX5_unlike_45 : decode cX5_unlike 45 = .ok (.iload_n 3, 1) := dk_29 (dk_at dksX5_unlike_1 21 rfl rfl)
theorem dX5_unlike_46 : decode cX5_unlike 46 = .ok (.iadd, 1) := dk_96 (dk_at dksX5_unlike_1 22 rfl rfl)
theorem dX5_unlike_47 : decode cX5_unlike 47 = .ok (.iaload, 1) := dk_46 (dk_at dksX5_unlike_1 23 rfl rfl)
theorem dX5_unlike_48 : decode cX5_unlike 48 = .ok (.if_icmp .eq 7, 3) := dk_159 0 7 (dk_at dksX5_unlike_2 0 rfl rfl)
theorem dX5_unlike_51 : decode cX5_unlike 51 = .ok (.iconst 1, 1) := dk_4 (dk_at dksX5_unlike_2 3 rfl rfl)
theorem dX5_unlike_52 : decode cX5_unlike 52 = .ok (.goto 4, 3) := dk_167 0 4 (dk_at dksX5_unlike_2 4 rfl rfl)
theorem dX5_unlike_55 : decode cX5_unlike 55 = .ok (.iconst 0, 1) := dk_3 (dk_at dksX5_unlike_2 7 rfl rfl)
theorem dX5_unlike_56 : decode cX5_unlike 56 = .ok (.invokestatic 115, 3) := dk_184 0 115 (dk_at dksX5_unlike_2 8 rfl rfl)
theorem dX5_unlike_59 : decode cX5_unlike 59 = .ok (.iadd, 1) := dk_96 (dk_at dksX5_unlike_2 11 rfl rfl)
theorem dX5_unlike_60 : decode cX5_unlike 60 = .ok (.istore_n 2, 1) := dk_61 (dk_at dksX5_unlike_2 12 rfl rfl)
theorem dX5_unlike_61 : decode cX5_unlike 61 = .ok (.iinc 3 1, 3) := dk_132 3 1 (dk_at dksX5_unlike_2 13 rfl rfl)
theorem dX5_unlike_64 : decode cX5_unlike 64 = .ok (.goto (-60), 3) := dk_167 255 196 (dk_at dksX5_unlike_2 16 rfl rfl)
theorem dX5_unlike_67 : decode cX5_unlike 67 = .ok (.iload_n 2, 1) := dk_28 (dk_at dksX5_unlike_2 19 rfl rfl)
theorem dX5_unlike_68 : decode cX5_unlike 68 = .ok (.ireturn, 1) := dk_172 (dk_at dksX5_unlike_2 20 rfl rfl)
abbrev cX5_replies : ByteArray := prog_15_method_33_code
def yX5_replies : MethodName := ⟨RX5, "replies", "(I)V"⟩
def dkwX5_replies_4 : List UInt8 := [180, 0, 9, 28, 4, 96, 46, 42, 180, 0, 9, 28, 3, 96, 46, 4, 3, 182, 0, 144, 62, 177]
abbrev dktX5_replies_4 : List UInt8 := dkwX5_replies_4 ++ []
def dkwX5_replies_3 : List UInt8 := [16, 11, 96, 42, 180, 0, 119, 96, 4, 100, 29, 100, 46, 79, 132, 3, 1, 167, 255, 221, 42, 42]
abbrev dktX5_replies_3 : List UInt8 := dkwX5_replies_3 ++ dktX5_replies_4
def dkwX5_replies_2 : List UInt8 := [181, 0, 119, 3, 62, 29, 42, 180, 0, 119, 162, 0, 33, 42, 180, 0, 28, 29, 42, 180, 0, 9, 28]
abbrev dktX5_replies_2 : List UInt8 := dkwX5_replies_2 ++ dktX5_replies_3
def dkwX5_replies_1 : List UInt8 := [157, 0, 14, 42, 180, 0, 9, 5, 46, 16, 30, 160, 0, 4, 177, 42, 42, 180, 0, 9, 28, 5, 96, 46]
abbrev dktX5_replies_1 : List UInt8 := dkwX5_replies_1 ++ dktX5_replies_2
def dkwX5_replies_0 : List UInt8 := [27, 184, 0, 109, 61, 42, 180, 0, 9, 28, 16, 7, 96, 46, 153, 0, 22, 42, 27, 182, 0, 141]
abbrev dktX5_replies_0 : List UInt8 := dkwX5_replies_0 ++ dktX5_replies_1
theorem dksX5_replies_0 : cX5_replies.data.toList.drop 0 = dktX5_replies_0 := by decide +kernel
theorem dksX5_replies_1 : cX5_replies.data.toList.drop 22 = dktX5_replies_1 := dk_seg dksX5_replies_0 22 rfl rfl
theorem dksX5_replies_2 : cX5_replies.data.toList.drop 46 = dktX5_replies_2 := dk_seg dksX5_replies_1 24 rfl rfl
theorem dksX5_replies_3 : cX5_replies.data.toList.drop 69 = dktX5_replies_3 := dk_seg dksX5_replies_2 23 rfl rfl
theorem dksX5_replies_4 : cX5_replies.data.toList.drop 91 = dktX5_replies_4 := dk_seg dksX5_replies_3 22 rfl rfl
theorem dX5_replies_0 : decode cX5_replies 0 = .ok (.iload_n 1, 1) := dk_27 (dk_at dksX5_replies_0 0 rfl rfl)
theorem dX5_replies_1 : decode cX5_replies 1 = .ok (.invokestatic 109, 3) := dk_184 0 109 (dk_at dksX5_replies_0 1 rfl rfl)
theorem dX5_replies_4 : decode cX5_replies 4 = .ok (.istore_n 2, 1) := dk_61 (dk_at dksX5_replies_0 4 rfl rfl)
theorem dX5_replies_5 : decode cX5_replies 5 = .ok (.aload_n 0, 1) := dk_42 (dk_at dksX5_replies_0 5 rfl rfl)
theorem dX5_replies_6 : decode cX5_replies 6 = .ok (.getfield 9, 3) := dk_180 0 9 (dk_at dksX5_replies_0 6 rfl rfl)
theorem dX5_replies_9 : decode cX5_replies 9 = .ok (.iload_n 2, 1) := dk_28 (dk_at dksX5_replies_0 9 rfl rfl)
theorem dX5_replies_10 : decode cX5_replies 10 = .ok (.bipush 7, 2) := dk_16 7 (dk_at dksX5_replies_0 10 rfl rfl)
theorem dX5_replies_12 : decode cX5_replies 12 = .ok (.iadd, 1) := dk_96 (dk_at dksX5_replies_0 12 rfl rfl)
theorem dX5_replies_13 : decode cX5_replies 13 = .ok (.iaload, 1) := dk_46 (dk_at dksX5_replies_0 13 rfl rfl)
theorem dX5_replies_14 : decode cX5_replies 14 = .ok (.ifCond .eq 22, 3) := dk_153 0 22 (dk_at dksX5_replies_0 14 rfl rfl)
theorem dX5_replies_17 : decode cX5_replies 17 = .ok (.aload_n 0, 1) := dk_42 (dk_at dksX5_replies_0 17 rfl rfl)
theorem dX5_replies_18 : decode cX5_replies 18 = .ok (.iload_n 1, 1) := dk_27 (dk_at dksX5_replies_0 18 rfl rfl)
theorem dX5_replies_19 : decode cX5_replies 19 = .ok (.invokevirtual 141, 3) := dk_182 0 141 (dk_at dksX5_replies_0 19 rfl rfl)
theorem dX5_replies_22 : decode cX5_replies 22 = .ok (.ifCond .gt 14, 3) := dk_157 0 14 (dk_at dksX5_replies_1 0 rfl rfl)
theorem dX5_replies_25 : decode cX5_replies 25 = .ok (.aload_n 0, 1) := dk_42 (dk_at dksX5_replies_1 3 rfl rfl)
theorem dX5_replies_26 : decode cX5_replies 26 = .ok (.getfield 9, 3) := dk_180 0 9 (dk_at dksX5_replies_1 4 rfl rfl)
theorem dX5_replies_29 : decode cX5_replies 29 = .ok (.iconst 2, 1) := dk_5 (dk_at dksX5_replies_1 7 rfl rfl)
theorem dX5_replies_30 : decode cX5_replies 30 = .ok (.iaload, 1) := dk_46 (dk_at dksX5_replies_1 8 rfl rfl)
theorem dX5_replies_31 : decode cX5_replies 31 = .ok (.bipush 30, 2) := dk_16 30 (dk_at dksX5_replies_1 9 rfl rfl)
theorem dX5_replies_33 : decode cX5_replies 33 = .ok (.if_icmp .ne 4, 3) := dk_160 0 4 (dk_at dksX5_replies_1 11 rfl rfl)
theorem dX5_replies_36 : decode cX5_replies 36 = .ok (.return_, 1) := dk_177 (dk_at dksX5_replies_1 14 rfl rfl)
theorem dX5_replies_37 : decode cX5_replies 37 = .ok (.aload_n 0, 1) := dk_42 (dk_at dksX5_replies_1 15 rfl rfl)
theorem dX5_replies_38 : decode cX5_replies 38 = .ok (.aload_n 0, 1) := dk_42 (dk_at dksX5_replies_1 16 rfl rfl)
theorem dX5_replies_39 : decode cX5_replies 39 = .ok (.getfield 9, 3) := dk_180 0 9 (dk_at dksX5_replies_1 17 rfl rfl)
theorem dX5_replies_42 : decode cX5_replies 42 = .ok (.iload_n 2, 1) := dk_28 (dk_at dksX5_replies_1 20 rfl rfl)
theorem dX5_replies_43 : decode cX5_replies 43 = .ok (.iconst 2, 1) := dk_5 (dk_at dksX5_replies_1 21 rfl rfl)
theorem dX5_replies_44 : decode cX5_replies 44 = .ok (.iadd, 1) := dk_96 (dk_at dksX5_replies_1 22 rfl rfl)
theorem dX5_replies_45 : decode cX5_replies 45 = .ok (.iaload, 1) := dk_46 (dk_at dksX5_replies_1 23 rfl rfl)
theorem dX5_replies_46 : decode cX5_replies 46 = .ok (.putfield 119, 3) := dk_181 0 119 (dk_at dksX5_replies_2 0 rfl rfl)
theorem dX5_replies_49 : decode cX5_replies 49 = .ok (.iconst 0, 1) := dk_3 (dk_at dksX5_replies_2 3 rfl rfl)
theorem dX5_replies_50 : decode cX5_replies 50 = .ok (.istore_n 3, 1) := dk_62 (dk_at dksX5_replies_2 4 rfl rfl)
theorem dX5_replies_51 : decode cX5_replies 51 = .ok (.iload_n 3, 1) := dk_29 (dk_at dksX5_replies_2 5 rfl rfl)
theorem dX5_replies_52 : decode cX5_replies 52 = .ok (.aload_n 0, 1) := dk_42 (dk_at dksX5_replies_2 6 rfl rfl)
theorem dX5_replies_53 : decode cX5_replies 53 = .ok (.getfield 119, 3) := dk_180 0 119 (dk_at dksX5_replies_2 7 rfl rfl)
theorem dX5_replies_56 : decode cX5_replies 56 = .ok (.if_icmp .ge 33, 3) := dk_162 0 33 (dk_at dksX5_replies_2 10 rfl rfl)
theorem dX5_replies_59 : decode cX5_replies 59 = .ok (.aload_n 0, 1) := dk_42 (dk_at dksX5_replies_2 13 rfl rfl)
theorem dX5_replies_60 : decode cX5_replies 60 = .ok (.getfield 28, 3) := dk_180 0 28 (dk_at dksX5_replies_2 14 rfl rfl)
theorem dX5_replies_63 : decode cX5_replies 63 = .ok (.iload_n 3, 1) := dk_29 (dk_at dksX5_replies_2 17 rfl rfl)
theorem dX5_replies_64 : decode cX5_replies 64 = .ok (.aload_n 0, 1) := dk_42 (dk_at dksX5_replies_2 18 rfl rfl)
theorem dX5_replies_65 : decode cX5_replies 65 = .ok (.getfield 9, 3) := dk_180 0 9 (dk_at dksX5_replies_2 19 rfl rfl)
theorem dX5_replies_68 : decode cX5_replies 68 = .ok (.iload_n 2, 1) := dk_28 (dk_at dksX5_replies_2 22 rfl rfl)
theorem dX5_replies_69 : decode cX5_replies 69 = .ok (.bipush 11, 2) := dk_16 11 (dk_at dksX5_replies_3 0 rfl rfl)
theorem dX5_replies_71 : decode cX5_replies 71 = .ok (.iadd, 1) := dk_96 (dk_at dksX5_replies_3 2 rfl rfl)
theorem dX5_replies_72 : decode cX5_replies 72 = .ok (.aload_n 0, 1) := dk_42 (dk_at dksX5_replies_3 3 rfl rfl)
theorem dX5_replies_73 : decode cX5_replies 73 = .ok (.getfield 119, 3) := dk_180 0 119 (dk_at dksX5_replies_3 4 rfl rfl)
theorem dX5_replies_76 : decode cX5_replies 76 = .ok (.iadd, 1) := dk_96 (dk_at dksX5_replies_3 7 rfl rfl)
theorem dX5_replies_77 : decode cX5_replies 77 = .ok (.iconst 1, 1) := dk_4 (dk_at dksX5_replies_3 8 rfl rfl)
theorem dX5_replies_78 : decode cX5_replies 78 = .ok (.isub, 1) := dk_100 (dk_at dksX5_replies_3 9 rfl rfl)
theorem dX5_replies_79 : decode cX5_replies 79 = .ok (.iload_n 3, 1) := dk_29 (dk_at dksX5_replies_3 10 rfl rfl)
theorem dX5_replies_80 : decode cX5_replies 80 = .ok (.isub, 1) := dk_100 (dk_at dksX5_replies_3 11 rfl rfl)
theorem dX5_replies_81 : decode cX5_replies 81 = .ok (.iaload, 1) := dk_46 (dk_at dksX5_replies_3 12 rfl rfl)
theorem dX5_replies_82 : decode cX5_replies 82 = .ok (.iastore, 1) := dk_79 (dk_at dksX5_replies_3 13 rfl rfl)
theorem dX5_replies_83 : decode cX5_replies 83 = .ok (.iinc 3 1, 3) := dk_132 3 1 (dk_at dksX5_replies_3 14 rfl rfl)
theorem dX5_replies_86 : decode cX5_replies 86 = .ok (.goto (-35), 3) := dk_167 255 221 (dk_at dksX5_replies_3 17 rfl rfl)
theorem dX5_replies_89 : decode cX5_replies 89 = .ok (.aload_n 0, 1) := dk_42 (dk_at dksX5_replies_3 20 rfl rfl)
theorem dX5_replies_90 : decode cX5_replies 90 = .ok (.aload_n 0, 1) := dk_42 (dk_at dksX5_replies_3 21 rfl rfl)
theorem dX5_replies_91 : decode cX5_replies 91 = .ok (.getfield 9, 3) := dk_180 0 9 (dk_at dksX5_replies_4 0 rfl rfl)
theorem dX5_replies_94 : decode cX5_replies 94 = .ok (.iload_n 2, 1) := dk_28 (dk_at dksX5_replies_4 3 rfl rfl)
theorem dX5_replies_95 : decode cX5_replies 95 = .ok (.iconst 1, 1) := dk_4 (dk_at dksX5_replies_4 4 rfl rfl)
theorem dX5_replies_96 : decode cX5_replies 96 = .ok (.iadd, 1) := dk_96 (dk_at dksX5_replies_4 5 rfl rfl)
theorem dX5_replies_97 : decode cX5_replies 97 = .ok (.iaload, 1) := dk_46 (dk_at dksX5_replies_4 6 rfl rfl)
theorem dX5_replies_98 : decode cX5_replies 98 = .ok (.aload_n 0, 1) := dk_42 (dk_at dksX5_replies_4 7 rfl rfl)
theorem dX5_replies_99 : decode cX5_replies 99 = .ok (.getfield 9, 3) := dk_180 0 9 (dk_at dksX5_replies_4 8 rfl rfl)
theorem dX5_replies_102 : decode cX5_replies 102 = .ok (.iload_n 2, 1) := dk_28 (dk_at dksX5_replies_4 11 rfl rfl)
theorem dX5_replies_103 : decode cX5_replies 103 = .ok (.iconst 0, 1) := dk_3 (dk_at dksX5_replies_4 12 rfl rfl)
theorem dX5_replies_104 : decode cX5_replies 104 = .ok (.iadd, 1) := dk_96 (dk_at dksX5_replies_4 13 rfl rfl)
theorem dX5_replies_105 : decode cX5_replies 105 = .ok (.iaload, 1) := dk_46 (dk_at dksX5_replies_4 14 rfl rfl)
theorem dX5_replies_106 : decode cX5_replies 106 = .ok (.iconst 1, 1) := dk_4 (dk_at dksX5_replies_4 15 rfl rfl)
theorem dX5_replies_107 : decode cX5_replies 107 = .ok (.iconst 0, 1) := dk_3 (dk_at dksX5_replies_4 16 rfl rfl)
theorem dX5_replies_108 : decode cX5_replies 108 = .ok (.invokevirtual 144, 3) := dk_182 0 144 (dk_at dksX5_replies_4 17 rfl rfl)
theorem dX5_replies_111 : decode cX5_replies 111 = .ok (.istore_n 3, 1) := dk_62 (dk_at dksX5_replies_4 20 rfl rfl)
theorem dX5_replies_112 : decode cX5_replies 112 = .ok (.return_, 1) := dk_177 (dk_at dksX5_replies_4 21 rfl rfl)
abbrev cX5_isBusy : ByteArray := prog_15_method_24_code
def yX5_isBusy : MethodName := ⟨RX5, "isBusy", "(II)Z"⟩
def dkwX5_isBusy_0 : List UInt8 := [42, 180, 0, 9, 27, 184, 0, 84, 16, 11, 96, 46, 28, 164, 0, 7, 4, 167, 0, 4, 3, 172]
abbrev dktX5_isBusy_0 : List UInt8 := dkwX5_isBusy_0 ++ []
theorem dksX5_isBusy_0 : cX5_isBusy.data.toList.drop 0 = dktX5_isBusy_0 := by decide +kernel
theorem dX5_isBusy_0 : decode cX5_isBusy 0 = .ok (.aload_n 0, 1) := dk_42 (dk_at dksX5_isBusy_0 0 rfl rfl)
theorem dX5_isBusy_1 : decode cX5_isBusy 1 = .ok (.getfield 9, 3) := dk_180 0 9 (dk_at dksX5_isBusy_0 1 rfl rfl)
theorem dX5_isBusy_4 : decode cX5_isBusy 4 = .ok (.iload_n 1, 1) := dk_27 (dk_at dksX5_isBusy_0 4 rfl rfl)
theorem dX5_isBusy_5 : decode cX5_isBusy 5 = .ok (.invokestatic 84, 3) := dk_184 0 84 (dk_at dksX5_isBusy_0 5 rfl rfl)
theorem dX5_isBusy_8 : decode cX5_isBusy 8 = .ok (.bipush 11, 2) := dk_16 11 (dk_at dksX5_isBusy_0 8 rfl rfl)
theorem dX5_isBusy_10 : decode cX5_isBusy 10 = .ok (.iadd, 1) := dk_96 (dk_at dksX5_isBusy_0 10 rfl rfl)
theorem dX5_isBusy_11 : decode cX5_isBusy 11 = .ok (.iaload, 1) := dk_46 (dk_at dksX5_isBusy_0 11 rfl rfl)
theorem dX5_isBusy_12 : decode cX5_isBusy 12 = .ok (.iload_n 2, 1) := dk_28 (dk_at dksX5_isBusy_0 12 rfl rfl)
theorem dX5_isBusy_13 : decode cX5_isBusy 13 = .ok (.if_icmp .le 7, 3) := dk_164 0 7 (dk_at dksX5_isBusy_0 13 rfl rfl)
theorem dX5_isBusy_16 : decode cX5_isBusy 16 = .ok (.iconst 1, 1) := dk_4 (dk_at dksX5_isBusy_0 16 rfl rfl)
theorem dX5_isBusy_17 : decode cX5_isBusy 17 = .ok (.goto 4, 3) := dk_167 0 4 (dk_at dksX5_isBusy_0 17 rfl rfl)
theorem dX5_isBusy_20 : decode cX5_isBusy 20 = .ok (.iconst 0, 1) := dk_3 (dk_at dksX5_isBusy_0 20 rfl rfl)
theorem dX5_isBusy_21 : decode cX5_isBusy 21 = .ok (.ireturn, 1) := dk_172 (dk_at dksX5_isBusy_0 21 rfl rfl)
abbrev cX5_firstAt : ByteArray := prog_15_method_37_code
def yX5_firstAt : MethodName := ⟨RX5, "firstAt", "(I)I"⟩
def dkwX5_firstAt_4 : List UInt8 := [28, 61, 132, 3, 1, 167, 255, 161, 28, 172]
abbrev dktX5_firstAt_4 : List UInt8 := dkwX5_firstAt_4 ++ []
def dkwX5_firstAt_3 : List UInt8 := [46, 182, 0, 166, 2, 159, 0, 7, 4, 167, 0, 4, 3, 54, 4, 21, 4, 153, 0, 7, 29, 167, 0, 4]
abbrev dktX5_firstAt_3 : List UInt8 := dkwX5_firstAt_3 ++ dktX5_firstAt_4
def dkwX5_firstAt_2 : List UInt8 := [182, 0, 160, 42, 29, 27, 182, 0, 163, 161, 0, 27, 42, 27, 42, 180, 0, 9, 29, 184, 0, 109, 4, 96]
abbrev dktX5_firstAt_2 : List UInt8 := dkwX5_firstAt_2 ++ dktX5_firstAt_3
def dkwX5_firstAt_1 : List UInt8 := [2, 159, 0, 19, 42, 29, 182, 0, 154, 42, 28, 182, 0, 154, 163, 0, 6, 167, 0, 55, 42, 29]
abbrev dktX5_firstAt_1 : List UInt8 := dkwX5_firstAt_1 ++ dktX5_firstAt_2
def dkwX5_firstAt_0 : List UInt8 := [2, 61, 3, 62, 29, 42, 180, 0, 9, 5, 46, 162, 0, 91, 42, 29, 27, 182, 0, 157, 153, 0, 76, 28]
abbrev dktX5_firstAt_0 : List UInt8 := dkwX5_firstAt_0 ++ dktX5_firstAt_1
theorem dksX5_firstAt_0 : cX5_firstAt.data.toList.drop 0 = dktX5_firstAt_0 := by decide +kernel
theorem dksX5_firstAt_1 : cX5_firstAt.data.toList.drop 24 = dktX5_firstAt_1 := dk_seg dksX5_firstAt_0 24 rfl rfl
theorem dksX5_firstAt_2 : cX5_firstAt.data.toList.drop 46 = dktX5_firstAt_2 := dk_seg dksX5_firstAt_1 22 rfl rfl
theorem dksX5_firstAt_3 : cX5_firstAt.data.toList.drop 70 = dktX5_firstAt_3 := dk_seg dksX5_firstAt_2 24 rfl rfl
theorem dksX5_firstAt_4 : cX5_firstAt.data.toList.drop 94 = dktX5_firstAt_4 := dk_seg dksX5_firstAt_3 24 rfl rfl
theorem dX5_firstAt_0 : decode cX5_firstAt 0 = .ok (.iconst (-1), 1) := dk_2 (dk_at dksX5_firstAt_0 0 rfl rfl)
theorem dX5_firstAt_1 : decode cX5_firstAt 1 = .ok (.istore_n 2, 1) := dk_61 (dk_at dksX5_firstAt_0 1 rfl rfl)
theorem dX5_firstAt_2 : decode cX5_firstAt 2 = .ok (.iconst 0, 1) := dk_3 (dk_at dksX5_firstAt_0 2 rfl rfl)
theorem dX5_firstAt_3 : decode cX5_firstAt 3 = .ok (.istore_n 3, 1) := dk_62 (dk_at dksX5_firstAt_0 3 rfl rfl)
theorem dX5_firstAt_4 : decode cX5_firstAt 4 = .ok (.iload_n 3, 1) := dk_29 (dk_at dksX5_firstAt_0 4 rfl rfl)
theorem dX5_firstAt_5 : decode cX5_firstAt 5 = .ok (.aload_n 0, 1) := dk_42 (dk_at dksX5_firstAt_0 5 rfl rfl)
theorem dX5_firstAt_6 : decode cX5_firstAt 6 = .ok (.getfield 9, 3) := dk_180 0 9 (dk_at dksX5_firstAt_0 6 rfl rfl)
theorem dX5_firstAt_9 : decode cX5_firstAt 9 = .ok (.iconst 2, 1) := dk_5 (dk_at dksX5_firstAt_0 9 rfl rfl)
theorem dX5_firstAt_10 : decode cX5_firstAt 10 = .ok (.iaload, 1) := dk_46 (dk_at dksX5_firstAt_0 10 rfl rfl)
theorem dX5_firstAt_11 : decode cX5_firstAt 11 = .ok (.if_icmp .ge 91, 3) := dk_162 0 91 (dk_at dksX5_firstAt_0 11 rfl rfl)
theorem dX5_firstAt_14 : decode cX5_firstAt 14 = .ok (.aload_n 0, 1) := dk_42 (dk_at dksX5_firstAt_0 14 rfl rfl)
theorem dX5_firstAt_15 : decode cX5_firstAt 15 = .ok (.iload_n 3, 1) := dk_29 (dk_at dksX5_firstAt_0 15 rfl rfl)
theorem dX5_firstAt_16 : decode cX5_firstAt 16 = .ok (.iload_n 1, 1) := dk_27 (dk_at dksX5_firstAt_0 16 rfl rfl)
theorem dX5_firstAt_17 : decode cX5_firstAt 17 = .ok (.invokevirtual 157, 3) := dk_182 0 157 (dk_at dksX5_firstAt_0 17 rfl rfl)
theorem dX5_firstAt_20 : decode cX5_firstAt 20 = .ok (.ifCond .eq 76, 3) := dk_153 0 76 (dk_at dksX5_firstAt_0 20 rfl rfl)
theorem dX5_firstAt_23 : decode cX5_firstAt 23 = .ok (.iload_n 2, 1) := dk_28 (dk_at dksX5_firstAt_0 23 rfl rfl)
theorem dX5_firstAt_24 : decode cX5_firstAt 24 = .ok (.iconst (-1), 1) := dk_2 (dk_at dksX5_firstAt_1 0 rfl rfl)
theorem dX5_firstAt_25 : decode cX5_firstAt 25 = .ok (.if_icmp .eq 19, 3) := dk_159 0 19 (dk_at dksX5_firstAt_1 1 rfl rfl)
theorem dX5_firstAt_28 : decode cX5_firstAt 28 = .ok (.aload_n 0, 1) := dk_42 (dk_at dksX5_firstAt_1 4 rfl rfl)
theorem dX5_firstAt_29 : decode cX5_firstAt 29 = .ok (.iload_n 3, 1) := dk_29 (dk_at dksX5_firstAt_1 5 rfl rfl)
theorem dX5_firstAt_30 : decode cX5_firstAt 30 = .ok (.invokevirtual 154, 3) := dk_182 0 154 (dk_at dksX5_firstAt_1 6 rfl rfl)
theorem dX5_firstAt_33 : decode cX5_firstAt 33 = .ok (.aload_n 0, 1) := dk_42 (dk_at dksX5_firstAt_1 9 rfl rfl)
theorem dX5_firstAt_34 : decode cX5_firstAt 34 = .ok (.iload_n 2, 1) := dk_28 (dk_at dksX5_firstAt_1 10 rfl rfl)
theorem dX5_firstAt_35 : decode cX5_firstAt 35 = .ok (.invokevirtual 154, 3) := dk_182 0 154 (dk_at dksX5_firstAt_1 11 rfl rfl)
theorem dX5_firstAt_38 : decode cX5_firstAt 38 = .ok (.if_icmp .gt 6, 3) := dk_163 0 6 (dk_at dksX5_firstAt_1 14 rfl rfl)
theorem dX5_firstAt_41 : decode cX5_firstAt 41 = .ok (.goto 55, 3) := dk_167 0 55 (dk_at dksX5_firstAt_1 17 rfl rfl)
theorem dX5_firstAt_44 : decode cX5_firstAt 44 = .ok (.aload_n 0, 1) := dk_42 (dk_at dksX5_firstAt_1 20 rfl rfl)
theorem dX5_firstAt_45 : decode cX5_firstAt 45 = .ok (.iload_n 3, 1) := dk_29 (dk_at dksX5_firstAt_1 21 rfl rfl)
theorem dX5_firstAt_46 : decode cX5_firstAt 46 = .ok (.invokevirtual 160, 3) := dk_182 0 160 (dk_at dksX5_firstAt_2 0 rfl rfl)
theorem dX5_firstAt_49 : decode cX5_firstAt 49 = .ok (.aload_n 0, 1) := dk_42 (dk_at dksX5_firstAt_2 3 rfl rfl)
theorem dX5_firstAt_50 : decode cX5_firstAt 50 = .ok (.iload_n 3, 1) := dk_29 (dk_at dksX5_firstAt_2 4 rfl rfl)
theorem dX5_firstAt_51 : decode cX5_firstAt 51 = .ok (.iload_n 1, 1) := dk_27 (dk_at dksX5_firstAt_2 5 rfl rfl)
theorem dX5_firstAt_52 : decode cX5_firstAt 52 = .ok (.invokevirtual 163, 3) := dk_182 0 163 (dk_at dksX5_firstAt_2 6 rfl rfl)
theorem dX5_firstAt_55 : decode cX5_firstAt 55 = .ok (.if_icmp .lt 27, 3) := dk_161 0 27 (dk_at dksX5_firstAt_2 9 rfl rfl)
theorem dX5_firstAt_58 : decode cX5_firstAt 58 = .ok (.aload_n 0, 1) := dk_42 (dk_at dksX5_firstAt_2 12 rfl rfl)
theorem dX5_firstAt_59 : decode cX5_firstAt 59 = .ok (.iload_n 1, 1) := dk_27 (dk_at dksX5_firstAt_2 13 rfl rfl)
theorem dX5_firstAt_60 : decode cX5_firstAt 60 = .ok (.aload_n 0, 1) := dk_42 (dk_at dksX5_firstAt_2 14 rfl rfl)
theorem dX5_firstAt_61 : decode cX5_firstAt 61 = .ok (.getfield 9, 3) := dk_180 0 9 (dk_at dksX5_firstAt_2 15 rfl rfl)
theorem dX5_firstAt_64 : decode cX5_firstAt 64 = .ok (.iload_n 3, 1) := dk_29 (dk_at dksX5_firstAt_2 18 rfl rfl)
theorem dX5_firstAt_65 : decode cX5_firstAt 65 = .ok (.invokestatic 109, 3) := dk_184 0 109 (dk_at dksX5_firstAt_2 19 rfl rfl)
theorem dX5_firstAt_68 : decode cX5_firstAt 68 = .ok (.iconst 1, 1) := dk_4 (dk_at dksX5_firstAt_2 22 rfl rfl)
theorem dX5_firstAt_69 : decode cX5_firstAt 69 = .ok (.iadd, 1) := dk_96 (dk_at dksX5_firstAt_2 23 rfl rfl)
theorem dX5_firstAt_70 : decode cX5_firstAt 70 = .ok (.iaload, 1) := dk_46 (dk_at dksX5_firstAt_3 0 rfl rfl)
theorem dX5_firstAt_71 : decode cX5_firstAt 71 = .ok (.invokevirtual 166, 3) := dk_182 0 166 (dk_at dksX5_firstAt_3 1 rfl rfl)
theorem dX5_firstAt_74 : decode cX5_firstAt 74 = .ok (.iconst (-1), 1) := dk_2 (dk_at dksX5_firstAt_3 4 rfl rfl)
theorem dX5_firstAt_75 : decode cX5_firstAt 75 = .ok (.if_icmp .eq 7, 3) := dk_159 0 7 (dk_at dksX5_firstAt_3 5 rfl rfl)
theorem dX5_firstAt_78 : decode cX5_firstAt 78 = .ok (.iconst 1, 1) := dk_4 (dk_at dksX5_firstAt_3 8 rfl rfl)
theorem dX5_firstAt_79 : decode cX5_firstAt 79 = .ok (.goto 4, 3) := dk_167 0 4 (dk_at dksX5_firstAt_3 9 rfl rfl)
theorem dX5_firstAt_82 : decode cX5_firstAt 82 = .ok (.iconst 0, 1) := dk_3 (dk_at dksX5_firstAt_3 12 rfl rfl)
theorem dX5_firstAt_83 : decode cX5_firstAt 83 = .ok (.istore 4, 2) := dk_54 4 (dk_at dksX5_firstAt_3 13 rfl rfl)
theorem dX5_firstAt_85 : decode cX5_firstAt 85 = .ok (.iload 4, 2) := dk_21 4 (dk_at dksX5_firstAt_3 15 rfl rfl)
theorem dX5_firstAt_87 : decode cX5_firstAt 87 = .ok (.ifCond .eq 7, 3) := dk_153 0 7 (dk_at dksX5_firstAt_3 17 rfl rfl)
theorem dX5_firstAt_90 : decode cX5_firstAt 90 = .ok (.iload_n 3, 1) := dk_29 (dk_at dksX5_firstAt_3 20 rfl rfl)
theorem dX5_firstAt_91 : decode cX5_firstAt 91 = .ok (.goto 4, 3) := dk_167 0 4 (dk_at dksX5_firstAt_3 21 rfl rfl)
theorem dX5_firstAt_94 : decode cX5_firstAt 94 = .ok (.iload_n 2, 1) := dk_28 (dk_at dksX5_firstAt_4 0 rfl rfl)
theorem dX5_firstAt_95 : decode cX5_firstAt 95 = .ok (.istore_n 2, 1) := dk_61 (dk_at dksX5_firstAt_4 1 rfl rfl)
theorem dX5_firstAt_96 : decode cX5_firstAt 96 = .ok (.iinc 3 1, 3) := dk_132 3 1 (dk_at dksX5_firstAt_4 2 rfl rfl)
theorem dX5_firstAt_99 : decode cX5_firstAt 99 = .ok (.goto (-95), 3) := dk_167 255 161 (dk_at dksX5_firstAt_4 5 rfl rfl)
theorem dX5_firstAt_102 : decode cX5_firstAt 102 = .ok (.iload_n 2, 1) := dk_28 (dk_at dksX5_firstAt_4 8 rfl rfl)
theorem dX5_firstAt_103 : decode cX5_firstAt 103 = .ok (.ireturn, 1) := dk_172 (dk_at dksX5_firstAt_4 9 rfl rfl)
abbrev cX5_waitsAt : ByteArray := prog_15_method_27_code
def yX5_waitsAt : MethodName := ⟨RX5, "waitsAt", "(II)Z"⟩
def dkwX5_waitsAt_1 : List UInt8 := [46, 28, 160, 0, 7, 4, 167, 0, 4, 3, 172]
abbrev dktX5_waitsAt_1 : List UInt8 := dkwX5_waitsAt_1 ++ []
def dkwX5_waitsAt_0 : List UInt8 := [42, 180, 0, 9, 27, 184, 0, 109, 6, 96, 46, 154, 0, 22, 42, 180, 0, 9, 27, 184, 0, 109, 7, 96]
abbrev dktX5_waitsAt_0 : List UInt8 := dkwX5_waitsAt_0 ++ dktX5_waitsAt_1
theorem dksX5_waitsAt_0 : cX5_waitsAt.data.toList.drop 0 = dktX5_waitsAt_0 := by decide +kernel
theorem dksX5_waitsAt_1 : cX5_waitsAt.data.toList.drop 24 = dktX5_waitsAt_1 := dk_seg dksX5_waitsAt_0 24 rfl rfl
theorem dX5_waitsAt_0 : decode cX5_waitsAt 0 = .ok (.aload_n 0, 1) := dk_42 (dk_at dksX5_waitsAt_0 0 rfl rfl)
theorem dX5_waitsAt_1 : decode cX5_waitsAt 1 = .ok (.getfield 9, 3) := dk_180 0 9 (dk_at dksX5_waitsAt_0 1 rfl rfl)
theorem dX5_waitsAt_4 : decode cX5_waitsAt 4 = .ok (.iload_n 1, 1) := dk_27 (dk_at dksX5_waitsAt_0 4 rfl rfl)
theorem dX5_waitsAt_5 : decode cX5_waitsAt 5 = .ok (.invokestatic 109, 3) := dk_184 0 109 (dk_at dksX5_waitsAt_0 5 rfl rfl)
theorem dX5_waitsAt_8 : decode cX5_waitsAt 8 = .ok (.iconst 3, 1) := dk_6 (dk_at dksX5_waitsAt_0 8 rfl rfl)
theorem dX5_waitsAt_9 : decode cX5_waitsAt 9 = .ok (.iadd, 1) := dk_96 (dk_at dksX5_waitsAt_0 9 rfl rfl)
theorem dX5_waitsAt_10 : decode cX5_waitsAt 10 = .ok (.iaload, 1) := dk_46 (dk_at dksX5_waitsAt_0 10 rfl rfl)
theorem dX5_waitsAt_11 : decode cX5_waitsAt 11 = .ok (.ifCond .ne 22, 3) := dk_154 0 22 (dk_at dksX5_waitsAt_0 11 rfl rfl)
theorem dX5_waitsAt_14 : decode cX5_waitsAt 14 = .ok (.aload_n 0, 1) := dk_42 (dk_at dksX5_waitsAt_0 14 rfl rfl)
theorem dX5_waitsAt_15 : decode cX5_waitsAt 15 = .ok (.getfield 9, 3) := dk_180 0 9 (dk_at dksX5_waitsAt_0 15 rfl rfl)
theorem dX5_waitsAt_18 : decode cX5_waitsAt 18 = .ok (.iload_n 1, 1) := dk_27 (dk_at dksX5_waitsAt_0 18 rfl rfl)
theorem dX5_waitsAt_19 : decode cX5_waitsAt 19 = .ok (.invokestatic 109, 3) := dk_184 0 109 (dk_at dksX5_waitsAt_0 19 rfl rfl)
theorem dX5_waitsAt_22 : decode cX5_waitsAt 22 = .ok (.iconst 4, 1) := dk_7 (dk_at dksX5_waitsAt_0 22 rfl rfl)
theorem dX5_waitsAt_23 : decode cX5_waitsAt 23 = .ok (.iadd, 1) := dk_96 (dk_at dksX5_waitsAt_0 23 rfl rfl)
theorem dX5_waitsAt_24 : decode cX5_waitsAt 24 = .ok (.iaload, 1) := dk_46 (dk_at dksX5_waitsAt_1 0 rfl rfl)
theorem dX5_waitsAt_25 : decode cX5_waitsAt 25 = .ok (.iload_n 2, 1) := dk_28 (dk_at dksX5_waitsAt_1 1 rfl rfl)
theorem dX5_waitsAt_26 : decode cX5_waitsAt 26 = .ok (.if_icmp .ne 7, 3) := dk_160 0 7 (dk_at dksX5_waitsAt_1 2 rfl rfl)
theorem dX5_waitsAt_29 : decode cX5_waitsAt 29 = .ok (.iconst 1, 1) := dk_4 (dk_at dksX5_waitsAt_1 5 rfl rfl)
theorem dX5_waitsAt_30 : decode cX5_waitsAt 30 = .ok (.goto 4, 3) := dk_167 0 4 (dk_at dksX5_waitsAt_1 6 rfl rfl)
theorem dX5_waitsAt_33 : decode cX5_waitsAt 33 = .ok (.iconst 0, 1) := dk_3 (dk_at dksX5_waitsAt_1 9 rfl rfl)
theorem dX5_waitsAt_34 : decode cX5_waitsAt 34 = .ok (.ireturn, 1) := dk_172 (dk_at dksX5_waitsAt_1 10 rfl rfl)
abbrev cX5_bars : ByteArray := prog_15_method_26_code
def yX5_bars : MethodName := ⟨RX5, "bars", "(I)I"⟩
def dkwX5_bars_0 : List UInt8 := [42, 42, 180, 0, 9, 27, 184, 0, 109, 5, 96, 46, 182, 0, 112, 172]
abbrev dktX5_bars_0 : List UInt8 := dkwX5_bars_0 ++ []
theorem dksX5_bars_0 : cX5_bars.data.toList.drop 0 = dktX5_bars_0 := by decide +kernel
theorem dX5_bars_0 : decode cX5_bars 0 = .ok (.aload_n 0, 1) := dk_42 (dk_at dksX5_bars_0 0 rfl rfl)
theorem dX5_bars_1 : decode cX5_bars 1 = .ok (.aload_n 0, 1) := dk_42 (dk_at dksX5_bars_0 1 rfl rfl)
theorem dX5_bars_2 : decode cX5_bars 2 = .ok (.getfield 9, 3) := dk_180 0 9 (dk_at dksX5_bars_0 2 rfl rfl)
theorem dX5_bars_5 : decode cX5_bars 5 = .ok (.iload_n 1, 1) := dk_27 (dk_at dksX5_bars_0 5 rfl rfl)
theorem dX5_bars_6 : decode cX5_bars 6 = .ok (.invokestatic 109, 3) := dk_184 0 109 (dk_at dksX5_bars_0 6 rfl rfl)
theorem dX5_bars_9 : decode cX5_bars 9 = .ok (.iconst 2, 1) := dk_5 (dk_at dksX5_bars_0 9 rfl rfl)
theorem dX5_bars_10 : decode cX5_bars 10 = .ok (.iadd, 1) := dk_96 (dk_at dksX5_bars_0 10 rfl rfl)
theorem dX5_bars_11 : decode cX5_bars 11 = .ok (.iaload, 1) := dk_46 (dk_at dksX5_bars_0 11 rfl rfl)
theorem dX5_bars_12 : decode cX5_bars 12 = .ok (.invokevirtual 112, 3) := dk_182 0 112 (dk_at dksX5_bars_0 12 rfl rfl)
theorem dX5_bars_15 : decode cX5_bars 15 = .ok (.ireturn, 1) := dk_172 (dk_at dksX5_bars_0 15 rfl rfl)
abbrev cX5_barsOf : ByteArray := prog_15_method_25_code
def yX5_barsOf : MethodName := ⟨RX5, "barsOf", "(I)I"⟩
def dkwX5_barsOf_0 : List UInt8 := [27, 6, 96, 7, 108, 172]
abbrev dktX5_barsOf_0 : List UInt8 := dkwX5_barsOf_0 ++ []
theorem dksX5_barsOf_0 : cX5_barsOf.data.toList.drop 0 = dktX5_barsOf_0 := by decide +kernel
theorem dX5_barsOf_0 : decode cX5_barsOf 0 = .ok (.iload_n 1, 1) := dk_27 (dk_at dksX5_barsOf_0 0 rfl rfl)
theorem dX5_barsOf_1 : decode cX5_barsOf 1 = .ok (.iconst 3, 1) := dk_6 (dk_at dksX5_barsOf_0 1 rfl rfl)
theorem dX5_barsOf_2 : decode cX5_barsOf 2 = .ok (.iadd, 1) := dk_96 (dk_at dksX5_barsOf_0 2 rfl rfl)
theorem dX5_barsOf_3 : decode cX5_barsOf 3 = .ok (.iconst 4, 1) := dk_7 (dk_at dksX5_barsOf_0 3 rfl rfl)
theorem dX5_barsOf_4 : decode cX5_barsOf 4 = .ok (.idiv, 1) := dk_108 (dk_at dksX5_barsOf_0 4 rfl rfl)
theorem dX5_barsOf_5 : decode cX5_barsOf 5 = .ok (.ireturn, 1) := dk_172 (dk_at dksX5_barsOf_0 5 rfl rfl)
abbrev cX5_purseFor : ByteArray := prog_15_method_36_code
def yX5_purseFor : MethodName := ⟨RX5, "purseFor", "(I)I"⟩
def dkwX5_purseFor_0 : List UInt8 := [42, 180, 0, 9, 42, 180, 0, 9, 27, 184, 0, 109, 3, 96, 46, 184, 0, 84, 16, 10, 96, 46, 172]
abbrev dktX5_purseFor_0 : List UInt8 := dkwX5_purseFor_0 ++ []
theorem dksX5_purseFor_0 : cX5_purseFor.data.toList.drop 0 = dktX5_purseFor_0 := by decide +kernel
theorem dX5_purseFor_0 : decode cX5_purseFor 0 = .ok (.aload_n 0, 1) := dk_42 (dk_at dksX5_purseFor_0 0 rfl rfl)
theorem dX5_purseFor_1 : decode cX5_purseFor 1 = .ok (.getfield 9, 3) := dk_180 0 9 (dk_at dksX5_purseFor_0 1 rfl rfl)
theorem dX5_purseFor_4 : decode cX5_purseFor 4 = .ok (.aload_n 0, 1) := dk_42 (dk_at dksX5_purseFor_0 4 rfl rfl)
theorem dX5_purseFor_5 : decode cX5_purseFor 5 = .ok (.getfield 9, 3) := dk_180 0 9 (dk_at dksX5_purseFor_0 5 rfl rfl)
theorem dX5_purseFor_8 : decode cX5_purseFor 8 = .ok (.iload_n 1, 1) := dk_27 (dk_at dksX5_purseFor_0 8 rfl rfl)
theorem dX5_purseFor_9 : decode cX5_purseFor 9 = .ok (.invokestatic 109, 3) := dk_184 0 109 (dk_at dksX5_purseFor_0 9 rfl rfl)
theorem dX5_purseFor_12 : decode cX5_purseFor 12 = .ok (.iconst 0, 1) := dk_3 (dk_at dksX5_purseFor_0 12 rfl rfl)
theorem dX5_purseFor_13 : decode cX5_purseFor 13 = .ok (.iadd, 1) := dk_96 (dk_at dksX5_purseFor_0 13 rfl rfl)
theorem dX5_purseFor_14 : decode cX5_purseFor 14 = .ok (.iaload, 1) := dk_46 (dk_at dksX5_purseFor_0 14 rfl rfl)
theorem dX5_purseFor_15 : decode cX5_purseFor 15 = .ok (.invokestatic 84, 3) := dk_184 0 84 (dk_at dksX5_purseFor_0 15 rfl rfl)
theorem dX5_purseFor_18 : decode cX5_purseFor 18 = .ok (.bipush 10, 2) := dk_16 10 (dk_at dksX5_purseFor_0 18 rfl rfl)
theorem dX5_purseFor_20 : decode cX5_purseFor 20 = .ok (.iadd, 1) := dk_96 (dk_at dksX5_purseFor_0 20 rfl rfl)
theorem dX5_purseFor_21 : decode cX5_purseFor 21 = .ok (.iaload, 1) := dk_46 (dk_at dksX5_purseFor_0 21 rfl rfl)
theorem dX5_purseFor_22 : decode cX5_purseFor 22 = .ok (.ireturn, 1) := dk_172 (dk_at dksX5_purseFor_0 22 rfl rfl)
abbrev cX5_feeAt : ByteArray := prog_15_method_35_code
def yX5_feeAt : MethodName := ⟨RX5, "feeAt", "(II)I"⟩
def dkwX5_feeAt_0 : List UInt8 := [42, 180, 0, 9, 28, 184, 0, 84, 16, 9, 96, 46, 42, 27, 182, 0, 154, 104, 172]
abbrev dktX5_feeAt_0 : List UInt8 := dkwX5_feeAt_0 ++ []
theorem dksX5_feeAt_0 : cX5_feeAt.data.toList.drop 0 = dktX5_feeAt_0 := by decide +kernel
theorem dX5_feeAt_0 : decode cX5_feeAt 0 = .ok (.aload_n 0, 1) := dk_42 (dk_at dksX5_feeAt_0 0 rfl rfl)
theorem dX5_feeAt_1 : decode cX5_feeAt 1 = .ok (.getfield 9, 3) := dk_180 0 9 (dk_at dksX5_feeAt_0 1 rfl rfl)
theorem dX5_feeAt_4 : decode cX5_feeAt 4 = .ok (.iload_n 2, 1) := dk_28 (dk_at dksX5_feeAt_0 4 rfl rfl)
theorem dX5_feeAt_5 : decode cX5_feeAt 5 = .ok (.invokestatic 84, 3) := dk_184 0 84 (dk_at dksX5_feeAt_0 5 rfl rfl)
theorem dX5_feeAt_8 : decode cX5_feeAt 8 = .ok (.bipush 9, 2) := dk_16 9 (dk_at dksX5_feeAt_0 8 rfl rfl)
theorem dX5_feeAt_10 : decode cX5_feeAt 10 = .ok (.iadd, 1) := dk_96 (dk_at dksX5_feeAt_0 10 rfl rfl)
theorem dX5_feeAt_11 : decode cX5_feeAt 11 = .ok (.iaload, 1) := dk_46 (dk_at dksX5_feeAt_0 11 rfl rfl)
theorem dX5_feeAt_12 : decode cX5_feeAt 12 = .ok (.aload_n 0, 1) := dk_42 (dk_at dksX5_feeAt_0 12 rfl rfl)
theorem dX5_feeAt_13 : decode cX5_feeAt 13 = .ok (.iload_n 1, 1) := dk_27 (dk_at dksX5_feeAt_0 13 rfl rfl)
theorem dX5_feeAt_14 : decode cX5_feeAt 14 = .ok (.invokevirtual 154, 3) := dk_182 0 154 (dk_at dksX5_feeAt_0 14 rfl rfl)
theorem dX5_feeAt_17 : decode cX5_feeAt 17 = .ok (.imul, 1) := dk_104 (dk_at dksX5_feeAt_0 17 rfl rfl)
theorem dX5_feeAt_18 : decode cX5_feeAt 18 = .ok (.ireturn, 1) := dk_172 (dk_at dksX5_feeAt_0 18 rfl rfl)
abbrev cX5_nextTo : ByteArray := prog_15_method_23_code
def yX5_nextTo : MethodName := ⟨RX5, "nextTo", "(II)I"⟩
def dkwX5_nextTo_5 : List UInt8 := [162, 0, 8, 21, 5, 167, 0, 4, 29, 62, 132, 4, 1, 167, 255, 150, 29, 172]
abbrev dktX5_nextTo_5 : List UInt8 := dkwX5_nextTo_5 ++ []
def dkwX5_nextTo_4 : List UInt8 := [160, 0, 7, 4, 167, 0, 4, 3, 54, 6, 21, 6, 153, 0, 19, 29, 2, 159, 0, 9, 21, 5, 29]
abbrev dktX5_nextTo_4 : List UInt8 := dkwX5_nextTo_4 ++ dktX5_nextTo_5
def dkwX5_nextTo_3 : List UInt8 := [21, 5, 46, 42, 180, 0, 9, 21, 4, 184, 0, 88, 5, 96, 46, 96, 42, 180, 0, 25, 27, 46]
abbrev dktX5_nextTo_3 : List UInt8 := dkwX5_nextTo_3 ++ dktX5_nextTo_4
def dkwX5_nextTo_2 : List UInt8 := [21, 4, 27, 182, 0, 95, 54, 5, 42, 180, 0, 25, 21, 5, 46, 2, 159, 0, 36, 42, 180, 0, 25]
abbrev dktX5_nextTo_2 : List UInt8 := dkwX5_nextTo_2 ++ dktX5_nextTo_3
def dkwX5_nextTo_1 : List UInt8 := [42, 180, 0, 9, 4, 46, 162, 0, 101, 42, 21, 4, 27, 182, 0, 91, 154, 0, 6, 167, 0, 82, 42]
abbrev dktX5_nextTo_1 : List UInt8 := dkwX5_nextTo_1 ++ dktX5_nextTo_2
def dkwX5_nextTo_0 : List UInt8 := [27, 28, 159, 0, 13, 42, 27, 28, 182, 0, 106, 2, 160, 0, 5, 2, 172, 2, 62, 3, 54, 4, 21, 4]
abbrev dktX5_nextTo_0 : List UInt8 := dkwX5_nextTo_0 ++ dktX5_nextTo_1
theorem dksX5_nextTo_0 : cX5_nextTo.data.toList.drop 0 = dktX5_nextTo_0 := by decide +kernel
theorem dksX5_nextTo_1 : cX5_nextTo.data.toList.drop 24 = dktX5_nextTo_1 := dk_seg dksX5_nextTo_0 24 rfl rfl
theorem dksX5_nextTo_2 : cX5_nextTo.data.toList.drop 47 = dktX5_nextTo_2 := dk_seg dksX5_nextTo_1 23 rfl rfl
theorem dksX5_nextTo_3 : cX5_nextTo.data.toList.drop 70 = dktX5_nextTo_3 := dk_seg dksX5_nextTo_2 23 rfl rfl
theorem dksX5_nextTo_4 : cX5_nextTo.data.toList.drop 92 = dktX5_nextTo_4 := dk_seg dksX5_nextTo_3 22 rfl rfl
theorem dksX5_nextTo_5 : cX5_nextTo.data.toList.drop 115 = dktX5_nextTo_5 := dk_seg dksX5_nextTo_4 23 rfl rfl
theorem dX5_nextTo_0 : decode cX5_nextTo 0 = .ok (.iload_n 1, 1) := dk_27 (dk_at dksX5_nextTo_0 0 rfl rfl)
theorem dX5_nextTo_1 : decode cX5_nextTo 1 = .ok (.iload_n 2, 1) := dk_28 (dk_at dksX5_nextTo_0 1 rfl rfl)
theorem dX5_nextTo_2 : decode cX5_nextTo 2 = .ok (.if_icmp .eq 13, 3) := dk_159 0 13 (dk_at dksX5_nextTo_0 2 rfl rfl)
theorem dX5_nextTo_5 : decode cX5_nextTo 5 = .ok (.aload_n 0, 1) := dk_42 (dk_at dksX5_nextTo_0 5 rfl rfl)
theorem dX5_nextTo_6 : decode cX5_nextTo 6 = .ok (.iload_n 1, 1) := dk_27 (dk_at dksX5_nextTo_0 6 rfl rfl)
theorem dX5_nextTo_7 : decode cX5_nextTo 7 = .ok (.iload_n 2, 1) := dk_28 (dk_at dksX5_nextTo_0 7 rfl rfl)
theorem dX5_nextTo_8 : decode cX5_nextTo 8 = .ok (.invokevirtual 106, 3) := dk_182 0 106 (dk_at dksX5_nextTo_0 8 rfl rfl)
theorem dX5_nextTo_11 : decode cX5_nextTo 11 = .ok (.iconst (-1), 1) := dk_2 (dk_at dksX5_nextTo_0 11 rfl rfl)
theorem dX5_nextTo_12 : decode cX5_nextTo 12 = .ok (.if_icmp .ne 5, 3) := dk_160 0 5 (dk_at dksX5_nextTo_0 12 rfl rfl)
theorem dX5_nextTo_15 : decode cX5_nextTo 15 = .ok (.iconst (-1), 1) := dk_2 (dk_at dksX5_nextTo_0 15 rfl rfl)
theorem dX5_nextTo_16 : decode cX5_nextTo 16 = .ok (.ireturn, 1) := dk_172 (dk_at dksX5_nextTo_0 16 rfl rfl)
theorem dX5_nextTo_17 : decode cX5_nextTo 17 = .ok (.iconst (-1), 1) := dk_2 (dk_at dksX5_nextTo_0 17 rfl rfl)
theorem dX5_nextTo_18 : decode cX5_nextTo 18 = .ok (.istore_n 3, 1) := dk_62 (dk_at dksX5_nextTo_0 18 rfl rfl)
theorem dX5_nextTo_19 : decode cX5_nextTo 19 = .ok (.iconst 0, 1) := dk_3 (dk_at dksX5_nextTo_0 19 rfl rfl)
theorem dX5_nextTo_20 : decode cX5_nextTo 20 = .ok (.istore 4, 2) := dk_54 4 (dk_at dksX5_nextTo_0 20 rfl rfl)
theorem dX5_nextTo_22 : decode cX5_nextTo 22 = .ok (.iload 4, 2) := dk_21 4 (dk_at dksX5_nextTo_0 22 rfl rfl)
theorem dX5_nextTo_24 : decode cX5_nextTo 24 = .ok (.aload_n 0, 1) := dk_42 (dk_at dksX5_nextTo_1 0 rfl rfl)
theorem dX5_nextTo_25 : decode cX5_nextTo 25 = .ok (.getfield 9, 3) := dk_180 0 9 (dk_at dksX5_nextTo_1 1 rfl rfl)
theorem dX5_nextTo_28 : decode cX5_nextTo 28 = .ok (.iconst 1, 1) := dk_4 (dk_at dksX5_nextTo_1 4 rfl rfl)
theorem dX5_nextTo_29 : decode cX5_nextTo 29 = .ok (.iaload, 1) := dk_46 (dk_at dksX5_nextTo_1 5 rfl rfl)
theorem dX5_nextTo_30 : decode cX5_nextTo 30 = .ok (.if_icmp .ge 101, 3) := dk_162 0 101 (dk_at dksX5_nextTo_1 6 rfl rfl)
theorem dX5_nextTo_33 : decode cX5_nextTo 33 = .ok (.aload_n 0, 1) := dk_42 (dk_at dksX5_nextTo_1 9 rfl rfl)
theorem dX5_nextTo_34 : decode cX5_nextTo 34 = .ok (.iload 4, 2) := dk_21 4 (dk_at dksX5_nextTo_1 10 rfl rfl)
theorem dX5_nextTo_36 : decode cX5_nextTo 36 = .ok (.iload_n 1, 1) := dk_27 (dk_at dksX5_nextTo_1 12 rfl rfl)
theorem dX5_nextTo_37 : decode cX5_nextTo 37 = .ok (.invokevirtual 91, 3) := dk_182 0 91 (dk_at dksX5_nextTo_1 13 rfl rfl)
theorem dX5_nextTo_40 : decode cX5_nextTo 40 = .ok (.ifCond .ne 6, 3) := dk_154 0 6 (dk_at dksX5_nextTo_1 16 rfl rfl)
theorem dX5_nextTo_43 : decode cX5_nextTo 43 = .ok (.goto 82, 3) := dk_167 0 82 (dk_at dksX5_nextTo_1 19 rfl rfl)
theorem dX5_nextTo_46 : decode cX5_nextTo 46 = .ok (.aload_n 0, 1) := dk_42 (dk_at dksX5_nextTo_1 22 rfl rfl)
theorem dX5_nextTo_47 : decode cX5_nextTo 47 = .ok (.iload 4, 2) := dk_21 4 (dk_at dksX5_nextTo_2 0 rfl rfl)
theorem dX5_nextTo_49 : decode cX5_nextTo 49 = .ok (.iload_n 1, 1) := dk_27 (dk_at dksX5_nextTo_2 2 rfl rfl)
theorem dX5_nextTo_50 : decode cX5_nextTo 50 = .ok (.invokevirtual 95, 3) := dk_182 0 95 (dk_at dksX5_nextTo_2 3 rfl rfl)
theorem dX5_nextTo_53 : decode cX5_nextTo 53 = .ok (.istore 5, 2) := dk_54 5 (dk_at dksX5_nextTo_2 6 rfl rfl)
theorem dX5_nextTo_55 : decode cX5_nextTo 55 = .ok (.aload_n 0, 1) := dk_42 (dk_at dksX5_nextTo_2 8 rfl rfl)
theorem dX5_nextTo_56 : decode cX5_nextTo 56 = .ok (.getfield 25, 3) := dk_180 0 25 (dk_at dksX5_nextTo_2 9 rfl rfl)
theorem dX5_nextTo_59 : decode cX5_nextTo 59 = .ok (.iload 5, 2) := dk_21 5 (dk_at dksX5_nextTo_2 12 rfl rfl)
theorem dX5_nextTo_61 : decode cX5_nextTo 61 = .ok (.iaload, 1) := dk_46 (dk_at dksX5_nextTo_2 14 rfl rfl)
theorem dX5_nextTo_62 : decode cX5_nextTo 62 = .ok (.iconst (-1), 1) := dk_2 (dk_at dksX5_nextTo_2 15 rfl rfl)
theorem dX5_nextTo_63 : decode cX5_nextTo 63 = .ok (.if_icmp .eq 36, 3) := dk_159 0 36 (dk_at dksX5_nextTo_2 16 rfl rfl)
theorem dX5_nextTo_66 : decode cX5_nextTo 66 = .ok (.aload_n 0, 1) := dk_42 (dk_at dksX5_nextTo_2 19 rfl rfl)
theorem dX5_nextTo_67 : decode cX5_nextTo 67 = .ok (.getfield 25, 3) := dk_180 0 25 (dk_at dksX5_nextTo_2 20 rfl rfl)
theorem dX5_nextTo_70 : decode cX5_nextTo 70 = .ok (.iload 5, 2) := dk_21 5 (dk_at dksX5_nextTo_3 0 rfl rfl)
theorem dX5_nextTo_72 : decode cX5_nextTo 72 = .ok (.iaload, 1) := dk_46 (dk_at dksX5_nextTo_3 2 rfl rfl)
theorem dX5_nextTo_73 : decode cX5_nextTo 73 = .ok (.aload_n 0, 1) := dk_42 (dk_at dksX5_nextTo_3 3 rfl rfl)
theorem dX5_nextTo_74 : decode cX5_nextTo 74 = .ok (.getfield 9, 3) := dk_180 0 9 (dk_at dksX5_nextTo_3 4 rfl rfl)
theorem dX5_nextTo_77 : decode cX5_nextTo 77 = .ok (.iload 4, 2) := dk_21 4 (dk_at dksX5_nextTo_3 7 rfl rfl)
theorem dX5_nextTo_79 : decode cX5_nextTo 79 = .ok (.invokestatic 88, 3) := dk_184 0 88 (dk_at dksX5_nextTo_3 9 rfl rfl)
theorem dX5_nextTo_82 : decode cX5_nextTo 82 = .ok (.iconst 2, 1) := dk_5 (dk_at dksX5_nextTo_3 12 rfl rfl)
theorem dX5_nextTo_83 : decode cX5_nextTo 83 = .ok (.iadd, 1) := dk_96 (dk_at dksX5_nextTo_3 13 rfl rfl)
theorem dX5_nextTo_84 : decode cX5_nextTo 84 = .ok (.iaload, 1) := dk_46 (dk_at dksX5_nextTo_3 14 rfl rfl)
theorem dX5_nextTo_85 : decode cX5_nextTo 85 = .ok (.iadd, 1) := dk_96 (dk_at dksX5_nextTo_3 15 rfl rfl)
theorem dX5_nextTo_86 : decode cX5_nextTo 86 = .ok (.aload_n 0, 1) := dk_42 (dk_at dksX5_nextTo_3 16 rfl rfl)
theorem dX5_nextTo_87 : decode cX5_nextTo 87 = .ok (.getfield 25, 3) := dk_180 0 25 (dk_at dksX5_nextTo_3 17 rfl rfl)
theorem dX5_nextTo_90 : decode cX5_nextTo 90 = .ok (.iload_n 1, 1) := dk_27 (dk_at dksX5_nextTo_3 20 rfl rfl)
theorem dX5_nextTo_91 : decode cX5_nextTo 91 = .ok (.iaload, 1) := dk_46 (dk_at dksX5_nextTo_3 21 rfl rfl)
theorem dX5_nextTo_92 : decode cX5_nextTo 92 = .ok (.if_icmp .ne 7, 3) := dk_160 0 7 (dk_at dksX5_nextTo_4 0 rfl rfl)
theorem dX5_nextTo_95 : decode cX5_nextTo 95 = .ok (.iconst 1, 1) := dk_4 (dk_at dksX5_nextTo_4 3 rfl rfl)
theorem dX5_nextTo_96 : decode cX5_nextTo 96 = .ok (.goto 4, 3) := dk_167 0 4 (dk_at dksX5_nextTo_4 4 rfl rfl)
theorem dX5_nextTo_99 : decode cX5_nextTo 99 = .ok (.iconst 0, 1) := dk_3 (dk_at dksX5_nextTo_4 7 rfl rfl)
theorem dX5_nextTo_100 : decode cX5_nextTo 100 = .ok (.istore 6, 2) := dk_54 6 (dk_at dksX5_nextTo_4 8 rfl rfl)
theorem dX5_nextTo_102 : decode cX5_nextTo 102 = .ok (.iload 6, 2) := dk_21 6 (dk_at dksX5_nextTo_4 10 rfl rfl)
theorem dX5_nextTo_104 : decode cX5_nextTo 104 = .ok (.ifCond .eq 19, 3) := dk_153 0 19 (dk_at dksX5_nextTo_4 12 rfl rfl)
theorem dX5_nextTo_107 : decode cX5_nextTo 107 = .ok (.iload_n 3, 1) := dk_29 (dk_at dksX5_nextTo_4 15 rfl rfl)
theorem dX5_nextTo_108 : decode cX5_nextTo 108 = .ok (.iconst (-1), 1) := dk_2 (dk_at dksX5_nextTo_4 16 rfl rfl)
theorem dX5_nextTo_109 : decode cX5_nextTo 109 = .ok (.if_icmp .eq 9, 3) := dk_159 0 9 (dk_at dksX5_nextTo_4 17 rfl rfl)
theorem dX5_nextTo_112 : decode cX5_nextTo 112 = .ok (.iload 5, 2) := dk_21 5 (dk_at dksX5_nextTo_4 20 rfl rfl)
theorem dX5_nextTo_114 : decode cX5_nextTo 114 = .ok (.iload_n 3, 1) := dk_29 (dk_at dksX5_nextTo_4 22 rfl rfl)
theorem dX5_nextTo_115 : decode cX5_nextTo 115 = .ok (.if_icmp .ge 8, 3) := dk_162 0 8 (dk_at dksX5_nextTo_5 0 rfl rfl)
theorem dX5_nextTo_118 : decode cX5_nextTo 118 = .ok (.iload 5, 2) := dk_21 5 (dk_at dksX5_nextTo_5 3 rfl rfl)
theorem dX5_nextTo_120 : decode cX5_nextTo 120 = .ok (.goto 4, 3) := dk_167 0 4 (dk_at dksX5_nextTo_5 5 rfl rfl)
theorem dX5_nextTo_123 : decode cX5_nextTo 123 = .ok (.iload_n 3, 1) := dk_29 (dk_at dksX5_nextTo_5 8 rfl rfl)
theorem dX5_nextTo_124 : decode cX5_nextTo 124 = .ok (.istore_n 3, 1) := dk_62 (dk_at dksX5_nextTo_5 9 rfl rfl)
theorem dX5_nextTo_125 : decode cX5_nextTo 125 = .ok (.iinc 4 1, 3) := dk_132 4 1 (dk_at dksX5_nextTo_5 10 rfl rfl)
theorem dX5_nextTo_128 : decode cX5_nextTo 128 = .ok (.goto (-106), 3) := dk_167 255 150 (dk_at dksX5_nextTo_5 13 rfl rfl)
theorem dX5_nextTo_131 : decode cX5_nextTo 131 = .ok (.iload_n 3, 1) := dk_29 (dk_at dksX5_nextTo_5 16 rfl rfl)
theorem dX5_nextTo_132 : decode cX5_nextTo 132 = .ok (.ireturn, 1) := dk_172 (dk_at dksX5_nextTo_5 17 rfl rfl)
abbrev cX5_sumTo : ByteArray := prog_15_method_22_code
def yX5_sumTo : MethodName := ⟨RX5, "sumTo", "(II)I"⟩
def dkwX5_sumTo_0 : List UInt8 := [42, 28, 2, 182, 0, 102, 42, 180, 0, 25, 27, 46, 172]
abbrev dktX5_sumTo_0 : List UInt8 := dkwX5_sumTo_0 ++ []
theorem dksX5_sumTo_0 : cX5_sumTo.data.toList.drop 0 = dktX5_sumTo_0 := by decide +kernel
theorem dX5_sumTo_0 : decode cX5_sumTo 0 = .ok (.aload_n 0, 1) := dk_42 (dk_at dksX5_sumTo_0 0 rfl rfl)
theorem dX5_sumTo_1 : decode cX5_sumTo 1 = .ok (.iload_n 2, 1) := dk_28 (dk_at dksX5_sumTo_0 1 rfl rfl)
theorem dX5_sumTo_2 : decode cX5_sumTo 2 = .ok (.iconst (-1), 1) := dk_2 (dk_at dksX5_sumTo_0 2 rfl rfl)
theorem dX5_sumTo_3 : decode cX5_sumTo 3 = .ok (.invokevirtual 102, 3) := dk_182 0 102 (dk_at dksX5_sumTo_0 3 rfl rfl)
theorem dX5_sumTo_6 : decode cX5_sumTo 6 = .ok (.aload_n 0, 1) := dk_42 (dk_at dksX5_sumTo_0 6 rfl rfl)
theorem dX5_sumTo_7 : decode cX5_sumTo 7 = .ok (.getfield 25, 3) := dk_180 0 25 (dk_at dksX5_sumTo_0 7 rfl rfl)
theorem dX5_sumTo_10 : decode cX5_sumTo 10 = .ok (.iload_n 1, 1) := dk_27 (dk_at dksX5_sumTo_0 10 rfl rfl)
theorem dX5_sumTo_11 : decode cX5_sumTo 11 = .ok (.iaload, 1) := dk_46 (dk_at dksX5_sumTo_0 11 rfl rfl)
theorem dX5_sumTo_12 : decode cX5_sumTo 12 = .ok (.ireturn, 1) := dk_172 (dk_at dksX5_sumTo_0 12 rfl rfl)
abbrev cX5_reckons : ByteArray := prog_15_method_21_code
def yX5_reckons : MethodName := ⟨RX5, "reckons", "(II)V"⟩
def dkwX5_reckons_4 : List UInt8 := [128, 62, 132, 4, 1, 167, 255, 196, 167, 255, 184, 177]
abbrev dktX5_reckons_4 : List UInt8 := dkwX5_reckons_4 ++ []
def dkwX5_reckons_3 : List UInt8 := [182, 0, 99, 128, 62, 29, 42, 21, 4, 42, 180, 0, 9, 21, 4, 184, 0, 88, 4, 96, 46, 182, 0, 99]
abbrev dktX5_reckons_3 : List UInt8 := dkwX5_reckons_3 ++ dktX5_reckons_4
def dkwX5_reckons_2 : List UInt8 := [46, 162, 0, 55, 21, 4, 28, 159, 0, 43, 29, 42, 21, 4, 42, 180, 0, 9, 21, 4, 184, 0, 88, 46]
abbrev dktX5_reckons_2 : List UInt8 := dkwX5_reckons_2 ++ dktX5_reckons_3
def dkwX5_reckons_1 : List UInt8 := [132, 3, 1, 167, 255, 231, 4, 62, 29, 153, 0, 74, 3, 62, 3, 54, 4, 21, 4, 42, 180, 0, 9, 4]
abbrev dktX5_reckons_1 : List UInt8 := dkwX5_reckons_1 ++ dktX5_reckons_2
def dkwX5_reckons_0 : List UInt8 := [3, 62, 29, 16, 10, 162, 0, 25, 42, 180, 0, 25, 29, 29, 27, 160, 0, 7, 3, 167, 0, 4, 2, 79]
abbrev dktX5_reckons_0 : List UInt8 := dkwX5_reckons_0 ++ dktX5_reckons_1
theorem dksX5_reckons_0 : cX5_reckons.data.toList.drop 0 = dktX5_reckons_0 := by decide +kernel
theorem dksX5_reckons_1 : cX5_reckons.data.toList.drop 24 = dktX5_reckons_1 := dk_seg dksX5_reckons_0 24 rfl rfl
theorem dksX5_reckons_2 : cX5_reckons.data.toList.drop 48 = dktX5_reckons_2 := dk_seg dksX5_reckons_1 24 rfl rfl
theorem dksX5_reckons_3 : cX5_reckons.data.toList.drop 72 = dktX5_reckons_3 := dk_seg dksX5_reckons_2 24 rfl rfl
theorem dksX5_reckons_4 : cX5_reckons.data.toList.drop 96 = dktX5_reckons_4 := dk_seg dksX5_reckons_3 24 rfl rfl
theorem dX5_reckons_0 : decode cX5_reckons 0 = .ok (.iconst 0, 1) := dk_3 (dk_at dksX5_reckons_0 0 rfl rfl)
theorem dX5_reckons_1 : decode cX5_reckons 1 = .ok (.istore_n 3, 1) := dk_62 (dk_at dksX5_reckons_0 1 rfl rfl)
theorem dX5_reckons_2 : decode cX5_reckons 2 = .ok (.iload_n 3, 1) := dk_29 (dk_at dksX5_reckons_0 2 rfl rfl)
theorem dX5_reckons_3 : decode cX5_reckons 3 = .ok (.bipush 10, 2) := dk_16 10 (dk_at dksX5_reckons_0 3 rfl rfl)
theorem dX5_reckons_5 : decode cX5_reckons 5 = .ok (.if_icmp .ge 25, 3) := dk_162 0 25 (dk_at dksX5_reckons_0 5 rfl rfl)
theorem dX5_reckons_8 : decode cX5_reckons 8 = .ok (.aload_n 0, 1) := dk_42 (dk_at dksX5_reckons_0 8 rfl rfl)
theorem dX5_reckons_9 : decode cX5_reckons 9 = .ok (.getfield 25, 3) := dk_180 0 25 (dk_at dksX5_reckons_0 9 rfl rfl)
theorem dX5_reckons_12 : decode cX5_reckons 12 = .ok (.iload_n 3, 1) := dk_29 (dk_at dksX5_reckons_0 12 rfl rfl)
theorem dX5_reckons_13 : decode cX5_reckons 13 = .ok (.iload_n 3, 1) := dk_29 (dk_at dksX5_reckons_0 13 rfl rfl)
theorem dX5_reckons_14 : decode cX5_reckons 14 = .ok (.iload_n 1, 1) := dk_27 (dk_at dksX5_reckons_0 14 rfl rfl)
theorem dX5_reckons_15 : decode cX5_reckons 15 = .ok (.if_icmp .ne 7, 3) := dk_160 0 7 (dk_at dksX5_reckons_0 15 rfl rfl)
theorem dX5_reckons_18 : decode cX5_reckons 18 = .ok (.iconst 0, 1) := dk_3 (dk_at dksX5_reckons_0 18 rfl rfl)
theorem dX5_reckons_19 : decode cX5_reckons 19 = .ok (.goto 4, 3) := dk_167 0 4 (dk_at dksX5_reckons_0 19 rfl rfl)
theorem dX5_reckons_22 : decode cX5_reckons 22 = .ok (.iconst (-1), 1) := dk_2 (dk_at dksX5_reckons_0 22 rfl rfl)
theorem dX5_reckons_23 : decode cX5_reckons 23 = .ok (.iastore, 1) := dk_79 (dk_at dksX5_reckons_0 23 rfl rfl)
theorem dX5_reckons_24 : decode cX5_reckons 24 = .ok (.iinc 3 1, 3) := dk_132 3 1 (dk_at dksX5_reckons_1 0 rfl rfl)
theorem dX5_reckons_27 : decode cX5_reckons 27 = .ok (.goto (-25), 3) := dk_167 255 231 (dk_at dksX5_reckons_1 3 rfl rfl)
theorem dX5_reckons_30 : decode cX5_reckons 30 = .ok (.iconst 1, 1) := dk_4 (dk_at dksX5_reckons_1 6 rfl rfl)
theorem dX5_reckons_31 : decode cX5_reckons 31 = .ok (.istore_n 3, 1) := dk_62 (dk_at dksX5_reckons_1 7 rfl rfl)
theorem dX5_reckons_32 : decode cX5_reckons 32 = .ok (.iload_n 3, 1) := dk_29 (dk_at dksX5_reckons_1 8 rfl rfl)
theorem dX5_reckons_33 : decode cX5_reckons 33 = .ok (.ifCond .eq 74, 3) := dk_153 0 74 (dk_at dksX5_reckons_1 9 rfl rfl)
theorem dX5_reckons_36 : decode cX5_reckons 36 = .ok (.iconst 0, 1) := dk_3 (dk_at dksX5_reckons_1 12 rfl rfl)
theorem dX5_reckons_37 : decode cX5_reckons 37 = .ok (.istore_n 3, 1) := dk_62 (dk_at dksX5_reckons_1 13 rfl rfl)
theorem dX5_reckons_38 : decode cX5_reckons 38 = .ok (.iconst 0, 1) := dk_3 (dk_at dksX5_reckons_1 14 rfl rfl)
theorem dX5_reckons_39 : decode cX5_reckons 39 = .ok (.istore 4, 2) := dk_54 4 (dk_at dksX5_reckons_1 15 rfl rfl)
theorem dX5_reckons_41 : decode cX5_reckons 41 = .ok (.iload 4, 2) := dk_21 4 (dk_at dksX5_reckons_1 17 rfl rfl)
theorem dX5_reckons_43 : decode cX5_reckons 43 = .ok (.aload_n 0, 1) := dk_42 (dk_at dksX5_reckons_1 19 rfl rfl)
theorem dX5_reckons_44 : decode cX5_reckons 44 = .ok (.getfield 9, 3) := dk_180 0 9 (dk_at dksX5_reckons_1 20 rfl rfl)
theorem dX5_reckons_47 : decode cX5_reckons 47 = .ok (.iconst 1, 1) := dk_4 (dk_at dksX5_reckons_1 23 rfl rfl)
theorem dX5_reckons_48 : decode cX5_reckons 48 = .ok (.iaload, 1) := dk_46 (dk_at dksX5_reckons_2 0 rfl rfl)
theorem dX5_reckons_49 : decode cX5_reckons 49 = .ok (.if_icmp .ge 55, 3) := dk_162 0 55 (dk_at dksX5_reckons_2 1 rfl rfl)
theorem dX5_reckons_52 : decode cX5_reckons 52 = .ok (.iload 4, 2) := dk_21 4 (dk_at dksX5_reckons_2 4 rfl rfl)
theorem dX5_reckons_54 : decode cX5_reckons 54 = .ok (.iload_n 2, 1) := dk_28 (dk_at dksX5_reckons_2 6 rfl rfl)
theorem dX5_reckons_55 : decode cX5_reckons 55 = .ok (.if_icmp .eq 43, 3) := dk_159 0 43 (dk_at dksX5_reckons_2 7 rfl rfl)
theorem dX5_reckons_58 : decode cX5_reckons 58 = .ok (.iload_n 3, 1) := dk_29 (dk_at dksX5_reckons_2 10 rfl rfl)
theorem dX5_reckons_59 : decode cX5_reckons 59 = .ok (.aload_n 0, 1) := dk_42 (dk_at dksX5_reckons_2 11 rfl rfl)
theorem dX5_reckons_60 : decode cX5_reckons 60 = .ok (.iload 4, 2) := dk_21 4 (dk_at dksX5_reckons_2 12 rfl rfl)
theorem dX5_reckons_62 : decode cX5_reckons 62 = .ok (.aload_n 0, 1) := dk_42 (dk_at dksX5_reckons_2 14 rfl rfl)
theorem dX5_reckons_63 : decode cX5_reckons 63 = .ok (.getfield 9, 3) := dk_180 0 9 (dk_at dksX5_reckons_2 15 rfl rfl)
theorem dX5_reckons_66 : decode cX5_reckons 66 = .ok (.iload 4, 2) := dk_21 4 (dk_at dksX5_reckons_2 18 rfl rfl)
theorem dX5_reckons_68 : decode cX5_reckons 68 = .ok (.invokestatic 88, 3) := dk_184 0 88 (dk_at dksX5_reckons_2 20 rfl rfl)
theorem dX5_reckons_71 : decode cX5_reckons 71 = .ok (.iaload, 1) := dk_46 (dk_at dksX5_reckons_2 23 rfl rfl)
theorem dX5_reckons_72 : decode cX5_reckons 72 = .ok (.invokevirtual 99, 3) := dk_182 0 99 (dk_at dksX5_reckons_3 0 rfl rfl)
theorem dX5_reckons_75 : decode cX5_reckons 75 = .ok (.ior, 1) := dk_128 (dk_at dksX5_reckons_3 3 rfl rfl)
theorem dX5_reckons_76 : decode cX5_reckons 76 = .ok (.istore_n 3, 1) := dk_62 (dk_at dksX5_reckons_3 4 rfl rfl)
theorem dX5_reckons_77 : decode cX5_reckons 77 = .ok (.iload_n 3, 1) := dk_29 (dk_at dksX5_reckons_3 5 rfl rfl)
theorem dX5_reckons_78 : decode cX5_reckons 78 = .ok (.aload_n 0, 1) := dk_42 (dk_at dksX5_reckons_3 6 rfl rfl)
theorem dX5_reckons_79 : decode cX5_reckons 79 = .ok (.iload 4, 2) := dk_21 4 (dk_at dksX5_reckons_3 7 rfl rfl)
theorem dX5_reckons_81 : decode cX5_reckons 81 = .ok (.aload_n 0, 1) := dk_42 (dk_at dksX5_reckons_3 9 rfl rfl)
theorem dX5_reckons_82 : decode cX5_reckons 82 = .ok (.getfield 9, 3) := dk_180 0 9 (dk_at dksX5_reckons_3 10 rfl rfl)
theorem dX5_reckons_85 : decode cX5_reckons 85 = .ok (.iload 4, 2) := dk_21 4 (dk_at dksX5_reckons_3 13 rfl rfl)
theorem dX5_reckons_87 : decode cX5_reckons 87 = .ok (.invokestatic 88, 3) := dk_184 0 88 (dk_at dksX5_reckons_3 15 rfl rfl)
theorem dX5_reckons_90 : decode cX5_reckons 90 = .ok (.iconst 1, 1) := dk_4 (dk_at dksX5_reckons_3 18 rfl rfl)
theorem dX5_reckons_91 : decode cX5_reckons 91 = .ok (.iadd, 1) := dk_96 (dk_at dksX5_reckons_3 19 rfl rfl)
theorem dX5_reckons_92 : decode cX5_reckons 92 = .ok (.iaload, 1) := dk_46 (dk_at dksX5_reckons_3 20 rfl rfl)
theorem dX5_reckons_93 : decode cX5_reckons 93 = .ok (.invokevirtual 99, 3) := dk_182 0 99 (dk_at dksX5_reckons_3 21 rfl rfl)
theorem dX5_reckons_96 : decode cX5_reckons 96 = .ok (.ior, 1) := dk_128 (dk_at dksX5_reckons_4 0 rfl rfl)
theorem dX5_reckons_97 : decode cX5_reckons 97 = .ok (.istore_n 3, 1) := dk_62 (dk_at dksX5_reckons_4 1 rfl rfl)
theorem dX5_reckons_98 : decode cX5_reckons 98 = .ok (.iinc 4 1, 3) := dk_132 4 1 (dk_at dksX5_reckons_4 2 rfl rfl)
theorem dX5_reckons_101 : decode cX5_reckons 101 = .ok (.goto (-60), 3) := dk_167 255 196 (dk_at dksX5_reckons_4 5 rfl rfl)
theorem dX5_reckons_104 : decode cX5_reckons 104 = .ok (.goto (-72), 3) := dk_167 255 184 (dk_at dksX5_reckons_4 8 rfl rfl)
theorem dX5_reckons_107 : decode cX5_reckons 107 = .ok (.return_, 1) := dk_177 (dk_at dksX5_reckons_4 11 rfl rfl)
abbrev cX5_isNearer : ByteArray := prog_15_method_20_code
def yX5_isNearer : MethodName := ⟨RX5, "isNearer", "(II)Z"⟩
def dkwX5_isNearer_2 : List UInt8 := [21, 4, 163, 0, 5, 3, 172, 42, 180, 0, 25, 28, 21, 4, 79, 4, 172]
abbrev dktX5_isNearer_2 : List UInt8 := dkwX5_isNearer_2 ++ []
def dkwX5_isNearer_1 : List UInt8 := [96, 54, 4, 29, 2, 159, 0, 24, 42, 180, 0, 25, 28, 46, 2, 159, 0, 16, 42, 180, 0, 25, 28, 46]
abbrev dktX5_isNearer_1 : List UInt8 := dkwX5_isNearer_1 ++ dktX5_isNearer_2
def dkwX5_isNearer_0 : List UInt8 := [42, 180, 0, 25, 42, 27, 28, 182, 0, 95, 46, 62, 29, 42, 180, 0, 9, 27, 184, 0, 88, 5, 96, 46]
abbrev dktX5_isNearer_0 : List UInt8 := dkwX5_isNearer_0 ++ dktX5_isNearer_1
theorem dksX5_isNearer_0 : cX5_isNearer.data.toList.drop 0 = dktX5_isNearer_0 := by decide +kernel
theorem dksX5_isNearer_1 : cX5_isNearer.data.toList.drop 24 = dktX5_isNearer_1 := dk_seg dksX5_isNearer_0 24 rfl rfl
theorem dksX5_isNearer_2 : cX5_isNearer.data.toList.drop 48 = dktX5_isNearer_2 := dk_seg dksX5_isNearer_1 24 rfl rfl
theorem dX5_isNearer_0 : decode cX5_isNearer 0 = .ok (.aload_n 0, 1) := dk_42 (dk_at dksX5_isNearer_0 0 rfl rfl)
theorem dX5_isNearer_1 : decode cX5_isNearer 1 = .ok (.getfield 25, 3) := dk_180 0 25 (dk_at dksX5_isNearer_0 1 rfl rfl)
theorem dX5_isNearer_4 : decode cX5_isNearer 4 = .ok (.aload_n 0, 1) := dk_42 (dk_at dksX5_isNearer_0 4 rfl rfl)
theorem dX5_isNearer_5 : decode cX5_isNearer 5 = .ok (.iload_n 1, 1) := dk_27 (dk_at dksX5_isNearer_0 5 rfl rfl)
theorem dX5_isNearer_6 : decode cX5_isNearer 6 = .ok (.iload_n 2, 1) := dk_28 (dk_at dksX5_isNearer_0 6 rfl rfl)
theorem dX5_isNearer_7 : decode cX5_isNearer 7 = .ok (.invokevirtual 95, 3) := dk_182 0 95 (dk_at dksX5_isNearer_0 7 rfl rfl)
theorem dX5_isNearer_10 : decode cX5_isNearer 10 = .ok (.iaload, 1) := dk_46 (dk_at dksX5_isNearer_0 10 rfl rfl)
theorem dX5_isNearer_11 : decode cX5_isNearer 11 = .ok (.istore_n 3, 1) := dk_62 (dk_at dksX5_isNearer_0 11 rfl rfl)
theorem dX5_isNearer_12 : decode cX5_isNearer 12 = .ok (.iload_n 3, 1) := dk_29 (dk_at dksX5_isNearer_0 12 rfl rfl)
theorem dX5_isNearer_13 : decode cX5_isNearer 13 = .ok (.aload_n 0, 1) := dk_42 (dk_at dksX5_isNearer_0 13 rfl rfl)
theorem dX5_isNearer_14 : decode cX5_isNearer 14 = .ok (.getfield 9, 3) := dk_180 0 9 (dk_at dksX5_isNearer_0 14 rfl rfl)
theorem dX5_isNearer_17 : decode cX5_isNearer 17 = .ok (.iload_n 1, 1) := dk_27 (dk_at dksX5_isNearer_0 17 rfl rfl)
theorem dX5_isNearer_18 : decode cX5_isNearer 18 = .ok (.invokestatic 88, 3) := dk_184 0 88 (dk_at dksX5_isNearer_0 18 rfl rfl)
theorem dX5_isNearer_21 : decode cX5_isNearer 21 = .ok (.iconst 2, 1) := dk_5 (dk_at dksX5_isNearer_0 21 rfl rfl)
theorem dX5_isNearer_22 : decode cX5_isNearer 22 = .ok (.iadd, 1) := dk_96 (dk_at dksX5_isNearer_0 22 rfl rfl)
theorem dX5_isNearer_23 : decode cX5_isNearer 23 = .ok (.iaload, 1) := dk_46 (dk_at dksX5_isNearer_0 23 rfl rfl)
theorem dX5_isNearer_24 : decode cX5_isNearer 24 = .ok (.iadd, 1) := dk_96 (dk_at dksX5_isNearer_1 0 rfl rfl)
theorem dX5_isNearer_25 : decode cX5_isNearer 25 = .ok (.istore 4, 2) := dk_54 4 (dk_at dksX5_isNearer_1 1 rfl rfl)
theorem dX5_isNearer_27 : decode cX5_isNearer 27 = .ok (.iload_n 3, 1) := dk_29 (dk_at dksX5_isNearer_1 3 rfl rfl)
theorem dX5_isNearer_28 : decode cX5_isNearer 28 = .ok (.iconst (-1), 1) := dk_2 (dk_at dksX5_isNearer_1 4 rfl rfl)
theorem dX5_isNearer_29 : decode cX5_isNearer 29 = .ok (.if_icmp .eq 24, 3) := dk_159 0 24 (dk_at dksX5_isNearer_1 5 rfl rfl)
theorem dX5_isNearer_32 : decode cX5_isNearer 32 = .ok (.aload_n 0, 1) := dk_42 (dk_at dksX5_isNearer_1 8 rfl rfl)
theorem dX5_isNearer_33 : decode cX5_isNearer 33 = .ok (.getfield 25, 3) := dk_180 0 25 (dk_at dksX5_isNearer_1 9 rfl rfl)
theorem dX5_isNearer_36 : decode cX5_isNearer 36 = .ok (.iload_n 2, 1) := dk_28 (dk_at dksX5_isNearer_1 12 rfl rfl)
theorem dX5_isNearer_37 : decode cX5_isNearer 37 = .ok (.iaload, 1) := dk_46 (dk_at dksX5_isNearer_1 13 rfl rfl)
theorem dX5_isNearer_38 : decode cX5_isNearer 38 = .ok (.iconst (-1), 1) := dk_2 (dk_at dksX5_isNearer_1 14 rfl rfl)
theorem dX5_isNearer_39 : decode cX5_isNearer 39 = .ok (.if_icmp .eq 16, 3) := dk_159 0 16 (dk_at dksX5_isNearer_1 15 rfl rfl)
theorem dX5_isNearer_42 : decode cX5_isNearer 42 = .ok (.aload_n 0, 1) := dk_42 (dk_at dksX5_isNearer_1 18 rfl rfl)
theorem dX5_isNearer_43 : decode cX5_isNearer 43 = .ok (.getfield 25, 3) := dk_180 0 25 (dk_at dksX5_isNearer_1 19 rfl rfl)
theorem dX5_isNearer_46 : decode cX5_isNearer 46 = .ok (.iload_n 2, 1) := dk_28 (dk_at dksX5_isNearer_1 22 rfl rfl)
theorem dX5_isNearer_47 : decode cX5_isNearer 47 = .ok (.iaload, 1) := dk_46 (dk_at dksX5_isNearer_1 23 rfl rfl)
theorem dX5_isNearer_48 : decode cX5_isNearer 48 = .ok (.iload 4, 2) := dk_21 4 (dk_at dksX5_isNearer_2 0 rfl rfl)
theorem dX5_isNearer_50 : decode cX5_isNearer 50 = .ok (.if_icmp .gt 5, 3) := dk_163 0 5 (dk_at dksX5_isNearer_2 2 rfl rfl)
theorem dX5_isNearer_53 : decode cX5_isNearer 53 = .ok (.iconst 0, 1) := dk_3 (dk_at dksX5_isNearer_2 5 rfl rfl)
theorem dX5_isNearer_54 : decode cX5_isNearer 54 = .ok (.ireturn, 1) := dk_172 (dk_at dksX5_isNearer_2 6 rfl rfl)
theorem dX5_isNearer_55 : decode cX5_isNearer 55 = .ok (.aload_n 0, 1) := dk_42 (dk_at dksX5_isNearer_2 7 rfl rfl)
theorem dX5_isNearer_56 : decode cX5_isNearer 56 = .ok (.getfield 25, 3) := dk_180 0 25 (dk_at dksX5_isNearer_2 8 rfl rfl)
theorem dX5_isNearer_59 : decode cX5_isNearer 59 = .ok (.iload_n 2, 1) := dk_28 (dk_at dksX5_isNearer_2 11 rfl rfl)
theorem dX5_isNearer_60 : decode cX5_isNearer 60 = .ok (.iload 4, 2) := dk_21 4 (dk_at dksX5_isNearer_2 12 rfl rfl)
theorem dX5_isNearer_62 : decode cX5_isNearer 62 = .ok (.iastore, 1) := dk_79 (dk_at dksX5_isNearer_2 14 rfl rfl)
theorem dX5_isNearer_63 : decode cX5_isNearer 63 = .ok (.iconst 1, 1) := dk_4 (dk_at dksX5_isNearer_2 15 rfl rfl)
theorem dX5_isNearer_64 : decode cX5_isNearer 64 = .ok (.ireturn, 1) := dk_172 (dk_at dksX5_isNearer_2 16 rfl rfl)
abbrev cX5_otherEnd : ByteArray := prog_15_method_18_code
def yX5_otherEnd : MethodName := ⟨RX5, "otherEnd", "(II)I"⟩
def dkwX5_otherEnd_0 : List UInt8 := [42, 180, 0, 9, 27, 184, 0, 88, 46, 42, 180, 0, 9, 27, 184, 0, 88, 4, 96, 46, 96, 28, 100, 172]
abbrev dktX5_otherEnd_0 : List UInt8 := dkwX5_otherEnd_0 ++ []
theorem dksX5_otherEnd_0 : cX5_otherEnd.data.toList.drop 0 = dktX5_otherEnd_0 := by decide +kernel
theorem dX5_otherEnd_0 : decode cX5_otherEnd 0 = .ok (.aload_n 0, 1) := dk_42 (dk_at dksX5_otherEnd_0 0 rfl rfl)
theorem dX5_otherEnd_1 : decode cX5_otherEnd 1 = .ok (.getfield 9, 3) := dk_180 0 9 (dk_at dksX5_otherEnd_0 1 rfl rfl)
theorem dX5_otherEnd_4 : decode cX5_otherEnd 4 = .ok (.iload_n 1, 1) := dk_27 (dk_at dksX5_otherEnd_0 4 rfl rfl)
theorem dX5_otherEnd_5 : decode cX5_otherEnd 5 = .ok (.invokestatic 88, 3) := dk_184 0 88 (dk_at dksX5_otherEnd_0 5 rfl rfl)
theorem dX5_otherEnd_8 : decode cX5_otherEnd 8 = .ok (.iaload, 1) := dk_46 (dk_at dksX5_otherEnd_0 8 rfl rfl)
theorem dX5_otherEnd_9 : decode cX5_otherEnd 9 = .ok (.aload_n 0, 1) := dk_42 (dk_at dksX5_otherEnd_0 9 rfl rfl)
theorem dX5_otherEnd_10 : decode cX5_otherEnd 10 = .ok (.getfield 9, 3) := dk_180 0 9 (dk_at dksX5_otherEnd_0 10 rfl rfl)
theorem dX5_otherEnd_13 : decode cX5_otherEnd 13 = .ok (.iload_n 1, 1) := dk_27 (dk_at dksX5_otherEnd_0 13 rfl rfl)
theorem dX5_otherEnd_14 : decode cX5_otherEnd 14 = .ok (.invokestatic 88, 3) := dk_184 0 88 (dk_at dksX5_otherEnd_0 14 rfl rfl)
theorem dX5_otherEnd_17 : decode cX5_otherEnd 17 = .ok (.iconst 1, 1) := dk_4 (dk_at dksX5_otherEnd_0 17 rfl rfl)
theorem dX5_otherEnd_18 : decode cX5_otherEnd 18 = .ok (.iadd, 1) := dk_96 (dk_at dksX5_otherEnd_0 18 rfl rfl)
theorem dX5_otherEnd_19 : decode cX5_otherEnd 19 = .ok (.iaload, 1) := dk_46 (dk_at dksX5_otherEnd_0 19 rfl rfl)
theorem dX5_otherEnd_20 : decode cX5_otherEnd 20 = .ok (.iadd, 1) := dk_96 (dk_at dksX5_otherEnd_0 20 rfl rfl)
theorem dX5_otherEnd_21 : decode cX5_otherEnd 21 = .ok (.iload_n 2, 1) := dk_28 (dk_at dksX5_otherEnd_0 21 rfl rfl)
theorem dX5_otherEnd_22 : decode cX5_otherEnd 22 = .ok (.isub, 1) := dk_100 (dk_at dksX5_otherEnd_0 22 rfl rfl)
theorem dX5_otherEnd_23 : decode cX5_otherEnd 23 = .ok (.ireturn, 1) := dk_172 (dk_at dksX5_otherEnd_0 23 rfl rfl)
abbrev cX5_whistles : ByteArray := prog_15_method_38_code
def yX5_whistles : MethodName := ⟨RX5, "whistles", "(II)V"⟩
def dkwX5_whistles_9 : List UInt8 := [16, 9, 96, 92, 46, 4, 96, 79, 42, 6, 4, 182, 0, 126, 42, 16, 9, 21, 5, 182, 0, 126, 177]
abbrev dktX5_whistles_9 : List UInt8 := dkwX5_whistles_9 ++ []
def dkwX5_whistles_8 : List UInt8 := [42, 180, 0, 9, 29, 7, 96, 21, 4, 79, 42, 180, 0, 9, 29, 6, 96, 4, 79, 42, 180, 0, 9, 29]
abbrev dktX5_whistles_8 : List UInt8 := dkwX5_whistles_8 ++ dktX5_whistles_9
def dkwX5_whistles_7 : List UInt8 := [96, 42, 180, 0, 9, 28, 184, 0, 84, 16, 11, 96, 46, 42, 180, 0, 9, 29, 16, 10, 96, 46, 96, 79]
abbrev dktX5_whistles_7 : List UInt8 := dkwX5_whistles_7 ++ dktX5_whistles_8
def dkwX5_whistles_6 : List UInt8 := [42, 180, 0, 9, 42, 28, 21, 4, 182, 0, 169, 184, 0, 88, 5, 96, 46, 79, 42, 180, 0, 9, 29, 8]
abbrev dktX5_whistles_6 : List UInt8 := dkwX5_whistles_6 ++ dktX5_whistles_7
def dkwX5_whistles_5 : List UInt8 := [42, 180, 0, 9, 28, 184, 0, 84, 16, 12, 96, 92, 46, 4, 96, 79, 42, 180, 0, 9, 29, 16, 10, 96]
abbrev dktX5_whistles_5 : List UInt8 := dkwX5_whistles_5 ++ dktX5_whistles_6
def dkwX5_whistles_4 : List UInt8 := [42, 180, 0, 9, 6, 46, 42, 180, 0, 9, 29, 5, 96, 46, 21, 6, 96, 4, 100, 21, 6, 108, 96, 79]
abbrev dktX5_whistles_4 : List UInt8 := dkwX5_whistles_4 ++ dktX5_whistles_5
def dkwX5_whistles_3 : List UInt8 := [180, 0, 9, 28, 184, 0, 84, 16, 7, 96, 46, 54, 6, 42, 180, 0, 9, 28, 184, 0, 84, 16, 11, 96]
abbrev dktX5_whistles_3 : List UInt8 := dkwX5_whistles_3 ++ dktX5_whistles_4
def dkwX5_whistles_2 : List UInt8 := [46, 21, 5, 100, 79, 42, 180, 0, 9, 28, 184, 0, 84, 16, 10, 96, 92, 46, 21, 5, 96, 79, 42]
abbrev dktX5_whistles_2 : List UInt8 := dkwX5_whistles_2 ++ dktX5_whistles_3
def dkwX5_whistles_1 : List UInt8 := [182, 0, 163, 54, 5, 42, 180, 0, 9, 42, 180, 0, 9, 29, 3, 96, 46, 184, 0, 84, 16, 10, 96, 92]
abbrev dktX5_whistles_1 : List UInt8 := dkwX5_whistles_1 ++ dktX5_whistles_2
def dkwX5_whistles_0 : List UInt8 := [27, 184, 0, 109, 62, 42, 28, 42, 180, 0, 9, 29, 4, 96, 46, 182, 0, 166, 54, 4, 42, 27, 28]
abbrev dktX5_whistles_0 : List UInt8 := dkwX5_whistles_0 ++ dktX5_whistles_1
theorem dksX5_whistles_0 : cX5_whistles.data.toList.drop 0 = dktX5_whistles_0 := by decide +kernel
theorem dksX5_whistles_1 : cX5_whistles.data.toList.drop 23 = dktX5_whistles_1 := dk_seg dksX5_whistles_0 23 rfl rfl
theorem dksX5_whistles_2 : cX5_whistles.data.toList.drop 47 = dktX5_whistles_2 := dk_seg dksX5_whistles_1 24 rfl rfl
theorem dksX5_whistles_3 : cX5_whistles.data.toList.drop 70 = dktX5_whistles_3 := dk_seg dksX5_whistles_2 23 rfl rfl
theorem dksX5_whistles_4 : cX5_whistles.data.toList.drop 94 = dktX5_whistles_4 := dk_seg dksX5_whistles_3 24 rfl rfl
theorem dksX5_whistles_5 : cX5_whistles.data.toList.drop 118 = dktX5_whistles_5 := dk_seg dksX5_whistles_4 24 rfl rfl
theorem dksX5_whistles_6 : cX5_whistles.data.toList.drop 142 = dktX5_whistles_6 := dk_seg dksX5_whistles_5 24 rfl rfl
theorem dksX5_whistles_7 : cX5_whistles.data.toList.drop 166 = dktX5_whistles_7 := dk_seg dksX5_whistles_6 24 rfl rfl
theorem dksX5_whistles_8 : cX5_whistles.data.toList.drop 190 = dktX5_whistles_8 := dk_seg dksX5_whistles_7 24 rfl rfl
theorem dksX5_whistles_9 : cX5_whistles.data.toList.drop 214 = dktX5_whistles_9 := dk_seg dksX5_whistles_8 24 rfl rfl
theorem dX5_whistles_0 : decode cX5_whistles 0 = .ok (.iload_n 1, 1) := dk_27 (dk_at dksX5_whistles_0 0 rfl rfl)
theorem dX5_whistles_1 : decode cX5_whistles 1 = .ok (.invokestatic 109, 3) := dk_184 0 109 (dk_at dksX5_whistles_0 1 rfl rfl)
theorem dX5_whistles_4 : decode cX5_whistles 4 = .ok (.istore_n 3, 1) := dk_62 (dk_at dksX5_whistles_0 4 rfl rfl)
theorem dX5_whistles_5 : decode cX5_whistles 5 = .ok (.aload_n 0, 1) := dk_42 (dk_at dksX5_whistles_0 5 rfl rfl)
theorem dX5_whistles_6 : decode cX5_whistles 6 = .ok (.iload_n 2, 1) := dk_28 (dk_at dksX5_whistles_0 6 rfl rfl)
theorem dX5_whistles_7 : decode cX5_whistles 7 = .ok (.aload_n 0, 1) := dk_42 (dk_at dksX5_whistles_0 7 rfl rfl)
theorem dX5_whistles_8 : decode cX5_whistles 8 = .ok (.getfield 9, 3) := dk_180 0 9 (dk_at dksX5_whistles_0 8 rfl rfl)
theorem dX5_whistles_11 : decode cX5_whistles 11 = .ok (.iload_n 3, 1) := dk_29 (dk_at dksX5_whistles_0 11 rfl rfl)
theorem dX5_whistles_12 : decode cX5_whistles 12 = .ok (.iconst 1, 1) := dk_4 (dk_at dksX5_whistles_0 12 rfl rfl)
theorem dX5_whistles_13 : decode cX5_whistles 13 = .ok (.iadd, 1) := dk_96 (dk_at dksX5_whistles_0 13 rfl rfl)
theorem dX5_whistles_14 : decode cX5_whistles 14 = .ok (.iaload, 1) := dk_46 (dk_at dksX5_whistles_0 14 rfl rfl)
theorem dX5_whistles_15 : decode cX5_whistles 15 = .ok (.invokevirtual 166, 3) := dk_182 0 166 (dk_at dksX5_whistles_0 15 rfl rfl)
theorem dX5_whistles_18 : decode cX5_whistles 18 = .ok (.istore 4, 2) := dk_54 4 (dk_at dksX5_whistles_0 18 rfl rfl)
theorem dX5_whistles_20 : decode cX5_whistles 20 = .ok (.aload_n 0, 1) := dk_42 (dk_at dksX5_whistles_0 20 rfl rfl)
theorem dX5_whistles_21 : decode cX5_whistles 21 = .ok (.iload_n 1, 1) := dk_27 (dk_at dksX5_whistles_0 21 rfl rfl)
theorem dX5_whistles_22 : decode cX5_whistles 22 = .ok (.iload_n 2, 1) := dk_28 (dk_at dksX5_whistles_0 22 rfl rfl)
theorem dX5_whistles_23 : decode cX5_whistles 23 = .ok (.invokevirtual 163, 3) := dk_182 0 163 (dk_at dksX5_whistles_1 0 rfl rfl)
theorem dX5_whistles_26 : decode cX5_whistles 26 = .ok (.istore 5, 2) := dk_54 5 (dk_at dksX5_whistles_1 3 rfl rfl)
theorem dX5_whistles_28 : decode cX5_whistles 28 = .ok (.aload_n 0, 1) := dk_42 (dk_at dksX5_whistles_1 5 rfl rfl)
theorem dX5_whistles_29 : decode cX5_whistles 29 = .ok (.getfield 9, 3) := dk_180 0 9 (dk_at dksX5_whistles_1 6 rfl rfl)
theorem dX5_whistles_32 : decode cX5_whistles 32 = .ok (.aload_n 0, 1) := dk_42 (dk_at dksX5_whistles_1 9 rfl rfl)
theorem dX5_whistles_33 : decode cX5_whistles 33 = .ok (.getfield 9, 3) := dk_180 0 9 (dk_at dksX5_whistles_1 10 rfl rfl)
theorem dX5_whistles_36 : decode cX5_whistles 36 = .ok (.iload_n 3, 1) := dk_29 (dk_at dksX5_whistles_1 13 rfl rfl)
theorem dX5_whistles_37 : decode cX5_whistles 37 = .ok (.iconst 0, 1) := dk_3 (dk_at dksX5_whistles_1 14 rfl rfl)
theorem dX5_whistles_38 : decode cX5_whistles 38 = .ok (.iadd, 1) := dk_96 (dk_at dksX5_whistles_1 15 rfl rfl)
theorem dX5_whistles_39 : decode cX5_whistles 39 = .ok (.iaload, 1) := dk_46 (dk_at dksX5_whistles_1 16 rfl rfl)
theorem dX5_whistles_40 : decode cX5_whistles 40 = .ok (.invokestatic 84, 3) := dk_184 0 84 (dk_at dksX5_whistles_1 17 rfl rfl)
theorem dX5_whistles_43 : decode cX5_whistles 43 = .ok (.bipush 10, 2) := dk_16 10 (dk_at dksX5_whistles_1 20 rfl rfl)
theorem dX5_whistles_45 : decode cX5_whistles 45 = .ok (.iadd, 1) := dk_96 (dk_at dksX5_whistles_1 22 rfl rfl)
theorem dX5_whistles_46 : decode cX5_whistles 46 = .ok (.dup2, 1) := dk_92 (dk_at dksX5_whistles_1 23 rfl rfl)
theorem dX5_whistles_47 : decode cX5_whistles 47 = .ok (.iaload, 1) := dk_46 (dk_at dksX5_whistles_2 0 rfl rfl)
theorem dX5_whistles_48 : decode cX5_whistles 48 = .ok (.iload 5, 2) := dk_21 5 (dk_at dksX5_whistles_2 1 rfl rfl)
theorem dX5_whistles_50 : decode cX5_whistles 50 = .ok (.isub, 1) := dk_100 (dk_at dksX5_whistles_2 3 rfl rfl)
theorem dX5_whistles_51 : decode cX5_whistles 51 = .ok (.iastore, 1) := dk_79 (dk_at dksX5_whistles_2 4 rfl rfl)
theorem dX5_whistles_52 : decode cX5_whistles 52 = .ok (.aload_n 0, 1) := dk_42 (dk_at dksX5_whistles_2 5 rfl rfl)
theorem dX5_whistles_53 : decode cX5_whistles 53 = .ok (.getfield 9, 3) := dk_180 0 9 (dk_at dksX5_whistles_2 6 rfl rfl)
theorem dX5_whistles_56 : decode cX5_whistles 56 = .ok (.iload_n 2, 1) := dk_28 (dk_at dksX5_whistles_2 9 rfl rfl)
theorem dX5_whistles_57 : decode cX5_whistles 57 = .ok (.invokestatic 84, 3) := dk_184 0 84 (dk_at dksX5_whistles_2 10 rfl rfl)
theorem dX5_whistles_60 : decode cX5_whistles 60 = .ok (.bipush 10, 2) := dk_16 10 (dk_at dksX5_whistles_2 13 rfl rfl)
theorem dX5_whistles_62 : decode cX5_whistles 62 = .ok (.iadd, 1) := dk_96 (dk_at dksX5_whistles_2 15 rfl rfl)
theorem dX5_whistles_63 : decode cX5_whistles 63 = .ok (.dup2, 1) := dk_92 (dk_at dksX5_whistles_2 16 rfl rfl)
theorem dX5_whistles_64 : decode cX5_whistles 64 = .ok (.iaload, 1) := dk_46 (dk_at dksX5_whistles_2 17 rfl rfl)
theorem dX5_whistles_65 : decode cX5_whistles 65 = .ok (.iload 5, 2) := dk_21 5 (dk_at dksX5_whistles_2 18 rfl rfl)
theorem dX5_whistles_67 : decode cX5_whistles 67 = .ok (.iadd, 1) := dk_96 (dk_at dksX5_whistles_2 20 rfl rfl)
theorem dX5_whistles_68 : decode cX5_whistles 68 = .ok (.iastore, 1) := dk_79 (dk_at dksX5_whistles_2 21 rfl rfl)
theorem dX5_whistles_69 : decode cX5_whistles 69 = .ok (.aload_n 0, 1) := dk_42 (dk_at dksX5_whistles_2 22 rfl rfl)
theorem dX5_whistles_70 : decode cX5_whistles 70 = .ok (.getfield 9, 3) := dk_180 0 9 (dk_at dksX5_whistles_3 0 rfl rfl)
theorem dX5_whistles_73 : decode cX5_whistles 73 = .ok (.iload_n 2, 1) := dk_28 (dk_at dksX5_whistles_3 3 rfl rfl)
theorem dX5_whistles_74 : decode cX5_whistles 74 = .ok (.invokestatic 84, 3) := dk_184 0 84 (dk_at dksX5_whistles_3 4 rfl rfl)
theorem dX5_whistles_77 : decode cX5_whistles 77 = .ok (.bipush 7, 2) := dk_16 7 (dk_at dksX5_whistles_3 7 rfl rfl)
theorem dX5_whistles_79 : decode cX5_whistles 79 = .ok (.iadd, 1) := dk_96 (dk_at dksX5_whistles_3 9 rfl rfl)
theorem dX5_whistles_80 : decode cX5_whistles 80 = .ok (.iaload, 1) := dk_46 (dk_at dksX5_whistles_3 10 rfl rfl)
theorem dX5_whistles_81 : decode cX5_whistles 81 = .ok (.istore 6, 2) := dk_54 6 (dk_at dksX5_whistles_3 11 rfl rfl)
theorem dX5_whistles_83 : decode cX5_whistles 83 = .ok (.aload_n 0, 1) := dk_42 (dk_at dksX5_whistles_3 13 rfl rfl)
theorem dX5_whistles_84 : decode cX5_whistles 84 = .ok (.getfield 9, 3) := dk_180 0 9 (dk_at dksX5_whistles_3 14 rfl rfl)
theorem dX5_whistles_87 : decode cX5_whistles 87 = .ok (.iload_n 2, 1) := dk_28 (dk_at dksX5_whistles_3 17 rfl rfl)
theorem dX5_whistles_88 : decode cX5_whistles 88 = .ok (.invokestatic 84, 3) := dk_184 0 84 (dk_at dksX5_whistles_3 18 rfl rfl)
theorem dX5_whistles_91 : decode cX5_whistles 91 = .ok (.bipush 11, 2) := dk_16 11 (dk_at dksX5_whistles_3 21 rfl rfl)
theorem dX5_whistles_93 : decode cX5_whistles 93 = .ok (.iadd, 1) := dk_96 (dk_at dksX5_whistles_3 23 rfl rfl)
theorem dX5_whistles_94 : decode cX5_whistles 94 = .ok (.aload_n 0, 1) := dk_42 (dk_at dksX5_whistles_4 0 rfl rfl)
theorem dX5_whistles_95 : decode cX5_whistles 95 = .ok (.getfield 9, 3) := dk_180 0 9 (dk_at dksX5_whistles_4 1 rfl rfl)
theorem dX5_whistles_98 : decode cX5_whistles 98 = .ok (.iconst 3, 1) := dk_6 (dk_at dksX5_whistles_4 4 rfl rfl)
theorem dX5_whistles_99 : decode cX5_whistles 99 = .ok (.iaload, 1) := dk_46 (dk_at dksX5_whistles_4 5 rfl rfl)
theorem dX5_whistles_100 : decode cX5_whistles 100 = .ok (.aload_n 0, 1) := dk_42 (dk_at dksX5_whistles_4 6 rfl rfl)
theorem dX5_whistles_101 : decode cX5_whistles 101 = .ok (.getfield 9, 3) := dk_180 0 9 (dk_at dksX5_whistles_4 7 rfl rfl)
theorem dX5_whistles_104 : decode cX5_whistles 104 = .ok (.iload_n 3, 1) := dk_29 (dk_at dksX5_whistles_4 10 rfl rfl)
theorem dX5_whistles_105 : decode cX5_whistles 105 = .ok (.iconst 2, 1) := dk_5 (dk_at dksX5_whistles_4 11 rfl rfl)
theorem dX5_whistles_106 : decode cX5_whistles 106 = .ok (.iadd, 1) := dk_96 (dk_at dksX5_whistles_4 12 rfl rfl)
theorem dX5_whistles_107 : decode cX5_whistles 107 = .ok (.iaload, 1) := dk_46 (dk_at dksX5_whistles_4 13 rfl rfl)
theorem dX5_whistles_108 : decode cX5_whistles 108 = .ok (.iload 6, 2) := dk_21 6 (dk_at dksX5_whistles_4 14 rfl rfl)
theorem dX5_whistles_110 : decode cX5_whistles 110 = .ok (.iadd, 1) := dk_96 (dk_at dksX5_whistles_4 16 rfl rfl)
theorem dX5_whistles_111 : decode cX5_whistles 111 = .ok (.iconst 1, 1) := dk_4 (dk_at dksX5_whistles_4 17 rfl rfl)
theorem dX5_whistles_112 : decode cX5_whistles 112 = .ok (.isub, 1) := dk_100 (dk_at dksX5_whistles_4 18 rfl rfl)
theorem dX5_whistles_113 : decode cX5_whistles 113 = .ok (.iload 6, 2) := dk_21 6 (dk_at dksX5_whistles_4 19 rfl rfl)
theorem dX5_whistles_115 : decode cX5_whistles 115 = .ok (.idiv, 1) := dk_108 (dk_at dksX5_whistles_4 21 rfl rfl)
theorem dX5_whistles_116 : decode cX5_whistles 116 = .ok (.iadd, 1) := dk_96 (dk_at dksX5_whistles_4 22 rfl rfl)
theorem dX5_whistles_117 : decode cX5_whistles 117 = .ok (.iastore, 1) := dk_79 (dk_at dksX5_whistles_4 23 rfl rfl)
theorem dX5_whistles_118 : decode cX5_whistles 118 = .ok (.aload_n 0, 1) := dk_42 (dk_at dksX5_whistles_5 0 rfl rfl)
theorem dX5_whistles_119 : decode cX5_whistles 119 = .ok (.getfield 9, 3) := dk_180 0 9 (dk_at dksX5_whistles_5 1 rfl rfl)
theorem dX5_whistles_122 : decode cX5_whistles 122 = .ok (.iload_n 2, 1) := dk_28 (dk_at dksX5_whistles_5 4 rfl rfl)
theorem dX5_whistles_123 : decode cX5_whistles 123 = .ok (.invokestatic 84, 3) := dk_184 0 84 (dk_at dksX5_whistles_5 5 rfl rfl)
theorem dX5_whistles_126 : decode cX5_whistles 126 = .ok (.bipush 12, 2) := dk_16 12 (dk_at dksX5_whistles_5 8 rfl rfl)
theorem dX5_whistles_128 : decode cX5_whistles 128 = .ok (.iadd, 1) := dk_96 (dk_at dksX5_whistles_5 10 rfl rfl)
theorem dX5_whistles_129 : decode cX5_whistles 129 = .ok (.dup2, 1) := dk_92 (dk_at dksX5_whistles_5 11 rfl rfl)
theorem dX5_whistles_130 : decode cX5_whistles 130 = .ok (.iaload, 1) := dk_46 (dk_at dksX5_whistles_5 12 rfl rfl)
theorem dX5_whistles_131 : decode cX5_whistles 131 = .ok (.iconst 1, 1) := dk_4 (dk_at dksX5_whistles_5 13 rfl rfl)
theorem dX5_whistles_132 : decode cX5_whistles 132 = .ok (.iadd, 1) := dk_96 (dk_at dksX5_whistles_5 14 rfl rfl)
theorem dX5_whistles_133 : decode cX5_whistles 133 = .ok (.iastore, 1) := dk_79 (dk_at dksX5_whistles_5 15 rfl rfl)
theorem dX5_whistles_134 : decode cX5_whistles 134 = .ok (.aload_n 0, 1) := dk_42 (dk_at dksX5_whistles_5 16 rfl rfl)
theorem dX5_whistles_135 : decode cX5_whistles 135 = .ok (.getfield 9, 3) := dk_180 0 9 (dk_at dksX5_whistles_5 17 rfl rfl)
theorem dX5_whistles_138 : decode cX5_whistles 138 = .ok (.iload_n 3, 1) := dk_29 (dk_at dksX5_whistles_5 20 rfl rfl)
theorem dX5_whistles_139 : decode cX5_whistles 139 = .ok (.bipush 10, 2) := dk_16 10 (dk_at dksX5_whistles_5 21 rfl rfl)
theorem dX5_whistles_141 : decode cX5_whistles 141 = .ok (.iadd, 1) := dk_96 (dk_at dksX5_whistles_5 23 rfl rfl)
theorem dX5_whistles_142 : decode cX5_whistles 142 = .ok (.aload_n 0, 1) := dk_42 (dk_at dksX5_whistles_6 0 rfl rfl)
theorem dX5_whistles_143 : decode cX5_whistles 143 = .ok (.getfield 9, 3) := dk_180 0 9 (dk_at dksX5_whistles_6 1 rfl rfl)
theorem dX5_whistles_146 : decode cX5_whistles 146 = .ok (.aload_n 0, 1) := dk_42 (dk_at dksX5_whistles_6 4 rfl rfl)
theorem dX5_whistles_147 : decode cX5_whistles 147 = .ok (.iload_n 2, 1) := dk_28 (dk_at dksX5_whistles_6 5 rfl rfl)
theorem dX5_whistles_148 : decode cX5_whistles 148 = .ok (.iload 4, 2) := dk_21 4 (dk_at dksX5_whistles_6 6 rfl rfl)
theorem dX5_whistles_150 : decode cX5_whistles 150 = .ok (.invokevirtual 169, 3) := dk_182 0 169 (dk_at dksX5_whistles_6 8 rfl rfl)
theorem dX5_whistles_153 : decode cX5_whistles 153 = .ok (.invokestatic 88, 3) := dk_184 0 88 (dk_at dksX5_whistles_6 11 rfl rfl)
theorem dX5_whistles_156 : decode cX5_whistles 156 = .ok (.iconst 2, 1) := dk_5 (dk_at dksX5_whistles_6 14 rfl rfl)
theorem dX5_whistles_157 : decode cX5_whistles 157 = .ok (.iadd, 1) := dk_96 (dk_at dksX5_whistles_6 15 rfl rfl)
theorem dX5_whistles_158 : decode cX5_whistles 158 = .ok (.iaload, 1) := dk_46 (dk_at dksX5_whistles_6 16 rfl rfl)
theorem dX5_whistles_159 : decode cX5_whistles 159 = .ok (.iastore, 1) := dk_79 (dk_at dksX5_whistles_6 17 rfl rfl)
theorem dX5_whistles_160 : decode cX5_whistles 160 = .ok (.aload_n 0, 1) := dk_42 (dk_at dksX5_whistles_6 18 rfl rfl)
theorem dX5_whistles_161 : decode cX5_whistles 161 = .ok (.getfield 9, 3) := dk_180 0 9 (dk_at dksX5_whistles_6 19 rfl rfl)
theorem dX5_whistles_164 : decode cX5_whistles 164 = .ok (.iload_n 3, 1) := dk_29 (dk_at dksX5_whistles_6 22 rfl rfl)
theorem dX5_whistles_165 : decode cX5_whistles 165 = .ok (.iconst 5, 1) := dk_8 (dk_at dksX5_whistles_6 23 rfl rfl)
theorem dX5_whistles_166 : decode cX5_whistles 166 = .ok (.iadd, 1) := dk_96 (dk_at dksX5_whistles_7 0 rfl rfl)
theorem dX5_whistles_167 : decode cX5_whistles 167 = .ok (.aload_n 0, 1) := dk_42 (dk_at dksX5_whistles_7 1 rfl rfl)
theorem dX5_whistles_168 : decode cX5_whistles 168 = .ok (.getfield 9, 3) := dk_180 0 9 (dk_at dksX5_whistles_7 2 rfl rfl)
theorem dX5_whistles_171 : decode cX5_whistles 171 = .ok (.iload_n 2, 1) := dk_28 (dk_at dksX5_whistles_7 5 rfl rfl)
theorem dX5_whistles_172 : decode cX5_whistles 172 = .ok (.invokestatic 84, 3) := dk_184 0 84 (dk_at dksX5_whistles_7 6 rfl rfl)
theorem dX5_whistles_175 : decode cX5_whistles 175 = .ok (.bipush 11, 2) := dk_16 11 (dk_at dksX5_whistles_7 9 rfl rfl)
theorem dX5_whistles_177 : decode cX5_whistles 177 = .ok (.iadd, 1) := dk_96 (dk_at dksX5_whistles_7 11 rfl rfl)
theorem dX5_whistles_178 : decode cX5_whistles 178 = .ok (.iaload, 1) := dk_46 (dk_at dksX5_whistles_7 12 rfl rfl)
theorem dX5_whistles_179 : decode cX5_whistles 179 = .ok (.aload_n 0, 1) := dk_42 (dk_at dksX5_whistles_7 13 rfl rfl)
theorem dX5_whistles_180 : decode cX5_whistles 180 = .ok (.getfield 9, 3) := dk_180 0 9 (dk_at dksX5_whistles_7 14 rfl rfl)
theorem dX5_whistles_183 : decode cX5_whistles 183 = .ok (.iload_n 3, 1) := dk_29 (dk_at dksX5_whistles_7 17 rfl rfl)
theorem dX5_whistles_184 : decode cX5_whistles 184 = .ok (.bipush 10, 2) := dk_16 10 (dk_at dksX5_whistles_7 18 rfl rfl)
theorem dX5_whistles_186 : decode cX5_whistles 186 = .ok (.iadd, 1) := dk_96 (dk_at dksX5_whistles_7 20 rfl rfl)
theorem dX5_whistles_187 : decode cX5_whistles 187 = .ok (.iaload, 1) := dk_46 (dk_at dksX5_whistles_7 21 rfl rfl)
theorem dX5_whistles_188 : decode cX5_whistles 188 = .ok (.iadd, 1) := dk_96 (dk_at dksX5_whistles_7 22 rfl rfl)
theorem dX5_whistles_189 : decode cX5_whistles 189 = .ok (.iastore, 1) := dk_79 (dk_at dksX5_whistles_7 23 rfl rfl)
theorem dX5_whistles_190 : decode cX5_whistles 190 = .ok (.aload_n 0, 1) := dk_42 (dk_at dksX5_whistles_8 0 rfl rfl)
theorem dX5_whistles_191 : decode cX5_whistles 191 = .ok (.getfield 9, 3) := dk_180 0 9 (dk_at dksX5_whistles_8 1 rfl rfl)
theorem dX5_whistles_194 : decode cX5_whistles 194 = .ok (.iload_n 3, 1) := dk_29 (dk_at dksX5_whistles_8 4 rfl rfl)
theorem dX5_whistles_195 : decode cX5_whistles 195 = .ok (.iconst 4, 1) := dk_7 (dk_at dksX5_whistles_8 5 rfl rfl)
theorem dX5_whistles_196 : decode cX5_whistles 196 = .ok (.iadd, 1) := dk_96 (dk_at dksX5_whistles_8 6 rfl rfl)
theorem dX5_whistles_197 : decode cX5_whistles 197 = .ok (.iload 4, 2) := dk_21 4 (dk_at dksX5_whistles_8 7 rfl rfl)
theorem dX5_whistles_199 : decode cX5_whistles 199 = .ok (.iastore, 1) := dk_79 (dk_at dksX5_whistles_8 9 rfl rfl)
theorem dX5_whistles_200 : decode cX5_whistles 200 = .ok (.aload_n 0, 1) := dk_42 (dk_at dksX5_whistles_8 10 rfl rfl)
theorem dX5_whistles_201 : decode cX5_whistles 201 = .ok (.getfield 9, 3) := dk_180 0 9 (dk_at dksX5_whistles_8 11 rfl rfl)
theorem dX5_whistles_204 : decode cX5_whistles 204 = .ok (.iload_n 3, 1) := dk_29 (dk_at dksX5_whistles_8 14 rfl rfl)
theorem dX5_whistles_205 : decode cX5_whistles 205 = .ok (.iconst 3, 1) := dk_6 (dk_at dksX5_whistles_8 15 rfl rfl)
theorem dX5_whistles_206 : decode cX5_whistles 206 = .ok (.iadd, 1) := dk_96 (dk_at dksX5_whistles_8 16 rfl rfl)
theorem dX5_whistles_207 : decode cX5_whistles 207 = .ok (.iconst 1, 1) := dk_4 (dk_at dksX5_whistles_8 17 rfl rfl)
theorem dX5_whistles_208 : decode cX5_whistles 208 = .ok (.iastore, 1) := dk_79 (dk_at dksX5_whistles_8 18 rfl rfl)
theorem dX5_whistles_209 : decode cX5_whistles 209 = .ok (.aload_n 0, 1) := dk_42 (dk_at dksX5_whistles_8 19 rfl rfl)
theorem dX5_whistles_210 : decode cX5_whistles 210 = .ok (.getfield 9, 3) := dk_180 0 9 (dk_at dksX5_whistles_8 20 rfl rfl)
theorem dX5_whistles_213 : decode cX5_whistles 213 = .ok (.iload_n 3, 1) := dk_29 (dk_at dksX5_whistles_8 23 rfl rfl)
theorem dX5_whistles_214 : decode cX5_whistles 214 = .ok (.bipush 9, 2) := dk_16 9 (dk_at dksX5_whistles_9 0 rfl rfl)
theorem dX5_whistles_216 : decode cX5_whistles 216 = .ok (.iadd, 1) := dk_96 (dk_at dksX5_whistles_9 2 rfl rfl)
theorem dX5_whistles_217 : decode cX5_whistles 217 = .ok (.dup2, 1) := dk_92 (dk_at dksX5_whistles_9 3 rfl rfl)
theorem dX5_whistles_218 : decode cX5_whistles 218 = .ok (.iaload, 1) := dk_46 (dk_at dksX5_whistles_9 4 rfl rfl)
theorem dX5_whistles_219 : decode cX5_whistles 219 = .ok (.iconst 1, 1) := dk_4 (dk_at dksX5_whistles_9 5 rfl rfl)
theorem dX5_whistles_220 : decode cX5_whistles 220 = .ok (.iadd, 1) := dk_96 (dk_at dksX5_whistles_9 6 rfl rfl)
theorem dX5_whistles_221 : decode cX5_whistles 221 = .ok (.iastore, 1) := dk_79 (dk_at dksX5_whistles_9 7 rfl rfl)
theorem dX5_whistles_222 : decode cX5_whistles 222 = .ok (.aload_n 0, 1) := dk_42 (dk_at dksX5_whistles_9 8 rfl rfl)
theorem dX5_whistles_223 : decode cX5_whistles 223 = .ok (.iconst 3, 1) := dk_6 (dk_at dksX5_whistles_9 9 rfl rfl)
theorem dX5_whistles_224 : decode cX5_whistles 224 = .ok (.iconst 1, 1) := dk_4 (dk_at dksX5_whistles_9 10 rfl rfl)
theorem dX5_whistles_225 : decode cX5_whistles 225 = .ok (.invokevirtual 126, 3) := dk_182 0 126 (dk_at dksX5_whistles_9 11 rfl rfl)
theorem dX5_whistles_228 : decode cX5_whistles 228 = .ok (.aload_n 0, 1) := dk_42 (dk_at dksX5_whistles_9 14 rfl rfl)
theorem dX5_whistles_229 : decode cX5_whistles 229 = .ok (.bipush 9, 2) := dk_16 9 (dk_at dksX5_whistles_9 15 rfl rfl)
theorem dX5_whistles_231 : decode cX5_whistles 231 = .ok (.iload 5, 2) := dk_21 5 (dk_at dksX5_whistles_9 17 rfl rfl)
theorem dX5_whistles_233 : decode cX5_whistles 233 = .ok (.invokevirtual 126, 3) := dk_182 0 126 (dk_at dksX5_whistles_9 19 rfl rfl)
theorem dX5_whistles_236 : decode cX5_whistles 236 = .ok (.return_, 1) := dk_177 (dk_at dksX5_whistles_9 22 rfl rfl)
abbrev cX5_loses : ByteArray := prog_15_method_40_code
def yX5_loses : MethodName := ⟨RX5, "loses", "()V"⟩
def dkwX5_loses_3 : List UInt8 := [167, 255, 187, 177]
abbrev dktX5_loses_3 : List UInt8 := dkwX5_loses_3 ++ []
def dkwX5_loses_2 : List UInt8 := [2, 160, 0, 19, 42, 180, 0, 9, 28, 6, 96, 6, 79, 42, 16, 8, 4, 182, 0, 126, 132, 1, 1]
abbrev dktX5_loses_2 : List UInt8 := dkwX5_loses_2 ++ dktX5_loses_3
def dkwX5_loses_1 : List UInt8 := [46, 154, 0, 43, 42, 42, 180, 0, 9, 28, 7, 96, 46, 42, 180, 0, 9, 28, 4, 96, 46, 182, 0, 106]
abbrev dktX5_loses_1 : List UInt8 := dkwX5_loses_1 ++ dktX5_loses_2
def dkwX5_loses_0 : List UInt8 := [3, 60, 27, 42, 180, 0, 9, 5, 46, 162, 0, 65, 27, 184, 0, 109, 61, 42, 180, 0, 9, 28, 6, 96]
abbrev dktX5_loses_0 : List UInt8 := dkwX5_loses_0 ++ dktX5_loses_1
theorem dksX5_loses_0 : cX5_loses.data.toList.drop 0 = dktX5_loses_0 := by decide +kernel
theorem dksX5_loses_1 : cX5_loses.data.toList.drop 24 = dktX5_loses_1 := dk_seg dksX5_loses_0 24 rfl rfl
theorem dksX5_loses_2 : cX5_loses.data.toList.drop 48 = dktX5_loses_2 := dk_seg dksX5_loses_1 24 rfl rfl
theorem dksX5_loses_3 : cX5_loses.data.toList.drop 71 = dktX5_loses_3 := dk_seg dksX5_loses_2 23 rfl rfl
theorem dX5_loses_0 : decode cX5_loses 0 = .ok (.iconst 0, 1) := dk_3 (dk_at dksX5_loses_0 0 rfl rfl)
theorem dX5_loses_1 : decode cX5_loses 1 = .ok (.istore_n 1, 1) := dk_60 (dk_at dksX5_loses_0 1 rfl rfl)
theorem dX5_loses_2 : decode cX5_loses 2 = .ok (.iload_n 1, 1) := dk_27 (dk_at dksX5_loses_0 2 rfl rfl)
theorem dX5_loses_3 : decode cX5_loses 3 = .ok (.aload_n 0, 1) := dk_42 (dk_at dksX5_loses_0 3 rfl rfl)
theorem dX5_loses_4 : decode cX5_loses 4 = .ok (.getfield 9, 3) := dk_180 0 9 (dk_at dksX5_loses_0 4 rfl rfl)
theorem dX5_loses_7 : decode cX5_loses 7 = .ok (.iconst 2, 1) := dk_5 (dk_at dksX5_loses_0 7 rfl rfl)
theorem dX5_loses_8 : decode cX5_loses 8 = .ok (.iaload, 1) := dk_46 (dk_at dksX5_loses_0 8 rfl rfl)
theorem dX5_loses_9 : decode cX5_loses 9 = .ok (.if_icmp .ge 65, 3) := dk_162 0 65 (dk_at dksX5_loses_0 9 rfl rfl)
theorem dX5_loses_12 : decode cX5_loses 12 = .ok (.iload_n 1, 1) := dk_27 (dk_at dksX5_loses_0 12 rfl rfl)
theorem dX5_loses_13 : decode cX5_loses 13 = .ok (.invokestatic 109, 3) := dk_184 0 109 (dk_at dksX5_loses_0 13 rfl rfl)
theorem dX5_loses_16 : decode cX5_loses 16 = .ok (.istore_n 2, 1) := dk_61 (dk_at dksX5_loses_0 16 rfl rfl)
theorem dX5_loses_17 : decode cX5_loses 17 = .ok (.aload_n 0, 1) := dk_42 (dk_at dksX5_loses_0 17 rfl rfl)
theorem dX5_loses_18 : decode cX5_loses 18 = .ok (.getfield 9, 3) := dk_180 0 9 (dk_at dksX5_loses_0 18 rfl rfl)
theorem dX5_loses_21 : decode cX5_loses 21 = .ok (.iload_n 2, 1) := dk_28 (dk_at dksX5_loses_0 21 rfl rfl)
theorem dX5_loses_22 : decode cX5_loses 22 = .ok (.iconst 3, 1) := dk_6 (dk_at dksX5_loses_0 22 rfl rfl)
theorem dX5_loses_23 : decode cX5_loses 23 = .ok (.iadd, 1) := dk_96 (dk_at dksX5_loses_0 23 rfl rfl)
theorem dX5_loses_24 : decode cX5_loses 24 = .ok (.iaload, 1) := dk_46 (dk_at dksX5_loses_1 0 rfl rfl)
theorem dX5_loses_25 : decode cX5_loses 25 = .ok (.ifCond .ne 43, 3) := dk_154 0 43 (dk_at dksX5_loses_1 1 rfl rfl)
theorem dX5_loses_28 : decode cX5_loses 28 = .ok (.aload_n 0, 1) := dk_42 (dk_at dksX5_loses_1 4 rfl rfl)
theorem dX5_loses_29 : decode cX5_loses 29 = .ok (.aload_n 0, 1) := dk_42 (dk_at dksX5_loses_1 5 rfl rfl)
theorem dX5_loses_30 : decode cX5_loses 30 = .ok (.getfield 9, 3) := dk_180 0 9 (dk_at dksX5_loses_1 6 rfl rfl)
theorem dX5_loses_33 : decode cX5_loses 33 = .ok (.iload_n 2, 1) := dk_28 (dk_at dksX5_loses_1 9 rfl rfl)
theorem dX5_loses_34 : decode cX5_loses 34 = .ok (.iconst 4, 1) := dk_7 (dk_at dksX5_loses_1 10 rfl rfl)
theorem dX5_loses_35 : decode cX5_loses 35 = .ok (.iadd, 1) := dk_96 (dk_at dksX5_loses_1 11 rfl rfl)
theorem dX5_loses_36 : decode cX5_loses 36 = .ok (.iaload, 1) := dk_46 (dk_at dksX5_loses_1 12 rfl rfl)
theorem dX5_loses_37 : decode cX5_loses 37 = .ok (.aload_n 0, 1) := dk_42 (dk_at dksX5_loses_1 13 rfl rfl)
theorem dX5_loses_38 : decode cX5_loses 38 = .ok (.getfield 9, 3) := dk_180 0 9 (dk_at dksX5_loses_1 14 rfl rfl)
theorem dX5_loses_41 : decode cX5_loses 41 = .ok (.iload_n 2, 1) := dk_28 (dk_at dksX5_loses_1 17 rfl rfl)
theorem dX5_loses_42 : decode cX5_loses 42 = .ok (.iconst 1, 1) := dk_4 (dk_at dksX5_loses_1 18 rfl rfl)
theorem dX5_loses_43 : decode cX5_loses 43 = .ok (.iadd, 1) := dk_96 (dk_at dksX5_loses_1 19 rfl rfl)
theorem dX5_loses_44 : decode cX5_loses 44 = .ok (.iaload, 1) := dk_46 (dk_at dksX5_loses_1 20 rfl rfl)
theorem dX5_loses_45 : decode cX5_loses 45 = .ok (.invokevirtual 106, 3) := dk_182 0 106 (dk_at dksX5_loses_1 21 rfl rfl)
theorem dX5_loses_48 : decode cX5_loses 48 = .ok (.iconst (-1), 1) := dk_2 (dk_at dksX5_loses_2 0 rfl rfl)
theorem dX5_loses_49 : decode cX5_loses 49 = .ok (.if_icmp .ne 19, 3) := dk_160 0 19 (dk_at dksX5_loses_2 1 rfl rfl)
theorem dX5_loses_52 : decode cX5_loses 52 = .ok (.aload_n 0, 1) := dk_42 (dk_at dksX5_loses_2 4 rfl rfl)
theorem dX5_loses_53 : decode cX5_loses 53 = .ok (.getfield 9, 3) := dk_180 0 9 (dk_at dksX5_loses_2 5 rfl rfl)
theorem dX5_loses_56 : decode cX5_loses 56 = .ok (.iload_n 2, 1) := dk_28 (dk_at dksX5_loses_2 8 rfl rfl)
theorem dX5_loses_57 : decode cX5_loses 57 = .ok (.iconst 3, 1) := dk_6 (dk_at dksX5_loses_2 9 rfl rfl)
theorem dX5_loses_58 : decode cX5_loses 58 = .ok (.iadd, 1) := dk_96 (dk_at dksX5_loses_2 10 rfl rfl)
theorem dX5_loses_59 : decode cX5_loses 59 = .ok (.iconst 3, 1) := dk_6 (dk_at dksX5_loses_2 11 rfl rfl)
theorem dX5_loses_60 : decode cX5_loses 60 = .ok (.iastore, 1) := dk_79 (dk_at dksX5_loses_2 12 rfl rfl)
theorem dX5_loses_61 : decode cX5_loses 61 = .ok (.aload_n 0, 1) := dk_42 (dk_at dksX5_loses_2 13 rfl rfl)
theorem dX5_loses_62 : decode cX5_loses 62 = .ok (.bipush 8, 2) := dk_16 8 (dk_at dksX5_loses_2 14 rfl rfl)
theorem dX5_loses_64 : decode cX5_loses 64 = .ok (.iconst 1, 1) := dk_4 (dk_at dksX5_loses_2 16 rfl rfl)
theorem dX5_loses_65 : decode cX5_loses 65 = .ok (.invokevirtual 126, 3) := dk_182 0 126 (dk_at dksX5_loses_2 17 rfl rfl)
theorem dX5_loses_68 : decode cX5_loses 68 = .ok (.iinc 1 1, 3) := dk_132 1 1 (dk_at dksX5_loses_2 20 rfl rfl)
theorem dX5_loses_71 : decode cX5_loses 71 = .ok (.goto (-69), 3) := dk_167 255 187 (dk_at dksX5_loses_3 0 rfl rfl)
theorem dX5_loses_74 : decode cX5_loses 74 = .ok (.return_, 1) := dk_177 (dk_at dksX5_loses_3 3 rfl rfl)
abbrev cX5_givesCoins : ByteArray := prog_15_method_43_code
def yX5_givesCoins : MethodName := ⟨RX5, "givesCoins", "(II)I"⟩
def dkwX5_givesCoins_1 : List UInt8 := [180, 0, 9, 27, 184, 0, 84, 16, 10, 96, 46, 172]
abbrev dktX5_givesCoins_1 : List UInt8 := dkwX5_givesCoins_1 ++ []
def dkwX5_givesCoins_0 : List UInt8 := [42, 180, 0, 9, 27, 184, 0, 84, 16, 10, 96, 92, 46, 28, 96, 79, 42, 16, 10, 28, 182, 0, 126, 42]
abbrev dktX5_givesCoins_0 : List UInt8 := dkwX5_givesCoins_0 ++ dktX5_givesCoins_1
theorem dksX5_givesCoins_0 : cX5_givesCoins.data.toList.drop 0 = dktX5_givesCoins_0 := by decide +kernel
theorem dksX5_givesCoins_1 : cX5_givesCoins.data.toList.drop 24 = dktX5_givesCoins_1 := dk_seg dksX5_givesCoins_0 24 rfl rfl
theorem dX5_givesCoins_0 : decode cX5_givesCoins 0 = .ok (.aload_n 0, 1) := dk_42 (dk_at dksX5_givesCoins_0 0 rfl rfl)
theorem dX5_givesCoins_1 : decode cX5_givesCoins 1 = .ok (.getfield 9, 3) := dk_180 0 9 (dk_at dksX5_givesCoins_0 1 rfl rfl)
theorem dX5_givesCoins_4 : decode cX5_givesCoins 4 = .ok (.iload_n 1, 1) := dk_27 (dk_at dksX5_givesCoins_0 4 rfl rfl)
theorem dX5_givesCoins_5 : decode cX5_givesCoins 5 = .ok (.invokestatic 84, 3) := dk_184 0 84 (dk_at dksX5_givesCoins_0 5 rfl rfl)
theorem dX5_givesCoins_8 : decode cX5_givesCoins 8 = .ok (.bipush 10, 2) := dk_16 10 (dk_at dksX5_givesCoins_0 8 rfl rfl)
theorem dX5_givesCoins_10 : decode cX5_givesCoins 10 = .ok (.iadd, 1) := dk_96 (dk_at dksX5_givesCoins_0 10 rfl rfl)
theorem dX5_givesCoins_11 : decode cX5_givesCoins 11 = .ok (.dup2, 1) := dk_92 (dk_at dksX5_givesCoins_0 11 rfl rfl)
theorem dX5_givesCoins_12 : decode cX5_givesCoins 12 = .ok (.iaload, 1) := dk_46 (dk_at dksX5_givesCoins_0 12 rfl rfl)
theorem dX5_givesCoins_13 : decode cX5_givesCoins 13 = .ok (.iload_n 2, 1) := dk_28 (dk_at dksX5_givesCoins_0 13 rfl rfl)
theorem dX5_givesCoins_14 : decode cX5_givesCoins 14 = .ok (.iadd, 1) := dk_96 (dk_at dksX5_givesCoins_0 14 rfl rfl)
theorem dX5_givesCoins_15 : decode cX5_givesCoins 15 = .ok (.iastore, 1) := dk_79 (dk_at dksX5_givesCoins_0 15 rfl rfl)
theorem dX5_givesCoins_16 : decode cX5_givesCoins 16 = .ok (.aload_n 0, 1) := dk_42 (dk_at dksX5_givesCoins_0 16 rfl rfl)
theorem dX5_givesCoins_17 : decode cX5_givesCoins 17 = .ok (.bipush 10, 2) := dk_16 10 (dk_at dksX5_givesCoins_0 17 rfl rfl)
theorem dX5_givesCoins_19 : decode cX5_givesCoins 19 = .ok (.iload_n 2, 1) := dk_28 (dk_at dksX5_givesCoins_0 19 rfl rfl)
theorem dX5_givesCoins_20 : decode cX5_givesCoins 20 = .ok (.invokevirtual 126, 3) := dk_182 0 126 (dk_at dksX5_givesCoins_0 20 rfl rfl)
theorem dX5_givesCoins_23 : decode cX5_givesCoins 23 = .ok (.aload_n 0, 1) := dk_42 (dk_at dksX5_givesCoins_0 23 rfl rfl)
theorem dX5_givesCoins_24 : decode cX5_givesCoins 24 = .ok (.getfield 9, 3) := dk_180 0 9 (dk_at dksX5_givesCoins_1 0 rfl rfl)
theorem dX5_givesCoins_27 : decode cX5_givesCoins 27 = .ok (.iload_n 1, 1) := dk_27 (dk_at dksX5_givesCoins_1 3 rfl rfl)
theorem dX5_givesCoins_28 : decode cX5_givesCoins 28 = .ok (.invokestatic 84, 3) := dk_184 0 84 (dk_at dksX5_givesCoins_1 4 rfl rfl)
theorem dX5_givesCoins_31 : decode cX5_givesCoins 31 = .ok (.bipush 10, 2) := dk_16 10 (dk_at dksX5_givesCoins_1 7 rfl rfl)
theorem dX5_givesCoins_33 : decode cX5_givesCoins 33 = .ok (.iadd, 1) := dk_96 (dk_at dksX5_givesCoins_1 9 rfl rfl)
theorem dX5_givesCoins_34 : decode cX5_givesCoins 34 = .ok (.iaload, 1) := dk_46 (dk_at dksX5_givesCoins_1 10 rfl rfl)
theorem dX5_givesCoins_35 : decode cX5_givesCoins 35 = .ok (.ireturn, 1) := dk_172 (dk_at dksX5_givesCoins_1 11 rfl rfl)
abbrev cX5_cuts : ByteArray := prog_15_method_44_code
def yX5_cuts : MethodName := ⟨RX5, "cuts", "(I)I"⟩
def dkwX5_cuts_2 : List UInt8 := [100, 79, 42, 180, 0, 9, 4, 46, 172]
abbrev dktX5_cuts_2 : List UInt8 := dkwX5_cuts_2 ++ []
def dkwX5_cuts_1 : List UInt8 := [28, 42, 180, 0, 9, 28, 6, 96, 46, 79, 132, 2, 1, 167, 255, 224, 42, 180, 0, 9, 4, 92, 46, 4]
abbrev dktX5_cuts_1 : List UInt8 := dkwX5_cuts_1 ++ dktX5_cuts_2
def dkwX5_cuts_0 : List UInt8 := [27, 184, 0, 88, 61, 28, 42, 180, 0, 9, 4, 46, 4, 100, 184, 0, 88, 162, 0, 23, 42, 180, 0, 9]
abbrev dktX5_cuts_0 : List UInt8 := dkwX5_cuts_0 ++ dktX5_cuts_1
theorem dksX5_cuts_0 : cX5_cuts.data.toList.drop 0 = dktX5_cuts_0 := by decide +kernel
theorem dksX5_cuts_1 : cX5_cuts.data.toList.drop 24 = dktX5_cuts_1 := dk_seg dksX5_cuts_0 24 rfl rfl
theorem dksX5_cuts_2 : cX5_cuts.data.toList.drop 48 = dktX5_cuts_2 := dk_seg dksX5_cuts_1 24 rfl rfl
theorem dX5_cuts_0 : decode cX5_cuts 0 = .ok (.iload_n 1, 1) := dk_27 (dk_at dksX5_cuts_0 0 rfl rfl)
theorem dX5_cuts_1 : decode cX5_cuts 1 = .ok (.invokestatic 88, 3) := dk_184 0 88 (dk_at dksX5_cuts_0 1 rfl rfl)
theorem dX5_cuts_4 : decode cX5_cuts 4 = .ok (.istore_n 2, 1) := dk_61 (dk_at dksX5_cuts_0 4 rfl rfl)
theorem dX5_cuts_5 : decode cX5_cuts 5 = .ok (.iload_n 2, 1) := dk_28 (dk_at dksX5_cuts_0 5 rfl rfl)
theorem dX5_cuts_6 : decode cX5_cuts 6 = .ok (.aload_n 0, 1) := dk_42 (dk_at dksX5_cuts_0 6 rfl rfl)
theorem dX5_cuts_7 : decode cX5_cuts 7 = .ok (.getfield 9, 3) := dk_180 0 9 (dk_at dksX5_cuts_0 7 rfl rfl)
theorem dX5_cuts_10 : decode cX5_cuts 10 = .ok (.iconst 1, 1) := dk_4 (dk_at dksX5_cuts_0 10 rfl rfl)
theorem dX5_cuts_11 : decode cX5_cuts 11 = .ok (.iaload, 1) := dk_46 (dk_at dksX5_cuts_0 11 rfl rfl)
theorem dX5_cuts_12 : decode cX5_cuts 12 = .ok (.iconst 1, 1) := dk_4 (dk_at dksX5_cuts_0 12 rfl rfl)
theorem dX5_cuts_13 : decode cX5_cuts 13 = .ok (.isub, 1) := dk_100 (dk_at dksX5_cuts_0 13 rfl rfl)
theorem dX5_cuts_14 : decode cX5_cuts 14 = .ok (.invokestatic 88, 3) := dk_184 0 88 (dk_at dksX5_cuts_0 14 rfl rfl)
theorem dX5_cuts_17 : decode cX5_cuts 17 = .ok (.if_icmp .ge 23, 3) := dk_162 0 23 (dk_at dksX5_cuts_0 17 rfl rfl)
theorem dX5_cuts_20 : decode cX5_cuts 20 = .ok (.aload_n 0, 1) := dk_42 (dk_at dksX5_cuts_0 20 rfl rfl)
theorem dX5_cuts_21 : decode cX5_cuts 21 = .ok (.getfield 9, 3) := dk_180 0 9 (dk_at dksX5_cuts_0 21 rfl rfl)
theorem dX5_cuts_24 : decode cX5_cuts 24 = .ok (.iload_n 2, 1) := dk_28 (dk_at dksX5_cuts_1 0 rfl rfl)
theorem dX5_cuts_25 : decode cX5_cuts 25 = .ok (.aload_n 0, 1) := dk_42 (dk_at dksX5_cuts_1 1 rfl rfl)
theorem dX5_cuts_26 : decode cX5_cuts 26 = .ok (.getfield 9, 3) := dk_180 0 9 (dk_at dksX5_cuts_1 2 rfl rfl)
theorem dX5_cuts_29 : decode cX5_cuts 29 = .ok (.iload_n 2, 1) := dk_28 (dk_at dksX5_cuts_1 5 rfl rfl)
theorem dX5_cuts_30 : decode cX5_cuts 30 = .ok (.iconst 3, 1) := dk_6 (dk_at dksX5_cuts_1 6 rfl rfl)
theorem dX5_cuts_31 : decode cX5_cuts 31 = .ok (.iadd, 1) := dk_96 (dk_at dksX5_cuts_1 7 rfl rfl)
theorem dX5_cuts_32 : decode cX5_cuts 32 = .ok (.iaload, 1) := dk_46 (dk_at dksX5_cuts_1 8 rfl rfl)
theorem dX5_cuts_33 : decode cX5_cuts 33 = .ok (.iastore, 1) := dk_79 (dk_at dksX5_cuts_1 9 rfl rfl)
theorem dX5_cuts_34 : decode cX5_cuts 34 = .ok (.iinc 2 1, 3) := dk_132 2 1 (dk_at dksX5_cuts_1 10 rfl rfl)
theorem dX5_cuts_37 : decode cX5_cuts 37 = .ok (.goto (-32), 3) := dk_167 255 224 (dk_at dksX5_cuts_1 13 rfl rfl)
theorem dX5_cuts_40 : decode cX5_cuts 40 = .ok (.aload_n 0, 1) := dk_42 (dk_at dksX5_cuts_1 16 rfl rfl)
theorem dX5_cuts_41 : decode cX5_cuts 41 = .ok (.getfield 9, 3) := dk_180 0 9 (dk_at dksX5_cuts_1 17 rfl rfl)
theorem dX5_cuts_44 : decode cX5_cuts 44 = .ok (.iconst 1, 1) := dk_4 (dk_at dksX5_cuts_1 20 rfl rfl)
theorem dX5_cuts_45 : decode cX5_cuts 45 = .ok (.dup2, 1) := dk_92 (dk_at dksX5_cuts_1 21 rfl rfl)
theorem dX5_cuts_46 : decode cX5_cuts 46 = .ok (.iaload, 1) := dk_46 (dk_at dksX5_cuts_1 22 rfl rfl)
theorem dX5_cuts_47 : decode cX5_cuts 47 = .ok (.iconst 1, 1) := dk_4 (dk_at dksX5_cuts_1 23 rfl rfl)
theorem dX5_cuts_48 : decode cX5_cuts 48 = .ok (.isub, 1) := dk_100 (dk_at dksX5_cuts_2 0 rfl rfl)
theorem dX5_cuts_49 : decode cX5_cuts 49 = .ok (.iastore, 1) := dk_79 (dk_at dksX5_cuts_2 1 rfl rfl)
theorem dX5_cuts_50 : decode cX5_cuts 50 = .ok (.aload_n 0, 1) := dk_42 (dk_at dksX5_cuts_2 2 rfl rfl)
theorem dX5_cuts_51 : decode cX5_cuts 51 = .ok (.getfield 9, 3) := dk_180 0 9 (dk_at dksX5_cuts_2 3 rfl rfl)
theorem dX5_cuts_54 : decode cX5_cuts 54 = .ok (.iconst 1, 1) := dk_4 (dk_at dksX5_cuts_2 6 rfl rfl)
theorem dX5_cuts_55 : decode cX5_cuts 55 = .ok (.iaload, 1) := dk_46 (dk_at dksX5_cuts_2 7 rfl rfl)
theorem dX5_cuts_56 : decode cX5_cuts 56 = .ok (.ireturn, 1) := dk_172 (dk_at dksX5_cuts_2 8 rfl rfl)
abbrev cX5_sets : ByteArray := prog_15_method_47_code
def yX5_sets : MethodName := ⟨RX5, "sets", "(II)I"⟩
def dkwX5_sets_0 : List UInt8 := [42, 180, 0, 9, 27, 46, 62, 42, 180, 0, 9, 27, 28, 79, 29, 172]
abbrev dktX5_sets_0 : List UInt8 := dkwX5_sets_0 ++ []
theorem dksX5_sets_0 : cX5_sets.data.toList.drop 0 = dktX5_sets_0 := by decide +kernel
theorem dX5_sets_0 : decode cX5_sets 0 = .ok (.aload_n 0, 1) := dk_42 (dk_at dksX5_sets_0 0 rfl rfl)
theorem dX5_sets_1 : decode cX5_sets 1 = .ok (.getfield 9, 3) := dk_180 0 9 (dk_at dksX5_sets_0 1 rfl rfl)
theorem dX5_sets_4 : decode cX5_sets 4 = .ok (.iload_n 1, 1) := dk_27 (dk_at dksX5_sets_0 4 rfl rfl)
theorem dX5_sets_5 : decode cX5_sets 5 = .ok (.iaload, 1) := dk_46 (dk_at dksX5_sets_0 5 rfl rfl)
theorem dX5_sets_6 : decode cX5_sets 6 = .ok (.istore_n 3, 1) := dk_62 (dk_at dksX5_sets_0 6 rfl rfl)
theorem dX5_sets_7 : decode cX5_sets 7 = .ok (.aload_n 0, 1) := dk_42 (dk_at dksX5_sets_0 7 rfl rfl)
theorem dX5_sets_8 : decode cX5_sets 8 = .ok (.getfield 9, 3) := dk_180 0 9 (dk_at dksX5_sets_0 8 rfl rfl)
theorem dX5_sets_11 : decode cX5_sets 11 = .ok (.iload_n 1, 1) := dk_27 (dk_at dksX5_sets_0 11 rfl rfl)
theorem dX5_sets_12 : decode cX5_sets 12 = .ok (.iload_n 2, 1) := dk_28 (dk_at dksX5_sets_0 12 rfl rfl)
theorem dX5_sets_13 : decode cX5_sets 13 = .ok (.iastore, 1) := dk_79 (dk_at dksX5_sets_0 13 rfl rfl)
theorem dX5_sets_14 : decode cX5_sets 14 = .ok (.iload_n 3, 1) := dk_29 (dk_at dksX5_sets_0 14 rfl rfl)
theorem dX5_sets_15 : decode cX5_sets 15 = .ok (.ireturn, 1) := dk_172 (dk_at dksX5_sets_0 15 rfl rfl)
abbrev cX5_count : ByteArray := prog_15_method_81_code
def yX5_count : MethodName := ⟨RX5, "count", "(I)I"⟩
def dkwX5_count_3 : List UInt8 := [172, 42, 180, 0, 81, 172, 42, 180, 0, 9, 27, 7, 100, 46, 172]
abbrev dktX5_count_3 : List UInt8 := dkwX5_count_3 ++ []
def dkwX5_count_2 : List UInt8 := [42, 180, 0, 9, 27, 46, 172, 42, 27, 6, 100, 182, 1, 113, 172, 42, 182, 1, 116, 172, 42, 182, 1, 119]
abbrev dktX5_count_2 : List UInt8 := dkwX5_count_2 ++ dktX5_count_3
def dkwX5_count_1 : List UInt8 := [170, 0, 0, 0, 0, 0, 101, 0, 0, 0, 0, 0, 0, 0, 13, 0, 0, 0, 71, 0, 0, 0, 71, 0, 0, 0, 71, 0, 0, 0, 78, 0, 0, 0, 78, 0, 0, 0, 78, 0, 0, 0, 78, 0, 0, 0, 101, 0, 0, 0, 101, 0, 0, 0, 101, 0, 0, 0, 101, 0, 0, 0, 86, 0, 0, 0, 91, 0, 0, 0, 96]
abbrev dktX5_count_1 : List UInt8 := dkwX5_count_1 ++ dktX5_count_2
def dkwX5_count_0 : List UInt8 := [42, 27, 133, 9, 20, 1, 107, 184, 0, 199, 4, 4, 182, 1, 109, 154, 0, 5, 3, 172, 27]
abbrev dktX5_count_0 : List UInt8 := dkwX5_count_0 ++ dktX5_count_1
theorem dksX5_count_0 : cX5_count.data.toList.drop 0 = dktX5_count_0 := by decide +kernel
theorem dksX5_count_1 : cX5_count.data.toList.drop 21 = dktX5_count_1 := dk_seg dksX5_count_0 21 rfl rfl
theorem dksX5_count_2 : cX5_count.data.toList.drop 92 = dktX5_count_2 := dk_seg dksX5_count_1 71 rfl rfl
theorem dksX5_count_3 : cX5_count.data.toList.drop 116 = dktX5_count_3 := dk_seg dksX5_count_2 24 rfl rfl
theorem dX5_count_0 : decode cX5_count 0 = .ok (.aload_n 0, 1) := dk_42 (dk_at dksX5_count_0 0 rfl rfl)
theorem dX5_count_1 : decode cX5_count 1 = .ok (.iload_n 1, 1) := dk_27 (dk_at dksX5_count_0 1 rfl rfl)
theorem dX5_count_2 : decode cX5_count 2 = .ok (.i2l, 1) := dk_133 (dk_at dksX5_count_0 2 rfl rfl)
theorem dX5_count_3 : decode cX5_count 3 = .ok (.lconst 0, 1) := dk_9 (dk_at dksX5_count_0 3 rfl rfl)
theorem dX5_count_4 : decode cX5_count 4 = .ok (.ldc2_w 363, 3) := dk_20 1 107 (dk_at dksX5_count_0 4 rfl rfl)
theorem dX5_count_7 : decode cX5_count 7 = .ok (.invokestatic 199, 3) := dk_184 0 199 (dk_at dksX5_count_0 7 rfl rfl)
theorem dX5_count_10 : decode cX5_count 10 = .ok (.iconst 1, 1) := dk_4 (dk_at dksX5_count_0 10 rfl rfl)
theorem dX5_count_11 : decode cX5_count 11 = .ok (.iconst 1, 1) := dk_4 (dk_at dksX5_count_0 11 rfl rfl)
theorem dX5_count_12 : decode cX5_count 12 = .ok (.invokevirtual 365, 3) := dk_182 1 109 (dk_at dksX5_count_0 12 rfl rfl)
theorem dX5_count_15 : decode cX5_count 15 = .ok (.ifCond .ne 5, 3) := dk_154 0 5 (dk_at dksX5_count_0 15 rfl rfl)
theorem dX5_count_18 : decode cX5_count 18 = .ok (.iconst 0, 1) := dk_3 (dk_at dksX5_count_0 18 rfl rfl)
theorem dX5_count_19 : decode cX5_count 19 = .ok (.ireturn, 1) := dk_172 (dk_at dksX5_count_0 19 rfl rfl)
theorem dX5_count_20 : decode cX5_count 20 = .ok (.iload_n 1, 1) := dk_27 (dk_at dksX5_count_0 20 rfl rfl)
theorem dX5_count_21 : decode cX5_count 21 = .ok (.tableswitch 101 0 13 #[71, 71, 71, 78, 78, 78, 78, 101, 101, 101, 101, 86, 91, 96], 71) := by decide +kernel
theorem dX5_count_92 : decode cX5_count 92 = .ok (.aload_n 0, 1) := dk_42 (dk_at dksX5_count_2 0 rfl rfl)
theorem dX5_count_93 : decode cX5_count 93 = .ok (.getfield 9, 3) := dk_180 0 9 (dk_at dksX5_count_2 1 rfl rfl)
theorem dX5_count_96 : decode cX5_count 96 = .ok (.iload_n 1, 1) := dk_27 (dk_at dksX5_count_2 4 rfl rfl)
theorem dX5_count_97 : decode cX5_count 97 = .ok (.iaload, 1) := dk_46 (dk_at dksX5_count_2 5 rfl rfl)
theorem dX5_count_98 : decode cX5_count 98 = .ok (.ireturn, 1) := dk_172 (dk_at dksX5_count_2 6 rfl rfl)
theorem dX5_count_99 : decode cX5_count 99 = .ok (.aload_n 0, 1) := dk_42 (dk_at dksX5_count_2 7 rfl rfl)
theorem dX5_count_100 : decode cX5_count 100 = .ok (.iload_n 1, 1) := dk_27 (dk_at dksX5_count_2 8 rfl rfl)
theorem dX5_count_101 : decode cX5_count 101 = .ok (.iconst 3, 1) := dk_6 (dk_at dksX5_count_2 9 rfl rfl)
theorem dX5_count_102 : decode cX5_count 102 = .ok (.isub, 1) := dk_100 (dk_at dksX5_count_2 10 rfl rfl)
theorem dX5_count_103 : decode cX5_count 103 = .ok (.invokevirtual 369, 3) := dk_182 1 113 (dk_at dksX5_count_2 11 rfl rfl)
theorem dX5_count_106 : decode cX5_count 106 = .ok (.ireturn, 1) := dk_172 (dk_at dksX5_count_2 14 rfl rfl)
theorem dX5_count_107 : decode cX5_count 107 = .ok (.aload_n 0, 1) := dk_42 (dk_at dksX5_count_2 15 rfl rfl)
theorem dX5_count_108 : decode cX5_count 108 = .ok (.invokevirtual 372, 3) := dk_182 1 116 (dk_at dksX5_count_2 16 rfl rfl)
theorem dX5_count_111 : decode cX5_count 111 = .ok (.ireturn, 1) := dk_172 (dk_at dksX5_count_2 19 rfl rfl)
theorem dX5_count_112 : decode cX5_count 112 = .ok (.aload_n 0, 1) := dk_42 (dk_at dksX5_count_2 20 rfl rfl)
theorem dX5_count_113 : decode cX5_count 113 = .ok (.invokevirtual 375, 3) := dk_182 1 119 (dk_at dksX5_count_2 21 rfl rfl)
theorem dX5_count_116 : decode cX5_count 116 = .ok (.ireturn, 1) := dk_172 (dk_at dksX5_count_3 0 rfl rfl)
theorem dX5_count_117 : decode cX5_count 117 = .ok (.aload_n 0, 1) := dk_42 (dk_at dksX5_count_3 1 rfl rfl)
theorem dX5_count_118 : decode cX5_count 118 = .ok (.getfield 81, 3) := dk_180 0 81 (dk_at dksX5_count_3 2 rfl rfl)
theorem dX5_count_121 : decode cX5_count 121 = .ok (.ireturn, 1) := dk_172 (dk_at dksX5_count_3 5 rfl rfl)
theorem dX5_count_122 : decode cX5_count 122 = .ok (.aload_n 0, 1) := dk_42 (dk_at dksX5_count_3 6 rfl rfl)
theorem dX5_count_123 : decode cX5_count 123 = .ok (.getfield 9, 3) := dk_180 0 9 (dk_at dksX5_count_3 7 rfl rfl)
theorem dX5_count_126 : decode cX5_count 126 = .ok (.iload_n 1, 1) := dk_27 (dk_at dksX5_count_3 10 rfl rfl)
theorem dX5_count_127 : decode cX5_count 127 = .ok (.iconst 4, 1) := dk_7 (dk_at dksX5_count_3 11 rfl rfl)
theorem dX5_count_128 : decode cX5_count 128 = .ok (.isub, 1) := dk_100 (dk_at dksX5_count_3 12 rfl rfl)
theorem dX5_count_129 : decode cX5_count 129 = .ok (.iaload, 1) := dk_46 (dk_at dksX5_count_3 13 rfl rfl)
theorem dX5_count_130 : decode cX5_count 130 = .ok (.ireturn, 1) := dk_172 (dk_at dksX5_count_3 14 rfl rfl)
abbrev cX5_may : ByteArray := prog_15_method_5_code
def yX5_may : MethodName := ⟨RX5, "may", "(ZZZ)Z"⟩
def dkwX5_may_1 : List UInt8 := [167, 0, 4, 3, 181, 0, 78, 42, 180, 0, 78, 154, 0, 7, 4, 167, 0, 4, 3, 172]
abbrev dktX5_may_1 : List UInt8 := dkwX5_may_1 ++ []
def dkwX5_may_0 : List UInt8 := [42, 27, 154, 0, 7, 4, 167, 0, 20, 28, 154, 0, 7, 5, 167, 0, 12, 29, 154, 0, 7, 6]
abbrev dktX5_may_0 : List UInt8 := dkwX5_may_0 ++ dktX5_may_1
theorem dksX5_may_0 : cX5_may.data.toList.drop 0 = dktX5_may_0 := by decide +kernel
theorem dksX5_may_1 : cX5_may.data.toList.drop 22 = dktX5_may_1 := dk_seg dksX5_may_0 22 rfl rfl
theorem dX5_may_0 : decode cX5_may 0 = .ok (.aload_n 0, 1) := dk_42 (dk_at dksX5_may_0 0 rfl rfl)
theorem dX5_may_1 : decode cX5_may 1 = .ok (.iload_n 1, 1) := dk_27 (dk_at dksX5_may_0 1 rfl rfl)
theorem dX5_may_2 : decode cX5_may 2 = .ok (.ifCond .ne 7, 3) := dk_154 0 7 (dk_at dksX5_may_0 2 rfl rfl)
theorem dX5_may_5 : decode cX5_may 5 = .ok (.iconst 1, 1) := dk_4 (dk_at dksX5_may_0 5 rfl rfl)
theorem dX5_may_6 : decode cX5_may 6 = .ok (.goto 20, 3) := dk_167 0 20 (dk_at dksX5_may_0 6 rfl rfl)
theorem dX5_may_9 : decode cX5_may 9 = .ok (.iload_n 2, 1) := dk_28 (dk_at dksX5_may_0 9 rfl rfl)
theorem dX5_may_10 : decode cX5_may 10 = .ok (.ifCond .ne 7, 3) := dk_154 0 7 (dk_at dksX5_may_0 10 rfl rfl)
theorem dX5_may_13 : decode cX5_may 13 = .ok (.iconst 2, 1) := dk_5 (dk_at dksX5_may_0 13 rfl rfl)
theorem dX5_may_14 : decode cX5_may 14 = .ok (.goto 12, 3) := dk_167 0 12 (dk_at dksX5_may_0 14 rfl rfl)
theorem dX5_may_17 : decode cX5_may 17 = .ok (.iload_n 3, 1) := dk_29 (dk_at dksX5_may_0 17 rfl rfl)
theorem dX5_may_18 : decode cX5_may 18 = .ok (.ifCond .ne 7, 3) := dk_154 0 7 (dk_at dksX5_may_0 18 rfl rfl)
theorem dX5_may_21 : decode cX5_may 21 = .ok (.iconst 3, 1) := dk_6 (dk_at dksX5_may_0 21 rfl rfl)
theorem dX5_may_22 : decode cX5_may 22 = .ok (.goto 4, 3) := dk_167 0 4 (dk_at dksX5_may_1 0 rfl rfl)
theorem dX5_may_25 : decode cX5_may 25 = .ok (.iconst 0, 1) := dk_3 (dk_at dksX5_may_1 3 rfl rfl)
theorem dX5_may_26 : decode cX5_may 26 = .ok (.putfield 78, 3) := dk_181 0 78 (dk_at dksX5_may_1 4 rfl rfl)
theorem dX5_may_29 : decode cX5_may 29 = .ok (.aload_n 0, 1) := dk_42 (dk_at dksX5_may_1 7 rfl rfl)
theorem dX5_may_30 : decode cX5_may 30 = .ok (.getfield 78, 3) := dk_180 0 78 (dk_at dksX5_may_1 8 rfl rfl)
theorem dX5_may_33 : decode cX5_may 33 = .ok (.ifCond .ne 7, 3) := dk_154 0 7 (dk_at dksX5_may_1 11 rfl rfl)
theorem dX5_may_36 : decode cX5_may 36 = .ok (.iconst 1, 1) := dk_4 (dk_at dksX5_may_1 14 rfl rfl)
theorem dX5_may_37 : decode cX5_may 37 = .ok (.goto 4, 3) := dk_167 0 4 (dk_at dksX5_may_1 15 rfl rfl)
theorem dX5_may_40 : decode cX5_may 40 = .ok (.iconst 0, 1) := dk_3 (dk_at dksX5_may_1 18 rfl rfl)
theorem dX5_may_41 : decode cX5_may 41 = .ok (.ireturn, 1) := dk_172 (dk_at dksX5_may_1 19 rfl rfl)
abbrev cX5_those : ByteArray := prog_15_method_78_code
def yX5_those : MethodName := ⟨RX5, "those", "(I)I"⟩
def dkwX5_those_1 : List UInt8 := [96, 46, 27, 160, 0, 7, 4, 167, 0, 4, 3, 184, 0, 115, 96, 61, 132, 3, 1, 167, 255, 217, 28, 172]
abbrev dktX5_those_1 : List UInt8 := dkwX5_those_1 ++ []
def dkwX5_those_0 : List UInt8 := [3, 61, 3, 62, 29, 42, 180, 0, 9, 5, 46, 162, 0, 35, 28, 42, 180, 0, 9, 29, 184, 0, 109, 6]
abbrev dktX5_those_0 : List UInt8 := dkwX5_those_0 ++ dktX5_those_1
theorem dksX5_those_0 : cX5_those.data.toList.drop 0 = dktX5_those_0 := by decide +kernel
theorem dksX5_those_1 : cX5_those.data.toList.drop 24 = dktX5_those_1 := dk_seg dksX5_those_0 24 rfl rfl
theorem dX5_those_0 : decode cX5_those 0 = .ok (.iconst 0, 1) := dk_3 (dk_at dksX5_those_0 0 rfl rfl)
theorem dX5_those_1 : decode cX5_those 1 = .ok (.istore_n 2, 1) := dk_61 (dk_at dksX5_those_0 1 rfl rfl)
theorem dX5_those_2 : decode cX5_those 2 = .ok (.iconst 0, 1) := dk_3 (dk_at dksX5_those_0 2 rfl rfl)
theorem dX5_those_3 : decode cX5_those 3 = .ok (.istore_n 3, 1) := dk_62 (dk_at dksX5_those_0 3 rfl rfl)
theorem dX5_those_4 : decode cX5_those 4 = .ok (.iload_n 3, 1) := dk_29 (dk_at dksX5_those_0 4 rfl rfl)
theorem dX5_those_5 : decode cX5_those 5 = .ok (.aload_n 0, 1) := dk_42 (dk_at dksX5_those_0 5 rfl rfl)
theorem dX5_those_6 : decode cX5_those 6 = .ok (.getfield 9, 3) := dk_180 0 9 (dk_at dksX5_those_0 6 rfl rfl)
theorem dX5_those_9 : decode cX5_those 9 = .ok (.iconst 2, 1) := dk_5 (dk_at dksX5_those_0 9 rfl rfl)
theorem dX5_those_10 : decode cX5_those 10 = .ok (.iaload, 1) := dk_46 (dk_at dksX5_those_0 10 rfl rfl)
theorem dX5_those_11 : decode cX5_those 11 = .ok (.if_icmp .ge 35, 3) := dk_162 0 35 (dk_at dksX5_those_0 11 rfl rfl)
theorem dX5_those_14 : decode cX5_those 14 = .ok (.iload_n 2, 1) := dk_28 (dk_at dksX5_those_0 14 rfl rfl)
theorem dX5_those_15 : decode cX5_those 15 = .ok (.aload_n 0, 1) := dk_42 (dk_at dksX5_those_0 15 rfl rfl)
theorem dX5_those_16 : decode cX5_those 16 = .ok (.getfield 9, 3) := dk_180 0 9 (dk_at dksX5_those_0 16 rfl rfl)
theorem dX5_those_19 : decode cX5_those 19 = .ok (.iload_n 3, 1) := dk_29 (dk_at dksX5_those_0 19 rfl rfl)
theorem dX5_those_20 : decode cX5_those 20 = .ok (.invokestatic 109, 3) := dk_184 0 109 (dk_at dksX5_those_0 20 rfl rfl)
theorem dX5_those_23 : decode cX5_those 23 = .ok (.iconst 3, 1) := dk_6 (dk_at dksX5_those_0 23 rfl rfl)
theorem dX5_those_24 : decode cX5_those 24 = .ok (.iadd, 1) := dk_96 (dk_at dksX5_those_1 0 rfl rfl)
theorem dX5_those_25 : decode cX5_those 25 = .ok (.iaload, 1) := dk_46 (dk_at dksX5_those_1 1 rfl rfl)
theorem dX5_those_26 : decode cX5_those 26 = .ok (.iload_n 1, 1) := dk_27 (dk_at dksX5_those_1 2 rfl rfl)
theorem dX5_those_27 : decode cX5_those 27 = .ok (.if_icmp .ne 7, 3) := dk_160 0 7 (dk_at dksX5_those_1 3 rfl rfl)
theorem dX5_those_30 : decode cX5_those 30 = .ok (.iconst 1, 1) := dk_4 (dk_at dksX5_those_1 6 rfl rfl)
theorem dX5_those_31 : decode cX5_those 31 = .ok (.goto 4, 3) := dk_167 0 4 (dk_at dksX5_those_1 7 rfl rfl)
theorem dX5_those_34 : decode cX5_those 34 = .ok (.iconst 0, 1) := dk_3 (dk_at dksX5_those_1 10 rfl rfl)
theorem dX5_those_35 : decode cX5_those 35 = .ok (.invokestatic 115, 3) := dk_184 0 115 (dk_at dksX5_those_1 11 rfl rfl)
theorem dX5_those_38 : decode cX5_those 38 = .ok (.iadd, 1) := dk_96 (dk_at dksX5_those_1 14 rfl rfl)
theorem dX5_those_39 : decode cX5_those 39 = .ok (.istore_n 2, 1) := dk_61 (dk_at dksX5_those_1 15 rfl rfl)
theorem dX5_those_40 : decode cX5_those 40 = .ok (.iinc 3 1, 3) := dk_132 3 1 (dk_at dksX5_those_1 16 rfl rfl)
theorem dX5_those_43 : decode cX5_those 43 = .ok (.goto (-39), 3) := dk_167 255 217 (dk_at dksX5_those_1 19 rfl rfl)
theorem dX5_those_46 : decode cX5_those 46 = .ok (.iload_n 2, 1) := dk_28 (dk_at dksX5_those_1 22 rfl rfl)
theorem dX5_those_47 : decode cX5_those 47 = .ok (.ireturn, 1) := dk_172 (dk_at dksX5_those_1 23 rfl rfl)
abbrev cX5_busyMany : ByteArray := prog_15_method_79_code
def yX5_busyMany : MethodName := ⟨RX5, "busyMany", "()I"⟩
def dkwX5_busyMany_1 : List UInt8 := [182, 0, 178, 184, 0, 115, 96, 60, 132, 2, 1, 167, 255, 226, 27, 172]
abbrev dktX5_busyMany_1 : List UInt8 := dkwX5_busyMany_1 ++ []
def dkwX5_busyMany_0 : List UInt8 := [3, 60, 3, 61, 28, 42, 180, 0, 9, 3, 46, 162, 0, 26, 27, 42, 28, 42, 180, 0, 9, 6, 46]
abbrev dktX5_busyMany_0 : List UInt8 := dkwX5_busyMany_0 ++ dktX5_busyMany_1
theorem dksX5_busyMany_0 : cX5_busyMany.data.toList.drop 0 = dktX5_busyMany_0 := by decide +kernel
theorem dksX5_busyMany_1 : cX5_busyMany.data.toList.drop 23 = dktX5_busyMany_1 := dk_seg dksX5_busyMany_0 23 rfl rfl
theorem dX5_busyMany_0 : decode cX5_busyMany 0 = .ok (.iconst 0, 1) := dk_3 (dk_at dksX5_busyMany_0 0 rfl rfl)
theorem dX5_busyMany_1 : decode cX5_busyMany 1 = .ok (.istore_n 1, 1) := dk_60 (dk_at dksX5_busyMany_0 1 rfl rfl)
theorem dX5_busyMany_2 : decode cX5_busyMany 2 = .ok (.iconst 0, 1) := dk_3 (dk_at dksX5_busyMany_0 2 rfl rfl)
theorem dX5_busyMany_3 : decode cX5_busyMany 3 = .ok (.istore_n 2, 1) := dk_61 (dk_at dksX5_busyMany_0 3 rfl rfl)
theorem dX5_busyMany_4 : decode cX5_busyMany 4 = .ok (.iload_n 2, 1) := dk_28 (dk_at dksX5_busyMany_0 4 rfl rfl)
theorem dX5_busyMany_5 : decode cX5_busyMany 5 = .ok (.aload_n 0, 1) := dk_42 (dk_at dksX5_busyMany_0 5 rfl rfl)
theorem dX5_busyMany_6 : decode cX5_busyMany 6 = .ok (.getfield 9, 3) := dk_180 0 9 (dk_at dksX5_busyMany_0 6 rfl rfl)
theorem dX5_busyMany_9 : decode cX5_busyMany 9 = .ok (.iconst 0, 1) := dk_3 (dk_at dksX5_busyMany_0 9 rfl rfl)
theorem dX5_busyMany_10 : decode cX5_busyMany 10 = .ok (.iaload, 1) := dk_46 (dk_at dksX5_busyMany_0 10 rfl rfl)
theorem dX5_busyMany_11 : decode cX5_busyMany 11 = .ok (.if_icmp .ge 26, 3) := dk_162 0 26 (dk_at dksX5_busyMany_0 11 rfl rfl)
theorem dX5_busyMany_14 : decode cX5_busyMany 14 = .ok (.iload_n 1, 1) := dk_27 (dk_at dksX5_busyMany_0 14 rfl rfl)
theorem dX5_busyMany_15 : decode cX5_busyMany 15 = .ok (.aload_n 0, 1) := dk_42 (dk_at dksX5_busyMany_0 15 rfl rfl)
theorem dX5_busyMany_16 : decode cX5_busyMany 16 = .ok (.iload_n 2, 1) := dk_28 (dk_at dksX5_busyMany_0 16 rfl rfl)
theorem dX5_busyMany_17 : decode cX5_busyMany 17 = .ok (.aload_n 0, 1) := dk_42 (dk_at dksX5_busyMany_0 17 rfl rfl)
theorem dX5_busyMany_18 : decode cX5_busyMany 18 = .ok (.getfield 9, 3) := dk_180 0 9 (dk_at dksX5_busyMany_0 18 rfl rfl)
theorem dX5_busyMany_21 : decode cX5_busyMany 21 = .ok (.iconst 3, 1) := dk_6 (dk_at dksX5_busyMany_0 21 rfl rfl)
theorem dX5_busyMany_22 : decode cX5_busyMany 22 = .ok (.iaload, 1) := dk_46 (dk_at dksX5_busyMany_0 22 rfl rfl)
theorem dX5_busyMany_23 : decode cX5_busyMany 23 = .ok (.invokevirtual 178, 3) := dk_182 0 178 (dk_at dksX5_busyMany_1 0 rfl rfl)
theorem dX5_busyMany_26 : decode cX5_busyMany 26 = .ok (.invokestatic 115, 3) := dk_184 0 115 (dk_at dksX5_busyMany_1 3 rfl rfl)
theorem dX5_busyMany_29 : decode cX5_busyMany 29 = .ok (.iadd, 1) := dk_96 (dk_at dksX5_busyMany_1 6 rfl rfl)
theorem dX5_busyMany_30 : decode cX5_busyMany 30 = .ok (.istore_n 1, 1) := dk_60 (dk_at dksX5_busyMany_1 7 rfl rfl)
theorem dX5_busyMany_31 : decode cX5_busyMany 31 = .ok (.iinc 2 1, 3) := dk_132 2 1 (dk_at dksX5_busyMany_1 8 rfl rfl)
theorem dX5_busyMany_34 : decode cX5_busyMany 34 = .ok (.goto (-30), 3) := dk_167 255 226 (dk_at dksX5_busyMany_1 11 rfl rfl)
theorem dX5_busyMany_37 : decode cX5_busyMany 37 = .ok (.iload_n 1, 1) := dk_27 (dk_at dksX5_busyMany_1 14 rfl rfl)
theorem dX5_busyMany_38 : decode cX5_busyMany 38 = .ok (.ireturn, 1) := dk_172 (dk_at dksX5_busyMany_1 15 rfl rfl)
abbrev cX5_purses : ByteArray := prog_15_method_80_code
def yX5_purses : MethodName := ⟨RX5, "purses", "()I"⟩
def dkwX5_purses_1 : List UInt8 := [16, 10, 96, 46, 96, 60, 132, 2, 1, 167, 255, 228, 27, 172]
abbrev dktX5_purses_1 : List UInt8 := dkwX5_purses_1 ++ []
def dkwX5_purses_0 : List UInt8 := [3, 60, 3, 61, 28, 42, 180, 0, 9, 3, 46, 162, 0, 24, 27, 42, 180, 0, 9, 28, 184, 0, 84]
abbrev dktX5_purses_0 : List UInt8 := dkwX5_purses_0 ++ dktX5_purses_1
theorem dksX5_purses_0 : cX5_purses.data.toList.drop 0 = dktX5_purses_0 := by decide +kernel
theorem dksX5_purses_1 : cX5_purses.data.toList.drop 23 = dktX5_purses_1 := dk_seg dksX5_purses_0 23 rfl rfl
theorem dX5_purses_0 : decode cX5_purses 0 = .ok (.iconst 0, 1) := dk_3 (dk_at dksX5_purses_0 0 rfl rfl)
theorem dX5_purses_1 : decode cX5_purses 1 = .ok (.istore_n 1, 1) := dk_60 (dk_at dksX5_purses_0 1 rfl rfl)
theorem dX5_purses_2 : decode cX5_purses 2 = .ok (.iconst 0, 1) := dk_3 (dk_at dksX5_purses_0 2 rfl rfl)
theorem dX5_purses_3 : decode cX5_purses 3 = .ok (.istore_n 2, 1) := dk_61 (dk_at dksX5_purses_0 3 rfl rfl)
theorem dX5_purses_4 : decode cX5_purses 4 = .ok (.iload_n 2, 1) := dk_28 (dk_at dksX5_purses_0 4 rfl rfl)
theorem dX5_purses_5 : decode cX5_purses 5 = .ok (.aload_n 0, 1) := dk_42 (dk_at dksX5_purses_0 5 rfl rfl)
theorem dX5_purses_6 : decode cX5_purses 6 = .ok (.getfield 9, 3) := dk_180 0 9 (dk_at dksX5_purses_0 6 rfl rfl)
theorem dX5_purses_9 : decode cX5_purses 9 = .ok (.iconst 0, 1) := dk_3 (dk_at dksX5_purses_0 9 rfl rfl)
theorem dX5_purses_10 : decode cX5_purses 10 = .ok (.iaload, 1) := dk_46 (dk_at dksX5_purses_0 10 rfl rfl)
theorem dX5_purses_11 : decode cX5_purses 11 = .ok (.if_icmp .ge 24, 3) := dk_162 0 24 (dk_at dksX5_purses_0 11 rfl rfl)
theorem dX5_purses_14 : decode cX5_purses 14 = .ok (.iload_n 1, 1) := dk_27 (dk_at dksX5_purses_0 14 rfl rfl)
theorem dX5_purses_15 : decode cX5_purses 15 = .ok (.aload_n 0, 1) := dk_42 (dk_at dksX5_purses_0 15 rfl rfl)
theorem dX5_purses_16 : decode cX5_purses 16 = .ok (.getfield 9, 3) := dk_180 0 9 (dk_at dksX5_purses_0 16 rfl rfl)
theorem dX5_purses_19 : decode cX5_purses 19 = .ok (.iload_n 2, 1) := dk_28 (dk_at dksX5_purses_0 19 rfl rfl)
theorem dX5_purses_20 : decode cX5_purses 20 = .ok (.invokestatic 84, 3) := dk_184 0 84 (dk_at dksX5_purses_0 20 rfl rfl)
theorem dX5_purses_23 : decode cX5_purses 23 = .ok (.bipush 10, 2) := dk_16 10 (dk_at dksX5_purses_1 0 rfl rfl)
theorem dX5_purses_25 : decode cX5_purses 25 = .ok (.iadd, 1) := dk_96 (dk_at dksX5_purses_1 2 rfl rfl)
theorem dX5_purses_26 : decode cX5_purses 26 = .ok (.iaload, 1) := dk_46 (dk_at dksX5_purses_1 3 rfl rfl)
theorem dX5_purses_27 : decode cX5_purses 27 = .ok (.iadd, 1) := dk_96 (dk_at dksX5_purses_1 4 rfl rfl)
theorem dX5_purses_28 : decode cX5_purses 28 = .ok (.istore_n 1, 1) := dk_60 (dk_at dksX5_purses_1 5 rfl rfl)
theorem dX5_purses_29 : decode cX5_purses 29 = .ok (.iinc 2 1, 3) := dk_132 2 1 (dk_at dksX5_purses_1 6 rfl rfl)
theorem dX5_purses_32 : decode cX5_purses 32 = .ok (.goto (-28), 3) := dk_167 255 228 (dk_at dksX5_purses_1 9 rfl rfl)
theorem dX5_purses_35 : decode cX5_purses 35 = .ok (.iload_n 1, 1) := dk_27 (dk_at dksX5_purses_1 12 rfl rfl)
theorem dX5_purses_36 : decode cX5_purses 36 = .ok (.ireturn, 1) := dk_172 (dk_at dksX5_purses_1 13 rfl rfl)
abbrev cX5_account : ByteArray := prog_15_method_82_code
def yX5_account : MethodName := ⟨RX5, "account", "(I)I"⟩
def dkwX5_account_1 : List UInt8 := [27, 96, 46, 167, 0, 4, 3, 172]
abbrev dktX5_account_1 : List UInt8 := dkwX5_account_1 ++ []
def dkwX5_account_0 : List UInt8 := [42, 27, 133, 9, 20, 1, 122, 184, 0, 199, 4, 4, 182, 1, 109, 153, 0, 15, 42, 180, 0, 9, 16, 10]
abbrev dktX5_account_0 : List UInt8 := dkwX5_account_0 ++ dktX5_account_1
theorem dksX5_account_0 : cX5_account.data.toList.drop 0 = dktX5_account_0 := by decide +kernel
theorem dksX5_account_1 : cX5_account.data.toList.drop 24 = dktX5_account_1 := dk_seg dksX5_account_0 24 rfl rfl
theorem dX5_account_0 : decode cX5_account 0 = .ok (.aload_n 0, 1) := dk_42 (dk_at dksX5_account_0 0 rfl rfl)
theorem dX5_account_1 : decode cX5_account 1 = .ok (.iload_n 1, 1) := dk_27 (dk_at dksX5_account_0 1 rfl rfl)
theorem dX5_account_2 : decode cX5_account 2 = .ok (.i2l, 1) := dk_133 (dk_at dksX5_account_0 2 rfl rfl)
theorem dX5_account_3 : decode cX5_account 3 = .ok (.lconst 0, 1) := dk_9 (dk_at dksX5_account_0 3 rfl rfl)
theorem dX5_account_4 : decode cX5_account 4 = .ok (.ldc2_w 378, 3) := dk_20 1 122 (dk_at dksX5_account_0 4 rfl rfl)
theorem dX5_account_7 : decode cX5_account 7 = .ok (.invokestatic 199, 3) := dk_184 0 199 (dk_at dksX5_account_0 7 rfl rfl)
theorem dX5_account_10 : decode cX5_account 10 = .ok (.iconst 1, 1) := dk_4 (dk_at dksX5_account_0 10 rfl rfl)
theorem dX5_account_11 : decode cX5_account 11 = .ok (.iconst 1, 1) := dk_4 (dk_at dksX5_account_0 11 rfl rfl)
theorem dX5_account_12 : decode cX5_account 12 = .ok (.invokevirtual 365, 3) := dk_182 1 109 (dk_at dksX5_account_0 12 rfl rfl)
theorem dX5_account_15 : decode cX5_account 15 = .ok (.ifCond .eq 15, 3) := dk_153 0 15 (dk_at dksX5_account_0 15 rfl rfl)
theorem dX5_account_18 : decode cX5_account 18 = .ok (.aload_n 0, 1) := dk_42 (dk_at dksX5_account_0 18 rfl rfl)
theorem dX5_account_19 : decode cX5_account 19 = .ok (.getfield 9, 3) := dk_180 0 9 (dk_at dksX5_account_0 19 rfl rfl)
theorem dX5_account_22 : decode cX5_account 22 = .ok (.bipush 10, 2) := dk_16 10 (dk_at dksX5_account_0 22 rfl rfl)
theorem dX5_account_24 : decode cX5_account 24 = .ok (.iload_n 1, 1) := dk_27 (dk_at dksX5_account_1 0 rfl rfl)
theorem dX5_account_25 : decode cX5_account 25 = .ok (.iadd, 1) := dk_96 (dk_at dksX5_account_1 1 rfl rfl)
theorem dX5_account_26 : decode cX5_account 26 = .ok (.iaload, 1) := dk_46 (dk_at dksX5_account_1 2 rfl rfl)
theorem dX5_account_27 : decode cX5_account 27 = .ok (.goto 4, 3) := dk_167 0 4 (dk_at dksX5_account_1 3 rfl rfl)
theorem dX5_account_30 : decode cX5_account 30 = .ok (.iconst 0, 1) := dk_3 (dk_at dksX5_account_1 6 rfl rfl)
theorem dX5_account_31 : decode cX5_account 31 = .ok (.ireturn, 1) := dk_172 (dk_at dksX5_account_1 7 rfl rfl)
abbrev cX5_nameByte : ByteArray := prog_15_method_86_code
def yX5_nameByte : MethodName := ⟨RX5, "nameByte", "(II)I"⟩
def dkwX5_nameByte_2 : List UInt8 := [96, 46, 167, 0, 4, 2, 172]
abbrev dktX5_nameByte_2 : List UInt8 := dkwX5_nameByte_2 ++ []
def dkwX5_nameByte_1 : List UInt8 := [184, 0, 84, 46, 4, 100, 133, 184, 0, 199, 153, 0, 19, 42, 180, 0, 9, 27, 184, 0, 84, 4, 96, 28]
abbrev dktX5_nameByte_1 : List UInt8 := dkwX5_nameByte_1 ++ dktX5_nameByte_2
def dkwX5_nameByte_0 : List UInt8 := [42, 42, 27, 182, 1, 124, 4, 4, 182, 1, 109, 154, 0, 5, 3, 172, 28, 133, 9, 42, 180, 0, 9, 27]
abbrev dktX5_nameByte_0 : List UInt8 := dkwX5_nameByte_0 ++ dktX5_nameByte_1
theorem dksX5_nameByte_0 : cX5_nameByte.data.toList.drop 0 = dktX5_nameByte_0 := by decide +kernel
theorem dksX5_nameByte_1 : cX5_nameByte.data.toList.drop 24 = dktX5_nameByte_1 := dk_seg dksX5_nameByte_0 24 rfl rfl
theorem dksX5_nameByte_2 : cX5_nameByte.data.toList.drop 48 = dktX5_nameByte_2 := dk_seg dksX5_nameByte_1 24 rfl rfl
theorem dX5_nameByte_0 : decode cX5_nameByte 0 = .ok (.aload_n 0, 1) := dk_42 (dk_at dksX5_nameByte_0 0 rfl rfl)
theorem dX5_nameByte_1 : decode cX5_nameByte 1 = .ok (.aload_n 0, 1) := dk_42 (dk_at dksX5_nameByte_0 1 rfl rfl)
theorem dX5_nameByte_2 : decode cX5_nameByte 2 = .ok (.iload_n 1, 1) := dk_27 (dk_at dksX5_nameByte_0 2 rfl rfl)
theorem dX5_nameByte_3 : decode cX5_nameByte 3 = .ok (.invokevirtual 380, 3) := dk_182 1 124 (dk_at dksX5_nameByte_0 3 rfl rfl)
theorem dX5_nameByte_6 : decode cX5_nameByte 6 = .ok (.iconst 1, 1) := dk_4 (dk_at dksX5_nameByte_0 6 rfl rfl)
theorem dX5_nameByte_7 : decode cX5_nameByte 7 = .ok (.iconst 1, 1) := dk_4 (dk_at dksX5_nameByte_0 7 rfl rfl)
theorem dX5_nameByte_8 : decode cX5_nameByte 8 = .ok (.invokevirtual 365, 3) := dk_182 1 109 (dk_at dksX5_nameByte_0 8 rfl rfl)
theorem dX5_nameByte_11 : decode cX5_nameByte 11 = .ok (.ifCond .ne 5, 3) := dk_154 0 5 (dk_at dksX5_nameByte_0 11 rfl rfl)
theorem dX5_nameByte_14 : decode cX5_nameByte 14 = .ok (.iconst 0, 1) := dk_3 (dk_at dksX5_nameByte_0 14 rfl rfl)
theorem dX5_nameByte_15 : decode cX5_nameByte 15 = .ok (.ireturn, 1) := dk_172 (dk_at dksX5_nameByte_0 15 rfl rfl)
theorem dX5_nameByte_16 : decode cX5_nameByte 16 = .ok (.iload_n 2, 1) := dk_28 (dk_at dksX5_nameByte_0 16 rfl rfl)
theorem dX5_nameByte_17 : decode cX5_nameByte 17 = .ok (.i2l, 1) := dk_133 (dk_at dksX5_nameByte_0 17 rfl rfl)
theorem dX5_nameByte_18 : decode cX5_nameByte 18 = .ok (.lconst 0, 1) := dk_9 (dk_at dksX5_nameByte_0 18 rfl rfl)
theorem dX5_nameByte_19 : decode cX5_nameByte 19 = .ok (.aload_n 0, 1) := dk_42 (dk_at dksX5_nameByte_0 19 rfl rfl)
theorem dX5_nameByte_20 : decode cX5_nameByte 20 = .ok (.getfield 9, 3) := dk_180 0 9 (dk_at dksX5_nameByte_0 20 rfl rfl)
theorem dX5_nameByte_23 : decode cX5_nameByte 23 = .ok (.iload_n 1, 1) := dk_27 (dk_at dksX5_nameByte_0 23 rfl rfl)
theorem dX5_nameByte_24 : decode cX5_nameByte 24 = .ok (.invokestatic 84, 3) := dk_184 0 84 (dk_at dksX5_nameByte_1 0 rfl rfl)
theorem dX5_nameByte_27 : decode cX5_nameByte 27 = .ok (.iaload, 1) := dk_46 (dk_at dksX5_nameByte_1 3 rfl rfl)
theorem dX5_nameByte_28 : decode cX5_nameByte 28 = .ok (.iconst 1, 1) := dk_4 (dk_at dksX5_nameByte_1 4 rfl rfl)
theorem dX5_nameByte_29 : decode cX5_nameByte 29 = .ok (.isub, 1) := dk_100 (dk_at dksX5_nameByte_1 5 rfl rfl)
theorem dX5_nameByte_30 : decode cX5_nameByte 30 = .ok (.i2l, 1) := dk_133 (dk_at dksX5_nameByte_1 6 rfl rfl)
theorem dX5_nameByte_31 : decode cX5_nameByte 31 = .ok (.invokestatic 199, 3) := dk_184 0 199 (dk_at dksX5_nameByte_1 7 rfl rfl)
theorem dX5_nameByte_34 : decode cX5_nameByte 34 = .ok (.ifCond .eq 19, 3) := dk_153 0 19 (dk_at dksX5_nameByte_1 10 rfl rfl)
theorem dX5_nameByte_37 : decode cX5_nameByte 37 = .ok (.aload_n 0, 1) := dk_42 (dk_at dksX5_nameByte_1 13 rfl rfl)
theorem dX5_nameByte_38 : decode cX5_nameByte 38 = .ok (.getfield 9, 3) := dk_180 0 9 (dk_at dksX5_nameByte_1 14 rfl rfl)
theorem dX5_nameByte_41 : decode cX5_nameByte 41 = .ok (.iload_n 1, 1) := dk_27 (dk_at dksX5_nameByte_1 17 rfl rfl)
theorem dX5_nameByte_42 : decode cX5_nameByte 42 = .ok (.invokestatic 84, 3) := dk_184 0 84 (dk_at dksX5_nameByte_1 18 rfl rfl)
theorem dX5_nameByte_45 : decode cX5_nameByte 45 = .ok (.iconst 1, 1) := dk_4 (dk_at dksX5_nameByte_1 21 rfl rfl)
theorem dX5_nameByte_46 : decode cX5_nameByte 46 = .ok (.iadd, 1) := dk_96 (dk_at dksX5_nameByte_1 22 rfl rfl)
theorem dX5_nameByte_47 : decode cX5_nameByte 47 = .ok (.iload_n 2, 1) := dk_28 (dk_at dksX5_nameByte_1 23 rfl rfl)
theorem dX5_nameByte_48 : decode cX5_nameByte 48 = .ok (.iadd, 1) := dk_96 (dk_at dksX5_nameByte_2 0 rfl rfl)
theorem dX5_nameByte_49 : decode cX5_nameByte 49 = .ok (.iaload, 1) := dk_46 (dk_at dksX5_nameByte_2 1 rfl rfl)
theorem dX5_nameByte_50 : decode cX5_nameByte 50 = .ok (.goto 4, 3) := dk_167 0 4 (dk_at dksX5_nameByte_2 2 rfl rfl)
theorem dX5_nameByte_53 : decode cX5_nameByte 53 = .ok (.iconst (-1), 1) := dk_2 (dk_at dksX5_nameByte_2 5 rfl rfl)
theorem dX5_nameByte_54 : decode cX5_nameByte 54 = .ok (.ireturn, 1) := dk_172 (dk_at dksX5_nameByte_2 6 rfl rfl)
abbrev cX5_isRoof : ByteArray := prog_15_method_83_code
def yX5_isRoof : MethodName := ⟨RX5, "isRoof", "(I)Z"⟩
def dkwX5_isRoof_0 : List UInt8 := [27, 133, 9, 42, 180, 0, 9, 3, 46, 4, 100, 133, 184, 0, 199, 172]
abbrev dktX5_isRoof_0 : List UInt8 := dkwX5_isRoof_0 ++ []
theorem dksX5_isRoof_0 : cX5_isRoof.data.toList.drop 0 = dktX5_isRoof_0 := by decide +kernel
theorem dX5_isRoof_0 : decode cX5_isRoof 0 = .ok (.iload_n 1, 1) := dk_27 (dk_at dksX5_isRoof_0 0 rfl rfl)
theorem dX5_isRoof_1 : decode cX5_isRoof 1 = .ok (.i2l, 1) := dk_133 (dk_at dksX5_isRoof_0 1 rfl rfl)
theorem dX5_isRoof_2 : decode cX5_isRoof 2 = .ok (.lconst 0, 1) := dk_9 (dk_at dksX5_isRoof_0 2 rfl rfl)
theorem dX5_isRoof_3 : decode cX5_isRoof 3 = .ok (.aload_n 0, 1) := dk_42 (dk_at dksX5_isRoof_0 3 rfl rfl)
theorem dX5_isRoof_4 : decode cX5_isRoof 4 = .ok (.getfield 9, 3) := dk_180 0 9 (dk_at dksX5_isRoof_0 4 rfl rfl)
theorem dX5_isRoof_7 : decode cX5_isRoof 7 = .ok (.iconst 0, 1) := dk_3 (dk_at dksX5_isRoof_0 7 rfl rfl)
theorem dX5_isRoof_8 : decode cX5_isRoof 8 = .ok (.iaload, 1) := dk_46 (dk_at dksX5_isRoof_0 8 rfl rfl)
theorem dX5_isRoof_9 : decode cX5_isRoof 9 = .ok (.iconst 1, 1) := dk_4 (dk_at dksX5_isRoof_0 9 rfl rfl)
theorem dX5_isRoof_10 : decode cX5_isRoof 10 = .ok (.isub, 1) := dk_100 (dk_at dksX5_isRoof_0 10 rfl rfl)
theorem dX5_isRoof_11 : decode cX5_isRoof 11 = .ok (.i2l, 1) := dk_133 (dk_at dksX5_isRoof_0 11 rfl rfl)
theorem dX5_isRoof_12 : decode cX5_isRoof 12 = .ok (.invokestatic 199, 3) := dk_184 0 199 (dk_at dksX5_isRoof_0 12 rfl rfl)
theorem dX5_isRoof_15 : decode cX5_isRoof 15 = .ok (.ireturn, 1) := dk_172 (dk_at dksX5_isRoof_0 15 rfl rfl)
abbrev cX5_roof : ByteArray := prog_15_method_89_code
def yX5_roof : MethodName := ⟨RX5, "roof", "(II)I"⟩
def dkwX5_roof_5 : List UInt8 := [172, 42, 180, 0, 9, 27, 184, 0, 84, 16, 7, 96, 28, 96, 46, 172]
abbrev dktX5_roof_5 : List UInt8 := dkwX5_roof_5 ++ []
def dkwX5_roof_4 : List UInt8 := [42, 27, 182, 1, 129, 172, 42, 27, 182, 1, 132, 172, 42, 180, 0, 9, 27, 184, 0, 84, 16, 12, 96, 46]
abbrev dktX5_roof_4 : List UInt8 := dkwX5_roof_4 ++ dktX5_roof_5
def dkwX5_roof_3 : List UInt8 := [3, 42, 180, 0, 9, 27, 184, 0, 84, 16, 11, 96, 46, 42, 180, 0, 9, 6, 46, 100, 184, 0, 129, 172]
abbrev dktX5_roof_3 : List UInt8 := dkwX5_roof_3 ++ dktX5_roof_4
def dkwX5_roof_2 : List UInt8 := [170, 0, 0, 0, 0, 0, 80, 0, 0, 0, 4, 0, 0, 0, 7, 0, 0, 0, 31, 0, 0, 0, 55, 0, 0, 0, 61, 0, 0, 0, 67]
abbrev dktX5_roof_2 : List UInt8 := dkwX5_roof_2 ++ dktX5_roof_3
def dkwX5_roof_1 : List UInt8 := [28]
abbrev dktX5_roof_1 : List UInt8 := dkwX5_roof_1 ++ dktX5_roof_2
def dkwX5_roof_0 : List UInt8 := [42, 42, 27, 182, 1, 124, 28, 133, 9, 20, 1, 127, 184, 0, 199, 4, 182, 1, 109, 154, 0, 5, 3, 172]
abbrev dktX5_roof_0 : List UInt8 := dkwX5_roof_0 ++ dktX5_roof_1
theorem dksX5_roof_0 : cX5_roof.data.toList.drop 0 = dktX5_roof_0 := by decide +kernel
theorem dksX5_roof_1 : cX5_roof.data.toList.drop 24 = dktX5_roof_1 := dk_seg dksX5_roof_0 24 rfl rfl
theorem dksX5_roof_2 : cX5_roof.data.toList.drop 25 = dktX5_roof_2 := dk_seg dksX5_roof_1 1 rfl rfl
theorem dksX5_roof_3 : cX5_roof.data.toList.drop 56 = dktX5_roof_3 := dk_seg dksX5_roof_2 31 rfl rfl
theorem dksX5_roof_4 : cX5_roof.data.toList.drop 80 = dktX5_roof_4 := dk_seg dksX5_roof_3 24 rfl rfl
theorem dksX5_roof_5 : cX5_roof.data.toList.drop 104 = dktX5_roof_5 := dk_seg dksX5_roof_4 24 rfl rfl
theorem dX5_roof_0 : decode cX5_roof 0 = .ok (.aload_n 0, 1) := dk_42 (dk_at dksX5_roof_0 0 rfl rfl)
theorem dX5_roof_1 : decode cX5_roof 1 = .ok (.aload_n 0, 1) := dk_42 (dk_at dksX5_roof_0 1 rfl rfl)
theorem dX5_roof_2 : decode cX5_roof 2 = .ok (.iload_n 1, 1) := dk_27 (dk_at dksX5_roof_0 2 rfl rfl)
theorem dX5_roof_3 : decode cX5_roof 3 = .ok (.invokevirtual 380, 3) := dk_182 1 124 (dk_at dksX5_roof_0 3 rfl rfl)
theorem dX5_roof_6 : decode cX5_roof 6 = .ok (.iload_n 2, 1) := dk_28 (dk_at dksX5_roof_0 6 rfl rfl)
theorem dX5_roof_7 : decode cX5_roof 7 = .ok (.i2l, 1) := dk_133 (dk_at dksX5_roof_0 7 rfl rfl)
theorem dX5_roof_8 : decode cX5_roof 8 = .ok (.lconst 0, 1) := dk_9 (dk_at dksX5_roof_0 8 rfl rfl)
theorem dX5_roof_9 : decode cX5_roof 9 = .ok (.ldc2_w 383, 3) := dk_20 1 127 (dk_at dksX5_roof_0 9 rfl rfl)
theorem dX5_roof_12 : decode cX5_roof 12 = .ok (.invokestatic 199, 3) := dk_184 0 199 (dk_at dksX5_roof_0 12 rfl rfl)
theorem dX5_roof_15 : decode cX5_roof 15 = .ok (.iconst 1, 1) := dk_4 (dk_at dksX5_roof_0 15 rfl rfl)
theorem dX5_roof_16 : decode cX5_roof 16 = .ok (.invokevirtual 365, 3) := dk_182 1 109 (dk_at dksX5_roof_0 16 rfl rfl)
theorem dX5_roof_19 : decode cX5_roof 19 = .ok (.ifCond .ne 5, 3) := dk_154 0 5 (dk_at dksX5_roof_0 19 rfl rfl)
theorem dX5_roof_22 : decode cX5_roof 22 = .ok (.iconst 0, 1) := dk_3 (dk_at dksX5_roof_0 22 rfl rfl)
theorem dX5_roof_23 : decode cX5_roof 23 = .ok (.ireturn, 1) := dk_172 (dk_at dksX5_roof_0 23 rfl rfl)
theorem dX5_roof_24 : decode cX5_roof 24 = .ok (.iload_n 2, 1) := dk_28 (dk_at dksX5_roof_1 0 rfl rfl)
theorem dX5_roof_25 : decode cX5_roof 25 = .ok (.tableswitch 80 4 7 #[31, 55, 61, 67], 31) := by decide +kernel
theorem dX5_roof_56 : decode cX5_roof 56 = .ok (.iconst 0, 1) := dk_3 (dk_at dksX5_roof_3 0 rfl rfl)
theorem dX5_roof_57 : decode cX5_roof 57 = .ok (.aload_n 0, 1) := dk_42 (dk_at dksX5_roof_3 1 rfl rfl)
theorem dX5_roof_58 : decode cX5_roof 58 = .ok (.getfield 9, 3) := dk_180 0 9 (dk_at dksX5_roof_3 2 rfl rfl)
theorem dX5_roof_61 : decode cX5_roof 61 = .ok (.iload_n 1, 1) := dk_27 (dk_at dksX5_roof_3 5 rfl rfl)
theorem dX5_roof_62 : decode cX5_roof 62 = .ok (.invokestatic 84, 3) := dk_184 0 84 (dk_at dksX5_roof_3 6 rfl rfl)
theorem dX5_roof_65 : decode cX5_roof 65 = .ok (.bipush 11, 2) := dk_16 11 (dk_at dksX5_roof_3 9 rfl rfl)
theorem dX5_roof_67 : decode cX5_roof 67 = .ok (.iadd, 1) := dk_96 (dk_at dksX5_roof_3 11 rfl rfl)
theorem dX5_roof_68 : decode cX5_roof 68 = .ok (.iaload, 1) := dk_46 (dk_at dksX5_roof_3 12 rfl rfl)
theorem dX5_roof_69 : decode cX5_roof 69 = .ok (.aload_n 0, 1) := dk_42 (dk_at dksX5_roof_3 13 rfl rfl)
theorem dX5_roof_70 : decode cX5_roof 70 = .ok (.getfield 9, 3) := dk_180 0 9 (dk_at dksX5_roof_3 14 rfl rfl)
theorem dX5_roof_73 : decode cX5_roof 73 = .ok (.iconst 3, 1) := dk_6 (dk_at dksX5_roof_3 17 rfl rfl)
theorem dX5_roof_74 : decode cX5_roof 74 = .ok (.iaload, 1) := dk_46 (dk_at dksX5_roof_3 18 rfl rfl)
theorem dX5_roof_75 : decode cX5_roof 75 = .ok (.isub, 1) := dk_100 (dk_at dksX5_roof_3 19 rfl rfl)
theorem dX5_roof_76 : decode cX5_roof 76 = .ok (.invokestatic 129, 3) := dk_184 0 129 (dk_at dksX5_roof_3 20 rfl rfl)
theorem dX5_roof_79 : decode cX5_roof 79 = .ok (.ireturn, 1) := dk_172 (dk_at dksX5_roof_3 23 rfl rfl)
theorem dX5_roof_80 : decode cX5_roof 80 = .ok (.aload_n 0, 1) := dk_42 (dk_at dksX5_roof_4 0 rfl rfl)
theorem dX5_roof_81 : decode cX5_roof 81 = .ok (.iload_n 1, 1) := dk_27 (dk_at dksX5_roof_4 1 rfl rfl)
theorem dX5_roof_82 : decode cX5_roof 82 = .ok (.invokevirtual 385, 3) := dk_182 1 129 (dk_at dksX5_roof_4 2 rfl rfl)
theorem dX5_roof_85 : decode cX5_roof 85 = .ok (.ireturn, 1) := dk_172 (dk_at dksX5_roof_4 5 rfl rfl)
theorem dX5_roof_86 : decode cX5_roof 86 = .ok (.aload_n 0, 1) := dk_42 (dk_at dksX5_roof_4 6 rfl rfl)
theorem dX5_roof_87 : decode cX5_roof 87 = .ok (.iload_n 1, 1) := dk_27 (dk_at dksX5_roof_4 7 rfl rfl)
theorem dX5_roof_88 : decode cX5_roof 88 = .ok (.invokevirtual 388, 3) := dk_182 1 132 (dk_at dksX5_roof_4 8 rfl rfl)
theorem dX5_roof_91 : decode cX5_roof 91 = .ok (.ireturn, 1) := dk_172 (dk_at dksX5_roof_4 11 rfl rfl)
theorem dX5_roof_92 : decode cX5_roof 92 = .ok (.aload_n 0, 1) := dk_42 (dk_at dksX5_roof_4 12 rfl rfl)
theorem dX5_roof_93 : decode cX5_roof 93 = .ok (.getfield 9, 3) := dk_180 0 9 (dk_at dksX5_roof_4 13 rfl rfl)
theorem dX5_roof_96 : decode cX5_roof 96 = .ok (.iload_n 1, 1) := dk_27 (dk_at dksX5_roof_4 16 rfl rfl)
theorem dX5_roof_97 : decode cX5_roof 97 = .ok (.invokestatic 84, 3) := dk_184 0 84 (dk_at dksX5_roof_4 17 rfl rfl)
theorem dX5_roof_100 : decode cX5_roof 100 = .ok (.bipush 12, 2) := dk_16 12 (dk_at dksX5_roof_4 20 rfl rfl)
theorem dX5_roof_102 : decode cX5_roof 102 = .ok (.iadd, 1) := dk_96 (dk_at dksX5_roof_4 22 rfl rfl)
theorem dX5_roof_103 : decode cX5_roof 103 = .ok (.iaload, 1) := dk_46 (dk_at dksX5_roof_4 23 rfl rfl)
theorem dX5_roof_104 : decode cX5_roof 104 = .ok (.ireturn, 1) := dk_172 (dk_at dksX5_roof_5 0 rfl rfl)
theorem dX5_roof_105 : decode cX5_roof 105 = .ok (.aload_n 0, 1) := dk_42 (dk_at dksX5_roof_5 1 rfl rfl)
theorem dX5_roof_106 : decode cX5_roof 106 = .ok (.getfield 9, 3) := dk_180 0 9 (dk_at dksX5_roof_5 2 rfl rfl)
theorem dX5_roof_109 : decode cX5_roof 109 = .ok (.iload_n 1, 1) := dk_27 (dk_at dksX5_roof_5 5 rfl rfl)
theorem dX5_roof_110 : decode cX5_roof 110 = .ok (.invokestatic 84, 3) := dk_184 0 84 (dk_at dksX5_roof_5 6 rfl rfl)
theorem dX5_roof_113 : decode cX5_roof 113 = .ok (.bipush 7, 2) := dk_16 7 (dk_at dksX5_roof_5 9 rfl rfl)
theorem dX5_roof_115 : decode cX5_roof 115 = .ok (.iadd, 1) := dk_96 (dk_at dksX5_roof_5 11 rfl rfl)
theorem dX5_roof_116 : decode cX5_roof 116 = .ok (.iload_n 2, 1) := dk_28 (dk_at dksX5_roof_5 12 rfl rfl)
theorem dX5_roof_117 : decode cX5_roof 117 = .ok (.iadd, 1) := dk_96 (dk_at dksX5_roof_5 13 rfl rfl)
theorem dX5_roof_118 : decode cX5_roof 118 = .ok (.iaload, 1) := dk_46 (dk_at dksX5_roof_5 14 rfl rfl)
theorem dX5_roof_119 : decode cX5_roof 119 = .ok (.ireturn, 1) := dk_172 (dk_at dksX5_roof_5 15 rfl rfl)
abbrev cX5_waitingMany : ByteArray := prog_15_method_87_code
def yX5_waitingMany : MethodName := ⟨RX5, "waitingMany", "(I)I"⟩
def dkwX5_waitingMany_1 : List UInt8 := [96, 61, 132, 3, 1, 167, 255, 231, 28, 172]
abbrev dktX5_waitingMany_1 : List UInt8 := dkwX5_waitingMany_1 ++ []
def dkwX5_waitingMany_0 : List UInt8 := [3, 61, 3, 62, 29, 42, 180, 0, 9, 5, 46, 162, 0, 21, 28, 42, 29, 27, 182, 0, 157, 184, 0, 115]
abbrev dktX5_waitingMany_0 : List UInt8 := dkwX5_waitingMany_0 ++ dktX5_waitingMany_1
theorem dksX5_waitingMany_0 : cX5_waitingMany.data.toList.drop 0 = dktX5_waitingMany_0 := by decide +kernel
theorem dksX5_waitingMany_1 : cX5_waitingMany.data.toList.drop 24 = dktX5_waitingMany_1 := dk_seg dksX5_waitingMany_0 24 rfl rfl
theorem dX5_waitingMany_0 : decode cX5_waitingMany 0 = .ok (.iconst 0, 1) := dk_3 (dk_at dksX5_waitingMany_0 0 rfl rfl)
theorem dX5_waitingMany_1 : decode cX5_waitingMany 1 = .ok (.istore_n 2, 1) := dk_61 (dk_at dksX5_waitingMany_0 1 rfl rfl)
theorem dX5_waitingMany_2 : decode cX5_waitingMany 2 = .ok (.iconst 0, 1) := dk_3 (dk_at dksX5_waitingMany_0 2 rfl rfl)
theorem dX5_waitingMany_3 : decode cX5_waitingMany 3 = .ok (.istore_n 3, 1) := dk_62 (dk_at dksX5_waitingMany_0 3 rfl rfl)
theorem dX5_waitingMany_4 : decode cX5_waitingMany 4 = .ok (.iload_n 3, 1) := dk_29 (dk_at dksX5_waitingMany_0 4 rfl rfl)
theorem dX5_waitingMany_5 : decode cX5_waitingMany 5 = .ok (.aload_n 0, 1) := dk_42 (dk_at dksX5_waitingMany_0 5 rfl rfl)
theorem dX5_waitingMany_6 : decode cX5_waitingMany 6 = .ok (.getfield 9, 3) := dk_180 0 9 (dk_at dksX5_waitingMany_0 6 rfl rfl)
theorem dX5_waitingMany_9 : decode cX5_waitingMany 9 = .ok (.iconst 2, 1) := dk_5 (dk_at dksX5_waitingMany_0 9 rfl rfl)
theorem dX5_waitingMany_10 : decode cX5_waitingMany 10 = .ok (.iaload, 1) := dk_46 (dk_at dksX5_waitingMany_0 10 rfl rfl)
theorem dX5_waitingMany_11 : decode cX5_waitingMany 11 = .ok (.if_icmp .ge 21, 3) := dk_162 0 21 (dk_at dksX5_waitingMany_0 11 rfl rfl)
theorem dX5_waitingMany_14 : decode cX5_waitingMany 14 = .ok (.iload_n 2, 1) := dk_28 (dk_at dksX5_waitingMany_0 14 rfl rfl)
theorem dX5_waitingMany_15 : decode cX5_waitingMany 15 = .ok (.aload_n 0, 1) := dk_42 (dk_at dksX5_waitingMany_0 15 rfl rfl)
theorem dX5_waitingMany_16 : decode cX5_waitingMany 16 = .ok (.iload_n 3, 1) := dk_29 (dk_at dksX5_waitingMany_0 16 rfl rfl)
theorem dX5_waitingMany_17 : decode cX5_waitingMany 17 = .ok (.iload_n 1, 1) := dk_27 (dk_at dksX5_waitingMany_0 17 rfl rfl)
theorem dX5_waitingMany_18 : decode cX5_waitingMany 18 = .ok (.invokevirtual 157, 3) := dk_182 0 157 (dk_at dksX5_waitingMany_0 18 rfl rfl)
theorem dX5_waitingMany_21 : decode cX5_waitingMany 21 = .ok (.invokestatic 115, 3) := dk_184 0 115 (dk_at dksX5_waitingMany_0 21 rfl rfl)
theorem dX5_waitingMany_24 : decode cX5_waitingMany 24 = .ok (.iadd, 1) := dk_96 (dk_at dksX5_waitingMany_1 0 rfl rfl)
theorem dX5_waitingMany_25 : decode cX5_waitingMany 25 = .ok (.istore_n 2, 1) := dk_61 (dk_at dksX5_waitingMany_1 1 rfl rfl)
theorem dX5_waitingMany_26 : decode cX5_waitingMany 26 = .ok (.iinc 3 1, 3) := dk_132 3 1 (dk_at dksX5_waitingMany_1 2 rfl rfl)
theorem dX5_waitingMany_29 : decode cX5_waitingMany 29 = .ok (.goto (-25), 3) := dk_167 255 231 (dk_at dksX5_waitingMany_1 5 rfl rfl)
theorem dX5_waitingMany_32 : decode cX5_waitingMany 32 = .ok (.iload_n 2, 1) := dk_28 (dk_at dksX5_waitingMany_1 8 rfl rfl)
theorem dX5_waitingMany_33 : decode cX5_waitingMany 33 = .ok (.ireturn, 1) := dk_172 (dk_at dksX5_waitingMany_1 9 rfl rfl)
abbrev cX5_waysAt : ByteArray := prog_15_method_88_code
def yX5_waysAt : MethodName := ⟨RX5, "waysAt", "(I)I"⟩
def dkwX5_waysAt_1 : List UInt8 := [96, 61, 132, 3, 1, 167, 255, 231, 28, 172]
abbrev dktX5_waysAt_1 : List UInt8 := dkwX5_waysAt_1 ++ []
def dkwX5_waysAt_0 : List UInt8 := [3, 61, 3, 62, 29, 42, 180, 0, 9, 4, 46, 162, 0, 21, 28, 42, 29, 27, 182, 0, 91, 184, 0, 115]
abbrev dktX5_waysAt_0 : List UInt8 := dkwX5_waysAt_0 ++ dktX5_waysAt_1
theorem dksX5_waysAt_0 : cX5_waysAt.data.toList.drop 0 = dktX5_waysAt_0 := by decide +kernel
theorem dksX5_waysAt_1 : cX5_waysAt.data.toList.drop 24 = dktX5_waysAt_1 := dk_seg dksX5_waysAt_0 24 rfl rfl
theorem dX5_waysAt_0 : decode cX5_waysAt 0 = .ok (.iconst 0, 1) := dk_3 (dk_at dksX5_waysAt_0 0 rfl rfl)
theorem dX5_waysAt_1 : decode cX5_waysAt 1 = .ok (.istore_n 2, 1) := dk_61 (dk_at dksX5_waysAt_0 1 rfl rfl)
theorem dX5_waysAt_2 : decode cX5_waysAt 2 = .ok (.iconst 0, 1) := dk_3 (dk_at dksX5_waysAt_0 2 rfl rfl)
theorem dX5_waysAt_3 : decode cX5_waysAt 3 = .ok (.istore_n 3, 1) := dk_62 (dk_at dksX5_waysAt_0 3 rfl rfl)
theorem dX5_waysAt_4 : decode cX5_waysAt 4 = .ok (.iload_n 3, 1) := dk_29 (dk_at dksX5_waysAt_0 4 rfl rfl)
theorem dX5_waysAt_5 : decode cX5_waysAt 5 = .ok (.aload_n 0, 1) := dk_42 (dk_at dksX5_waysAt_0 5 rfl rfl)
theorem dX5_waysAt_6 : decode cX5_waysAt 6 = .ok (.getfield 9, 3) := dk_180 0 9 (dk_at dksX5_waysAt_0 6 rfl rfl)
theorem dX5_waysAt_9 : decode cX5_waysAt 9 = .ok (.iconst 1, 1) := dk_4 (dk_at dksX5_waysAt_0 9 rfl rfl)
theorem dX5_waysAt_10 : decode cX5_waysAt 10 = .ok (.iaload, 1) := dk_46 (dk_at dksX5_waysAt_0 10 rfl rfl)
theorem dX5_waysAt_11 : decode cX5_waysAt 11 = .ok (.if_icmp .ge 21, 3) := dk_162 0 21 (dk_at dksX5_waysAt_0 11 rfl rfl)
theorem dX5_waysAt_14 : decode cX5_waysAt 14 = .ok (.iload_n 2, 1) := dk_28 (dk_at dksX5_waysAt_0 14 rfl rfl)
theorem dX5_waysAt_15 : decode cX5_waysAt 15 = .ok (.aload_n 0, 1) := dk_42 (dk_at dksX5_waysAt_0 15 rfl rfl)
theorem dX5_waysAt_16 : decode cX5_waysAt 16 = .ok (.iload_n 3, 1) := dk_29 (dk_at dksX5_waysAt_0 16 rfl rfl)
theorem dX5_waysAt_17 : decode cX5_waysAt 17 = .ok (.iload_n 1, 1) := dk_27 (dk_at dksX5_waysAt_0 17 rfl rfl)
theorem dX5_waysAt_18 : decode cX5_waysAt 18 = .ok (.invokevirtual 91, 3) := dk_182 0 91 (dk_at dksX5_waysAt_0 18 rfl rfl)
theorem dX5_waysAt_21 : decode cX5_waysAt 21 = .ok (.invokestatic 115, 3) := dk_184 0 115 (dk_at dksX5_waysAt_0 21 rfl rfl)
theorem dX5_waysAt_24 : decode cX5_waysAt 24 = .ok (.iadd, 1) := dk_96 (dk_at dksX5_waysAt_1 0 rfl rfl)
theorem dX5_waysAt_25 : decode cX5_waysAt 25 = .ok (.istore_n 2, 1) := dk_61 (dk_at dksX5_waysAt_1 1 rfl rfl)
theorem dX5_waysAt_26 : decode cX5_waysAt 26 = .ok (.iinc 3 1, 3) := dk_132 3 1 (dk_at dksX5_waysAt_1 2 rfl rfl)
theorem dX5_waysAt_29 : decode cX5_waysAt 29 = .ok (.goto (-25), 3) := dk_167 255 231 (dk_at dksX5_waysAt_1 5 rfl rfl)
theorem dX5_waysAt_32 : decode cX5_waysAt 32 = .ok (.iload_n 2, 1) := dk_28 (dk_at dksX5_waysAt_1 8 rfl rfl)
theorem dX5_waysAt_33 : decode cX5_waysAt 33 = .ok (.ireturn, 1) := dk_172 (dk_at dksX5_waysAt_1 9 rfl rfl)
abbrev cX5_way : ByteArray := prog_15_method_90_code
def yX5_way : MethodName := ⟨RX5, "way", "(II)I"⟩
def dkwX5_way_2 : List UInt8 := [3, 172]
abbrev dktX5_way_2 : List UInt8 := dkwX5_way_2 ++ []
def dkwX5_way_1 : List UInt8 := [184, 0, 199, 4, 182, 1, 109, 153, 0, 17, 42, 180, 0, 9, 27, 184, 0, 88, 28, 96, 46, 167, 0, 4]
abbrev dktX5_way_1 : List UInt8 := dkwX5_way_1 ++ dktX5_way_2
def dkwX5_way_0 : List UInt8 := [42, 27, 133, 9, 42, 180, 0, 9, 4, 46, 4, 100, 133, 184, 0, 199, 28, 133, 9, 20, 1, 135]
abbrev dktX5_way_0 : List UInt8 := dkwX5_way_0 ++ dktX5_way_1
theorem dksX5_way_0 : cX5_way.data.toList.drop 0 = dktX5_way_0 := by decide +kernel
theorem dksX5_way_1 : cX5_way.data.toList.drop 22 = dktX5_way_1 := dk_seg dksX5_way_0 22 rfl rfl
theorem dksX5_way_2 : cX5_way.data.toList.drop 46 = dktX5_way_2 := dk_seg dksX5_way_1 24 rfl rfl
theorem dX5_way_0 : decode cX5_way 0 = .ok (.aload_n 0, 1) := dk_42 (dk_at dksX5_way_0 0 rfl rfl)
theorem dX5_way_1 : decode cX5_way 1 = .ok (.iload_n 1, 1) := dk_27 (dk_at dksX5_way_0 1 rfl rfl)
theorem dX5_way_2 : decode cX5_way 2 = .ok (.i2l, 1) := dk_133 (dk_at dksX5_way_0 2 rfl rfl)
theorem dX5_way_3 : decode cX5_way 3 = .ok (.lconst 0, 1) := dk_9 (dk_at dksX5_way_0 3 rfl rfl)
theorem dX5_way_4 : decode cX5_way 4 = .ok (.aload_n 0, 1) := dk_42 (dk_at dksX5_way_0 4 rfl rfl)
theorem dX5_way_5 : decode cX5_way 5 = .ok (.getfield 9, 3) := dk_180 0 9 (dk_at dksX5_way_0 5 rfl rfl)
theorem dX5_way_8 : decode cX5_way 8 = .ok (.iconst 1, 1) := dk_4 (dk_at dksX5_way_0 8 rfl rfl)
theorem dX5_way_9 : decode cX5_way 9 = .ok (.iaload, 1) := dk_46 (dk_at dksX5_way_0 9 rfl rfl)
theorem dX5_way_10 : decode cX5_way 10 = .ok (.iconst 1, 1) := dk_4 (dk_at dksX5_way_0 10 rfl rfl)
theorem dX5_way_11 : decode cX5_way 11 = .ok (.isub, 1) := dk_100 (dk_at dksX5_way_0 11 rfl rfl)
theorem dX5_way_12 : decode cX5_way 12 = .ok (.i2l, 1) := dk_133 (dk_at dksX5_way_0 12 rfl rfl)
theorem dX5_way_13 : decode cX5_way 13 = .ok (.invokestatic 199, 3) := dk_184 0 199 (dk_at dksX5_way_0 13 rfl rfl)
theorem dX5_way_16 : decode cX5_way 16 = .ok (.iload_n 2, 1) := dk_28 (dk_at dksX5_way_0 16 rfl rfl)
theorem dX5_way_17 : decode cX5_way 17 = .ok (.i2l, 1) := dk_133 (dk_at dksX5_way_0 17 rfl rfl)
theorem dX5_way_18 : decode cX5_way 18 = .ok (.lconst 0, 1) := dk_9 (dk_at dksX5_way_0 18 rfl rfl)
theorem dX5_way_19 : decode cX5_way 19 = .ok (.ldc2_w 391, 3) := dk_20 1 135 (dk_at dksX5_way_0 19 rfl rfl)
theorem dX5_way_22 : decode cX5_way 22 = .ok (.invokestatic 199, 3) := dk_184 0 199 (dk_at dksX5_way_1 0 rfl rfl)
theorem dX5_way_25 : decode cX5_way 25 = .ok (.iconst 1, 1) := dk_4 (dk_at dksX5_way_1 3 rfl rfl)
theorem dX5_way_26 : decode cX5_way 26 = .ok (.invokevirtual 365, 3) := dk_182 1 109 (dk_at dksX5_way_1 4 rfl rfl)
theorem dX5_way_29 : decode cX5_way 29 = .ok (.ifCond .eq 17, 3) := dk_153 0 17 (dk_at dksX5_way_1 7 rfl rfl)
theorem dX5_way_32 : decode cX5_way 32 = .ok (.aload_n 0, 1) := dk_42 (dk_at dksX5_way_1 10 rfl rfl)
theorem dX5_way_33 : decode cX5_way 33 = .ok (.getfield 9, 3) := dk_180 0 9 (dk_at dksX5_way_1 11 rfl rfl)
theorem dX5_way_36 : decode cX5_way 36 = .ok (.iload_n 1, 1) := dk_27 (dk_at dksX5_way_1 14 rfl rfl)
theorem dX5_way_37 : decode cX5_way 37 = .ok (.invokestatic 88, 3) := dk_184 0 88 (dk_at dksX5_way_1 15 rfl rfl)
theorem dX5_way_40 : decode cX5_way 40 = .ok (.iload_n 2, 1) := dk_28 (dk_at dksX5_way_1 18 rfl rfl)
theorem dX5_way_41 : decode cX5_way 41 = .ok (.iadd, 1) := dk_96 (dk_at dksX5_way_1 19 rfl rfl)
theorem dX5_way_42 : decode cX5_way 42 = .ok (.iaload, 1) := dk_46 (dk_at dksX5_way_1 20 rfl rfl)
theorem dX5_way_43 : decode cX5_way 43 = .ok (.goto 4, 3) := dk_167 0 4 (dk_at dksX5_way_1 21 rfl rfl)
theorem dX5_way_46 : decode cX5_way 46 = .ok (.iconst 0, 1) := dk_3 (dk_at dksX5_way_2 0 rfl rfl)
theorem dX5_way_47 : decode cX5_way 47 = .ok (.ireturn, 1) := dk_172 (dk_at dksX5_way_2 1 rfl rfl)
abbrev cX5_route : ByteArray := prog_15_method_91_code
def yX5_route : MethodName := ⟨RX5, "route", "(II)I"⟩
def dkwX5_route_1 : List UInt8 := [3, 172]
abbrev dktX5_route_1 : List UInt8 := dkwX5_route_1 ++ []
def dkwX5_route_0 : List UInt8 := [42, 42, 27, 28, 182, 1, 137, 4, 4, 182, 1, 109, 153, 0, 12, 42, 27, 28, 182, 0, 106, 167, 0, 4]
abbrev dktX5_route_0 : List UInt8 := dkwX5_route_0 ++ dktX5_route_1
theorem dksX5_route_0 : cX5_route.data.toList.drop 0 = dktX5_route_0 := by decide +kernel
theorem dksX5_route_1 : cX5_route.data.toList.drop 24 = dktX5_route_1 := dk_seg dksX5_route_0 24 rfl rfl
theorem dX5_route_0 : decode cX5_route 0 = .ok (.aload_n 0, 1) := dk_42 (dk_at dksX5_route_0 0 rfl rfl)
theorem dX5_route_1 : decode cX5_route 1 = .ok (.aload_n 0, 1) := dk_42 (dk_at dksX5_route_0 1 rfl rfl)
theorem dX5_route_2 : decode cX5_route 2 = .ok (.iload_n 1, 1) := dk_27 (dk_at dksX5_route_0 2 rfl rfl)
theorem dX5_route_3 : decode cX5_route 3 = .ok (.iload_n 2, 1) := dk_28 (dk_at dksX5_route_0 3 rfl rfl)
theorem dX5_route_4 : decode cX5_route 4 = .ok (.invokevirtual 393, 3) := dk_182 1 137 (dk_at dksX5_route_0 4 rfl rfl)
theorem dX5_route_7 : decode cX5_route 7 = .ok (.iconst 1, 1) := dk_4 (dk_at dksX5_route_0 7 rfl rfl)
theorem dX5_route_8 : decode cX5_route 8 = .ok (.iconst 1, 1) := dk_4 (dk_at dksX5_route_0 8 rfl rfl)
theorem dX5_route_9 : decode cX5_route 9 = .ok (.invokevirtual 365, 3) := dk_182 1 109 (dk_at dksX5_route_0 9 rfl rfl)
theorem dX5_route_12 : decode cX5_route 12 = .ok (.ifCond .eq 12, 3) := dk_153 0 12 (dk_at dksX5_route_0 12 rfl rfl)
theorem dX5_route_15 : decode cX5_route 15 = .ok (.aload_n 0, 1) := dk_42 (dk_at dksX5_route_0 15 rfl rfl)
theorem dX5_route_16 : decode cX5_route 16 = .ok (.iload_n 1, 1) := dk_27 (dk_at dksX5_route_0 16 rfl rfl)
theorem dX5_route_17 : decode cX5_route 17 = .ok (.iload_n 2, 1) := dk_28 (dk_at dksX5_route_0 17 rfl rfl)
theorem dX5_route_18 : decode cX5_route 18 = .ok (.invokevirtual 106, 3) := dk_182 0 106 (dk_at dksX5_route_0 18 rfl rfl)
theorem dX5_route_21 : decode cX5_route 21 = .ok (.goto 4, 3) := dk_167 0 4 (dk_at dksX5_route_0 21 rfl rfl)
theorem dX5_route_24 : decode cX5_route 24 = .ok (.iconst 0, 1) := dk_3 (dk_at dksX5_route_1 0 rfl rfl)
theorem dX5_route_25 : decode cX5_route 25 = .ok (.ireturn, 1) := dk_172 (dk_at dksX5_route_1 1 rfl rfl)
abbrev cX5_areRoofs : ByteArray := prog_15_method_84_code
def yX5_areRoofs : MethodName := ⟨RX5, "areRoofs", "(II)Z"⟩
def dkwX5_areRoofs_0 : List UInt8 := [42, 27, 182, 1, 124, 153, 0, 15, 42, 28, 182, 1, 124, 153, 0, 7, 4, 167, 0, 4, 3, 172]
abbrev dktX5_areRoofs_0 : List UInt8 := dkwX5_areRoofs_0 ++ []
theorem dksX5_areRoofs_0 : cX5_areRoofs.data.toList.drop 0 = dktX5_areRoofs_0 := by decide +kernel
theorem dX5_areRoofs_0 : decode cX5_areRoofs 0 = .ok (.aload_n 0, 1) := dk_42 (dk_at dksX5_areRoofs_0 0 rfl rfl)
theorem dX5_areRoofs_1 : decode cX5_areRoofs 1 = .ok (.iload_n 1, 1) := dk_27 (dk_at dksX5_areRoofs_0 1 rfl rfl)
theorem dX5_areRoofs_2 : decode cX5_areRoofs 2 = .ok (.invokevirtual 380, 3) := dk_182 1 124 (dk_at dksX5_areRoofs_0 2 rfl rfl)
theorem dX5_areRoofs_5 : decode cX5_areRoofs 5 = .ok (.ifCond .eq 15, 3) := dk_153 0 15 (dk_at dksX5_areRoofs_0 5 rfl rfl)
theorem dX5_areRoofs_8 : decode cX5_areRoofs 8 = .ok (.aload_n 0, 1) := dk_42 (dk_at dksX5_areRoofs_0 8 rfl rfl)
theorem dX5_areRoofs_9 : decode cX5_areRoofs 9 = .ok (.iload_n 2, 1) := dk_28 (dk_at dksX5_areRoofs_0 9 rfl rfl)
theorem dX5_areRoofs_10 : decode cX5_areRoofs 10 = .ok (.invokevirtual 380, 3) := dk_182 1 124 (dk_at dksX5_areRoofs_0 10 rfl rfl)
theorem dX5_areRoofs_13 : decode cX5_areRoofs 13 = .ok (.ifCond .eq 7, 3) := dk_153 0 7 (dk_at dksX5_areRoofs_0 13 rfl rfl)
theorem dX5_areRoofs_16 : decode cX5_areRoofs 16 = .ok (.iconst 1, 1) := dk_4 (dk_at dksX5_areRoofs_0 16 rfl rfl)
theorem dX5_areRoofs_17 : decode cX5_areRoofs 17 = .ok (.goto 4, 3) := dk_167 0 4 (dk_at dksX5_areRoofs_0 17 rfl rfl)
theorem dX5_areRoofs_20 : decode cX5_areRoofs 20 = .ok (.iconst 0, 1) := dk_3 (dk_at dksX5_areRoofs_0 20 rfl rfl)
theorem dX5_areRoofs_21 : decode cX5_areRoofs 21 = .ok (.ireturn, 1) := dk_172 (dk_at dksX5_areRoofs_0 21 rfl rfl)
abbrev cX5_next : ByteArray := prog_15_method_92_code
def yX5_next : MethodName := ⟨RX5, "next", "(II)I"⟩
def dkwX5_next_1 : List UInt8 := [3, 172]
abbrev dktX5_next_1 : List UInt8 := dkwX5_next_1 ++ []
def dkwX5_next_0 : List UInt8 := [42, 42, 27, 28, 182, 1, 137, 4, 4, 182, 1, 109, 153, 0, 12, 42, 27, 28, 182, 0, 166, 167, 0, 4]
abbrev dktX5_next_0 : List UInt8 := dkwX5_next_0 ++ dktX5_next_1
theorem dksX5_next_0 : cX5_next.data.toList.drop 0 = dktX5_next_0 := by decide +kernel
theorem dksX5_next_1 : cX5_next.data.toList.drop 24 = dktX5_next_1 := dk_seg dksX5_next_0 24 rfl rfl
theorem dX5_next_0 : decode cX5_next 0 = .ok (.aload_n 0, 1) := dk_42 (dk_at dksX5_next_0 0 rfl rfl)
theorem dX5_next_1 : decode cX5_next 1 = .ok (.aload_n 0, 1) := dk_42 (dk_at dksX5_next_0 1 rfl rfl)
theorem dX5_next_2 : decode cX5_next 2 = .ok (.iload_n 1, 1) := dk_27 (dk_at dksX5_next_0 2 rfl rfl)
theorem dX5_next_3 : decode cX5_next 3 = .ok (.iload_n 2, 1) := dk_28 (dk_at dksX5_next_0 3 rfl rfl)
theorem dX5_next_4 : decode cX5_next 4 = .ok (.invokevirtual 393, 3) := dk_182 1 137 (dk_at dksX5_next_0 4 rfl rfl)
theorem dX5_next_7 : decode cX5_next 7 = .ok (.iconst 1, 1) := dk_4 (dk_at dksX5_next_0 7 rfl rfl)
theorem dX5_next_8 : decode cX5_next 8 = .ok (.iconst 1, 1) := dk_4 (dk_at dksX5_next_0 8 rfl rfl)
theorem dX5_next_9 : decode cX5_next 9 = .ok (.invokevirtual 365, 3) := dk_182 1 109 (dk_at dksX5_next_0 9 rfl rfl)
theorem dX5_next_12 : decode cX5_next 12 = .ok (.ifCond .eq 12, 3) := dk_153 0 12 (dk_at dksX5_next_0 12 rfl rfl)
theorem dX5_next_15 : decode cX5_next 15 = .ok (.aload_n 0, 1) := dk_42 (dk_at dksX5_next_0 15 rfl rfl)
theorem dX5_next_16 : decode cX5_next 16 = .ok (.iload_n 1, 1) := dk_27 (dk_at dksX5_next_0 16 rfl rfl)
theorem dX5_next_17 : decode cX5_next 17 = .ok (.iload_n 2, 1) := dk_28 (dk_at dksX5_next_0 17 rfl rfl)
theorem dX5_next_18 : decode cX5_next 18 = .ok (.invokevirtual 166, 3) := dk_182 0 166 (dk_at dksX5_next_0 18 rfl rfl)
theorem dX5_next_21 : decode cX5_next 21 = .ok (.goto 4, 3) := dk_167 0 4 (dk_at dksX5_next_0 21 rfl rfl)
theorem dX5_next_24 : decode cX5_next 24 = .ok (.iconst 0, 1) := dk_3 (dk_at dksX5_next_1 0 rfl rfl)
theorem dX5_next_25 : decode cX5_next 25 = .ok (.ireturn, 1) := dk_172 (dk_at dksX5_next_1 1 rfl rfl)
abbrev cX5_tune : ByteArray := prog_15_method_93_code
def yX5_tune : MethodName := ⟨RX5, "tune", "(II)I"⟩
def dkwX5_tune_4 : List UInt8 := [172, 42, 180, 0, 9, 27, 184, 0, 109, 28, 96, 46, 172]
abbrev dktX5_tune_4 : List UInt8 := dkwX5_tune_4 ++ []
def dkwX5_tune_3 : List UInt8 := [42, 27, 182, 0, 154, 172, 42, 27, 182, 0, 141, 172, 42, 180, 0, 9, 27, 184, 0, 109, 16, 9, 96, 46]
abbrev dktX5_tune_3 : List UInt8 := dkwX5_tune_3 ++ dktX5_tune_4
def dkwX5_tune_2 : List UInt8 := [170, 0, 0, 0, 0, 0, 52, 0, 0, 0, 9, 0, 0, 0, 11, 0, 0, 0, 27, 0, 0, 0, 33, 0, 0, 0, 39]
abbrev dktX5_tune_2 : List UInt8 := dkwX5_tune_2 ++ dktX5_tune_3
def dkwX5_tune_1 : List UInt8 := [28]
abbrev dktX5_tune_1 : List UInt8 := dkwX5_tune_1 ++ dktX5_tune_2
def dkwX5_tune_0 : List UInt8 := [42, 42, 27, 182, 1, 140, 28, 133, 9, 20, 1, 143, 184, 0, 199, 4, 182, 1, 109, 154, 0, 5, 3, 172]
abbrev dktX5_tune_0 : List UInt8 := dkwX5_tune_0 ++ dktX5_tune_1
theorem dksX5_tune_0 : cX5_tune.data.toList.drop 0 = dktX5_tune_0 := by decide +kernel
theorem dksX5_tune_1 : cX5_tune.data.toList.drop 24 = dktX5_tune_1 := dk_seg dksX5_tune_0 24 rfl rfl
theorem dksX5_tune_2 : cX5_tune.data.toList.drop 25 = dktX5_tune_2 := dk_seg dksX5_tune_1 1 rfl rfl
theorem dksX5_tune_3 : cX5_tune.data.toList.drop 52 = dktX5_tune_3 := dk_seg dksX5_tune_2 27 rfl rfl
theorem dksX5_tune_4 : cX5_tune.data.toList.drop 76 = dktX5_tune_4 := dk_seg dksX5_tune_3 24 rfl rfl
theorem dX5_tune_0 : decode cX5_tune 0 = .ok (.aload_n 0, 1) := dk_42 (dk_at dksX5_tune_0 0 rfl rfl)
theorem dX5_tune_1 : decode cX5_tune 1 = .ok (.aload_n 0, 1) := dk_42 (dk_at dksX5_tune_0 1 rfl rfl)
theorem dX5_tune_2 : decode cX5_tune 2 = .ok (.iload_n 1, 1) := dk_27 (dk_at dksX5_tune_0 2 rfl rfl)
theorem dX5_tune_3 : decode cX5_tune 3 = .ok (.invokevirtual 396, 3) := dk_182 1 140 (dk_at dksX5_tune_0 3 rfl rfl)
theorem dX5_tune_6 : decode cX5_tune 6 = .ok (.iload_n 2, 1) := dk_28 (dk_at dksX5_tune_0 6 rfl rfl)
theorem dX5_tune_7 : decode cX5_tune 7 = .ok (.i2l, 1) := dk_133 (dk_at dksX5_tune_0 7 rfl rfl)
theorem dX5_tune_8 : decode cX5_tune 8 = .ok (.lconst 0, 1) := dk_9 (dk_at dksX5_tune_0 8 rfl rfl)
theorem dX5_tune_9 : decode cX5_tune 9 = .ok (.ldc2_w 399, 3) := dk_20 1 143 (dk_at dksX5_tune_0 9 rfl rfl)
theorem dX5_tune_12 : decode cX5_tune 12 = .ok (.invokestatic 199, 3) := dk_184 0 199 (dk_at dksX5_tune_0 12 rfl rfl)
theorem dX5_tune_15 : decode cX5_tune 15 = .ok (.iconst 1, 1) := dk_4 (dk_at dksX5_tune_0 15 rfl rfl)
theorem dX5_tune_16 : decode cX5_tune 16 = .ok (.invokevirtual 365, 3) := dk_182 1 109 (dk_at dksX5_tune_0 16 rfl rfl)
theorem dX5_tune_19 : decode cX5_tune 19 = .ok (.ifCond .ne 5, 3) := dk_154 0 5 (dk_at dksX5_tune_0 19 rfl rfl)
theorem dX5_tune_22 : decode cX5_tune 22 = .ok (.iconst 0, 1) := dk_3 (dk_at dksX5_tune_0 22 rfl rfl)
theorem dX5_tune_23 : decode cX5_tune 23 = .ok (.ireturn, 1) := dk_172 (dk_at dksX5_tune_0 23 rfl rfl)
theorem dX5_tune_24 : decode cX5_tune 24 = .ok (.iload_n 2, 1) := dk_28 (dk_at dksX5_tune_1 0 rfl rfl)
theorem dX5_tune_25 : decode cX5_tune 25 = .ok (.tableswitch 52 9 11 #[27, 33, 39], 27) := by decide +kernel
theorem dX5_tune_52 : decode cX5_tune 52 = .ok (.aload_n 0, 1) := dk_42 (dk_at dksX5_tune_3 0 rfl rfl)
theorem dX5_tune_53 : decode cX5_tune 53 = .ok (.iload_n 1, 1) := dk_27 (dk_at dksX5_tune_3 1 rfl rfl)
theorem dX5_tune_54 : decode cX5_tune 54 = .ok (.invokevirtual 154, 3) := dk_182 0 154 (dk_at dksX5_tune_3 2 rfl rfl)
theorem dX5_tune_57 : decode cX5_tune 57 = .ok (.ireturn, 1) := dk_172 (dk_at dksX5_tune_3 5 rfl rfl)
theorem dX5_tune_58 : decode cX5_tune 58 = .ok (.aload_n 0, 1) := dk_42 (dk_at dksX5_tune_3 6 rfl rfl)
theorem dX5_tune_59 : decode cX5_tune 59 = .ok (.iload_n 1, 1) := dk_27 (dk_at dksX5_tune_3 7 rfl rfl)
theorem dX5_tune_60 : decode cX5_tune 60 = .ok (.invokevirtual 141, 3) := dk_182 0 141 (dk_at dksX5_tune_3 8 rfl rfl)
theorem dX5_tune_63 : decode cX5_tune 63 = .ok (.ireturn, 1) := dk_172 (dk_at dksX5_tune_3 11 rfl rfl)
theorem dX5_tune_64 : decode cX5_tune 64 = .ok (.aload_n 0, 1) := dk_42 (dk_at dksX5_tune_3 12 rfl rfl)
theorem dX5_tune_65 : decode cX5_tune 65 = .ok (.getfield 9, 3) := dk_180 0 9 (dk_at dksX5_tune_3 13 rfl rfl)
theorem dX5_tune_68 : decode cX5_tune 68 = .ok (.iload_n 1, 1) := dk_27 (dk_at dksX5_tune_3 16 rfl rfl)
theorem dX5_tune_69 : decode cX5_tune 69 = .ok (.invokestatic 109, 3) := dk_184 0 109 (dk_at dksX5_tune_3 17 rfl rfl)
theorem dX5_tune_72 : decode cX5_tune 72 = .ok (.bipush 9, 2) := dk_16 9 (dk_at dksX5_tune_3 20 rfl rfl)
theorem dX5_tune_74 : decode cX5_tune 74 = .ok (.iadd, 1) := dk_96 (dk_at dksX5_tune_3 22 rfl rfl)
theorem dX5_tune_75 : decode cX5_tune 75 = .ok (.iaload, 1) := dk_46 (dk_at dksX5_tune_3 23 rfl rfl)
theorem dX5_tune_76 : decode cX5_tune 76 = .ok (.ireturn, 1) := dk_172 (dk_at dksX5_tune_4 0 rfl rfl)
theorem dX5_tune_77 : decode cX5_tune 77 = .ok (.aload_n 0, 1) := dk_42 (dk_at dksX5_tune_4 1 rfl rfl)
theorem dX5_tune_78 : decode cX5_tune 78 = .ok (.getfield 9, 3) := dk_180 0 9 (dk_at dksX5_tune_4 2 rfl rfl)
theorem dX5_tune_81 : decode cX5_tune 81 = .ok (.iload_n 1, 1) := dk_27 (dk_at dksX5_tune_4 5 rfl rfl)
theorem dX5_tune_82 : decode cX5_tune 82 = .ok (.invokestatic 109, 3) := dk_184 0 109 (dk_at dksX5_tune_4 6 rfl rfl)
theorem dX5_tune_85 : decode cX5_tune 85 = .ok (.iload_n 2, 1) := dk_28 (dk_at dksX5_tune_4 9 rfl rfl)
theorem dX5_tune_86 : decode cX5_tune 86 = .ok (.iadd, 1) := dk_96 (dk_at dksX5_tune_4 10 rfl rfl)
theorem dX5_tune_87 : decode cX5_tune 87 = .ok (.iaload, 1) := dk_46 (dk_at dksX5_tune_4 11 rfl rfl)
theorem dX5_tune_88 : decode cX5_tune 88 = .ok (.ireturn, 1) := dk_172 (dk_at dksX5_tune_4 12 rfl rfl)
abbrev cX5_isTune : ByteArray := prog_15_method_85_code
def yX5_isTune : MethodName := ⟨RX5, "isTune", "(I)Z"⟩
def dkwX5_isTune_0 : List UInt8 := [27, 133, 9, 42, 180, 0, 9, 5, 46, 4, 100, 133, 184, 0, 199, 172]
abbrev dktX5_isTune_0 : List UInt8 := dkwX5_isTune_0 ++ []
theorem dksX5_isTune_0 : cX5_isTune.data.toList.drop 0 = dktX5_isTune_0 := by decide +kernel
theorem dX5_isTune_0 : decode cX5_isTune 0 = .ok (.iload_n 1, 1) := dk_27 (dk_at dksX5_isTune_0 0 rfl rfl)
theorem dX5_isTune_1 : decode cX5_isTune 1 = .ok (.i2l, 1) := dk_133 (dk_at dksX5_isTune_0 1 rfl rfl)
theorem dX5_isTune_2 : decode cX5_isTune 2 = .ok (.lconst 0, 1) := dk_9 (dk_at dksX5_isTune_0 2 rfl rfl)
theorem dX5_isTune_3 : decode cX5_isTune 3 = .ok (.aload_n 0, 1) := dk_42 (dk_at dksX5_isTune_0 3 rfl rfl)
theorem dX5_isTune_4 : decode cX5_isTune 4 = .ok (.getfield 9, 3) := dk_180 0 9 (dk_at dksX5_isTune_0 4 rfl rfl)
theorem dX5_isTune_7 : decode cX5_isTune 7 = .ok (.iconst 2, 1) := dk_5 (dk_at dksX5_isTune_0 7 rfl rfl)
theorem dX5_isTune_8 : decode cX5_isTune 8 = .ok (.iaload, 1) := dk_46 (dk_at dksX5_isTune_0 8 rfl rfl)
theorem dX5_isTune_9 : decode cX5_isTune 9 = .ok (.iconst 1, 1) := dk_4 (dk_at dksX5_isTune_0 9 rfl rfl)
theorem dX5_isTune_10 : decode cX5_isTune 10 = .ok (.isub, 1) := dk_100 (dk_at dksX5_isTune_0 10 rfl rfl)
theorem dX5_isTune_11 : decode cX5_isTune 11 = .ok (.i2l, 1) := dk_133 (dk_at dksX5_isTune_0 11 rfl rfl)
theorem dX5_isTune_12 : decode cX5_isTune 12 = .ok (.invokestatic 199, 3) := dk_184 0 199 (dk_at dksX5_isTune_0 12 rfl rfl)
theorem dX5_isTune_15 : decode cX5_isTune 15 = .ok (.ireturn, 1) := dk_172 (dk_at dksX5_isTune_0 15 rfl rfl)
abbrev cX5_note : ByteArray := prog_15_method_94_code
def yX5_note : MethodName := ⟨RX5, "note", "(IIZ)I"⟩
def dkwX5_note_2 : List UInt8 := [184, 0, 109, 29, 153, 0, 8, 16, 19, 167, 0, 5, 16, 11, 96, 28, 96, 46, 167, 0, 4, 2, 172]
abbrev dktX5_note_2 : List UInt8 := dkwX5_note_2 ++ []
def dkwX5_note_1 : List UInt8 := [184, 0, 109, 5, 96, 46, 4, 100, 133, 184, 0, 199, 54, 4, 21, 4, 153, 0, 29, 42, 180, 0, 9, 27]
abbrev dktX5_note_1 : List UInt8 := dkwX5_note_1 ++ dktX5_note_2
def dkwX5_note_0 : List UInt8 := [42, 42, 27, 182, 1, 140, 4, 4, 182, 1, 109, 154, 0, 5, 3, 172, 28, 133, 9, 42, 180, 0, 9, 27]
abbrev dktX5_note_0 : List UInt8 := dkwX5_note_0 ++ dktX5_note_1
theorem dksX5_note_0 : cX5_note.data.toList.drop 0 = dktX5_note_0 := by decide +kernel
theorem dksX5_note_1 : cX5_note.data.toList.drop 24 = dktX5_note_1 := dk_seg dksX5_note_0 24 rfl rfl
theorem dksX5_note_2 : cX5_note.data.toList.drop 48 = dktX5_note_2 := dk_seg dksX5_note_1 24 rfl rfl
theorem dX5_note_0 : decode cX5_note 0 = .ok (.aload_n 0, 1) := dk_42 (dk_at dksX5_note_0 0 rfl rfl)
theorem dX5_note_1 : decode cX5_note 1 = .ok (.aload_n 0, 1) := dk_42 (dk_at dksX5_note_0 1 rfl rfl)
theorem dX5_note_2 : decode cX5_note 2 = .ok (.iload_n 1, 1) := dk_27 (dk_at dksX5_note_0 2 rfl rfl)
theorem dX5_note_3 : decode cX5_note 3 = .ok (.invokevirtual 396, 3) := dk_182 1 140 (dk_at dksX5_note_0 3 rfl rfl)
theorem dX5_note_6 : decode cX5_note 6 = .ok (.iconst 1, 1) := dk_4 (dk_at dksX5_note_0 6 rfl rfl)
theorem dX5_note_7 : decode cX5_note 7 = .ok (.iconst 1, 1) := dk_4 (dk_at dksX5_note_0 7 rfl rfl)
theorem dX5_note_8 : decode cX5_note 8 = .ok (.invokevirtual 365, 3) := dk_182 1 109 (dk_at dksX5_note_0 8 rfl rfl)
theorem dX5_note_11 : decode cX5_note 11 = .ok (.ifCond .ne 5, 3) := dk_154 0 5 (dk_at dksX5_note_0 11 rfl rfl)
theorem dX5_note_14 : decode cX5_note 14 = .ok (.iconst 0, 1) := dk_3 (dk_at dksX5_note_0 14 rfl rfl)
theorem dX5_note_15 : decode cX5_note 15 = .ok (.ireturn, 1) := dk_172 (dk_at dksX5_note_0 15 rfl rfl)
theorem dX5_note_16 : decode cX5_note 16 = .ok (.iload_n 2, 1) := dk_28 (dk_at dksX5_note_0 16 rfl rfl)
theorem dX5_note_17 : decode cX5_note 17 = .ok (.i2l, 1) := dk_133 (dk_at dksX5_note_0 17 rfl rfl)
theorem dX5_note_18 : decode cX5_note 18 = .ok (.lconst 0, 1) := dk_9 (dk_at dksX5_note_0 18 rfl rfl)
theorem dX5_note_19 : decode cX5_note 19 = .ok (.aload_n 0, 1) := dk_42 (dk_at dksX5_note_0 19 rfl rfl)
theorem dX5_note_20 : decode cX5_note 20 = .ok (.getfield 9, 3) := dk_180 0 9 (dk_at dksX5_note_0 20 rfl rfl)
theorem dX5_note_23 : decode cX5_note 23 = .ok (.iload_n 1, 1) := dk_27 (dk_at dksX5_note_0 23 rfl rfl)
theorem dX5_note_24 : decode cX5_note 24 = .ok (.invokestatic 109, 3) := dk_184 0 109 (dk_at dksX5_note_1 0 rfl rfl)
theorem dX5_note_27 : decode cX5_note 27 = .ok (.iconst 2, 1) := dk_5 (dk_at dksX5_note_1 3 rfl rfl)
theorem dX5_note_28 : decode cX5_note 28 = .ok (.iadd, 1) := dk_96 (dk_at dksX5_note_1 4 rfl rfl)
theorem dX5_note_29 : decode cX5_note 29 = .ok (.iaload, 1) := dk_46 (dk_at dksX5_note_1 5 rfl rfl)
theorem dX5_note_30 : decode cX5_note 30 = .ok (.iconst 1, 1) := dk_4 (dk_at dksX5_note_1 6 rfl rfl)
theorem dX5_note_31 : decode cX5_note 31 = .ok (.isub, 1) := dk_100 (dk_at dksX5_note_1 7 rfl rfl)
theorem dX5_note_32 : decode cX5_note 32 = .ok (.i2l, 1) := dk_133 (dk_at dksX5_note_1 8 rfl rfl)
theorem dX5_note_33 : decode cX5_note 33 = .ok (.invokestatic 199, 3) := dk_184 0 199 (dk_at dksX5_note_1 9 rfl rfl)
theorem dX5_note_36 : decode cX5_note 36 = .ok (.istore 4, 2) := dk_54 4 (dk_at dksX5_note_1 12 rfl rfl)
theorem dX5_note_38 : decode cX5_note 38 = .ok (.iload 4, 2) := dk_21 4 (dk_at dksX5_note_1 14 rfl rfl)
theorem dX5_note_40 : decode cX5_note 40 = .ok (.ifCond .eq 29, 3) := dk_153 0 29 (dk_at dksX5_note_1 16 rfl rfl)
theorem dX5_note_43 : decode cX5_note 43 = .ok (.aload_n 0, 1) := dk_42 (dk_at dksX5_note_1 19 rfl rfl)
theorem dX5_note_44 : decode cX5_note 44 = .ok (.getfield 9, 3) := dk_180 0 9 (dk_at dksX5_note_1 20 rfl rfl)
theorem dX5_note_47 : decode cX5_note 47 = .ok (.iload_n 1, 1) := dk_27 (dk_at dksX5_note_1 23 rfl rfl)
theorem dX5_note_48 : decode cX5_note 48 = .ok (.invokestatic 109, 3) := dk_184 0 109 (dk_at dksX5_note_2 0 rfl rfl)
theorem dX5_note_51 : decode cX5_note 51 = .ok (.iload_n 3, 1) := dk_29 (dk_at dksX5_note_2 3 rfl rfl)
theorem dX5_note_52 : decode cX5_note 52 = .ok (.ifCond .eq 8, 3) := dk_153 0 8 (dk_at dksX5_note_2 4 rfl rfl)
theorem dX5_note_55 : decode cX5_note 55 = .ok (.bipush 19, 2) := dk_16 19 (dk_at dksX5_note_2 7 rfl rfl)
theorem dX5_note_57 : decode cX5_note 57 = .ok (.goto 5, 3) := dk_167 0 5 (dk_at dksX5_note_2 9 rfl rfl)
theorem dX5_note_60 : decode cX5_note 60 = .ok (.bipush 11, 2) := dk_16 11 (dk_at dksX5_note_2 12 rfl rfl)
theorem dX5_note_62 : decode cX5_note 62 = .ok (.iadd, 1) := dk_96 (dk_at dksX5_note_2 14 rfl rfl)
theorem dX5_note_63 : decode cX5_note 63 = .ok (.iload_n 2, 1) := dk_28 (dk_at dksX5_note_2 15 rfl rfl)
theorem dX5_note_64 : decode cX5_note 64 = .ok (.iadd, 1) := dk_96 (dk_at dksX5_note_2 16 rfl rfl)
theorem dX5_note_65 : decode cX5_note 65 = .ok (.iaload, 1) := dk_46 (dk_at dksX5_note_2 17 rfl rfl)
theorem dX5_note_66 : decode cX5_note 66 = .ok (.goto 4, 3) := dk_167 0 4 (dk_at dksX5_note_2 18 rfl rfl)
theorem dX5_note_69 : decode cX5_note 69 = .ok (.iconst (-1), 1) := dk_2 (dk_at dksX5_note_2 21 rfl rfl)
theorem dX5_note_70 : decode cX5_note 70 = .ok (.ireturn, 1) := dk_172 (dk_at dksX5_note_2 22 rfl rfl)
abbrev cX5_waiting : ByteArray := prog_15_method_96_code
def yX5_waiting : MethodName := ⟨RX5, "waiting", "(II)I"⟩
def dkwX5_waiting_2 : List UInt8 := [172, 132, 3, 1, 167, 255, 222, 2, 172]
abbrev dktX5_waiting_2 : List UInt8 := dkwX5_waiting_2 ++ []
def dkwX5_waiting_1 : List UInt8 := [46, 162, 0, 30, 42, 29, 27, 182, 0, 157, 153, 0, 15, 42, 29, 27, 182, 1, 145, 28, 160, 0, 5, 29]
abbrev dktX5_waiting_1 : List UInt8 := dkwX5_waiting_1 ++ dktX5_waiting_2
def dkwX5_waiting_0 : List UInt8 := [42, 42, 27, 182, 1, 124, 4, 4, 182, 1, 109, 154, 0, 5, 3, 172, 3, 62, 29, 42, 180, 0, 9, 5]
abbrev dktX5_waiting_0 : List UInt8 := dkwX5_waiting_0 ++ dktX5_waiting_1
theorem dksX5_waiting_0 : cX5_waiting.data.toList.drop 0 = dktX5_waiting_0 := by decide +kernel
theorem dksX5_waiting_1 : cX5_waiting.data.toList.drop 24 = dktX5_waiting_1 := dk_seg dksX5_waiting_0 24 rfl rfl
theorem dksX5_waiting_2 : cX5_waiting.data.toList.drop 48 = dktX5_waiting_2 := dk_seg dksX5_waiting_1 24 rfl rfl
theorem dX5_waiting_0 : decode cX5_waiting 0 = .ok (.aload_n 0, 1) := dk_42 (dk_at dksX5_waiting_0 0 rfl rfl)
theorem dX5_waiting_1 : decode cX5_waiting 1 = .ok (.aload_n 0, 1) := dk_42 (dk_at dksX5_waiting_0 1 rfl rfl)
theorem dX5_waiting_2 : decode cX5_waiting 2 = .ok (.iload_n 1, 1) := dk_27 (dk_at dksX5_waiting_0 2 rfl rfl)
theorem dX5_waiting_3 : decode cX5_waiting 3 = .ok (.invokevirtual 380, 3) := dk_182 1 124 (dk_at dksX5_waiting_0 3 rfl rfl)
theorem dX5_waiting_6 : decode cX5_waiting 6 = .ok (.iconst 1, 1) := dk_4 (dk_at dksX5_waiting_0 6 rfl rfl)
theorem dX5_waiting_7 : decode cX5_waiting 7 = .ok (.iconst 1, 1) := dk_4 (dk_at dksX5_waiting_0 7 rfl rfl)
theorem dX5_waiting_8 : decode cX5_waiting 8 = .ok (.invokevirtual 365, 3) := dk_182 1 109 (dk_at dksX5_waiting_0 8 rfl rfl)
theorem dX5_waiting_11 : decode cX5_waiting 11 = .ok (.ifCond .ne 5, 3) := dk_154 0 5 (dk_at dksX5_waiting_0 11 rfl rfl)
theorem dX5_waiting_14 : decode cX5_waiting 14 = .ok (.iconst 0, 1) := dk_3 (dk_at dksX5_waiting_0 14 rfl rfl)
theorem dX5_waiting_15 : decode cX5_waiting 15 = .ok (.ireturn, 1) := dk_172 (dk_at dksX5_waiting_0 15 rfl rfl)
theorem dX5_waiting_16 : decode cX5_waiting 16 = .ok (.iconst 0, 1) := dk_3 (dk_at dksX5_waiting_0 16 rfl rfl)
theorem dX5_waiting_17 : decode cX5_waiting 17 = .ok (.istore_n 3, 1) := dk_62 (dk_at dksX5_waiting_0 17 rfl rfl)
theorem dX5_waiting_18 : decode cX5_waiting 18 = .ok (.iload_n 3, 1) := dk_29 (dk_at dksX5_waiting_0 18 rfl rfl)
theorem dX5_waiting_19 : decode cX5_waiting 19 = .ok (.aload_n 0, 1) := dk_42 (dk_at dksX5_waiting_0 19 rfl rfl)
theorem dX5_waiting_20 : decode cX5_waiting 20 = .ok (.getfield 9, 3) := dk_180 0 9 (dk_at dksX5_waiting_0 20 rfl rfl)
theorem dX5_waiting_23 : decode cX5_waiting 23 = .ok (.iconst 2, 1) := dk_5 (dk_at dksX5_waiting_0 23 rfl rfl)
theorem dX5_waiting_24 : decode cX5_waiting 24 = .ok (.iaload, 1) := dk_46 (dk_at dksX5_waiting_1 0 rfl rfl)
theorem dX5_waiting_25 : decode cX5_waiting 25 = .ok (.if_icmp .ge 30, 3) := dk_162 0 30 (dk_at dksX5_waiting_1 1 rfl rfl)
theorem dX5_waiting_28 : decode cX5_waiting 28 = .ok (.aload_n 0, 1) := dk_42 (dk_at dksX5_waiting_1 4 rfl rfl)
theorem dX5_waiting_29 : decode cX5_waiting 29 = .ok (.iload_n 3, 1) := dk_29 (dk_at dksX5_waiting_1 5 rfl rfl)
theorem dX5_waiting_30 : decode cX5_waiting 30 = .ok (.iload_n 1, 1) := dk_27 (dk_at dksX5_waiting_1 6 rfl rfl)
theorem dX5_waiting_31 : decode cX5_waiting 31 = .ok (.invokevirtual 157, 3) := dk_182 0 157 (dk_at dksX5_waiting_1 7 rfl rfl)
theorem dX5_waiting_34 : decode cX5_waiting 34 = .ok (.ifCond .eq 15, 3) := dk_153 0 15 (dk_at dksX5_waiting_1 10 rfl rfl)
theorem dX5_waiting_37 : decode cX5_waiting 37 = .ok (.aload_n 0, 1) := dk_42 (dk_at dksX5_waiting_1 13 rfl rfl)
theorem dX5_waiting_38 : decode cX5_waiting 38 = .ok (.iload_n 3, 1) := dk_29 (dk_at dksX5_waiting_1 14 rfl rfl)
theorem dX5_waiting_39 : decode cX5_waiting 39 = .ok (.iload_n 1, 1) := dk_27 (dk_at dksX5_waiting_1 15 rfl rfl)
theorem dX5_waiting_40 : decode cX5_waiting 40 = .ok (.invokevirtual 401, 3) := dk_182 1 145 (dk_at dksX5_waiting_1 16 rfl rfl)
theorem dX5_waiting_43 : decode cX5_waiting 43 = .ok (.iload_n 2, 1) := dk_28 (dk_at dksX5_waiting_1 19 rfl rfl)
theorem dX5_waiting_44 : decode cX5_waiting 44 = .ok (.if_icmp .ne 5, 3) := dk_160 0 5 (dk_at dksX5_waiting_1 20 rfl rfl)
theorem dX5_waiting_47 : decode cX5_waiting 47 = .ok (.iload_n 3, 1) := dk_29 (dk_at dksX5_waiting_1 23 rfl rfl)
theorem dX5_waiting_48 : decode cX5_waiting 48 = .ok (.ireturn, 1) := dk_172 (dk_at dksX5_waiting_2 0 rfl rfl)
theorem dX5_waiting_49 : decode cX5_waiting 49 = .ok (.iinc 3 1, 3) := dk_132 3 1 (dk_at dksX5_waiting_2 1 rfl rfl)
theorem dX5_waiting_52 : decode cX5_waiting 52 = .ok (.goto (-34), 3) := dk_167 255 222 (dk_at dksX5_waiting_2 4 rfl rfl)
theorem dX5_waiting_55 : decode cX5_waiting 55 = .ok (.iconst (-1), 1) := dk_2 (dk_at dksX5_waiting_2 7 rfl rfl)
theorem dX5_waiting_56 : decode cX5_waiting 56 = .ok (.ireturn, 1) := dk_172 (dk_at dksX5_waiting_2 8 rfl rfl)
abbrev cX5_placeOf : ByteArray := prog_15_method_95_code
def yX5_placeOf : MethodName := ⟨RX5, "placeOf", "(II)I"⟩
def dkwX5_placeOf_3 : List UInt8 := [167, 255, 191, 29, 172]
abbrev dktX5_placeOf_3 : List UInt8 := dkwX5_placeOf_3 ++ []
def dkwX5_placeOf_2 : List UInt8 := [154, 0, 13, 21, 4, 27, 162, 0, 7, 4, 167, 0, 4, 3, 184, 0, 115, 96, 62, 132, 4, 1]
abbrev dktX5_placeOf_2 : List UInt8 := dkwX5_placeOf_2 ++ dktX5_placeOf_3
def dkwX5_placeOf_1 : List UInt8 := [182, 0, 154, 100, 54, 5, 29, 42, 21, 4, 28, 182, 0, 157, 153, 0, 23, 21, 5, 157, 0, 14, 21, 5]
abbrev dktX5_placeOf_1 : List UInt8 := dkwX5_placeOf_1 ++ dktX5_placeOf_2
def dkwX5_placeOf_0 : List UInt8 := [3, 62, 3, 54, 4, 21, 4, 42, 180, 0, 9, 5, 46, 162, 0, 60, 42, 21, 4, 182, 0, 154, 42, 27]
abbrev dktX5_placeOf_0 : List UInt8 := dkwX5_placeOf_0 ++ dktX5_placeOf_1
theorem dksX5_placeOf_0 : cX5_placeOf.data.toList.drop 0 = dktX5_placeOf_0 := by decide +kernel
theorem dksX5_placeOf_1 : cX5_placeOf.data.toList.drop 24 = dktX5_placeOf_1 := dk_seg dksX5_placeOf_0 24 rfl rfl
theorem dksX5_placeOf_2 : cX5_placeOf.data.toList.drop 48 = dktX5_placeOf_2 := dk_seg dksX5_placeOf_1 24 rfl rfl
theorem dksX5_placeOf_3 : cX5_placeOf.data.toList.drop 70 = dktX5_placeOf_3 := dk_seg dksX5_placeOf_2 22 rfl rfl
theorem dX5_placeOf_0 : decode cX5_placeOf 0 = .ok (.iconst 0, 1) := dk_3 (dk_at dksX5_placeOf_0 0 rfl rfl)
theorem dX5_placeOf_1 : decode cX5_placeOf 1 = .ok (.istore_n 3, 1) := dk_62 (dk_at dksX5_placeOf_0 1 rfl rfl)
theorem dX5_placeOf_2 : decode cX5_placeOf 2 = .ok (.iconst 0, 1) := dk_3 (dk_at dksX5_placeOf_0 2 rfl rfl)
theorem dX5_placeOf_3 : decode cX5_placeOf 3 = .ok (.istore 4, 2) := dk_54 4 (dk_at dksX5_placeOf_0 3 rfl rfl)
theorem dX5_placeOf_5 : decode cX5_placeOf 5 = .ok (.iload 4, 2) := dk_21 4 (dk_at dksX5_placeOf_0 5 rfl rfl)
theorem dX5_placeOf_7 : decode cX5_placeOf 7 = .ok (.aload_n 0, 1) := dk_42 (dk_at dksX5_placeOf_0 7 rfl rfl)
theorem dX5_placeOf_8 : decode cX5_placeOf 8 = .ok (.getfield 9, 3) := dk_180 0 9 (dk_at dksX5_placeOf_0 8 rfl rfl)
theorem dX5_placeOf_11 : decode cX5_placeOf 11 = .ok (.iconst 2, 1) := dk_5 (dk_at dksX5_placeOf_0 11 rfl rfl)
theorem dX5_placeOf_12 : decode cX5_placeOf 12 = .ok (.iaload, 1) := dk_46 (dk_at dksX5_placeOf_0 12 rfl rfl)
theorem dX5_placeOf_13 : decode cX5_placeOf 13 = .ok (.if_icmp .ge 60, 3) := dk_162 0 60 (dk_at dksX5_placeOf_0 13 rfl rfl)
theorem dX5_placeOf_16 : decode cX5_placeOf 16 = .ok (.aload_n 0, 1) := dk_42 (dk_at dksX5_placeOf_0 16 rfl rfl)
theorem dX5_placeOf_17 : decode cX5_placeOf 17 = .ok (.iload 4, 2) := dk_21 4 (dk_at dksX5_placeOf_0 17 rfl rfl)
theorem dX5_placeOf_19 : decode cX5_placeOf 19 = .ok (.invokevirtual 154, 3) := dk_182 0 154 (dk_at dksX5_placeOf_0 19 rfl rfl)
theorem dX5_placeOf_22 : decode cX5_placeOf 22 = .ok (.aload_n 0, 1) := dk_42 (dk_at dksX5_placeOf_0 22 rfl rfl)
theorem dX5_placeOf_23 : decode cX5_placeOf 23 = .ok (.iload_n 1, 1) := dk_27 (dk_at dksX5_placeOf_0 23 rfl rfl)
theorem dX5_placeOf_24 : decode cX5_placeOf 24 = .ok (.invokevirtual 154, 3) := dk_182 0 154 (dk_at dksX5_placeOf_1 0 rfl rfl)
theorem dX5_placeOf_27 : decode cX5_placeOf 27 = .ok (.isub, 1) := dk_100 (dk_at dksX5_placeOf_1 3 rfl rfl)
theorem dX5_placeOf_28 : decode cX5_placeOf 28 = .ok (.istore 5, 2) := dk_54 5 (dk_at dksX5_placeOf_1 4 rfl rfl)
theorem dX5_placeOf_30 : decode cX5_placeOf 30 = .ok (.iload_n 3, 1) := dk_29 (dk_at dksX5_placeOf_1 6 rfl rfl)
theorem dX5_placeOf_31 : decode cX5_placeOf 31 = .ok (.aload_n 0, 1) := dk_42 (dk_at dksX5_placeOf_1 7 rfl rfl)
theorem dX5_placeOf_32 : decode cX5_placeOf 32 = .ok (.iload 4, 2) := dk_21 4 (dk_at dksX5_placeOf_1 8 rfl rfl)
theorem dX5_placeOf_34 : decode cX5_placeOf 34 = .ok (.iload_n 2, 1) := dk_28 (dk_at dksX5_placeOf_1 10 rfl rfl)
theorem dX5_placeOf_35 : decode cX5_placeOf 35 = .ok (.invokevirtual 157, 3) := dk_182 0 157 (dk_at dksX5_placeOf_1 11 rfl rfl)
theorem dX5_placeOf_38 : decode cX5_placeOf 38 = .ok (.ifCond .eq 23, 3) := dk_153 0 23 (dk_at dksX5_placeOf_1 14 rfl rfl)
theorem dX5_placeOf_41 : decode cX5_placeOf 41 = .ok (.iload 5, 2) := dk_21 5 (dk_at dksX5_placeOf_1 17 rfl rfl)
theorem dX5_placeOf_43 : decode cX5_placeOf 43 = .ok (.ifCond .gt 14, 3) := dk_157 0 14 (dk_at dksX5_placeOf_1 19 rfl rfl)
theorem dX5_placeOf_46 : decode cX5_placeOf 46 = .ok (.iload 5, 2) := dk_21 5 (dk_at dksX5_placeOf_1 22 rfl rfl)
theorem dX5_placeOf_48 : decode cX5_placeOf 48 = .ok (.ifCond .ne 13, 3) := dk_154 0 13 (dk_at dksX5_placeOf_2 0 rfl rfl)
theorem dX5_placeOf_51 : decode cX5_placeOf 51 = .ok (.iload 4, 2) := dk_21 4 (dk_at dksX5_placeOf_2 3 rfl rfl)
theorem dX5_placeOf_53 : decode cX5_placeOf 53 = .ok (.iload_n 1, 1) := dk_27 (dk_at dksX5_placeOf_2 5 rfl rfl)
theorem dX5_placeOf_54 : decode cX5_placeOf 54 = .ok (.if_icmp .ge 7, 3) := dk_162 0 7 (dk_at dksX5_placeOf_2 6 rfl rfl)
theorem dX5_placeOf_57 : decode cX5_placeOf 57 = .ok (.iconst 1, 1) := dk_4 (dk_at dksX5_placeOf_2 9 rfl rfl)
theorem dX5_placeOf_58 : decode cX5_placeOf 58 = .ok (.goto 4, 3) := dk_167 0 4 (dk_at dksX5_placeOf_2 10 rfl rfl)
theorem dX5_placeOf_61 : decode cX5_placeOf 61 = .ok (.iconst 0, 1) := dk_3 (dk_at dksX5_placeOf_2 13 rfl rfl)
theorem dX5_placeOf_62 : decode cX5_placeOf 62 = .ok (.invokestatic 115, 3) := dk_184 0 115 (dk_at dksX5_placeOf_2 14 rfl rfl)
theorem dX5_placeOf_65 : decode cX5_placeOf 65 = .ok (.iadd, 1) := dk_96 (dk_at dksX5_placeOf_2 17 rfl rfl)
theorem dX5_placeOf_66 : decode cX5_placeOf 66 = .ok (.istore_n 3, 1) := dk_62 (dk_at dksX5_placeOf_2 18 rfl rfl)
theorem dX5_placeOf_67 : decode cX5_placeOf 67 = .ok (.iinc 4 1, 3) := dk_132 4 1 (dk_at dksX5_placeOf_2 19 rfl rfl)
theorem dX5_placeOf_70 : decode cX5_placeOf 70 = .ok (.goto (-65), 3) := dk_167 255 191 (dk_at dksX5_placeOf_3 0 rfl rfl)
theorem dX5_placeOf_73 : decode cX5_placeOf 73 = .ok (.iload_n 3, 1) := dk_29 (dk_at dksX5_placeOf_3 3 rfl rfl)
theorem dX5_placeOf_74 : decode cX5_placeOf 74 = .ok (.ireturn, 1) := dk_172 (dk_at dksX5_placeOf_3 4 rfl rfl)
abbrev cX5_why : ByteArray := prog_15_method_99_code
def yX5_why : MethodName := ⟨RX5, "why", "(II)I"⟩
def dkwX5_why_1 : List UInt8 := [182, 1, 148, 62, 28, 154, 0, 7, 29, 167, 0, 9, 42, 27, 29, 182, 1, 151, 172]
abbrev dktX5_why_1 : List UInt8 := dkwX5_why_1 ++ []
def dkwX5_why_0 : List UInt8 := [42, 42, 27, 182, 1, 140, 28, 133, 9, 10, 184, 0, 199, 4, 182, 1, 109, 154, 0, 5, 3, 172, 42, 27]
abbrev dktX5_why_0 : List UInt8 := dkwX5_why_0 ++ dktX5_why_1
theorem dksX5_why_0 : cX5_why.data.toList.drop 0 = dktX5_why_0 := by decide +kernel
theorem dksX5_why_1 : cX5_why.data.toList.drop 24 = dktX5_why_1 := dk_seg dksX5_why_0 24 rfl rfl
theorem dX5_why_0 : decode cX5_why 0 = .ok (.aload_n 0, 1) := dk_42 (dk_at dksX5_why_0 0 rfl rfl)
theorem dX5_why_1 : decode cX5_why 1 = .ok (.aload_n 0, 1) := dk_42 (dk_at dksX5_why_0 1 rfl rfl)
theorem dX5_why_2 : decode cX5_why 2 = .ok (.iload_n 1, 1) := dk_27 (dk_at dksX5_why_0 2 rfl rfl)
theorem dX5_why_3 : decode cX5_why 3 = .ok (.invokevirtual 396, 3) := dk_182 1 140 (dk_at dksX5_why_0 3 rfl rfl)
theorem dX5_why_6 : decode cX5_why 6 = .ok (.iload_n 2, 1) := dk_28 (dk_at dksX5_why_0 6 rfl rfl)
theorem dX5_why_7 : decode cX5_why 7 = .ok (.i2l, 1) := dk_133 (dk_at dksX5_why_0 7 rfl rfl)
theorem dX5_why_8 : decode cX5_why 8 = .ok (.lconst 0, 1) := dk_9 (dk_at dksX5_why_0 8 rfl rfl)
theorem dX5_why_9 : decode cX5_why 9 = .ok (.lconst 1, 1) := dk_10 (dk_at dksX5_why_0 9 rfl rfl)
theorem dX5_why_10 : decode cX5_why 10 = .ok (.invokestatic 199, 3) := dk_184 0 199 (dk_at dksX5_why_0 10 rfl rfl)
theorem dX5_why_13 : decode cX5_why 13 = .ok (.iconst 1, 1) := dk_4 (dk_at dksX5_why_0 13 rfl rfl)
theorem dX5_why_14 : decode cX5_why 14 = .ok (.invokevirtual 365, 3) := dk_182 1 109 (dk_at dksX5_why_0 14 rfl rfl)
theorem dX5_why_17 : decode cX5_why 17 = .ok (.ifCond .ne 5, 3) := dk_154 0 5 (dk_at dksX5_why_0 17 rfl rfl)
theorem dX5_why_20 : decode cX5_why 20 = .ok (.iconst 0, 1) := dk_3 (dk_at dksX5_why_0 20 rfl rfl)
theorem dX5_why_21 : decode cX5_why 21 = .ok (.ireturn, 1) := dk_172 (dk_at dksX5_why_0 21 rfl rfl)
theorem dX5_why_22 : decode cX5_why 22 = .ok (.aload_n 0, 1) := dk_42 (dk_at dksX5_why_0 22 rfl rfl)
theorem dX5_why_23 : decode cX5_why 23 = .ok (.iload_n 1, 1) := dk_27 (dk_at dksX5_why_0 23 rfl rfl)
theorem dX5_why_24 : decode cX5_why 24 = .ok (.invokevirtual 404, 3) := dk_182 1 148 (dk_at dksX5_why_1 0 rfl rfl)
theorem dX5_why_27 : decode cX5_why 27 = .ok (.istore_n 3, 1) := dk_62 (dk_at dksX5_why_1 3 rfl rfl)
theorem dX5_why_28 : decode cX5_why 28 = .ok (.iload_n 2, 1) := dk_28 (dk_at dksX5_why_1 4 rfl rfl)
theorem dX5_why_29 : decode cX5_why 29 = .ok (.ifCond .ne 7, 3) := dk_154 0 7 (dk_at dksX5_why_1 5 rfl rfl)
theorem dX5_why_32 : decode cX5_why 32 = .ok (.iload_n 3, 1) := dk_29 (dk_at dksX5_why_1 8 rfl rfl)
theorem dX5_why_33 : decode cX5_why 33 = .ok (.goto 9, 3) := dk_167 0 9 (dk_at dksX5_why_1 9 rfl rfl)
theorem dX5_why_36 : decode cX5_why 36 = .ok (.aload_n 0, 1) := dk_42 (dk_at dksX5_why_1 12 rfl rfl)
theorem dX5_why_37 : decode cX5_why 37 = .ok (.iload_n 1, 1) := dk_27 (dk_at dksX5_why_1 13 rfl rfl)
theorem dX5_why_38 : decode cX5_why 38 = .ok (.iload_n 3, 1) := dk_29 (dk_at dksX5_why_1 14 rfl rfl)
theorem dX5_why_39 : decode cX5_why 39 = .ok (.invokevirtual 407, 3) := dk_182 1 151 (dk_at dksX5_why_1 15 rfl rfl)
theorem dX5_why_42 : decode cX5_why 42 = .ok (.ireturn, 1) := dk_172 (dk_at dksX5_why_1 18 rfl rfl)
abbrev cX5_reason : ByteArray := prog_15_method_97_code
def yX5_reason : MethodName := ⟨RX5, "reason", "(I)I"⟩
def dkwX5_reason_4 : List UInt8 := [182, 0, 163, 162, 0, 5, 8, 172, 42, 29, 182, 0, 181, 27, 160, 0, 7, 3, 167, 0, 5, 16, 6, 172]
abbrev dktX5_reason_4 : List UInt8 := dkwX5_reason_4 ++ []
def dkwX5_reason_3 : List UInt8 := [42, 180, 0, 9, 6, 46, 4, 96, 182, 0, 178, 153, 0, 5, 7, 172, 42, 27, 182, 0, 160, 42, 27, 29]
abbrev dktX5_reason_3 : List UInt8 := dkwX5_reason_3 ++ dktX5_reason_4
def dkwX5_reason_2 : List UInt8 := [42, 180, 0, 9, 6, 46, 4, 96, 16, 60, 112, 42, 180, 0, 9, 8, 46, 161, 0, 5, 6, 172, 42, 29]
abbrev dktX5_reason_2 : List UInt8 := dkwX5_reason_2 ++ dktX5_reason_3
def dkwX5_reason_1 : List UInt8 := [153, 0, 5, 4, 172, 42, 29, 42, 180, 0, 9, 28, 4, 96, 46, 182, 0, 106, 2, 160, 0, 5, 5, 172]
abbrev dktX5_reason_1 : List UInt8 := dkwX5_reason_1 ++ dktX5_reason_2
def dkwX5_reason_0 : List UInt8 := [27, 184, 0, 109, 61, 42, 180, 0, 9, 28, 7, 96, 46, 62, 42, 180, 0, 9, 28, 6, 96, 46]
abbrev dktX5_reason_0 : List UInt8 := dkwX5_reason_0 ++ dktX5_reason_1
theorem dksX5_reason_0 : cX5_reason.data.toList.drop 0 = dktX5_reason_0 := by decide +kernel
theorem dksX5_reason_1 : cX5_reason.data.toList.drop 22 = dktX5_reason_1 := dk_seg dksX5_reason_0 22 rfl rfl
theorem dksX5_reason_2 : cX5_reason.data.toList.drop 46 = dktX5_reason_2 := dk_seg dksX5_reason_1 24 rfl rfl
theorem dksX5_reason_3 : cX5_reason.data.toList.drop 70 = dktX5_reason_3 := dk_seg dksX5_reason_2 24 rfl rfl
theorem dksX5_reason_4 : cX5_reason.data.toList.drop 94 = dktX5_reason_4 := dk_seg dksX5_reason_3 24 rfl rfl
theorem dX5_reason_0 : decode cX5_reason 0 = .ok (.iload_n 1, 1) := dk_27 (dk_at dksX5_reason_0 0 rfl rfl)
theorem dX5_reason_1 : decode cX5_reason 1 = .ok (.invokestatic 109, 3) := dk_184 0 109 (dk_at dksX5_reason_0 1 rfl rfl)
theorem dX5_reason_4 : decode cX5_reason 4 = .ok (.istore_n 2, 1) := dk_61 (dk_at dksX5_reason_0 4 rfl rfl)
theorem dX5_reason_5 : decode cX5_reason 5 = .ok (.aload_n 0, 1) := dk_42 (dk_at dksX5_reason_0 5 rfl rfl)
theorem dX5_reason_6 : decode cX5_reason 6 = .ok (.getfield 9, 3) := dk_180 0 9 (dk_at dksX5_reason_0 6 rfl rfl)
theorem dX5_reason_9 : decode cX5_reason 9 = .ok (.iload_n 2, 1) := dk_28 (dk_at dksX5_reason_0 9 rfl rfl)
theorem dX5_reason_10 : decode cX5_reason 10 = .ok (.iconst 4, 1) := dk_7 (dk_at dksX5_reason_0 10 rfl rfl)
theorem dX5_reason_11 : decode cX5_reason 11 = .ok (.iadd, 1) := dk_96 (dk_at dksX5_reason_0 11 rfl rfl)
theorem dX5_reason_12 : decode cX5_reason 12 = .ok (.iaload, 1) := dk_46 (dk_at dksX5_reason_0 12 rfl rfl)
theorem dX5_reason_13 : decode cX5_reason 13 = .ok (.istore_n 3, 1) := dk_62 (dk_at dksX5_reason_0 13 rfl rfl)
theorem dX5_reason_14 : decode cX5_reason 14 = .ok (.aload_n 0, 1) := dk_42 (dk_at dksX5_reason_0 14 rfl rfl)
theorem dX5_reason_15 : decode cX5_reason 15 = .ok (.getfield 9, 3) := dk_180 0 9 (dk_at dksX5_reason_0 15 rfl rfl)
theorem dX5_reason_18 : decode cX5_reason 18 = .ok (.iload_n 2, 1) := dk_28 (dk_at dksX5_reason_0 18 rfl rfl)
theorem dX5_reason_19 : decode cX5_reason 19 = .ok (.iconst 3, 1) := dk_6 (dk_at dksX5_reason_0 19 rfl rfl)
theorem dX5_reason_20 : decode cX5_reason 20 = .ok (.iadd, 1) := dk_96 (dk_at dksX5_reason_0 20 rfl rfl)
theorem dX5_reason_21 : decode cX5_reason 21 = .ok (.iaload, 1) := dk_46 (dk_at dksX5_reason_0 21 rfl rfl)
theorem dX5_reason_22 : decode cX5_reason 22 = .ok (.ifCond .eq 5, 3) := dk_153 0 5 (dk_at dksX5_reason_1 0 rfl rfl)
theorem dX5_reason_25 : decode cX5_reason 25 = .ok (.iconst 1, 1) := dk_4 (dk_at dksX5_reason_1 3 rfl rfl)
theorem dX5_reason_26 : decode cX5_reason 26 = .ok (.ireturn, 1) := dk_172 (dk_at dksX5_reason_1 4 rfl rfl)
theorem dX5_reason_27 : decode cX5_reason 27 = .ok (.aload_n 0, 1) := dk_42 (dk_at dksX5_reason_1 5 rfl rfl)
theorem dX5_reason_28 : decode cX5_reason 28 = .ok (.iload_n 3, 1) := dk_29 (dk_at dksX5_reason_1 6 rfl rfl)
theorem dX5_reason_29 : decode cX5_reason 29 = .ok (.aload_n 0, 1) := dk_42 (dk_at dksX5_reason_1 7 rfl rfl)
theorem dX5_reason_30 : decode cX5_reason 30 = .ok (.getfield 9, 3) := dk_180 0 9 (dk_at dksX5_reason_1 8 rfl rfl)
theorem dX5_reason_33 : decode cX5_reason 33 = .ok (.iload_n 2, 1) := dk_28 (dk_at dksX5_reason_1 11 rfl rfl)
theorem dX5_reason_34 : decode cX5_reason 34 = .ok (.iconst 1, 1) := dk_4 (dk_at dksX5_reason_1 12 rfl rfl)
theorem dX5_reason_35 : decode cX5_reason 35 = .ok (.iadd, 1) := dk_96 (dk_at dksX5_reason_1 13 rfl rfl)
theorem dX5_reason_36 : decode cX5_reason 36 = .ok (.iaload, 1) := dk_46 (dk_at dksX5_reason_1 14 rfl rfl)
theorem dX5_reason_37 : decode cX5_reason 37 = .ok (.invokevirtual 106, 3) := dk_182 0 106 (dk_at dksX5_reason_1 15 rfl rfl)
theorem dX5_reason_40 : decode cX5_reason 40 = .ok (.iconst (-1), 1) := dk_2 (dk_at dksX5_reason_1 18 rfl rfl)
theorem dX5_reason_41 : decode cX5_reason 41 = .ok (.if_icmp .ne 5, 3) := dk_160 0 5 (dk_at dksX5_reason_1 19 rfl rfl)
theorem dX5_reason_44 : decode cX5_reason 44 = .ok (.iconst 2, 1) := dk_5 (dk_at dksX5_reason_1 22 rfl rfl)
theorem dX5_reason_45 : decode cX5_reason 45 = .ok (.ireturn, 1) := dk_172 (dk_at dksX5_reason_1 23 rfl rfl)
theorem dX5_reason_46 : decode cX5_reason 46 = .ok (.aload_n 0, 1) := dk_42 (dk_at dksX5_reason_2 0 rfl rfl)
theorem dX5_reason_47 : decode cX5_reason 47 = .ok (.getfield 9, 3) := dk_180 0 9 (dk_at dksX5_reason_2 1 rfl rfl)
theorem dX5_reason_50 : decode cX5_reason 50 = .ok (.iconst 3, 1) := dk_6 (dk_at dksX5_reason_2 4 rfl rfl)
theorem dX5_reason_51 : decode cX5_reason 51 = .ok (.iaload, 1) := dk_46 (dk_at dksX5_reason_2 5 rfl rfl)
theorem dX5_reason_52 : decode cX5_reason 52 = .ok (.iconst 1, 1) := dk_4 (dk_at dksX5_reason_2 6 rfl rfl)
theorem dX5_reason_53 : decode cX5_reason 53 = .ok (.iadd, 1) := dk_96 (dk_at dksX5_reason_2 7 rfl rfl)
theorem dX5_reason_54 : decode cX5_reason 54 = .ok (.bipush 60, 2) := dk_16 60 (dk_at dksX5_reason_2 8 rfl rfl)
theorem dX5_reason_56 : decode cX5_reason 56 = .ok (.irem, 1) := dk_112 (dk_at dksX5_reason_2 10 rfl rfl)
theorem dX5_reason_57 : decode cX5_reason 57 = .ok (.aload_n 0, 1) := dk_42 (dk_at dksX5_reason_2 11 rfl rfl)
theorem dX5_reason_58 : decode cX5_reason 58 = .ok (.getfield 9, 3) := dk_180 0 9 (dk_at dksX5_reason_2 12 rfl rfl)
theorem dX5_reason_61 : decode cX5_reason 61 = .ok (.iconst 5, 1) := dk_8 (dk_at dksX5_reason_2 15 rfl rfl)
theorem dX5_reason_62 : decode cX5_reason 62 = .ok (.iaload, 1) := dk_46 (dk_at dksX5_reason_2 16 rfl rfl)
theorem dX5_reason_63 : decode cX5_reason 63 = .ok (.if_icmp .lt 5, 3) := dk_161 0 5 (dk_at dksX5_reason_2 17 rfl rfl)
theorem dX5_reason_66 : decode cX5_reason 66 = .ok (.iconst 3, 1) := dk_6 (dk_at dksX5_reason_2 20 rfl rfl)
theorem dX5_reason_67 : decode cX5_reason 67 = .ok (.ireturn, 1) := dk_172 (dk_at dksX5_reason_2 21 rfl rfl)
theorem dX5_reason_68 : decode cX5_reason 68 = .ok (.aload_n 0, 1) := dk_42 (dk_at dksX5_reason_2 22 rfl rfl)
theorem dX5_reason_69 : decode cX5_reason 69 = .ok (.iload_n 3, 1) := dk_29 (dk_at dksX5_reason_2 23 rfl rfl)
theorem dX5_reason_70 : decode cX5_reason 70 = .ok (.aload_n 0, 1) := dk_42 (dk_at dksX5_reason_3 0 rfl rfl)
theorem dX5_reason_71 : decode cX5_reason 71 = .ok (.getfield 9, 3) := dk_180 0 9 (dk_at dksX5_reason_3 1 rfl rfl)
theorem dX5_reason_74 : decode cX5_reason 74 = .ok (.iconst 3, 1) := dk_6 (dk_at dksX5_reason_3 4 rfl rfl)
theorem dX5_reason_75 : decode cX5_reason 75 = .ok (.iaload, 1) := dk_46 (dk_at dksX5_reason_3 5 rfl rfl)
theorem dX5_reason_76 : decode cX5_reason 76 = .ok (.iconst 1, 1) := dk_4 (dk_at dksX5_reason_3 6 rfl rfl)
theorem dX5_reason_77 : decode cX5_reason 77 = .ok (.iadd, 1) := dk_96 (dk_at dksX5_reason_3 7 rfl rfl)
theorem dX5_reason_78 : decode cX5_reason 78 = .ok (.invokevirtual 178, 3) := dk_182 0 178 (dk_at dksX5_reason_3 8 rfl rfl)
theorem dX5_reason_81 : decode cX5_reason 81 = .ok (.ifCond .eq 5, 3) := dk_153 0 5 (dk_at dksX5_reason_3 11 rfl rfl)
theorem dX5_reason_84 : decode cX5_reason 84 = .ok (.iconst 4, 1) := dk_7 (dk_at dksX5_reason_3 14 rfl rfl)
theorem dX5_reason_85 : decode cX5_reason 85 = .ok (.ireturn, 1) := dk_172 (dk_at dksX5_reason_3 15 rfl rfl)
theorem dX5_reason_86 : decode cX5_reason 86 = .ok (.aload_n 0, 1) := dk_42 (dk_at dksX5_reason_3 16 rfl rfl)
theorem dX5_reason_87 : decode cX5_reason 87 = .ok (.iload_n 1, 1) := dk_27 (dk_at dksX5_reason_3 17 rfl rfl)
theorem dX5_reason_88 : decode cX5_reason 88 = .ok (.invokevirtual 160, 3) := dk_182 0 160 (dk_at dksX5_reason_3 18 rfl rfl)
theorem dX5_reason_91 : decode cX5_reason 91 = .ok (.aload_n 0, 1) := dk_42 (dk_at dksX5_reason_3 21 rfl rfl)
theorem dX5_reason_92 : decode cX5_reason 92 = .ok (.iload_n 1, 1) := dk_27 (dk_at dksX5_reason_3 22 rfl rfl)
theorem dX5_reason_93 : decode cX5_reason 93 = .ok (.iload_n 3, 1) := dk_29 (dk_at dksX5_reason_3 23 rfl rfl)
theorem dX5_reason_94 : decode cX5_reason 94 = .ok (.invokevirtual 163, 3) := dk_182 0 163 (dk_at dksX5_reason_4 0 rfl rfl)
theorem dX5_reason_97 : decode cX5_reason 97 = .ok (.if_icmp .ge 5, 3) := dk_162 0 5 (dk_at dksX5_reason_4 3 rfl rfl)
theorem dX5_reason_100 : decode cX5_reason 100 = .ok (.iconst 5, 1) := dk_8 (dk_at dksX5_reason_4 6 rfl rfl)
theorem dX5_reason_101 : decode cX5_reason 101 = .ok (.ireturn, 1) := dk_172 (dk_at dksX5_reason_4 7 rfl rfl)
theorem dX5_reason_102 : decode cX5_reason 102 = .ok (.aload_n 0, 1) := dk_42 (dk_at dksX5_reason_4 8 rfl rfl)
theorem dX5_reason_103 : decode cX5_reason 103 = .ok (.iload_n 3, 1) := dk_29 (dk_at dksX5_reason_4 9 rfl rfl)
theorem dX5_reason_104 : decode cX5_reason 104 = .ok (.invokevirtual 181, 3) := dk_182 0 181 (dk_at dksX5_reason_4 10 rfl rfl)
theorem dX5_reason_107 : decode cX5_reason 107 = .ok (.iload_n 1, 1) := dk_27 (dk_at dksX5_reason_4 13 rfl rfl)
theorem dX5_reason_108 : decode cX5_reason 108 = .ok (.if_icmp .ne 7, 3) := dk_160 0 7 (dk_at dksX5_reason_4 14 rfl rfl)
theorem dX5_reason_111 : decode cX5_reason 111 = .ok (.iconst 0, 1) := dk_3 (dk_at dksX5_reason_4 17 rfl rfl)
theorem dX5_reason_112 : decode cX5_reason 112 = .ok (.goto 5, 3) := dk_167 0 5 (dk_at dksX5_reason_4 18 rfl rfl)
theorem dX5_reason_115 : decode cX5_reason 115 = .ok (.bipush 6, 2) := dk_16 6 (dk_at dksX5_reason_4 21 rfl rfl)
theorem dX5_reason_117 : decode cX5_reason 117 = .ok (.ireturn, 1) := dk_172 (dk_at dksX5_reason_4 23 rfl rfl)
abbrev cX5_cause : ByteArray := prog_15_method_98_code
def yX5_cause : MethodName := ⟨RX5, "cause", "(II)I"⟩
def dkwX5_cause_6 : List UInt8 := [172, 3, 172]
abbrev dktX5_cause_6 : List UInt8 := dkwX5_cause_6 ++ []
def dkwX5_cause_5 : List UInt8 := [27, 21, 4, 182, 0, 163, 96, 42, 27, 182, 0, 160, 100, 172, 17, 2, 88, 42, 21, 4, 182, 0, 181, 96]
abbrev dktX5_cause_5 : List UInt8 := dkwX5_cause_5 ++ dktX5_cause_6
def dkwX5_cause_4 : List UInt8 := [21, 4, 184, 0, 84, 16, 11, 96, 46, 96, 42, 180, 0, 9, 6, 46, 100, 4, 100, 172, 17, 1, 244, 42]
abbrev dktX5_cause_4 : List UInt8 := dkwX5_cause_4 ++ dktX5_cause_5
def dkwX5_cause_3 : List UInt8 := [172, 17, 1, 44, 42, 180, 0, 9, 6, 46, 4, 96, 16, 60, 112, 96, 172, 17, 1, 144, 42, 180, 0, 9]
abbrev dktX5_cause_3 : List UInt8 := dkwX5_cause_3 ++ dktX5_cause_4
def dkwX5_cause_2 : List UInt8 := [16, 100, 42, 180, 0, 9, 29, 6, 96, 46, 96, 172, 17, 0, 200, 42, 180, 0, 9, 29, 4, 96, 46, 96]
abbrev dktX5_cause_2 : List UInt8 := dkwX5_cause_2 ++ dktX5_cause_3
def dkwX5_cause_1 : List UInt8 := [170, 0, 0, 0, 0, 0, 0, 137, 0, 0, 0, 1, 0, 0, 0, 6, 0, 0, 0, 40, 0, 0, 0, 52, 0, 0, 0, 65, 0, 0, 0, 81, 0, 0, 0, 108, 0, 0, 0, 126]
abbrev dktX5_cause_1 : List UInt8 := dkwX5_cause_1 ++ dktX5_cause_2
def dkwX5_cause_0 : List UInt8 := [27, 184, 0, 109, 62, 42, 180, 0, 9, 29, 7, 96, 46, 54, 4, 28]
abbrev dktX5_cause_0 : List UInt8 := dkwX5_cause_0 ++ dktX5_cause_1
theorem dksX5_cause_0 : cX5_cause.data.toList.drop 0 = dktX5_cause_0 := by decide +kernel
theorem dksX5_cause_1 : cX5_cause.data.toList.drop 16 = dktX5_cause_1 := dk_seg dksX5_cause_0 16 rfl rfl
theorem dksX5_cause_2 : cX5_cause.data.toList.drop 56 = dktX5_cause_2 := dk_seg dksX5_cause_1 40 rfl rfl
theorem dksX5_cause_3 : cX5_cause.data.toList.drop 80 = dktX5_cause_3 := dk_seg dksX5_cause_2 24 rfl rfl
theorem dksX5_cause_4 : cX5_cause.data.toList.drop 104 = dktX5_cause_4 := dk_seg dksX5_cause_3 24 rfl rfl
theorem dksX5_cause_5 : cX5_cause.data.toList.drop 128 = dktX5_cause_5 := dk_seg dksX5_cause_4 24 rfl rfl
theorem dksX5_cause_6 : cX5_cause.data.toList.drop 152 = dktX5_cause_6 := dk_seg dksX5_cause_5 24 rfl rfl
theorem dX5_cause_0 : decode cX5_cause 0 = .ok (.iload_n 1, 1) := dk_27 (dk_at dksX5_cause_0 0 rfl rfl)
theorem dX5_cause_1 : decode cX5_cause 1 = .ok (.invokestatic 109, 3) := dk_184 0 109 (dk_at dksX5_cause_0 1 rfl rfl)
theorem dX5_cause_4 : decode cX5_cause 4 = .ok (.istore_n 3, 1) := dk_62 (dk_at dksX5_cause_0 4 rfl rfl)
theorem dX5_cause_5 : decode cX5_cause 5 = .ok (.aload_n 0, 1) := dk_42 (dk_at dksX5_cause_0 5 rfl rfl)
theorem dX5_cause_6 : decode cX5_cause 6 = .ok (.getfield 9, 3) := dk_180 0 9 (dk_at dksX5_cause_0 6 rfl rfl)
theorem dX5_cause_9 : decode cX5_cause 9 = .ok (.iload_n 3, 1) := dk_29 (dk_at dksX5_cause_0 9 rfl rfl)
theorem dX5_cause_10 : decode cX5_cause 10 = .ok (.iconst 4, 1) := dk_7 (dk_at dksX5_cause_0 10 rfl rfl)
theorem dX5_cause_11 : decode cX5_cause 11 = .ok (.iadd, 1) := dk_96 (dk_at dksX5_cause_0 11 rfl rfl)
theorem dX5_cause_12 : decode cX5_cause 12 = .ok (.iaload, 1) := dk_46 (dk_at dksX5_cause_0 12 rfl rfl)
theorem dX5_cause_13 : decode cX5_cause 13 = .ok (.istore 4, 2) := dk_54 4 (dk_at dksX5_cause_0 13 rfl rfl)
theorem dX5_cause_15 : decode cX5_cause 15 = .ok (.iload_n 2, 1) := dk_28 (dk_at dksX5_cause_0 15 rfl rfl)
theorem dX5_cause_16 : decode cX5_cause 16 = .ok (.tableswitch 137 1 6 #[40, 52, 65, 81, 108, 126], 40) := by decide +kernel
theorem dX5_cause_56 : decode cX5_cause 56 = .ok (.bipush 100, 2) := dk_16 100 (dk_at dksX5_cause_2 0 rfl rfl)
theorem dX5_cause_58 : decode cX5_cause 58 = .ok (.aload_n 0, 1) := dk_42 (dk_at dksX5_cause_2 2 rfl rfl)
theorem dX5_cause_59 : decode cX5_cause 59 = .ok (.getfield 9, 3) := dk_180 0 9 (dk_at dksX5_cause_2 3 rfl rfl)
theorem dX5_cause_62 : decode cX5_cause 62 = .ok (.iload_n 3, 1) := dk_29 (dk_at dksX5_cause_2 6 rfl rfl)
theorem dX5_cause_63 : decode cX5_cause 63 = .ok (.iconst 3, 1) := dk_6 (dk_at dksX5_cause_2 7 rfl rfl)
theorem dX5_cause_64 : decode cX5_cause 64 = .ok (.iadd, 1) := dk_96 (dk_at dksX5_cause_2 8 rfl rfl)
theorem dX5_cause_65 : decode cX5_cause 65 = .ok (.iaload, 1) := dk_46 (dk_at dksX5_cause_2 9 rfl rfl)
theorem dX5_cause_66 : decode cX5_cause 66 = .ok (.iadd, 1) := dk_96 (dk_at dksX5_cause_2 10 rfl rfl)
theorem dX5_cause_67 : decode cX5_cause 67 = .ok (.ireturn, 1) := dk_172 (dk_at dksX5_cause_2 11 rfl rfl)
theorem dX5_cause_68 : decode cX5_cause 68 = .ok (.sipush 200, 3) := dk_17 0 200 (dk_at dksX5_cause_2 12 rfl rfl)
theorem dX5_cause_71 : decode cX5_cause 71 = .ok (.aload_n 0, 1) := dk_42 (dk_at dksX5_cause_2 15 rfl rfl)
theorem dX5_cause_72 : decode cX5_cause 72 = .ok (.getfield 9, 3) := dk_180 0 9 (dk_at dksX5_cause_2 16 rfl rfl)
theorem dX5_cause_75 : decode cX5_cause 75 = .ok (.iload_n 3, 1) := dk_29 (dk_at dksX5_cause_2 19 rfl rfl)
theorem dX5_cause_76 : decode cX5_cause 76 = .ok (.iconst 1, 1) := dk_4 (dk_at dksX5_cause_2 20 rfl rfl)
theorem dX5_cause_77 : decode cX5_cause 77 = .ok (.iadd, 1) := dk_96 (dk_at dksX5_cause_2 21 rfl rfl)
theorem dX5_cause_78 : decode cX5_cause 78 = .ok (.iaload, 1) := dk_46 (dk_at dksX5_cause_2 22 rfl rfl)
theorem dX5_cause_79 : decode cX5_cause 79 = .ok (.iadd, 1) := dk_96 (dk_at dksX5_cause_2 23 rfl rfl)
theorem dX5_cause_80 : decode cX5_cause 80 = .ok (.ireturn, 1) := dk_172 (dk_at dksX5_cause_3 0 rfl rfl)
theorem dX5_cause_81 : decode cX5_cause 81 = .ok (.sipush 300, 3) := dk_17 1 44 (dk_at dksX5_cause_3 1 rfl rfl)
theorem dX5_cause_84 : decode cX5_cause 84 = .ok (.aload_n 0, 1) := dk_42 (dk_at dksX5_cause_3 4 rfl rfl)
theorem dX5_cause_85 : decode cX5_cause 85 = .ok (.getfield 9, 3) := dk_180 0 9 (dk_at dksX5_cause_3 5 rfl rfl)
theorem dX5_cause_88 : decode cX5_cause 88 = .ok (.iconst 3, 1) := dk_6 (dk_at dksX5_cause_3 8 rfl rfl)
theorem dX5_cause_89 : decode cX5_cause 89 = .ok (.iaload, 1) := dk_46 (dk_at dksX5_cause_3 9 rfl rfl)
theorem dX5_cause_90 : decode cX5_cause 90 = .ok (.iconst 1, 1) := dk_4 (dk_at dksX5_cause_3 10 rfl rfl)
theorem dX5_cause_91 : decode cX5_cause 91 = .ok (.iadd, 1) := dk_96 (dk_at dksX5_cause_3 11 rfl rfl)
theorem dX5_cause_92 : decode cX5_cause 92 = .ok (.bipush 60, 2) := dk_16 60 (dk_at dksX5_cause_3 12 rfl rfl)
theorem dX5_cause_94 : decode cX5_cause 94 = .ok (.irem, 1) := dk_112 (dk_at dksX5_cause_3 14 rfl rfl)
theorem dX5_cause_95 : decode cX5_cause 95 = .ok (.iadd, 1) := dk_96 (dk_at dksX5_cause_3 15 rfl rfl)
theorem dX5_cause_96 : decode cX5_cause 96 = .ok (.ireturn, 1) := dk_172 (dk_at dksX5_cause_3 16 rfl rfl)
theorem dX5_cause_97 : decode cX5_cause 97 = .ok (.sipush 400, 3) := dk_17 1 144 (dk_at dksX5_cause_3 17 rfl rfl)
theorem dX5_cause_100 : decode cX5_cause 100 = .ok (.aload_n 0, 1) := dk_42 (dk_at dksX5_cause_3 20 rfl rfl)
theorem dX5_cause_101 : decode cX5_cause 101 = .ok (.getfield 9, 3) := dk_180 0 9 (dk_at dksX5_cause_3 21 rfl rfl)
theorem dX5_cause_104 : decode cX5_cause 104 = .ok (.iload 4, 2) := dk_21 4 (dk_at dksX5_cause_4 0 rfl rfl)
theorem dX5_cause_106 : decode cX5_cause 106 = .ok (.invokestatic 84, 3) := dk_184 0 84 (dk_at dksX5_cause_4 2 rfl rfl)
theorem dX5_cause_109 : decode cX5_cause 109 = .ok (.bipush 11, 2) := dk_16 11 (dk_at dksX5_cause_4 5 rfl rfl)
theorem dX5_cause_111 : decode cX5_cause 111 = .ok (.iadd, 1) := dk_96 (dk_at dksX5_cause_4 7 rfl rfl)
theorem dX5_cause_112 : decode cX5_cause 112 = .ok (.iaload, 1) := dk_46 (dk_at dksX5_cause_4 8 rfl rfl)
theorem dX5_cause_113 : decode cX5_cause 113 = .ok (.iadd, 1) := dk_96 (dk_at dksX5_cause_4 9 rfl rfl)
theorem dX5_cause_114 : decode cX5_cause 114 = .ok (.aload_n 0, 1) := dk_42 (dk_at dksX5_cause_4 10 rfl rfl)
theorem dX5_cause_115 : decode cX5_cause 115 = .ok (.getfield 9, 3) := dk_180 0 9 (dk_at dksX5_cause_4 11 rfl rfl)
theorem dX5_cause_118 : decode cX5_cause 118 = .ok (.iconst 3, 1) := dk_6 (dk_at dksX5_cause_4 14 rfl rfl)
theorem dX5_cause_119 : decode cX5_cause 119 = .ok (.iaload, 1) := dk_46 (dk_at dksX5_cause_4 15 rfl rfl)
theorem dX5_cause_120 : decode cX5_cause 120 = .ok (.isub, 1) := dk_100 (dk_at dksX5_cause_4 16 rfl rfl)
theorem dX5_cause_121 : decode cX5_cause 121 = .ok (.iconst 1, 1) := dk_4 (dk_at dksX5_cause_4 17 rfl rfl)
theorem dX5_cause_122 : decode cX5_cause 122 = .ok (.isub, 1) := dk_100 (dk_at dksX5_cause_4 18 rfl rfl)
theorem dX5_cause_123 : decode cX5_cause 123 = .ok (.ireturn, 1) := dk_172 (dk_at dksX5_cause_4 19 rfl rfl)
theorem dX5_cause_124 : decode cX5_cause 124 = .ok (.sipush 500, 3) := dk_17 1 244 (dk_at dksX5_cause_4 20 rfl rfl)
theorem dX5_cause_127 : decode cX5_cause 127 = .ok (.aload_n 0, 1) := dk_42 (dk_at dksX5_cause_4 23 rfl rfl)
theorem dX5_cause_128 : decode cX5_cause 128 = .ok (.iload_n 1, 1) := dk_27 (dk_at dksX5_cause_5 0 rfl rfl)
theorem dX5_cause_129 : decode cX5_cause 129 = .ok (.iload 4, 2) := dk_21 4 (dk_at dksX5_cause_5 1 rfl rfl)
theorem dX5_cause_131 : decode cX5_cause 131 = .ok (.invokevirtual 163, 3) := dk_182 0 163 (dk_at dksX5_cause_5 3 rfl rfl)
theorem dX5_cause_134 : decode cX5_cause 134 = .ok (.iadd, 1) := dk_96 (dk_at dksX5_cause_5 6 rfl rfl)
theorem dX5_cause_135 : decode cX5_cause 135 = .ok (.aload_n 0, 1) := dk_42 (dk_at dksX5_cause_5 7 rfl rfl)
theorem dX5_cause_136 : decode cX5_cause 136 = .ok (.iload_n 1, 1) := dk_27 (dk_at dksX5_cause_5 8 rfl rfl)
theorem dX5_cause_137 : decode cX5_cause 137 = .ok (.invokevirtual 160, 3) := dk_182 0 160 (dk_at dksX5_cause_5 9 rfl rfl)
theorem dX5_cause_140 : decode cX5_cause 140 = .ok (.isub, 1) := dk_100 (dk_at dksX5_cause_5 12 rfl rfl)
theorem dX5_cause_141 : decode cX5_cause 141 = .ok (.ireturn, 1) := dk_172 (dk_at dksX5_cause_5 13 rfl rfl)
theorem dX5_cause_142 : decode cX5_cause 142 = .ok (.sipush 600, 3) := dk_17 2 88 (dk_at dksX5_cause_5 14 rfl rfl)
theorem dX5_cause_145 : decode cX5_cause 145 = .ok (.aload_n 0, 1) := dk_42 (dk_at dksX5_cause_5 17 rfl rfl)
theorem dX5_cause_146 : decode cX5_cause 146 = .ok (.iload 4, 2) := dk_21 4 (dk_at dksX5_cause_5 18 rfl rfl)
theorem dX5_cause_148 : decode cX5_cause 148 = .ok (.invokevirtual 181, 3) := dk_182 0 181 (dk_at dksX5_cause_5 20 rfl rfl)
theorem dX5_cause_151 : decode cX5_cause 151 = .ok (.iadd, 1) := dk_96 (dk_at dksX5_cause_5 23 rfl rfl)
theorem dX5_cause_152 : decode cX5_cause 152 = .ok (.ireturn, 1) := dk_172 (dk_at dksX5_cause_6 0 rfl rfl)
theorem dX5_cause_153 : decode cX5_cause 153 = .ok (.iconst 0, 1) := dk_3 (dk_at dksX5_cause_6 1 rfl rfl)
theorem dX5_cause_154 : decode cX5_cause 154 = .ok (.ireturn, 1) := dk_172 (dk_at dksX5_cause_6 2 rfl rfl)
abbrev cX5_costOf : ByteArray := prog_15_method_100_code
def yX5_costOf : MethodName := ⟨RX5, "costOf", "(III)I"⟩
def dkwX5_costOf_3 : List UInt8 := [96, 54, 4, 42, 21, 5, 28, 182, 0, 166, 54, 5, 167, 255, 217, 21, 4, 172]
abbrev dktX5_costOf_3 : List UInt8 := dkwX5_costOf_3 ++ []
def dkwX5_costOf_2 : List UInt8 := [159, 0, 39, 21, 4, 42, 180, 0, 9, 21, 5, 184, 0, 84, 16, 9, 96, 46, 42, 29, 182, 0, 112, 104]
abbrev dktX5_costOf_2 : List UInt8 := dkwX5_costOf_2 ++ dktX5_costOf_3
def dkwX5_costOf_1 : List UInt8 := [172, 42, 27, 28, 182, 0, 106, 2, 160, 0, 5, 2, 172, 3, 54, 4, 27, 54, 5, 21, 5, 28]
abbrev dktX5_costOf_1 : List UInt8 := dkwX5_costOf_1 ++ dktX5_costOf_2
def dkwX5_costOf_0 : List UInt8 := [42, 42, 27, 28, 182, 1, 137, 29, 133, 10, 20, 1, 154, 184, 0, 199, 4, 182, 1, 109, 154, 0, 5, 3]
abbrev dktX5_costOf_0 : List UInt8 := dkwX5_costOf_0 ++ dktX5_costOf_1
theorem dksX5_costOf_0 : cX5_costOf.data.toList.drop 0 = dktX5_costOf_0 := by decide +kernel
theorem dksX5_costOf_1 : cX5_costOf.data.toList.drop 24 = dktX5_costOf_1 := dk_seg dksX5_costOf_0 24 rfl rfl
theorem dksX5_costOf_2 : cX5_costOf.data.toList.drop 46 = dktX5_costOf_2 := dk_seg dksX5_costOf_1 22 rfl rfl
theorem dksX5_costOf_3 : cX5_costOf.data.toList.drop 70 = dktX5_costOf_3 := dk_seg dksX5_costOf_2 24 rfl rfl
theorem dX5_costOf_0 : decode cX5_costOf 0 = .ok (.aload_n 0, 1) := dk_42 (dk_at dksX5_costOf_0 0 rfl rfl)
theorem dX5_costOf_1 : decode cX5_costOf 1 = .ok (.aload_n 0, 1) := dk_42 (dk_at dksX5_costOf_0 1 rfl rfl)
theorem dX5_costOf_2 : decode cX5_costOf 2 = .ok (.iload_n 1, 1) := dk_27 (dk_at dksX5_costOf_0 2 rfl rfl)
theorem dX5_costOf_3 : decode cX5_costOf 3 = .ok (.iload_n 2, 1) := dk_28 (dk_at dksX5_costOf_0 3 rfl rfl)
theorem dX5_costOf_4 : decode cX5_costOf 4 = .ok (.invokevirtual 393, 3) := dk_182 1 137 (dk_at dksX5_costOf_0 4 rfl rfl)
theorem dX5_costOf_7 : decode cX5_costOf 7 = .ok (.iload_n 3, 1) := dk_29 (dk_at dksX5_costOf_0 7 rfl rfl)
theorem dX5_costOf_8 : decode cX5_costOf 8 = .ok (.i2l, 1) := dk_133 (dk_at dksX5_costOf_0 8 rfl rfl)
theorem dX5_costOf_9 : decode cX5_costOf 9 = .ok (.lconst 1, 1) := dk_10 (dk_at dksX5_costOf_0 9 rfl rfl)
theorem dX5_costOf_10 : decode cX5_costOf 10 = .ok (.ldc2_w 410, 3) := dk_20 1 154 (dk_at dksX5_costOf_0 10 rfl rfl)
theorem dX5_costOf_13 : decode cX5_costOf 13 = .ok (.invokestatic 199, 3) := dk_184 0 199 (dk_at dksX5_costOf_0 13 rfl rfl)
theorem dX5_costOf_16 : decode cX5_costOf 16 = .ok (.iconst 1, 1) := dk_4 (dk_at dksX5_costOf_0 16 rfl rfl)
theorem dX5_costOf_17 : decode cX5_costOf 17 = .ok (.invokevirtual 365, 3) := dk_182 1 109 (dk_at dksX5_costOf_0 17 rfl rfl)
theorem dX5_costOf_20 : decode cX5_costOf 20 = .ok (.ifCond .ne 5, 3) := dk_154 0 5 (dk_at dksX5_costOf_0 20 rfl rfl)
theorem dX5_costOf_23 : decode cX5_costOf 23 = .ok (.iconst 0, 1) := dk_3 (dk_at dksX5_costOf_0 23 rfl rfl)
theorem dX5_costOf_24 : decode cX5_costOf 24 = .ok (.ireturn, 1) := dk_172 (dk_at dksX5_costOf_1 0 rfl rfl)
theorem dX5_costOf_25 : decode cX5_costOf 25 = .ok (.aload_n 0, 1) := dk_42 (dk_at dksX5_costOf_1 1 rfl rfl)
theorem dX5_costOf_26 : decode cX5_costOf 26 = .ok (.iload_n 1, 1) := dk_27 (dk_at dksX5_costOf_1 2 rfl rfl)
theorem dX5_costOf_27 : decode cX5_costOf 27 = .ok (.iload_n 2, 1) := dk_28 (dk_at dksX5_costOf_1 3 rfl rfl)
theorem dX5_costOf_28 : decode cX5_costOf 28 = .ok (.invokevirtual 106, 3) := dk_182 0 106 (dk_at dksX5_costOf_1 4 rfl rfl)
theorem dX5_costOf_31 : decode cX5_costOf 31 = .ok (.iconst (-1), 1) := dk_2 (dk_at dksX5_costOf_1 7 rfl rfl)
theorem dX5_costOf_32 : decode cX5_costOf 32 = .ok (.if_icmp .ne 5, 3) := dk_160 0 5 (dk_at dksX5_costOf_1 8 rfl rfl)
theorem dX5_costOf_35 : decode cX5_costOf 35 = .ok (.iconst (-1), 1) := dk_2 (dk_at dksX5_costOf_1 11 rfl rfl)
theorem dX5_costOf_36 : decode cX5_costOf 36 = .ok (.ireturn, 1) := dk_172 (dk_at dksX5_costOf_1 12 rfl rfl)
theorem dX5_costOf_37 : decode cX5_costOf 37 = .ok (.iconst 0, 1) := dk_3 (dk_at dksX5_costOf_1 13 rfl rfl)
theorem dX5_costOf_38 : decode cX5_costOf 38 = .ok (.istore 4, 2) := dk_54 4 (dk_at dksX5_costOf_1 14 rfl rfl)
theorem dX5_costOf_40 : decode cX5_costOf 40 = .ok (.iload_n 1, 1) := dk_27 (dk_at dksX5_costOf_1 16 rfl rfl)
theorem dX5_costOf_41 : decode cX5_costOf 41 = .ok (.istore 5, 2) := dk_54 5 (dk_at dksX5_costOf_1 17 rfl rfl)
theorem dX5_costOf_43 : decode cX5_costOf 43 = .ok (.iload 5, 2) := dk_21 5 (dk_at dksX5_costOf_1 19 rfl rfl)
theorem dX5_costOf_45 : decode cX5_costOf 45 = .ok (.iload_n 2, 1) := dk_28 (dk_at dksX5_costOf_1 21 rfl rfl)
theorem dX5_costOf_46 : decode cX5_costOf 46 = .ok (.if_icmp .eq 39, 3) := dk_159 0 39 (dk_at dksX5_costOf_2 0 rfl rfl)
theorem dX5_costOf_49 : decode cX5_costOf 49 = .ok (.iload 4, 2) := dk_21 4 (dk_at dksX5_costOf_2 3 rfl rfl)
theorem dX5_costOf_51 : decode cX5_costOf 51 = .ok (.aload_n 0, 1) := dk_42 (dk_at dksX5_costOf_2 5 rfl rfl)
theorem dX5_costOf_52 : decode cX5_costOf 52 = .ok (.getfield 9, 3) := dk_180 0 9 (dk_at dksX5_costOf_2 6 rfl rfl)
theorem dX5_costOf_55 : decode cX5_costOf 55 = .ok (.iload 5, 2) := dk_21 5 (dk_at dksX5_costOf_2 9 rfl rfl)
theorem dX5_costOf_57 : decode cX5_costOf 57 = .ok (.invokestatic 84, 3) := dk_184 0 84 (dk_at dksX5_costOf_2 11 rfl rfl)
theorem dX5_costOf_60 : decode cX5_costOf 60 = .ok (.bipush 9, 2) := dk_16 9 (dk_at dksX5_costOf_2 14 rfl rfl)
theorem dX5_costOf_62 : decode cX5_costOf 62 = .ok (.iadd, 1) := dk_96 (dk_at dksX5_costOf_2 16 rfl rfl)
theorem dX5_costOf_63 : decode cX5_costOf 63 = .ok (.iaload, 1) := dk_46 (dk_at dksX5_costOf_2 17 rfl rfl)
theorem dX5_costOf_64 : decode cX5_costOf 64 = .ok (.aload_n 0, 1) := dk_42 (dk_at dksX5_costOf_2 18 rfl rfl)
theorem dX5_costOf_65 : decode cX5_costOf 65 = .ok (.iload_n 3, 1) := dk_29 (dk_at dksX5_costOf_2 19 rfl rfl)
theorem dX5_costOf_66 : decode cX5_costOf 66 = .ok (.invokevirtual 112, 3) := dk_182 0 112 (dk_at dksX5_costOf_2 20 rfl rfl)
theorem dX5_costOf_69 : decode cX5_costOf 69 = .ok (.imul, 1) := dk_104 (dk_at dksX5_costOf_2 23 rfl rfl)
theorem dX5_costOf_70 : decode cX5_costOf 70 = .ok (.iadd, 1) := dk_96 (dk_at dksX5_costOf_3 0 rfl rfl)
theorem dX5_costOf_71 : decode cX5_costOf 71 = .ok (.istore 4, 2) := dk_54 4 (dk_at dksX5_costOf_3 1 rfl rfl)
theorem dX5_costOf_73 : decode cX5_costOf 73 = .ok (.aload_n 0, 1) := dk_42 (dk_at dksX5_costOf_3 3 rfl rfl)
theorem dX5_costOf_74 : decode cX5_costOf 74 = .ok (.iload 5, 2) := dk_21 5 (dk_at dksX5_costOf_3 4 rfl rfl)
theorem dX5_costOf_76 : decode cX5_costOf 76 = .ok (.iload_n 2, 1) := dk_28 (dk_at dksX5_costOf_3 6 rfl rfl)
theorem dX5_costOf_77 : decode cX5_costOf 77 = .ok (.invokevirtual 166, 3) := dk_182 0 166 (dk_at dksX5_costOf_3 7 rfl rfl)
theorem dX5_costOf_80 : decode cX5_costOf 80 = .ok (.istore 5, 2) := dk_54 5 (dk_at dksX5_costOf_3 10 rfl rfl)
theorem dX5_costOf_82 : decode cX5_costOf 82 = .ok (.goto (-39), 3) := dk_167 255 217 (dk_at dksX5_costOf_3 12 rfl rfl)
theorem dX5_costOf_85 : decode cX5_costOf 85 = .ok (.iload 4, 2) := dk_21 4 (dk_at dksX5_costOf_3 15 rfl rfl)
theorem dX5_costOf_87 : decode cX5_costOf 87 = .ok (.ireturn, 1) := dk_172 (dk_at dksX5_costOf_3 17 rfl rfl)
abbrev cX5_wrongOn : ByteArray := prog_15_method_102_code
def yX5_wrongOn : MethodName := ⟨RX5, "wrongOn", "(III)I"⟩
def dkwX5_wrongOn_2 : List UInt8 := [46, 182, 1, 156, 172]
abbrev dktX5_wrongOn_2 : List UInt8 := dkwX5_wrongOn_2 ++ []
def dkwX5_wrongOn_1 : List UInt8 := [172, 42, 27, 28, 182, 0, 106, 2, 160, 0, 7, 2, 167, 0, 16, 42, 27, 28, 29, 42, 180, 0, 9, 7]
abbrev dktX5_wrongOn_1 : List UInt8 := dkwX5_wrongOn_1 ++ dktX5_wrongOn_2
def dkwX5_wrongOn_0 : List UInt8 := [42, 42, 27, 28, 182, 1, 137, 29, 133, 10, 20, 1, 154, 184, 0, 199, 4, 182, 1, 109, 154, 0, 5, 3]
abbrev dktX5_wrongOn_0 : List UInt8 := dkwX5_wrongOn_0 ++ dktX5_wrongOn_1
theorem dksX5_wrongOn_0 : cX5_wrongOn.data.toList.drop 0 = dktX5_wrongOn_0 := by decide +kernel
theorem dksX5_wrongOn_1 : cX5_wrongOn.data.toList.drop 24 = dktX5_wrongOn_1 := dk_seg dksX5_wrongOn_0 24 rfl rfl
theorem dksX5_wrongOn_2 : cX5_wrongOn.data.toList.drop 48 = dktX5_wrongOn_2 := dk_seg dksX5_wrongOn_1 24 rfl rfl
theorem dX5_wrongOn_0 : decode cX5_wrongOn 0 = .ok (.aload_n 0, 1) := dk_42 (dk_at dksX5_wrongOn_0 0 rfl rfl)
theorem dX5_wrongOn_1 : decode cX5_wrongOn 1 = .ok (.aload_n 0, 1) := dk_42 (dk_at dksX5_wrongOn_0 1 rfl rfl)
theorem dX5_wrongOn_2 : decode cX5_wrongOn 2 = .ok (.iload_n 1, 1) := dk_27 (dk_at dksX5_wrongOn_0 2 rfl rfl)
theorem dX5_wrongOn_3 : decode cX5_wrongOn 3 = .ok (.iload_n 2, 1) := dk_28 (dk_at dksX5_wrongOn_0 3 rfl rfl)
theorem dX5_wrongOn_4 : decode cX5_wrongOn 4 = .ok (.invokevirtual 393, 3) := dk_182 1 137 (dk_at dksX5_wrongOn_0 4 rfl rfl)
theorem dX5_wrongOn_7 : decode cX5_wrongOn 7 = .ok (.iload_n 3, 1) := dk_29 (dk_at dksX5_wrongOn_0 7 rfl rfl)
theorem dX5_wrongOn_8 : decode cX5_wrongOn 8 = .ok (.i2l, 1) := dk_133 (dk_at dksX5_wrongOn_0 8 rfl rfl)
theorem dX5_wrongOn_9 : decode cX5_wrongOn 9 = .ok (.lconst 1, 1) := dk_10 (dk_at dksX5_wrongOn_0 9 rfl rfl)
theorem dX5_wrongOn_10 : decode cX5_wrongOn 10 = .ok (.ldc2_w 410, 3) := dk_20 1 154 (dk_at dksX5_wrongOn_0 10 rfl rfl)
theorem dX5_wrongOn_13 : decode cX5_wrongOn 13 = .ok (.invokestatic 199, 3) := dk_184 0 199 (dk_at dksX5_wrongOn_0 13 rfl rfl)
theorem dX5_wrongOn_16 : decode cX5_wrongOn 16 = .ok (.iconst 1, 1) := dk_4 (dk_at dksX5_wrongOn_0 16 rfl rfl)
theorem dX5_wrongOn_17 : decode cX5_wrongOn 17 = .ok (.invokevirtual 365, 3) := dk_182 1 109 (dk_at dksX5_wrongOn_0 17 rfl rfl)
theorem dX5_wrongOn_20 : decode cX5_wrongOn 20 = .ok (.ifCond .ne 5, 3) := dk_154 0 5 (dk_at dksX5_wrongOn_0 20 rfl rfl)
theorem dX5_wrongOn_23 : decode cX5_wrongOn 23 = .ok (.iconst 0, 1) := dk_3 (dk_at dksX5_wrongOn_0 23 rfl rfl)
theorem dX5_wrongOn_24 : decode cX5_wrongOn 24 = .ok (.ireturn, 1) := dk_172 (dk_at dksX5_wrongOn_1 0 rfl rfl)
theorem dX5_wrongOn_25 : decode cX5_wrongOn 25 = .ok (.aload_n 0, 1) := dk_42 (dk_at dksX5_wrongOn_1 1 rfl rfl)
theorem dX5_wrongOn_26 : decode cX5_wrongOn 26 = .ok (.iload_n 1, 1) := dk_27 (dk_at dksX5_wrongOn_1 2 rfl rfl)
theorem dX5_wrongOn_27 : decode cX5_wrongOn 27 = .ok (.iload_n 2, 1) := dk_28 (dk_at dksX5_wrongOn_1 3 rfl rfl)
theorem dX5_wrongOn_28 : decode cX5_wrongOn 28 = .ok (.invokevirtual 106, 3) := dk_182 0 106 (dk_at dksX5_wrongOn_1 4 rfl rfl)
theorem dX5_wrongOn_31 : decode cX5_wrongOn 31 = .ok (.iconst (-1), 1) := dk_2 (dk_at dksX5_wrongOn_1 7 rfl rfl)
theorem dX5_wrongOn_32 : decode cX5_wrongOn 32 = .ok (.if_icmp .ne 7, 3) := dk_160 0 7 (dk_at dksX5_wrongOn_1 8 rfl rfl)
theorem dX5_wrongOn_35 : decode cX5_wrongOn 35 = .ok (.iconst (-1), 1) := dk_2 (dk_at dksX5_wrongOn_1 11 rfl rfl)
theorem dX5_wrongOn_36 : decode cX5_wrongOn 36 = .ok (.goto 16, 3) := dk_167 0 16 (dk_at dksX5_wrongOn_1 12 rfl rfl)
theorem dX5_wrongOn_39 : decode cX5_wrongOn 39 = .ok (.aload_n 0, 1) := dk_42 (dk_at dksX5_wrongOn_1 15 rfl rfl)
theorem dX5_wrongOn_40 : decode cX5_wrongOn 40 = .ok (.iload_n 1, 1) := dk_27 (dk_at dksX5_wrongOn_1 16 rfl rfl)
theorem dX5_wrongOn_41 : decode cX5_wrongOn 41 = .ok (.iload_n 2, 1) := dk_28 (dk_at dksX5_wrongOn_1 17 rfl rfl)
theorem dX5_wrongOn_42 : decode cX5_wrongOn 42 = .ok (.iload_n 3, 1) := dk_29 (dk_at dksX5_wrongOn_1 18 rfl rfl)
theorem dX5_wrongOn_43 : decode cX5_wrongOn 43 = .ok (.aload_n 0, 1) := dk_42 (dk_at dksX5_wrongOn_1 19 rfl rfl)
theorem dX5_wrongOn_44 : decode cX5_wrongOn 44 = .ok (.getfield 9, 3) := dk_180 0 9 (dk_at dksX5_wrongOn_1 20 rfl rfl)
theorem dX5_wrongOn_47 : decode cX5_wrongOn 47 = .ok (.iconst 4, 1) := dk_7 (dk_at dksX5_wrongOn_1 23 rfl rfl)
theorem dX5_wrongOn_48 : decode cX5_wrongOn 48 = .ok (.iaload, 1) := dk_46 (dk_at dksX5_wrongOn_2 0 rfl rfl)
theorem dX5_wrongOn_49 : decode cX5_wrongOn 49 = .ok (.invokevirtual 412, 3) := dk_182 1 156 (dk_at dksX5_wrongOn_2 1 rfl rfl)
theorem dX5_wrongOn_52 : decode cX5_wrongOn 52 = .ok (.ireturn, 1) := dk_172 (dk_at dksX5_wrongOn_2 4 rfl rfl)
abbrev cX5_wrongOf : ByteArray := prog_15_method_101_code
def yX5_wrongOf : MethodName := ⟨RX5, "wrongOf", "(IIII)I"⟩
def dkwX5_wrongOf_2 : List UInt8 := [182, 0, 137, 96, 54, 5, 21, 7, 54, 6, 167, 255, 205, 21, 5, 172]
abbrev dktX5_wrongOf_2 : List UInt8 := dkwX5_wrongOf_2 ++ []
def dkwX5_wrongOf_1 : List UInt8 := [21, 4, 42, 180, 0, 9, 42, 21, 6, 21, 7, 182, 0, 169, 184, 0, 88, 5, 96, 46, 21, 7, 29]
abbrev dktX5_wrongOf_1 : List UInt8 := dkwX5_wrongOf_1 ++ dktX5_wrongOf_2
def dkwX5_wrongOf_0 : List UInt8 := [3, 54, 5, 27, 54, 6, 21, 6, 28, 159, 0, 51, 42, 21, 6, 28, 182, 0, 166, 54, 7, 21, 5, 42]
abbrev dktX5_wrongOf_0 : List UInt8 := dkwX5_wrongOf_0 ++ dktX5_wrongOf_1
theorem dksX5_wrongOf_0 : cX5_wrongOf.data.toList.drop 0 = dktX5_wrongOf_0 := by decide +kernel
theorem dksX5_wrongOf_1 : cX5_wrongOf.data.toList.drop 24 = dktX5_wrongOf_1 := dk_seg dksX5_wrongOf_0 24 rfl rfl
theorem dksX5_wrongOf_2 : cX5_wrongOf.data.toList.drop 47 = dktX5_wrongOf_2 := dk_seg dksX5_wrongOf_1 23 rfl rfl
theorem dX5_wrongOf_0 : decode cX5_wrongOf 0 = .ok (.iconst 0, 1) := dk_3 (dk_at dksX5_wrongOf_0 0 rfl rfl)
theorem dX5_wrongOf_1 : decode cX5_wrongOf 1 = .ok (.istore 5, 2) := dk_54 5 (dk_at dksX5_wrongOf_0 1 rfl rfl)
theorem dX5_wrongOf_3 : decode cX5_wrongOf 3 = .ok (.iload_n 1, 1) := dk_27 (dk_at dksX5_wrongOf_0 3 rfl rfl)
theorem dX5_wrongOf_4 : decode cX5_wrongOf 4 = .ok (.istore 6, 2) := dk_54 6 (dk_at dksX5_wrongOf_0 4 rfl rfl)
theorem dX5_wrongOf_6 : decode cX5_wrongOf 6 = .ok (.iload 6, 2) := dk_21 6 (dk_at dksX5_wrongOf_0 6 rfl rfl)
theorem dX5_wrongOf_8 : decode cX5_wrongOf 8 = .ok (.iload_n 2, 1) := dk_28 (dk_at dksX5_wrongOf_0 8 rfl rfl)
theorem dX5_wrongOf_9 : decode cX5_wrongOf 9 = .ok (.if_icmp .eq 51, 3) := dk_159 0 51 (dk_at dksX5_wrongOf_0 9 rfl rfl)
theorem dX5_wrongOf_12 : decode cX5_wrongOf 12 = .ok (.aload_n 0, 1) := dk_42 (dk_at dksX5_wrongOf_0 12 rfl rfl)
theorem dX5_wrongOf_13 : decode cX5_wrongOf 13 = .ok (.iload 6, 2) := dk_21 6 (dk_at dksX5_wrongOf_0 13 rfl rfl)
theorem dX5_wrongOf_15 : decode cX5_wrongOf 15 = .ok (.iload_n 2, 1) := dk_28 (dk_at dksX5_wrongOf_0 15 rfl rfl)
theorem dX5_wrongOf_16 : decode cX5_wrongOf 16 = .ok (.invokevirtual 166, 3) := dk_182 0 166 (dk_at dksX5_wrongOf_0 16 rfl rfl)
theorem dX5_wrongOf_19 : decode cX5_wrongOf 19 = .ok (.istore 7, 2) := dk_54 7 (dk_at dksX5_wrongOf_0 19 rfl rfl)
theorem dX5_wrongOf_21 : decode cX5_wrongOf 21 = .ok (.iload 5, 2) := dk_21 5 (dk_at dksX5_wrongOf_0 21 rfl rfl)
theorem dX5_wrongOf_23 : decode cX5_wrongOf 23 = .ok (.aload_n 0, 1) := dk_42 (dk_at dksX5_wrongOf_0 23 rfl rfl)
theorem dX5_wrongOf_24 : decode cX5_wrongOf 24 = .ok (.iload 4, 2) := dk_21 4 (dk_at dksX5_wrongOf_1 0 rfl rfl)
theorem dX5_wrongOf_26 : decode cX5_wrongOf 26 = .ok (.aload_n 0, 1) := dk_42 (dk_at dksX5_wrongOf_1 2 rfl rfl)
theorem dX5_wrongOf_27 : decode cX5_wrongOf 27 = .ok (.getfield 9, 3) := dk_180 0 9 (dk_at dksX5_wrongOf_1 3 rfl rfl)
theorem dX5_wrongOf_30 : decode cX5_wrongOf 30 = .ok (.aload_n 0, 1) := dk_42 (dk_at dksX5_wrongOf_1 6 rfl rfl)
theorem dX5_wrongOf_31 : decode cX5_wrongOf 31 = .ok (.iload 6, 2) := dk_21 6 (dk_at dksX5_wrongOf_1 7 rfl rfl)
theorem dX5_wrongOf_33 : decode cX5_wrongOf 33 = .ok (.iload 7, 2) := dk_21 7 (dk_at dksX5_wrongOf_1 9 rfl rfl)
theorem dX5_wrongOf_35 : decode cX5_wrongOf 35 = .ok (.invokevirtual 169, 3) := dk_182 0 169 (dk_at dksX5_wrongOf_1 11 rfl rfl)
theorem dX5_wrongOf_38 : decode cX5_wrongOf 38 = .ok (.invokestatic 88, 3) := dk_184 0 88 (dk_at dksX5_wrongOf_1 14 rfl rfl)
theorem dX5_wrongOf_41 : decode cX5_wrongOf 41 = .ok (.iconst 2, 1) := dk_5 (dk_at dksX5_wrongOf_1 17 rfl rfl)
theorem dX5_wrongOf_42 : decode cX5_wrongOf 42 = .ok (.iadd, 1) := dk_96 (dk_at dksX5_wrongOf_1 18 rfl rfl)
theorem dX5_wrongOf_43 : decode cX5_wrongOf 43 = .ok (.iaload, 1) := dk_46 (dk_at dksX5_wrongOf_1 19 rfl rfl)
theorem dX5_wrongOf_44 : decode cX5_wrongOf 44 = .ok (.iload 7, 2) := dk_21 7 (dk_at dksX5_wrongOf_1 20 rfl rfl)
theorem dX5_wrongOf_46 : decode cX5_wrongOf 46 = .ok (.iload_n 3, 1) := dk_29 (dk_at dksX5_wrongOf_1 22 rfl rfl)
theorem dX5_wrongOf_47 : decode cX5_wrongOf 47 = .ok (.invokevirtual 137, 3) := dk_182 0 137 (dk_at dksX5_wrongOf_2 0 rfl rfl)
theorem dX5_wrongOf_50 : decode cX5_wrongOf 50 = .ok (.iadd, 1) := dk_96 (dk_at dksX5_wrongOf_2 3 rfl rfl)
theorem dX5_wrongOf_51 : decode cX5_wrongOf 51 = .ok (.istore 5, 2) := dk_54 5 (dk_at dksX5_wrongOf_2 4 rfl rfl)
theorem dX5_wrongOf_53 : decode cX5_wrongOf 53 = .ok (.iload 7, 2) := dk_21 7 (dk_at dksX5_wrongOf_2 6 rfl rfl)
theorem dX5_wrongOf_55 : decode cX5_wrongOf 55 = .ok (.istore 6, 2) := dk_54 6 (dk_at dksX5_wrongOf_2 8 rfl rfl)
theorem dX5_wrongOf_57 : decode cX5_wrongOf 57 = .ok (.goto (-51), 3) := dk_167 255 205 (dk_at dksX5_wrongOf_2 10 rfl rfl)
theorem dX5_wrongOf_60 : decode cX5_wrongOf 60 = .ok (.iload 5, 2) := dk_21 5 (dk_at dksX5_wrongOf_2 13 rfl rfl)
theorem dX5_wrongOf_62 : decode cX5_wrongOf 62 = .ok (.ireturn, 1) := dk_172 (dk_at dksX5_wrongOf_2 15 rfl rfl)
abbrev cX5_calmest : ByteArray := prog_15_method_103_code
def yX5_calmest : MethodName := ⟨RX5, "calmest", "(II)I"⟩
def dkwX5_calmest_2 : List UInt8 := [167, 255, 242, 29, 172]
abbrev dktX5_calmest_2 : List UInt8 := dkwX5_calmest_2 ++ []
def dkwX5_calmest_1 : List UInt8 := [160, 0, 5, 2, 172, 16, 9, 62, 42, 27, 28, 4, 29, 182, 1, 156, 158, 0, 9, 132, 3, 255]
abbrev dktX5_calmest_1 : List UInt8 := dkwX5_calmest_1 ++ dktX5_calmest_2
def dkwX5_calmest_0 : List UInt8 := [42, 42, 27, 28, 182, 1, 137, 4, 4, 182, 1, 109, 154, 0, 5, 3, 172, 42, 27, 28, 182, 0, 106, 2]
abbrev dktX5_calmest_0 : List UInt8 := dkwX5_calmest_0 ++ dktX5_calmest_1
theorem dksX5_calmest_0 : cX5_calmest.data.toList.drop 0 = dktX5_calmest_0 := by decide +kernel
theorem dksX5_calmest_1 : cX5_calmest.data.toList.drop 24 = dktX5_calmest_1 := dk_seg dksX5_calmest_0 24 rfl rfl
theorem dksX5_calmest_2 : cX5_calmest.data.toList.drop 46 = dktX5_calmest_2 := dk_seg dksX5_calmest_1 22 rfl rfl
theorem dX5_calmest_0 : decode cX5_calmest 0 = .ok (.aload_n 0, 1) := dk_42 (dk_at dksX5_calmest_0 0 rfl rfl)
theorem dX5_calmest_1 : decode cX5_calmest 1 = .ok (.aload_n 0, 1) := dk_42 (dk_at dksX5_calmest_0 1 rfl rfl)
theorem dX5_calmest_2 : decode cX5_calmest 2 = .ok (.iload_n 1, 1) := dk_27 (dk_at dksX5_calmest_0 2 rfl rfl)
theorem dX5_calmest_3 : decode cX5_calmest 3 = .ok (.iload_n 2, 1) := dk_28 (dk_at dksX5_calmest_0 3 rfl rfl)
theorem dX5_calmest_4 : decode cX5_calmest 4 = .ok (.invokevirtual 393, 3) := dk_182 1 137 (dk_at dksX5_calmest_0 4 rfl rfl)
theorem dX5_calmest_7 : decode cX5_calmest 7 = .ok (.iconst 1, 1) := dk_4 (dk_at dksX5_calmest_0 7 rfl rfl)
theorem dX5_calmest_8 : decode cX5_calmest 8 = .ok (.iconst 1, 1) := dk_4 (dk_at dksX5_calmest_0 8 rfl rfl)
theorem dX5_calmest_9 : decode cX5_calmest 9 = .ok (.invokevirtual 365, 3) := dk_182 1 109 (dk_at dksX5_calmest_0 9 rfl rfl)
theorem dX5_calmest_12 : decode cX5_calmest 12 = .ok (.ifCond .ne 5, 3) := dk_154 0 5 (dk_at dksX5_calmest_0 12 rfl rfl)
theorem dX5_calmest_15 : decode cX5_calmest 15 = .ok (.iconst 0, 1) := dk_3 (dk_at dksX5_calmest_0 15 rfl rfl)
theorem dX5_calmest_16 : decode cX5_calmest 16 = .ok (.ireturn, 1) := dk_172 (dk_at dksX5_calmest_0 16 rfl rfl)
theorem dX5_calmest_17 : decode cX5_calmest 17 = .ok (.aload_n 0, 1) := dk_42 (dk_at dksX5_calmest_0 17 rfl rfl)
theorem dX5_calmest_18 : decode cX5_calmest 18 = .ok (.iload_n 1, 1) := dk_27 (dk_at dksX5_calmest_0 18 rfl rfl)
theorem dX5_calmest_19 : decode cX5_calmest 19 = .ok (.iload_n 2, 1) := dk_28 (dk_at dksX5_calmest_0 19 rfl rfl)
theorem dX5_calmest_20 : decode cX5_calmest 20 = .ok (.invokevirtual 106, 3) := dk_182 0 106 (dk_at dksX5_calmest_0 20 rfl rfl)
theorem dX5_calmest_23 : decode cX5_calmest 23 = .ok (.iconst (-1), 1) := dk_2 (dk_at dksX5_calmest_0 23 rfl rfl)
theorem dX5_calmest_24 : decode cX5_calmest 24 = .ok (.if_icmp .ne 5, 3) := dk_160 0 5 (dk_at dksX5_calmest_1 0 rfl rfl)
theorem dX5_calmest_27 : decode cX5_calmest 27 = .ok (.iconst (-1), 1) := dk_2 (dk_at dksX5_calmest_1 3 rfl rfl)
theorem dX5_calmest_28 : decode cX5_calmest 28 = .ok (.ireturn, 1) := dk_172 (dk_at dksX5_calmest_1 4 rfl rfl)
theorem dX5_calmest_29 : decode cX5_calmest 29 = .ok (.bipush 9, 2) := dk_16 9 (dk_at dksX5_calmest_1 5 rfl rfl)
theorem dX5_calmest_31 : decode cX5_calmest 31 = .ok (.istore_n 3, 1) := dk_62 (dk_at dksX5_calmest_1 7 rfl rfl)
theorem dX5_calmest_32 : decode cX5_calmest 32 = .ok (.aload_n 0, 1) := dk_42 (dk_at dksX5_calmest_1 8 rfl rfl)
theorem dX5_calmest_33 : decode cX5_calmest 33 = .ok (.iload_n 1, 1) := dk_27 (dk_at dksX5_calmest_1 9 rfl rfl)
theorem dX5_calmest_34 : decode cX5_calmest 34 = .ok (.iload_n 2, 1) := dk_28 (dk_at dksX5_calmest_1 10 rfl rfl)
theorem dX5_calmest_35 : decode cX5_calmest 35 = .ok (.iconst 1, 1) := dk_4 (dk_at dksX5_calmest_1 11 rfl rfl)
theorem dX5_calmest_36 : decode cX5_calmest 36 = .ok (.iload_n 3, 1) := dk_29 (dk_at dksX5_calmest_1 12 rfl rfl)
theorem dX5_calmest_37 : decode cX5_calmest 37 = .ok (.invokevirtual 412, 3) := dk_182 1 156 (dk_at dksX5_calmest_1 13 rfl rfl)
theorem dX5_calmest_40 : decode cX5_calmest 40 = .ok (.ifCond .le 9, 3) := dk_158 0 9 (dk_at dksX5_calmest_1 16 rfl rfl)
theorem dX5_calmest_43 : decode cX5_calmest 43 = .ok (.iinc 3 (-1), 3) := dk_132 3 255 (dk_at dksX5_calmest_1 19 rfl rfl)
theorem dX5_calmest_46 : decode cX5_calmest 46 = .ok (.goto (-14), 3) := dk_167 255 242 (dk_at dksX5_calmest_2 0 rfl rfl)
theorem dX5_calmest_49 : decode cX5_calmest 49 = .ok (.iload_n 3, 1) := dk_29 (dk_at dksX5_calmest_2 3 rfl rfl)
theorem dX5_calmest_50 : decode cX5_calmest 50 = .ok (.ireturn, 1) := dk_172 (dk_at dksX5_calmest_2 4 rfl rfl)
abbrev cX5_arrivesIn : ByteArray := prog_15_method_104_code
def yX5_arrivesIn : MethodName := ⟨RX5, "arrivesIn", "(I)I"⟩
def dkwX5_arrivesIn_3 : List UInt8 := [180, 0, 13, 2, 182, 1, 56, 172]
abbrev dktX5_arrivesIn_3 : List UInt8 := dkwX5_arrivesIn_3 ++ []
def dkwX5_arrivesIn_2 : List UInt8 := [42, 42, 180, 0, 13, 28, 182, 1, 56, 172, 42, 182, 0, 190, 132, 2, 1, 167, 255, 217, 42, 42]
abbrev dktX5_arrivesIn_2 : List UInt8 := dkwX5_arrivesIn_2 ++ dktX5_arrivesIn_3
def dkwX5_arrivesIn_1 : List UInt8 := [3, 61, 28, 17, 0, 200, 163, 0, 38, 42, 180, 0, 9, 27, 184, 0, 109, 6, 96, 46, 5, 160, 0, 13]
abbrev dktX5_arrivesIn_1 : List UInt8 := dkwX5_arrivesIn_1 ++ dktX5_arrivesIn_2
def dkwX5_arrivesIn_0 : List UInt8 := [42, 42, 27, 182, 1, 140, 4, 4, 182, 1, 109, 154, 0, 5, 3, 172, 42, 42, 180, 0, 13, 182, 1, 43]
abbrev dktX5_arrivesIn_0 : List UInt8 := dkwX5_arrivesIn_0 ++ dktX5_arrivesIn_1
theorem dksX5_arrivesIn_0 : cX5_arrivesIn.data.toList.drop 0 = dktX5_arrivesIn_0 := by decide +kernel
theorem dksX5_arrivesIn_1 : cX5_arrivesIn.data.toList.drop 24 = dktX5_arrivesIn_1 := dk_seg dksX5_arrivesIn_0 24 rfl rfl
theorem dksX5_arrivesIn_2 : cX5_arrivesIn.data.toList.drop 48 = dktX5_arrivesIn_2 := dk_seg dksX5_arrivesIn_1 24 rfl rfl
theorem dksX5_arrivesIn_3 : cX5_arrivesIn.data.toList.drop 70 = dktX5_arrivesIn_3 := dk_seg dksX5_arrivesIn_2 22 rfl rfl
theorem dX5_arrivesIn_0 : decode cX5_arrivesIn 0 = .ok (.aload_n 0, 1) := dk_42 (dk_at dksX5_arrivesIn_0 0 rfl rfl)
theorem dX5_arrivesIn_1 : decode cX5_arrivesIn 1 = .ok (.aload_n 0, 1) := dk_42 (dk_at dksX5_arrivesIn_0 1 rfl rfl)
theorem dX5_arrivesIn_2 : decode cX5_arrivesIn 2 = .ok (.iload_n 1, 1) := dk_27 (dk_at dksX5_arrivesIn_0 2 rfl rfl)
theorem dX5_arrivesIn_3 : decode cX5_arrivesIn 3 = .ok (.invokevirtual 396, 3) := dk_182 1 140 (dk_at dksX5_arrivesIn_0 3 rfl rfl)
theorem dX5_arrivesIn_6 : decode cX5_arrivesIn 6 = .ok (.iconst 1, 1) := dk_4 (dk_at dksX5_arrivesIn_0 6 rfl rfl)
theorem dX5_arrivesIn_7 : decode cX5_arrivesIn 7 = .ok (.iconst 1, 1) := dk_4 (dk_at dksX5_arrivesIn_0 7 rfl rfl)
theorem dX5_arrivesIn_8 : decode cX5_arrivesIn 8 = .ok (.invokevirtual 365, 3) := dk_182 1 109 (dk_at dksX5_arrivesIn_0 8 rfl rfl)
theorem dX5_arrivesIn_11 : decode cX5_arrivesIn 11 = .ok (.ifCond .ne 5, 3) := dk_154 0 5 (dk_at dksX5_arrivesIn_0 11 rfl rfl)
theorem dX5_arrivesIn_14 : decode cX5_arrivesIn 14 = .ok (.iconst 0, 1) := dk_3 (dk_at dksX5_arrivesIn_0 14 rfl rfl)
theorem dX5_arrivesIn_15 : decode cX5_arrivesIn 15 = .ok (.ireturn, 1) := dk_172 (dk_at dksX5_arrivesIn_0 15 rfl rfl)
theorem dX5_arrivesIn_16 : decode cX5_arrivesIn 16 = .ok (.aload_n 0, 1) := dk_42 (dk_at dksX5_arrivesIn_0 16 rfl rfl)
theorem dX5_arrivesIn_17 : decode cX5_arrivesIn 17 = .ok (.aload_n 0, 1) := dk_42 (dk_at dksX5_arrivesIn_0 17 rfl rfl)
theorem dX5_arrivesIn_18 : decode cX5_arrivesIn 18 = .ok (.getfield 13, 3) := dk_180 0 13 (dk_at dksX5_arrivesIn_0 18 rfl rfl)
theorem dX5_arrivesIn_21 : decode cX5_arrivesIn 21 = .ok (.invokevirtual 299, 3) := dk_182 1 43 (dk_at dksX5_arrivesIn_0 21 rfl rfl)
theorem dX5_arrivesIn_24 : decode cX5_arrivesIn 24 = .ok (.iconst 0, 1) := dk_3 (dk_at dksX5_arrivesIn_1 0 rfl rfl)
theorem dX5_arrivesIn_25 : decode cX5_arrivesIn 25 = .ok (.istore_n 2, 1) := dk_61 (dk_at dksX5_arrivesIn_1 1 rfl rfl)
theorem dX5_arrivesIn_26 : decode cX5_arrivesIn 26 = .ok (.iload_n 2, 1) := dk_28 (dk_at dksX5_arrivesIn_1 2 rfl rfl)
theorem dX5_arrivesIn_27 : decode cX5_arrivesIn 27 = .ok (.sipush 200, 3) := dk_17 0 200 (dk_at dksX5_arrivesIn_1 3 rfl rfl)
theorem dX5_arrivesIn_30 : decode cX5_arrivesIn 30 = .ok (.if_icmp .gt 38, 3) := dk_163 0 38 (dk_at dksX5_arrivesIn_1 6 rfl rfl)
theorem dX5_arrivesIn_33 : decode cX5_arrivesIn 33 = .ok (.aload_n 0, 1) := dk_42 (dk_at dksX5_arrivesIn_1 9 rfl rfl)
theorem dX5_arrivesIn_34 : decode cX5_arrivesIn 34 = .ok (.getfield 9, 3) := dk_180 0 9 (dk_at dksX5_arrivesIn_1 10 rfl rfl)
theorem dX5_arrivesIn_37 : decode cX5_arrivesIn 37 = .ok (.iload_n 1, 1) := dk_27 (dk_at dksX5_arrivesIn_1 13 rfl rfl)
theorem dX5_arrivesIn_38 : decode cX5_arrivesIn 38 = .ok (.invokestatic 109, 3) := dk_184 0 109 (dk_at dksX5_arrivesIn_1 14 rfl rfl)
theorem dX5_arrivesIn_41 : decode cX5_arrivesIn 41 = .ok (.iconst 3, 1) := dk_6 (dk_at dksX5_arrivesIn_1 17 rfl rfl)
theorem dX5_arrivesIn_42 : decode cX5_arrivesIn 42 = .ok (.iadd, 1) := dk_96 (dk_at dksX5_arrivesIn_1 18 rfl rfl)
theorem dX5_arrivesIn_43 : decode cX5_arrivesIn 43 = .ok (.iaload, 1) := dk_46 (dk_at dksX5_arrivesIn_1 19 rfl rfl)
theorem dX5_arrivesIn_44 : decode cX5_arrivesIn 44 = .ok (.iconst 2, 1) := dk_5 (dk_at dksX5_arrivesIn_1 20 rfl rfl)
theorem dX5_arrivesIn_45 : decode cX5_arrivesIn 45 = .ok (.if_icmp .ne 13, 3) := dk_160 0 13 (dk_at dksX5_arrivesIn_1 21 rfl rfl)
theorem dX5_arrivesIn_48 : decode cX5_arrivesIn 48 = .ok (.aload_n 0, 1) := dk_42 (dk_at dksX5_arrivesIn_2 0 rfl rfl)
theorem dX5_arrivesIn_49 : decode cX5_arrivesIn 49 = .ok (.aload_n 0, 1) := dk_42 (dk_at dksX5_arrivesIn_2 1 rfl rfl)
theorem dX5_arrivesIn_50 : decode cX5_arrivesIn 50 = .ok (.getfield 13, 3) := dk_180 0 13 (dk_at dksX5_arrivesIn_2 2 rfl rfl)
theorem dX5_arrivesIn_53 : decode cX5_arrivesIn 53 = .ok (.iload_n 2, 1) := dk_28 (dk_at dksX5_arrivesIn_2 5 rfl rfl)
theorem dX5_arrivesIn_54 : decode cX5_arrivesIn 54 = .ok (.invokevirtual 312, 3) := dk_182 1 56 (dk_at dksX5_arrivesIn_2 6 rfl rfl)
theorem dX5_arrivesIn_57 : decode cX5_arrivesIn 57 = .ok (.ireturn, 1) := dk_172 (dk_at dksX5_arrivesIn_2 9 rfl rfl)
theorem dX5_arrivesIn_58 : decode cX5_arrivesIn 58 = .ok (.aload_n 0, 1) := dk_42 (dk_at dksX5_arrivesIn_2 10 rfl rfl)
theorem dX5_arrivesIn_59 : decode cX5_arrivesIn 59 = .ok (.invokevirtual 190, 3) := dk_182 0 190 (dk_at dksX5_arrivesIn_2 11 rfl rfl)
theorem dX5_arrivesIn_62 : decode cX5_arrivesIn 62 = .ok (.iinc 2 1, 3) := dk_132 2 1 (dk_at dksX5_arrivesIn_2 14 rfl rfl)
theorem dX5_arrivesIn_65 : decode cX5_arrivesIn 65 = .ok (.goto (-39), 3) := dk_167 255 217 (dk_at dksX5_arrivesIn_2 17 rfl rfl)
theorem dX5_arrivesIn_68 : decode cX5_arrivesIn 68 = .ok (.aload_n 0, 1) := dk_42 (dk_at dksX5_arrivesIn_2 20 rfl rfl)
theorem dX5_arrivesIn_69 : decode cX5_arrivesIn 69 = .ok (.aload_n 0, 1) := dk_42 (dk_at dksX5_arrivesIn_2 21 rfl rfl)
theorem dX5_arrivesIn_70 : decode cX5_arrivesIn 70 = .ok (.getfield 13, 3) := dk_180 0 13 (dk_at dksX5_arrivesIn_3 0 rfl rfl)
theorem dX5_arrivesIn_73 : decode cX5_arrivesIn 73 = .ok (.iconst (-1), 1) := dk_2 (dk_at dksX5_arrivesIn_3 3 rfl rfl)
theorem dX5_arrivesIn_74 : decode cX5_arrivesIn 74 = .ok (.invokevirtual 312, 3) := dk_182 1 56 (dk_at dksX5_arrivesIn_3 4 rfl rfl)
theorem dX5_arrivesIn_77 : decode cX5_arrivesIn 77 = .ok (.ireturn, 1) := dk_172 (dk_at dksX5_arrivesIn_3 7 rfl rfl)
abbrev cX5_growsBy : ByteArray := prog_15_method_105_code
def yX5_growsBy : MethodName := ⟨RX5, "growsBy", "(II)I"⟩
def dkwX5_growsBy_3 : List UInt8 := [42, 180, 0, 9, 16, 10, 27, 96, 46, 29, 100, 182, 1, 56, 172]
abbrev dktX5_growsBy_3 : List UInt8 := dkwX5_growsBy_3 ++ []
def dkwX5_growsBy_2 : List UInt8 := [27, 96, 46, 62, 42, 42, 180, 0, 13, 182, 1, 43, 42, 28, 182, 1, 86, 54, 4, 42, 42, 180, 0, 13]
abbrev dktX5_growsBy_2 : List UInt8 := dkwX5_growsBy_2 ++ dktX5_growsBy_3
def dkwX5_growsBy_1 : List UInt8 := [153, 0, 7, 4, 167, 0, 4, 3, 4, 4, 182, 1, 109, 154, 0, 5, 3, 172, 42, 180, 0, 9, 16, 10]
abbrev dktX5_growsBy_1 : List UInt8 := dkwX5_growsBy_1 ++ dktX5_growsBy_2
def dkwX5_growsBy_0 : List UInt8 := [42, 27, 133, 9, 20, 1, 122, 184, 0, 199, 153, 0, 19, 28, 133, 9, 20, 1, 159, 184, 0, 199]
abbrev dktX5_growsBy_0 : List UInt8 := dkwX5_growsBy_0 ++ dktX5_growsBy_1
theorem dksX5_growsBy_0 : cX5_growsBy.data.toList.drop 0 = dktX5_growsBy_0 := by decide +kernel
theorem dksX5_growsBy_1 : cX5_growsBy.data.toList.drop 22 = dktX5_growsBy_1 := dk_seg dksX5_growsBy_0 22 rfl rfl
theorem dksX5_growsBy_2 : cX5_growsBy.data.toList.drop 46 = dktX5_growsBy_2 := dk_seg dksX5_growsBy_1 24 rfl rfl
theorem dksX5_growsBy_3 : cX5_growsBy.data.toList.drop 70 = dktX5_growsBy_3 := dk_seg dksX5_growsBy_2 24 rfl rfl
theorem dX5_growsBy_0 : decode cX5_growsBy 0 = .ok (.aload_n 0, 1) := dk_42 (dk_at dksX5_growsBy_0 0 rfl rfl)
theorem dX5_growsBy_1 : decode cX5_growsBy 1 = .ok (.iload_n 1, 1) := dk_27 (dk_at dksX5_growsBy_0 1 rfl rfl)
theorem dX5_growsBy_2 : decode cX5_growsBy 2 = .ok (.i2l, 1) := dk_133 (dk_at dksX5_growsBy_0 2 rfl rfl)
theorem dX5_growsBy_3 : decode cX5_growsBy 3 = .ok (.lconst 0, 1) := dk_9 (dk_at dksX5_growsBy_0 3 rfl rfl)
theorem dX5_growsBy_4 : decode cX5_growsBy 4 = .ok (.ldc2_w 378, 3) := dk_20 1 122 (dk_at dksX5_growsBy_0 4 rfl rfl)
theorem dX5_growsBy_7 : decode cX5_growsBy 7 = .ok (.invokestatic 199, 3) := dk_184 0 199 (dk_at dksX5_growsBy_0 7 rfl rfl)
theorem dX5_growsBy_10 : decode cX5_growsBy 10 = .ok (.ifCond .eq 19, 3) := dk_153 0 19 (dk_at dksX5_growsBy_0 10 rfl rfl)
theorem dX5_growsBy_13 : decode cX5_growsBy 13 = .ok (.iload_n 2, 1) := dk_28 (dk_at dksX5_growsBy_0 13 rfl rfl)
theorem dX5_growsBy_14 : decode cX5_growsBy 14 = .ok (.i2l, 1) := dk_133 (dk_at dksX5_growsBy_0 14 rfl rfl)
theorem dX5_growsBy_15 : decode cX5_growsBy 15 = .ok (.lconst 0, 1) := dk_9 (dk_at dksX5_growsBy_0 15 rfl rfl)
theorem dX5_growsBy_16 : decode cX5_growsBy 16 = .ok (.ldc2_w 415, 3) := dk_20 1 159 (dk_at dksX5_growsBy_0 16 rfl rfl)
theorem dX5_growsBy_19 : decode cX5_growsBy 19 = .ok (.invokestatic 199, 3) := dk_184 0 199 (dk_at dksX5_growsBy_0 19 rfl rfl)
theorem dX5_growsBy_22 : decode cX5_growsBy 22 = .ok (.ifCond .eq 7, 3) := dk_153 0 7 (dk_at dksX5_growsBy_1 0 rfl rfl)
theorem dX5_growsBy_25 : decode cX5_growsBy 25 = .ok (.iconst 1, 1) := dk_4 (dk_at dksX5_growsBy_1 3 rfl rfl)
theorem dX5_growsBy_26 : decode cX5_growsBy 26 = .ok (.goto 4, 3) := dk_167 0 4 (dk_at dksX5_growsBy_1 4 rfl rfl)
theorem dX5_growsBy_29 : decode cX5_growsBy 29 = .ok (.iconst 0, 1) := dk_3 (dk_at dksX5_growsBy_1 7 rfl rfl)
theorem dX5_growsBy_30 : decode cX5_growsBy 30 = .ok (.iconst 1, 1) := dk_4 (dk_at dksX5_growsBy_1 8 rfl rfl)
theorem dX5_growsBy_31 : decode cX5_growsBy 31 = .ok (.iconst 1, 1) := dk_4 (dk_at dksX5_growsBy_1 9 rfl rfl)
theorem dX5_growsBy_32 : decode cX5_growsBy 32 = .ok (.invokevirtual 365, 3) := dk_182 1 109 (dk_at dksX5_growsBy_1 10 rfl rfl)
theorem dX5_growsBy_35 : decode cX5_growsBy 35 = .ok (.ifCond .ne 5, 3) := dk_154 0 5 (dk_at dksX5_growsBy_1 13 rfl rfl)
theorem dX5_growsBy_38 : decode cX5_growsBy 38 = .ok (.iconst 0, 1) := dk_3 (dk_at dksX5_growsBy_1 16 rfl rfl)
theorem dX5_growsBy_39 : decode cX5_growsBy 39 = .ok (.ireturn, 1) := dk_172 (dk_at dksX5_growsBy_1 17 rfl rfl)
theorem dX5_growsBy_40 : decode cX5_growsBy 40 = .ok (.aload_n 0, 1) := dk_42 (dk_at dksX5_growsBy_1 18 rfl rfl)
theorem dX5_growsBy_41 : decode cX5_growsBy 41 = .ok (.getfield 9, 3) := dk_180 0 9 (dk_at dksX5_growsBy_1 19 rfl rfl)
theorem dX5_growsBy_44 : decode cX5_growsBy 44 = .ok (.bipush 10, 2) := dk_16 10 (dk_at dksX5_growsBy_1 22 rfl rfl)
theorem dX5_growsBy_46 : decode cX5_growsBy 46 = .ok (.iload_n 1, 1) := dk_27 (dk_at dksX5_growsBy_2 0 rfl rfl)
theorem dX5_growsBy_47 : decode cX5_growsBy 47 = .ok (.iadd, 1) := dk_96 (dk_at dksX5_growsBy_2 1 rfl rfl)
theorem dX5_growsBy_48 : decode cX5_growsBy 48 = .ok (.iaload, 1) := dk_46 (dk_at dksX5_growsBy_2 2 rfl rfl)
theorem dX5_growsBy_49 : decode cX5_growsBy 49 = .ok (.istore_n 3, 1) := dk_62 (dk_at dksX5_growsBy_2 3 rfl rfl)
theorem dX5_growsBy_50 : decode cX5_growsBy 50 = .ok (.aload_n 0, 1) := dk_42 (dk_at dksX5_growsBy_2 4 rfl rfl)
theorem dX5_growsBy_51 : decode cX5_growsBy 51 = .ok (.aload_n 0, 1) := dk_42 (dk_at dksX5_growsBy_2 5 rfl rfl)
theorem dX5_growsBy_52 : decode cX5_growsBy 52 = .ok (.getfield 13, 3) := dk_180 0 13 (dk_at dksX5_growsBy_2 6 rfl rfl)
theorem dX5_growsBy_55 : decode cX5_growsBy 55 = .ok (.invokevirtual 299, 3) := dk_182 1 43 (dk_at dksX5_growsBy_2 9 rfl rfl)
theorem dX5_growsBy_58 : decode cX5_growsBy 58 = .ok (.aload_n 0, 1) := dk_42 (dk_at dksX5_growsBy_2 12 rfl rfl)
theorem dX5_growsBy_59 : decode cX5_growsBy 59 = .ok (.iload_n 2, 1) := dk_28 (dk_at dksX5_growsBy_2 13 rfl rfl)
theorem dX5_growsBy_60 : decode cX5_growsBy 60 = .ok (.invokevirtual 342, 3) := dk_182 1 86 (dk_at dksX5_growsBy_2 14 rfl rfl)
theorem dX5_growsBy_63 : decode cX5_growsBy 63 = .ok (.istore 4, 2) := dk_54 4 (dk_at dksX5_growsBy_2 17 rfl rfl)
theorem dX5_growsBy_65 : decode cX5_growsBy 65 = .ok (.aload_n 0, 1) := dk_42 (dk_at dksX5_growsBy_2 19 rfl rfl)
theorem dX5_growsBy_66 : decode cX5_growsBy 66 = .ok (.aload_n 0, 1) := dk_42 (dk_at dksX5_growsBy_2 20 rfl rfl)
theorem dX5_growsBy_67 : decode cX5_growsBy 67 = .ok (.getfield 13, 3) := dk_180 0 13 (dk_at dksX5_growsBy_2 21 rfl rfl)
theorem dX5_growsBy_70 : decode cX5_growsBy 70 = .ok (.aload_n 0, 1) := dk_42 (dk_at dksX5_growsBy_3 0 rfl rfl)
theorem dX5_growsBy_71 : decode cX5_growsBy 71 = .ok (.getfield 9, 3) := dk_180 0 9 (dk_at dksX5_growsBy_3 1 rfl rfl)
theorem dX5_growsBy_74 : decode cX5_growsBy 74 = .ok (.bipush 10, 2) := dk_16 10 (dk_at dksX5_growsBy_3 4 rfl rfl)
theorem dX5_growsBy_76 : decode cX5_growsBy 76 = .ok (.iload_n 1, 1) := dk_27 (dk_at dksX5_growsBy_3 6 rfl rfl)
theorem dX5_growsBy_77 : decode cX5_growsBy 77 = .ok (.iadd, 1) := dk_96 (dk_at dksX5_growsBy_3 7 rfl rfl)
theorem dX5_growsBy_78 : decode cX5_growsBy 78 = .ok (.iaload, 1) := dk_46 (dk_at dksX5_growsBy_3 8 rfl rfl)
theorem dX5_growsBy_79 : decode cX5_growsBy 79 = .ok (.iload_n 3, 1) := dk_29 (dk_at dksX5_growsBy_3 9 rfl rfl)
theorem dX5_growsBy_80 : decode cX5_growsBy 80 = .ok (.isub, 1) := dk_100 (dk_at dksX5_growsBy_3 10 rfl rfl)
theorem dX5_growsBy_81 : decode cX5_growsBy 81 = .ok (.invokevirtual 312, 3) := dk_182 1 56 (dk_at dksX5_growsBy_3 11 rfl rfl)
theorem dX5_growsBy_84 : decode cX5_growsBy 84 = .ok (.ireturn, 1) := dk_172 (dk_at dksX5_growsBy_3 14 rfl rfl)
abbrev cX5_dearestWay : ByteArray := prog_15_method_107_code
def yX5_dearestWay : MethodName := ⟨RX5, "dearestWay", "()I"⟩
def dkwX5_dearestWay_1 : List UInt8 := [182, 1, 161, 54, 4, 21, 4, 28, 164, 0, 8, 29, 60, 21, 4, 61, 132, 3, 1, 167, 255, 225, 27, 172]
abbrev dktX5_dearestWay_1 : List UInt8 := dkwX5_dearestWay_1 ++ []
def dkwX5_dearestWay_0 : List UInt8 := [42, 3, 181, 0, 78, 2, 60, 2, 61, 3, 62, 29, 42, 180, 0, 9, 4, 46, 162, 0, 27, 42, 29]
abbrev dktX5_dearestWay_0 : List UInt8 := dkwX5_dearestWay_0 ++ dktX5_dearestWay_1
theorem dksX5_dearestWay_0 : cX5_dearestWay.data.toList.drop 0 = dktX5_dearestWay_0 := by decide +kernel
theorem dksX5_dearestWay_1 : cX5_dearestWay.data.toList.drop 23 = dktX5_dearestWay_1 := dk_seg dksX5_dearestWay_0 23 rfl rfl
theorem dX5_dearestWay_0 : decode cX5_dearestWay 0 = .ok (.aload_n 0, 1) := dk_42 (dk_at dksX5_dearestWay_0 0 rfl rfl)
theorem dX5_dearestWay_1 : decode cX5_dearestWay 1 = .ok (.iconst 0, 1) := dk_3 (dk_at dksX5_dearestWay_0 1 rfl rfl)
theorem dX5_dearestWay_2 : decode cX5_dearestWay 2 = .ok (.putfield 78, 3) := dk_181 0 78 (dk_at dksX5_dearestWay_0 2 rfl rfl)
theorem dX5_dearestWay_5 : decode cX5_dearestWay 5 = .ok (.iconst (-1), 1) := dk_2 (dk_at dksX5_dearestWay_0 5 rfl rfl)
theorem dX5_dearestWay_6 : decode cX5_dearestWay 6 = .ok (.istore_n 1, 1) := dk_60 (dk_at dksX5_dearestWay_0 6 rfl rfl)
theorem dX5_dearestWay_7 : decode cX5_dearestWay 7 = .ok (.iconst (-1), 1) := dk_2 (dk_at dksX5_dearestWay_0 7 rfl rfl)
theorem dX5_dearestWay_8 : decode cX5_dearestWay 8 = .ok (.istore_n 2, 1) := dk_61 (dk_at dksX5_dearestWay_0 8 rfl rfl)
theorem dX5_dearestWay_9 : decode cX5_dearestWay 9 = .ok (.iconst 0, 1) := dk_3 (dk_at dksX5_dearestWay_0 9 rfl rfl)
theorem dX5_dearestWay_10 : decode cX5_dearestWay 10 = .ok (.istore_n 3, 1) := dk_62 (dk_at dksX5_dearestWay_0 10 rfl rfl)
theorem dX5_dearestWay_11 : decode cX5_dearestWay 11 = .ok (.iload_n 3, 1) := dk_29 (dk_at dksX5_dearestWay_0 11 rfl rfl)
theorem dX5_dearestWay_12 : decode cX5_dearestWay 12 = .ok (.aload_n 0, 1) := dk_42 (dk_at dksX5_dearestWay_0 12 rfl rfl)
theorem dX5_dearestWay_13 : decode cX5_dearestWay 13 = .ok (.getfield 9, 3) := dk_180 0 9 (dk_at dksX5_dearestWay_0 13 rfl rfl)
theorem dX5_dearestWay_16 : decode cX5_dearestWay 16 = .ok (.iconst 1, 1) := dk_4 (dk_at dksX5_dearestWay_0 16 rfl rfl)
theorem dX5_dearestWay_17 : decode cX5_dearestWay 17 = .ok (.iaload, 1) := dk_46 (dk_at dksX5_dearestWay_0 17 rfl rfl)
theorem dX5_dearestWay_18 : decode cX5_dearestWay 18 = .ok (.if_icmp .ge 27, 3) := dk_162 0 27 (dk_at dksX5_dearestWay_0 18 rfl rfl)
theorem dX5_dearestWay_21 : decode cX5_dearestWay 21 = .ok (.aload_n 0, 1) := dk_42 (dk_at dksX5_dearestWay_0 21 rfl rfl)
theorem dX5_dearestWay_22 : decode cX5_dearestWay 22 = .ok (.iload_n 3, 1) := dk_29 (dk_at dksX5_dearestWay_0 22 rfl rfl)
theorem dX5_dearestWay_23 : decode cX5_dearestWay 23 = .ok (.invokevirtual 417, 3) := dk_182 1 161 (dk_at dksX5_dearestWay_1 0 rfl rfl)
theorem dX5_dearestWay_26 : decode cX5_dearestWay 26 = .ok (.istore 4, 2) := dk_54 4 (dk_at dksX5_dearestWay_1 3 rfl rfl)
theorem dX5_dearestWay_28 : decode cX5_dearestWay 28 = .ok (.iload 4, 2) := dk_21 4 (dk_at dksX5_dearestWay_1 5 rfl rfl)
theorem dX5_dearestWay_30 : decode cX5_dearestWay 30 = .ok (.iload_n 2, 1) := dk_28 (dk_at dksX5_dearestWay_1 7 rfl rfl)
theorem dX5_dearestWay_31 : decode cX5_dearestWay 31 = .ok (.if_icmp .le 8, 3) := dk_164 0 8 (dk_at dksX5_dearestWay_1 8 rfl rfl)
theorem dX5_dearestWay_34 : decode cX5_dearestWay 34 = .ok (.iload_n 3, 1) := dk_29 (dk_at dksX5_dearestWay_1 11 rfl rfl)
theorem dX5_dearestWay_35 : decode cX5_dearestWay 35 = .ok (.istore_n 1, 1) := dk_60 (dk_at dksX5_dearestWay_1 12 rfl rfl)
theorem dX5_dearestWay_36 : decode cX5_dearestWay 36 = .ok (.iload 4, 2) := dk_21 4 (dk_at dksX5_dearestWay_1 13 rfl rfl)
theorem dX5_dearestWay_38 : decode cX5_dearestWay 38 = .ok (.istore_n 2, 1) := dk_61 (dk_at dksX5_dearestWay_1 15 rfl rfl)
theorem dX5_dearestWay_39 : decode cX5_dearestWay 39 = .ok (.iinc 3 1, 3) := dk_132 3 1 (dk_at dksX5_dearestWay_1 16 rfl rfl)
theorem dX5_dearestWay_42 : decode cX5_dearestWay 42 = .ok (.goto (-31), 3) := dk_167 255 225 (dk_at dksX5_dearestWay_1 19 rfl rfl)
theorem dX5_dearestWay_45 : decode cX5_dearestWay 45 = .ok (.iload_n 1, 1) := dk_27 (dk_at dksX5_dearestWay_1 22 rfl rfl)
theorem dX5_dearestWay_46 : decode cX5_dearestWay 46 = .ok (.ireturn, 1) := dk_172 (dk_at dksX5_dearestWay_1 23 rfl rfl)
abbrev cX5_partedWithout : ByteArray := prog_15_method_106_code
def yX5_partedWithout : MethodName := ⟨RX5, "partedWithout", "(I)I"⟩
def dkwX5_partedWithout_2 : List UInt8 := [184, 0, 115, 96, 61, 132, 4, 1, 167, 255, 225, 132, 3, 1, 167, 255, 200, 28, 172]
abbrev dktX5_partedWithout_2 : List UInt8 := dkwX5_partedWithout_2 ++ []
def dkwX5_partedWithout_1 : List UInt8 := [21, 4, 29, 162, 0, 31, 28, 42, 180, 0, 25, 21, 4, 46, 2, 160, 0, 7, 4, 167, 0, 4, 3]
abbrev dktX5_partedWithout_1 : List UInt8 := dkwX5_partedWithout_1 ++ dktX5_partedWithout_2
def dkwX5_partedWithout_0 : List UInt8 := [3, 61, 3, 62, 29, 42, 180, 0, 9, 3, 46, 162, 0, 52, 42, 29, 27, 182, 0, 102, 3, 54, 4]
abbrev dktX5_partedWithout_0 : List UInt8 := dkwX5_partedWithout_0 ++ dktX5_partedWithout_1
theorem dksX5_partedWithout_0 : cX5_partedWithout.data.toList.drop 0 = dktX5_partedWithout_0 := by decide +kernel
theorem dksX5_partedWithout_1 : cX5_partedWithout.data.toList.drop 23 = dktX5_partedWithout_1 := dk_seg dksX5_partedWithout_0 23 rfl rfl
theorem dksX5_partedWithout_2 : cX5_partedWithout.data.toList.drop 46 = dktX5_partedWithout_2 := dk_seg dksX5_partedWithout_1 23 rfl rfl
theorem dX5_partedWithout_0 : decode cX5_partedWithout 0 = .ok (.iconst 0, 1) := dk_3 (dk_at dksX5_partedWithout_0 0 rfl rfl)
theorem dX5_partedWithout_1 : decode cX5_partedWithout 1 = .ok (.istore_n 2, 1) := dk_61 (dk_at dksX5_partedWithout_0 1 rfl rfl)
theorem dX5_partedWithout_2 : decode cX5_partedWithout 2 = .ok (.iconst 0, 1) := dk_3 (dk_at dksX5_partedWithout_0 2 rfl rfl)
theorem dX5_partedWithout_3 : decode cX5_partedWithout 3 = .ok (.istore_n 3, 1) := dk_62 (dk_at dksX5_partedWithout_0 3 rfl rfl)
theorem dX5_partedWithout_4 : decode cX5_partedWithout 4 = .ok (.iload_n 3, 1) := dk_29 (dk_at dksX5_partedWithout_0 4 rfl rfl)
theorem dX5_partedWithout_5 : decode cX5_partedWithout 5 = .ok (.aload_n 0, 1) := dk_42 (dk_at dksX5_partedWithout_0 5 rfl rfl)
theorem dX5_partedWithout_6 : decode cX5_partedWithout 6 = .ok (.getfield 9, 3) := dk_180 0 9 (dk_at dksX5_partedWithout_0 6 rfl rfl)
theorem dX5_partedWithout_9 : decode cX5_partedWithout 9 = .ok (.iconst 0, 1) := dk_3 (dk_at dksX5_partedWithout_0 9 rfl rfl)
theorem dX5_partedWithout_10 : decode cX5_partedWithout 10 = .ok (.iaload, 1) := dk_46 (dk_at dksX5_partedWithout_0 10 rfl rfl)
theorem dX5_partedWithout_11 : decode cX5_partedWithout 11 = .ok (.if_icmp .ge 52, 3) := dk_162 0 52 (dk_at dksX5_partedWithout_0 11 rfl rfl)
theorem dX5_partedWithout_14 : decode cX5_partedWithout 14 = .ok (.aload_n 0, 1) := dk_42 (dk_at dksX5_partedWithout_0 14 rfl rfl)
theorem dX5_partedWithout_15 : decode cX5_partedWithout 15 = .ok (.iload_n 3, 1) := dk_29 (dk_at dksX5_partedWithout_0 15 rfl rfl)
theorem dX5_partedWithout_16 : decode cX5_partedWithout 16 = .ok (.iload_n 1, 1) := dk_27 (dk_at dksX5_partedWithout_0 16 rfl rfl)
theorem dX5_partedWithout_17 : decode cX5_partedWithout 17 = .ok (.invokevirtual 102, 3) := dk_182 0 102 (dk_at dksX5_partedWithout_0 17 rfl rfl)
theorem dX5_partedWithout_20 : decode cX5_partedWithout 20 = .ok (.iconst 0, 1) := dk_3 (dk_at dksX5_partedWithout_0 20 rfl rfl)
theorem dX5_partedWithout_21 : decode cX5_partedWithout 21 = .ok (.istore 4, 2) := dk_54 4 (dk_at dksX5_partedWithout_0 21 rfl rfl)
theorem dX5_partedWithout_23 : decode cX5_partedWithout 23 = .ok (.iload 4, 2) := dk_21 4 (dk_at dksX5_partedWithout_1 0 rfl rfl)
theorem dX5_partedWithout_25 : decode cX5_partedWithout 25 = .ok (.iload_n 3, 1) := dk_29 (dk_at dksX5_partedWithout_1 2 rfl rfl)
theorem dX5_partedWithout_26 : decode cX5_partedWithout 26 = .ok (.if_icmp .ge 31, 3) := dk_162 0 31 (dk_at dksX5_partedWithout_1 3 rfl rfl)
theorem dX5_partedWithout_29 : decode cX5_partedWithout 29 = .ok (.iload_n 2, 1) := dk_28 (dk_at dksX5_partedWithout_1 6 rfl rfl)
theorem dX5_partedWithout_30 : decode cX5_partedWithout 30 = .ok (.aload_n 0, 1) := dk_42 (dk_at dksX5_partedWithout_1 7 rfl rfl)
theorem dX5_partedWithout_31 : decode cX5_partedWithout 31 = .ok (.getfield 25, 3) := dk_180 0 25 (dk_at dksX5_partedWithout_1 8 rfl rfl)
theorem dX5_partedWithout_34 : decode cX5_partedWithout 34 = .ok (.iload 4, 2) := dk_21 4 (dk_at dksX5_partedWithout_1 11 rfl rfl)
theorem dX5_partedWithout_36 : decode cX5_partedWithout 36 = .ok (.iaload, 1) := dk_46 (dk_at dksX5_partedWithout_1 13 rfl rfl)
theorem dX5_partedWithout_37 : decode cX5_partedWithout 37 = .ok (.iconst (-1), 1) := dk_2 (dk_at dksX5_partedWithout_1 14 rfl rfl)
theorem dX5_partedWithout_38 : decode cX5_partedWithout 38 = .ok (.if_icmp .ne 7, 3) := dk_160 0 7 (dk_at dksX5_partedWithout_1 15 rfl rfl)
theorem dX5_partedWithout_41 : decode cX5_partedWithout 41 = .ok (.iconst 1, 1) := dk_4 (dk_at dksX5_partedWithout_1 18 rfl rfl)
theorem dX5_partedWithout_42 : decode cX5_partedWithout 42 = .ok (.goto 4, 3) := dk_167 0 4 (dk_at dksX5_partedWithout_1 19 rfl rfl)
theorem dX5_partedWithout_45 : decode cX5_partedWithout 45 = .ok (.iconst 0, 1) := dk_3 (dk_at dksX5_partedWithout_1 22 rfl rfl)
theorem dX5_partedWithout_46 : decode cX5_partedWithout 46 = .ok (.invokestatic 115, 3) := dk_184 0 115 (dk_at dksX5_partedWithout_2 0 rfl rfl)
theorem dX5_partedWithout_49 : decode cX5_partedWithout 49 = .ok (.iadd, 1) := dk_96 (dk_at dksX5_partedWithout_2 3 rfl rfl)
theorem dX5_partedWithout_50 : decode cX5_partedWithout 50 = .ok (.istore_n 2, 1) := dk_61 (dk_at dksX5_partedWithout_2 4 rfl rfl)
theorem dX5_partedWithout_51 : decode cX5_partedWithout 51 = .ok (.iinc 4 1, 3) := dk_132 4 1 (dk_at dksX5_partedWithout_2 5 rfl rfl)
theorem dX5_partedWithout_54 : decode cX5_partedWithout 54 = .ok (.goto (-31), 3) := dk_167 255 225 (dk_at dksX5_partedWithout_2 8 rfl rfl)
theorem dX5_partedWithout_57 : decode cX5_partedWithout 57 = .ok (.iinc 3 1, 3) := dk_132 3 1 (dk_at dksX5_partedWithout_2 11 rfl rfl)
theorem dX5_partedWithout_60 : decode cX5_partedWithout 60 = .ok (.goto (-56), 3) := dk_167 255 200 (dk_at dksX5_partedWithout_2 14 rfl rfl)
theorem dX5_partedWithout_63 : decode cX5_partedWithout 63 = .ok (.iload_n 2, 1) := dk_28 (dk_at dksX5_partedWithout_2 17 rfl rfl)
theorem dX5_partedWithout_64 : decode cX5_partedWithout 64 = .ok (.ireturn, 1) := dk_172 (dk_at dksX5_partedWithout_2 18 rfl rfl)
abbrev cX5_agree : ByteArray := prog_15_method_112_code
def yX5_agree : MethodName := ⟨RX5, "agree", "()Z"⟩
def dkwX5_agree_5 : List UInt8 := [182, 1, 174, 153, 0, 7, 4, 167, 0, 4, 3, 172]
abbrev dktX5_agree_5 : List UInt8 := dkwX5_agree_5 ++ []
def dkwX5_agree_4 : List UInt8 := [180, 0, 9, 16, 16, 46, 42, 180, 0, 9, 16, 15, 46, 163, 0, 21, 42, 182, 1, 170, 153, 0, 14, 42]
abbrev dktX5_agree_4 : List UInt8 := dkwX5_agree_4 ++ dktX5_agree_5
def dkwX5_agree_3 : List UInt8 := [46, 42, 180, 0, 9, 16, 20, 46, 96, 160, 0, 7, 4, 167, 0, 4, 3, 60, 27, 153, 0, 38, 42]
abbrev dktX5_agree_3 : List UInt8 := dkwX5_agree_3 ++ dktX5_agree_4
def dkwX5_agree_2 : List UInt8 := [6, 182, 1, 113, 42, 180, 0, 9, 16, 18, 46, 160, 0, 29, 42, 182, 1, 119, 42, 180, 0, 9, 16, 7]
abbrev dktX5_agree_2 : List UInt8 := dkwX5_agree_2 ++ dktX5_agree_3
def dkwX5_agree_1 : List UInt8 := [182, 1, 113, 42, 180, 0, 9, 16, 15, 46, 160, 0, 7, 4, 167, 0, 4, 3, 60, 27, 153, 0, 44, 42]
abbrev dktX5_agree_1 : List UInt8 := dkwX5_agree_1 ++ dktX5_agree_2
def dkwX5_agree_0 : List UInt8 := [42, 3, 181, 0, 78, 42, 180, 0, 9, 16, 11, 46, 42, 180, 0, 9, 5, 46, 160, 0, 22, 42, 5]
abbrev dktX5_agree_0 : List UInt8 := dkwX5_agree_0 ++ dktX5_agree_1
theorem dksX5_agree_0 : cX5_agree.data.toList.drop 0 = dktX5_agree_0 := by decide +kernel
theorem dksX5_agree_1 : cX5_agree.data.toList.drop 23 = dktX5_agree_1 := dk_seg dksX5_agree_0 23 rfl rfl
theorem dksX5_agree_2 : cX5_agree.data.toList.drop 47 = dktX5_agree_2 := dk_seg dksX5_agree_1 24 rfl rfl
theorem dksX5_agree_3 : cX5_agree.data.toList.drop 71 = dktX5_agree_3 := dk_seg dksX5_agree_2 24 rfl rfl
theorem dksX5_agree_4 : cX5_agree.data.toList.drop 94 = dktX5_agree_4 := dk_seg dksX5_agree_3 23 rfl rfl
theorem dksX5_agree_5 : cX5_agree.data.toList.drop 118 = dktX5_agree_5 := dk_seg dksX5_agree_4 24 rfl rfl
theorem dX5_agree_0 : decode cX5_agree 0 = .ok (.aload_n 0, 1) := dk_42 (dk_at dksX5_agree_0 0 rfl rfl)
theorem dX5_agree_1 : decode cX5_agree 1 = .ok (.iconst 0, 1) := dk_3 (dk_at dksX5_agree_0 1 rfl rfl)
theorem dX5_agree_2 : decode cX5_agree 2 = .ok (.putfield 78, 3) := dk_181 0 78 (dk_at dksX5_agree_0 2 rfl rfl)
theorem dX5_agree_5 : decode cX5_agree 5 = .ok (.aload_n 0, 1) := dk_42 (dk_at dksX5_agree_0 5 rfl rfl)
theorem dX5_agree_6 : decode cX5_agree 6 = .ok (.getfield 9, 3) := dk_180 0 9 (dk_at dksX5_agree_0 6 rfl rfl)
theorem dX5_agree_9 : decode cX5_agree 9 = .ok (.bipush 11, 2) := dk_16 11 (dk_at dksX5_agree_0 9 rfl rfl)
theorem dX5_agree_11 : decode cX5_agree 11 = .ok (.iaload, 1) := dk_46 (dk_at dksX5_agree_0 11 rfl rfl)
theorem dX5_agree_12 : decode cX5_agree 12 = .ok (.aload_n 0, 1) := dk_42 (dk_at dksX5_agree_0 12 rfl rfl)
theorem dX5_agree_13 : decode cX5_agree 13 = .ok (.getfield 9, 3) := dk_180 0 9 (dk_at dksX5_agree_0 13 rfl rfl)
theorem dX5_agree_16 : decode cX5_agree 16 = .ok (.iconst 2, 1) := dk_5 (dk_at dksX5_agree_0 16 rfl rfl)
theorem dX5_agree_17 : decode cX5_agree 17 = .ok (.iaload, 1) := dk_46 (dk_at dksX5_agree_0 17 rfl rfl)
theorem dX5_agree_18 : decode cX5_agree 18 = .ok (.if_icmp .ne 22, 3) := dk_160 0 22 (dk_at dksX5_agree_0 18 rfl rfl)
theorem dX5_agree_21 : decode cX5_agree 21 = .ok (.aload_n 0, 1) := dk_42 (dk_at dksX5_agree_0 21 rfl rfl)
theorem dX5_agree_22 : decode cX5_agree 22 = .ok (.iconst 2, 1) := dk_5 (dk_at dksX5_agree_0 22 rfl rfl)
theorem dX5_agree_23 : decode cX5_agree 23 = .ok (.invokevirtual 369, 3) := dk_182 1 113 (dk_at dksX5_agree_1 0 rfl rfl)
theorem dX5_agree_26 : decode cX5_agree 26 = .ok (.aload_n 0, 1) := dk_42 (dk_at dksX5_agree_1 3 rfl rfl)
theorem dX5_agree_27 : decode cX5_agree 27 = .ok (.getfield 9, 3) := dk_180 0 9 (dk_at dksX5_agree_1 4 rfl rfl)
theorem dX5_agree_30 : decode cX5_agree 30 = .ok (.bipush 15, 2) := dk_16 15 (dk_at dksX5_agree_1 7 rfl rfl)
theorem dX5_agree_32 : decode cX5_agree 32 = .ok (.iaload, 1) := dk_46 (dk_at dksX5_agree_1 9 rfl rfl)
theorem dX5_agree_33 : decode cX5_agree 33 = .ok (.if_icmp .ne 7, 3) := dk_160 0 7 (dk_at dksX5_agree_1 10 rfl rfl)
theorem dX5_agree_36 : decode cX5_agree 36 = .ok (.iconst 1, 1) := dk_4 (dk_at dksX5_agree_1 13 rfl rfl)
theorem dX5_agree_37 : decode cX5_agree 37 = .ok (.goto 4, 3) := dk_167 0 4 (dk_at dksX5_agree_1 14 rfl rfl)
theorem dX5_agree_40 : decode cX5_agree 40 = .ok (.iconst 0, 1) := dk_3 (dk_at dksX5_agree_1 17 rfl rfl)
theorem dX5_agree_41 : decode cX5_agree 41 = .ok (.istore_n 1, 1) := dk_60 (dk_at dksX5_agree_1 18 rfl rfl)
theorem dX5_agree_42 : decode cX5_agree 42 = .ok (.iload_n 1, 1) := dk_27 (dk_at dksX5_agree_1 19 rfl rfl)
theorem dX5_agree_43 : decode cX5_agree 43 = .ok (.ifCond .eq 44, 3) := dk_153 0 44 (dk_at dksX5_agree_1 20 rfl rfl)
theorem dX5_agree_46 : decode cX5_agree 46 = .ok (.aload_n 0, 1) := dk_42 (dk_at dksX5_agree_1 23 rfl rfl)
theorem dX5_agree_47 : decode cX5_agree 47 = .ok (.iconst 3, 1) := dk_6 (dk_at dksX5_agree_2 0 rfl rfl)
theorem dX5_agree_48 : decode cX5_agree 48 = .ok (.invokevirtual 369, 3) := dk_182 1 113 (dk_at dksX5_agree_2 1 rfl rfl)
theorem dX5_agree_51 : decode cX5_agree 51 = .ok (.aload_n 0, 1) := dk_42 (dk_at dksX5_agree_2 4 rfl rfl)
theorem dX5_agree_52 : decode cX5_agree 52 = .ok (.getfield 9, 3) := dk_180 0 9 (dk_at dksX5_agree_2 5 rfl rfl)
theorem dX5_agree_55 : decode cX5_agree 55 = .ok (.bipush 18, 2) := dk_16 18 (dk_at dksX5_agree_2 8 rfl rfl)
theorem dX5_agree_57 : decode cX5_agree 57 = .ok (.iaload, 1) := dk_46 (dk_at dksX5_agree_2 10 rfl rfl)
theorem dX5_agree_58 : decode cX5_agree 58 = .ok (.if_icmp .ne 29, 3) := dk_160 0 29 (dk_at dksX5_agree_2 11 rfl rfl)
theorem dX5_agree_61 : decode cX5_agree 61 = .ok (.aload_n 0, 1) := dk_42 (dk_at dksX5_agree_2 14 rfl rfl)
theorem dX5_agree_62 : decode cX5_agree 62 = .ok (.invokevirtual 375, 3) := dk_182 1 119 (dk_at dksX5_agree_2 15 rfl rfl)
theorem dX5_agree_65 : decode cX5_agree 65 = .ok (.aload_n 0, 1) := dk_42 (dk_at dksX5_agree_2 18 rfl rfl)
theorem dX5_agree_66 : decode cX5_agree 66 = .ok (.getfield 9, 3) := dk_180 0 9 (dk_at dksX5_agree_2 19 rfl rfl)
theorem dX5_agree_69 : decode cX5_agree 69 = .ok (.bipush 7, 2) := dk_16 7 (dk_at dksX5_agree_2 22 rfl rfl)
theorem dX5_agree_71 : decode cX5_agree 71 = .ok (.iaload, 1) := dk_46 (dk_at dksX5_agree_3 0 rfl rfl)
theorem dX5_agree_72 : decode cX5_agree 72 = .ok (.aload_n 0, 1) := dk_42 (dk_at dksX5_agree_3 1 rfl rfl)
theorem dX5_agree_73 : decode cX5_agree 73 = .ok (.getfield 9, 3) := dk_180 0 9 (dk_at dksX5_agree_3 2 rfl rfl)
theorem dX5_agree_76 : decode cX5_agree 76 = .ok (.bipush 20, 2) := dk_16 20 (dk_at dksX5_agree_3 5 rfl rfl)
theorem dX5_agree_78 : decode cX5_agree 78 = .ok (.iaload, 1) := dk_46 (dk_at dksX5_agree_3 7 rfl rfl)
theorem dX5_agree_79 : decode cX5_agree 79 = .ok (.iadd, 1) := dk_96 (dk_at dksX5_agree_3 8 rfl rfl)
theorem dX5_agree_80 : decode cX5_agree 80 = .ok (.if_icmp .ne 7, 3) := dk_160 0 7 (dk_at dksX5_agree_3 9 rfl rfl)
theorem dX5_agree_83 : decode cX5_agree 83 = .ok (.iconst 1, 1) := dk_4 (dk_at dksX5_agree_3 12 rfl rfl)
theorem dX5_agree_84 : decode cX5_agree 84 = .ok (.goto 4, 3) := dk_167 0 4 (dk_at dksX5_agree_3 13 rfl rfl)
theorem dX5_agree_87 : decode cX5_agree 87 = .ok (.iconst 0, 1) := dk_3 (dk_at dksX5_agree_3 16 rfl rfl)
theorem dX5_agree_88 : decode cX5_agree 88 = .ok (.istore_n 1, 1) := dk_60 (dk_at dksX5_agree_3 17 rfl rfl)
theorem dX5_agree_89 : decode cX5_agree 89 = .ok (.iload_n 1, 1) := dk_27 (dk_at dksX5_agree_3 18 rfl rfl)
theorem dX5_agree_90 : decode cX5_agree 90 = .ok (.ifCond .eq 38, 3) := dk_153 0 38 (dk_at dksX5_agree_3 19 rfl rfl)
theorem dX5_agree_93 : decode cX5_agree 93 = .ok (.aload_n 0, 1) := dk_42 (dk_at dksX5_agree_3 22 rfl rfl)
theorem dX5_agree_94 : decode cX5_agree 94 = .ok (.getfield 9, 3) := dk_180 0 9 (dk_at dksX5_agree_4 0 rfl rfl)
theorem dX5_agree_97 : decode cX5_agree 97 = .ok (.bipush 16, 2) := dk_16 16 (dk_at dksX5_agree_4 3 rfl rfl)
theorem dX5_agree_99 : decode cX5_agree 99 = .ok (.iaload, 1) := dk_46 (dk_at dksX5_agree_4 5 rfl rfl)
theorem dX5_agree_100 : decode cX5_agree 100 = .ok (.aload_n 0, 1) := dk_42 (dk_at dksX5_agree_4 6 rfl rfl)
theorem dX5_agree_101 : decode cX5_agree 101 = .ok (.getfield 9, 3) := dk_180 0 9 (dk_at dksX5_agree_4 7 rfl rfl)
theorem dX5_agree_104 : decode cX5_agree 104 = .ok (.bipush 15, 2) := dk_16 15 (dk_at dksX5_agree_4 10 rfl rfl)
theorem dX5_agree_106 : decode cX5_agree 106 = .ok (.iaload, 1) := dk_46 (dk_at dksX5_agree_4 12 rfl rfl)
theorem dX5_agree_107 : decode cX5_agree 107 = .ok (.if_icmp .gt 21, 3) := dk_163 0 21 (dk_at dksX5_agree_4 13 rfl rfl)
theorem dX5_agree_110 : decode cX5_agree 110 = .ok (.aload_n 0, 1) := dk_42 (dk_at dksX5_agree_4 16 rfl rfl)
theorem dX5_agree_111 : decode cX5_agree 111 = .ok (.invokevirtual 426, 3) := dk_182 1 170 (dk_at dksX5_agree_4 17 rfl rfl)
theorem dX5_agree_114 : decode cX5_agree 114 = .ok (.ifCond .eq 14, 3) := dk_153 0 14 (dk_at dksX5_agree_4 20 rfl rfl)
theorem dX5_agree_117 : decode cX5_agree 117 = .ok (.aload_n 0, 1) := dk_42 (dk_at dksX5_agree_4 23 rfl rfl)
theorem dX5_agree_118 : decode cX5_agree 118 = .ok (.invokevirtual 430, 3) := dk_182 1 174 (dk_at dksX5_agree_5 0 rfl rfl)
theorem dX5_agree_121 : decode cX5_agree 121 = .ok (.ifCond .eq 7, 3) := dk_153 0 7 (dk_at dksX5_agree_5 3 rfl rfl)
theorem dX5_agree_124 : decode cX5_agree 124 = .ok (.iconst 1, 1) := dk_4 (dk_at dksX5_agree_5 6 rfl rfl)
theorem dX5_agree_125 : decode cX5_agree 125 = .ok (.goto 4, 3) := dk_167 0 4 (dk_at dksX5_agree_5 7 rfl rfl)
theorem dX5_agree_128 : decode cX5_agree 128 = .ok (.iconst 0, 1) := dk_3 (dk_at dksX5_agree_5 10 rfl rfl)
theorem dX5_agree_129 : decode cX5_agree 129 = .ok (.ireturn, 1) := dk_172 (dk_at dksX5_agree_5 11 rfl rfl)
abbrev cX5_areTunes : ByteArray := prog_15_method_111_code
def yX5_areTunes : MethodName := ⟨RX5, "areTunes", "()Z"⟩
def dkwX5_areTunes_4 : List UInt8 := [160, 0, 7, 4, 167, 0, 4, 3, 172]
abbrev dktX5_areTunes_4 : List UInt8 := dkwX5_areTunes_4 ++ []
def dkwX5_areTunes_3 : List UInt8 := [4, 96, 46, 159, 0, 5, 3, 172, 132, 2, 1, 167, 255, 178, 27, 42, 180, 0, 9, 16, 13, 46]
abbrev dktX5_areTunes_3 : List UInt8 := dkwX5_areTunes_3 ++ dktX5_areTunes_4
def dkwX5_areTunes_2 : List UInt8 := [180, 0, 9, 29, 6, 96, 46, 5, 160, 0, 24, 42, 180, 0, 9, 29, 7, 96, 46, 42, 180, 0, 9, 29]
abbrev dktX5_areTunes_2 : List UInt8 := dkwX5_areTunes_2 ++ dktX5_areTunes_3
def dkwX5_areTunes_1 : List UInt8 := [29, 16, 9, 96, 46, 96, 60, 42, 42, 180, 0, 9, 29, 7, 96, 46, 182, 1, 124, 153, 0, 34, 42]
abbrev dktX5_areTunes_1 : List UInt8 := dkwX5_areTunes_1 ++ dktX5_areTunes_2
def dkwX5_areTunes_0 : List UInt8 := [3, 60, 3, 61, 28, 42, 180, 0, 9, 5, 46, 162, 0, 74, 28, 184, 0, 109, 62, 27, 42, 180, 0, 9]
abbrev dktX5_areTunes_0 : List UInt8 := dkwX5_areTunes_0 ++ dktX5_areTunes_1
theorem dksX5_areTunes_0 : cX5_areTunes.data.toList.drop 0 = dktX5_areTunes_0 := by decide +kernel
theorem dksX5_areTunes_1 : cX5_areTunes.data.toList.drop 24 = dktX5_areTunes_1 := dk_seg dksX5_areTunes_0 24 rfl rfl
theorem dksX5_areTunes_2 : cX5_areTunes.data.toList.drop 47 = dktX5_areTunes_2 := dk_seg dksX5_areTunes_1 23 rfl rfl
theorem dksX5_areTunes_3 : cX5_areTunes.data.toList.drop 71 = dktX5_areTunes_3 := dk_seg dksX5_areTunes_2 24 rfl rfl
theorem dksX5_areTunes_4 : cX5_areTunes.data.toList.drop 93 = dktX5_areTunes_4 := dk_seg dksX5_areTunes_3 22 rfl rfl
theorem dX5_areTunes_0 : decode cX5_areTunes 0 = .ok (.iconst 0, 1) := dk_3 (dk_at dksX5_areTunes_0 0 rfl rfl)
theorem dX5_areTunes_1 : decode cX5_areTunes 1 = .ok (.istore_n 1, 1) := dk_60 (dk_at dksX5_areTunes_0 1 rfl rfl)
theorem dX5_areTunes_2 : decode cX5_areTunes 2 = .ok (.iconst 0, 1) := dk_3 (dk_at dksX5_areTunes_0 2 rfl rfl)
theorem dX5_areTunes_3 : decode cX5_areTunes 3 = .ok (.istore_n 2, 1) := dk_61 (dk_at dksX5_areTunes_0 3 rfl rfl)
theorem dX5_areTunes_4 : decode cX5_areTunes 4 = .ok (.iload_n 2, 1) := dk_28 (dk_at dksX5_areTunes_0 4 rfl rfl)
theorem dX5_areTunes_5 : decode cX5_areTunes 5 = .ok (.aload_n 0, 1) := dk_42 (dk_at dksX5_areTunes_0 5 rfl rfl)
theorem dX5_areTunes_6 : decode cX5_areTunes 6 = .ok (.getfield 9, 3) := dk_180 0 9 (dk_at dksX5_areTunes_0 6 rfl rfl)
theorem dX5_areTunes_9 : decode cX5_areTunes 9 = .ok (.iconst 2, 1) := dk_5 (dk_at dksX5_areTunes_0 9 rfl rfl)
theorem dX5_areTunes_10 : decode cX5_areTunes 10 = .ok (.iaload, 1) := dk_46 (dk_at dksX5_areTunes_0 10 rfl rfl)
theorem dX5_areTunes_11 : decode cX5_areTunes 11 = .ok (.if_icmp .ge 74, 3) := dk_162 0 74 (dk_at dksX5_areTunes_0 11 rfl rfl)
theorem dX5_areTunes_14 : decode cX5_areTunes 14 = .ok (.iload_n 2, 1) := dk_28 (dk_at dksX5_areTunes_0 14 rfl rfl)
theorem dX5_areTunes_15 : decode cX5_areTunes 15 = .ok (.invokestatic 109, 3) := dk_184 0 109 (dk_at dksX5_areTunes_0 15 rfl rfl)
theorem dX5_areTunes_18 : decode cX5_areTunes 18 = .ok (.istore_n 3, 1) := dk_62 (dk_at dksX5_areTunes_0 18 rfl rfl)
theorem dX5_areTunes_19 : decode cX5_areTunes 19 = .ok (.iload_n 1, 1) := dk_27 (dk_at dksX5_areTunes_0 19 rfl rfl)
theorem dX5_areTunes_20 : decode cX5_areTunes 20 = .ok (.aload_n 0, 1) := dk_42 (dk_at dksX5_areTunes_0 20 rfl rfl)
theorem dX5_areTunes_21 : decode cX5_areTunes 21 = .ok (.getfield 9, 3) := dk_180 0 9 (dk_at dksX5_areTunes_0 21 rfl rfl)
theorem dX5_areTunes_24 : decode cX5_areTunes 24 = .ok (.iload_n 3, 1) := dk_29 (dk_at dksX5_areTunes_1 0 rfl rfl)
theorem dX5_areTunes_25 : decode cX5_areTunes 25 = .ok (.bipush 9, 2) := dk_16 9 (dk_at dksX5_areTunes_1 1 rfl rfl)
theorem dX5_areTunes_27 : decode cX5_areTunes 27 = .ok (.iadd, 1) := dk_96 (dk_at dksX5_areTunes_1 3 rfl rfl)
theorem dX5_areTunes_28 : decode cX5_areTunes 28 = .ok (.iaload, 1) := dk_46 (dk_at dksX5_areTunes_1 4 rfl rfl)
theorem dX5_areTunes_29 : decode cX5_areTunes 29 = .ok (.iadd, 1) := dk_96 (dk_at dksX5_areTunes_1 5 rfl rfl)
theorem dX5_areTunes_30 : decode cX5_areTunes 30 = .ok (.istore_n 1, 1) := dk_60 (dk_at dksX5_areTunes_1 6 rfl rfl)
theorem dX5_areTunes_31 : decode cX5_areTunes 31 = .ok (.aload_n 0, 1) := dk_42 (dk_at dksX5_areTunes_1 7 rfl rfl)
theorem dX5_areTunes_32 : decode cX5_areTunes 32 = .ok (.aload_n 0, 1) := dk_42 (dk_at dksX5_areTunes_1 8 rfl rfl)
theorem dX5_areTunes_33 : decode cX5_areTunes 33 = .ok (.getfield 9, 3) := dk_180 0 9 (dk_at dksX5_areTunes_1 9 rfl rfl)
theorem dX5_areTunes_36 : decode cX5_areTunes 36 = .ok (.iload_n 3, 1) := dk_29 (dk_at dksX5_areTunes_1 12 rfl rfl)
theorem dX5_areTunes_37 : decode cX5_areTunes 37 = .ok (.iconst 4, 1) := dk_7 (dk_at dksX5_areTunes_1 13 rfl rfl)
theorem dX5_areTunes_38 : decode cX5_areTunes 38 = .ok (.iadd, 1) := dk_96 (dk_at dksX5_areTunes_1 14 rfl rfl)
theorem dX5_areTunes_39 : decode cX5_areTunes 39 = .ok (.iaload, 1) := dk_46 (dk_at dksX5_areTunes_1 15 rfl rfl)
theorem dX5_areTunes_40 : decode cX5_areTunes 40 = .ok (.invokevirtual 380, 3) := dk_182 1 124 (dk_at dksX5_areTunes_1 16 rfl rfl)
theorem dX5_areTunes_43 : decode cX5_areTunes 43 = .ok (.ifCond .eq 34, 3) := dk_153 0 34 (dk_at dksX5_areTunes_1 19 rfl rfl)
theorem dX5_areTunes_46 : decode cX5_areTunes 46 = .ok (.aload_n 0, 1) := dk_42 (dk_at dksX5_areTunes_1 22 rfl rfl)
theorem dX5_areTunes_47 : decode cX5_areTunes 47 = .ok (.getfield 9, 3) := dk_180 0 9 (dk_at dksX5_areTunes_2 0 rfl rfl)
theorem dX5_areTunes_50 : decode cX5_areTunes 50 = .ok (.iload_n 3, 1) := dk_29 (dk_at dksX5_areTunes_2 3 rfl rfl)
theorem dX5_areTunes_51 : decode cX5_areTunes 51 = .ok (.iconst 3, 1) := dk_6 (dk_at dksX5_areTunes_2 4 rfl rfl)
theorem dX5_areTunes_52 : decode cX5_areTunes 52 = .ok (.iadd, 1) := dk_96 (dk_at dksX5_areTunes_2 5 rfl rfl)
theorem dX5_areTunes_53 : decode cX5_areTunes 53 = .ok (.iaload, 1) := dk_46 (dk_at dksX5_areTunes_2 6 rfl rfl)
theorem dX5_areTunes_54 : decode cX5_areTunes 54 = .ok (.iconst 2, 1) := dk_5 (dk_at dksX5_areTunes_2 7 rfl rfl)
theorem dX5_areTunes_55 : decode cX5_areTunes 55 = .ok (.if_icmp .ne 24, 3) := dk_160 0 24 (dk_at dksX5_areTunes_2 8 rfl rfl)
theorem dX5_areTunes_58 : decode cX5_areTunes 58 = .ok (.aload_n 0, 1) := dk_42 (dk_at dksX5_areTunes_2 11 rfl rfl)
theorem dX5_areTunes_59 : decode cX5_areTunes 59 = .ok (.getfield 9, 3) := dk_180 0 9 (dk_at dksX5_areTunes_2 12 rfl rfl)
theorem dX5_areTunes_62 : decode cX5_areTunes 62 = .ok (.iload_n 3, 1) := dk_29 (dk_at dksX5_areTunes_2 15 rfl rfl)
theorem dX5_areTunes_63 : decode cX5_areTunes 63 = .ok (.iconst 4, 1) := dk_7 (dk_at dksX5_areTunes_2 16 rfl rfl)
theorem dX5_areTunes_64 : decode cX5_areTunes 64 = .ok (.iadd, 1) := dk_96 (dk_at dksX5_areTunes_2 17 rfl rfl)
theorem dX5_areTunes_65 : decode cX5_areTunes 65 = .ok (.iaload, 1) := dk_46 (dk_at dksX5_areTunes_2 18 rfl rfl)
theorem dX5_areTunes_66 : decode cX5_areTunes 66 = .ok (.aload_n 0, 1) := dk_42 (dk_at dksX5_areTunes_2 19 rfl rfl)
theorem dX5_areTunes_67 : decode cX5_areTunes 67 = .ok (.getfield 9, 3) := dk_180 0 9 (dk_at dksX5_areTunes_2 20 rfl rfl)
theorem dX5_areTunes_70 : decode cX5_areTunes 70 = .ok (.iload_n 3, 1) := dk_29 (dk_at dksX5_areTunes_2 23 rfl rfl)
theorem dX5_areTunes_71 : decode cX5_areTunes 71 = .ok (.iconst 1, 1) := dk_4 (dk_at dksX5_areTunes_3 0 rfl rfl)
theorem dX5_areTunes_72 : decode cX5_areTunes 72 = .ok (.iadd, 1) := dk_96 (dk_at dksX5_areTunes_3 1 rfl rfl)
theorem dX5_areTunes_73 : decode cX5_areTunes 73 = .ok (.iaload, 1) := dk_46 (dk_at dksX5_areTunes_3 2 rfl rfl)
theorem dX5_areTunes_74 : decode cX5_areTunes 74 = .ok (.if_icmp .eq 5, 3) := dk_159 0 5 (dk_at dksX5_areTunes_3 3 rfl rfl)
theorem dX5_areTunes_77 : decode cX5_areTunes 77 = .ok (.iconst 0, 1) := dk_3 (dk_at dksX5_areTunes_3 6 rfl rfl)
theorem dX5_areTunes_78 : decode cX5_areTunes 78 = .ok (.ireturn, 1) := dk_172 (dk_at dksX5_areTunes_3 7 rfl rfl)
theorem dX5_areTunes_79 : decode cX5_areTunes 79 = .ok (.iinc 2 1, 3) := dk_132 2 1 (dk_at dksX5_areTunes_3 8 rfl rfl)
theorem dX5_areTunes_82 : decode cX5_areTunes 82 = .ok (.goto (-78), 3) := dk_167 255 178 (dk_at dksX5_areTunes_3 11 rfl rfl)
theorem dX5_areTunes_85 : decode cX5_areTunes 85 = .ok (.iload_n 1, 1) := dk_27 (dk_at dksX5_areTunes_3 14 rfl rfl)
theorem dX5_areTunes_86 : decode cX5_areTunes 86 = .ok (.aload_n 0, 1) := dk_42 (dk_at dksX5_areTunes_3 15 rfl rfl)
theorem dX5_areTunes_87 : decode cX5_areTunes 87 = .ok (.getfield 9, 3) := dk_180 0 9 (dk_at dksX5_areTunes_3 16 rfl rfl)
theorem dX5_areTunes_90 : decode cX5_areTunes 90 = .ok (.bipush 13, 2) := dk_16 13 (dk_at dksX5_areTunes_3 19 rfl rfl)
theorem dX5_areTunes_92 : decode cX5_areTunes 92 = .ok (.iaload, 1) := dk_46 (dk_at dksX5_areTunes_3 21 rfl rfl)
theorem dX5_areTunes_93 : decode cX5_areTunes 93 = .ok (.if_icmp .ne 7, 3) := dk_160 0 7 (dk_at dksX5_areTunes_4 0 rfl rfl)
theorem dX5_areTunes_96 : decode cX5_areTunes 96 = .ok (.iconst 1, 1) := dk_4 (dk_at dksX5_areTunes_4 3 rfl rfl)
theorem dX5_areTunes_97 : decode cX5_areTunes 97 = .ok (.goto 4, 3) := dk_167 0 4 (dk_at dksX5_areTunes_4 4 rfl rfl)
theorem dX5_areTunes_100 : decode cX5_areTunes 100 = .ok (.iconst 0, 1) := dk_3 (dk_at dksX5_areTunes_4 7 rfl rfl)
theorem dX5_areTunes_101 : decode cX5_areTunes 101 = .ok (.ireturn, 1) := dk_172 (dk_at dksX5_areTunes_4 8 rfl rfl)
abbrev cX5_areRoutes : ByteArray := prog_15_method_110_code
def yX5_areRoutes : MethodName := ⟨RX5, "areRoutes", "()Z"⟩
def dkwX5_areRoutes_2 : List UInt8 := [159, 0, 5, 3, 172, 132, 2, 1, 167, 255, 226, 132, 1, 1, 167, 255, 197, 4, 172]
abbrev dktX5_areRoutes_2 : List UInt8 := dkwX5_areRoutes_2 ++ []
def dkwX5_areRoutes_1 : List UInt8 := [61, 28, 42, 180, 0, 9, 3, 46, 162, 0, 26, 42, 180, 0, 42, 28, 46, 42, 180, 0, 25, 28, 46]
abbrev dktX5_areRoutes_1 : List UInt8 := dkwX5_areRoutes_1 ++ dktX5_areRoutes_2
def dkwX5_areRoutes_0 : List UInt8 := [3, 60, 27, 42, 180, 0, 9, 3, 46, 162, 0, 55, 42, 27, 182, 1, 167, 42, 27, 2, 182, 0, 102, 3]
abbrev dktX5_areRoutes_0 : List UInt8 := dkwX5_areRoutes_0 ++ dktX5_areRoutes_1
theorem dksX5_areRoutes_0 : cX5_areRoutes.data.toList.drop 0 = dktX5_areRoutes_0 := by decide +kernel
theorem dksX5_areRoutes_1 : cX5_areRoutes.data.toList.drop 24 = dktX5_areRoutes_1 := dk_seg dksX5_areRoutes_0 24 rfl rfl
theorem dksX5_areRoutes_2 : cX5_areRoutes.data.toList.drop 47 = dktX5_areRoutes_2 := dk_seg dksX5_areRoutes_1 23 rfl rfl
theorem dX5_areRoutes_0 : decode cX5_areRoutes 0 = .ok (.iconst 0, 1) := dk_3 (dk_at dksX5_areRoutes_0 0 rfl rfl)
theorem dX5_areRoutes_1 : decode cX5_areRoutes 1 = .ok (.istore_n 1, 1) := dk_60 (dk_at dksX5_areRoutes_0 1 rfl rfl)
theorem dX5_areRoutes_2 : decode cX5_areRoutes 2 = .ok (.iload_n 1, 1) := dk_27 (dk_at dksX5_areRoutes_0 2 rfl rfl)
theorem dX5_areRoutes_3 : decode cX5_areRoutes 3 = .ok (.aload_n 0, 1) := dk_42 (dk_at dksX5_areRoutes_0 3 rfl rfl)
theorem dX5_areRoutes_4 : decode cX5_areRoutes 4 = .ok (.getfield 9, 3) := dk_180 0 9 (dk_at dksX5_areRoutes_0 4 rfl rfl)
theorem dX5_areRoutes_7 : decode cX5_areRoutes 7 = .ok (.iconst 0, 1) := dk_3 (dk_at dksX5_areRoutes_0 7 rfl rfl)
theorem dX5_areRoutes_8 : decode cX5_areRoutes 8 = .ok (.iaload, 1) := dk_46 (dk_at dksX5_areRoutes_0 8 rfl rfl)
theorem dX5_areRoutes_9 : decode cX5_areRoutes 9 = .ok (.if_icmp .ge 55, 3) := dk_162 0 55 (dk_at dksX5_areRoutes_0 9 rfl rfl)
theorem dX5_areRoutes_12 : decode cX5_areRoutes 12 = .ok (.aload_n 0, 1) := dk_42 (dk_at dksX5_areRoutes_0 12 rfl rfl)
theorem dX5_areRoutes_13 : decode cX5_areRoutes 13 = .ok (.iload_n 1, 1) := dk_27 (dk_at dksX5_areRoutes_0 13 rfl rfl)
theorem dX5_areRoutes_14 : decode cX5_areRoutes 14 = .ok (.invokevirtual 423, 3) := dk_182 1 167 (dk_at dksX5_areRoutes_0 14 rfl rfl)
theorem dX5_areRoutes_17 : decode cX5_areRoutes 17 = .ok (.aload_n 0, 1) := dk_42 (dk_at dksX5_areRoutes_0 17 rfl rfl)
theorem dX5_areRoutes_18 : decode cX5_areRoutes 18 = .ok (.iload_n 1, 1) := dk_27 (dk_at dksX5_areRoutes_0 18 rfl rfl)
theorem dX5_areRoutes_19 : decode cX5_areRoutes 19 = .ok (.iconst (-1), 1) := dk_2 (dk_at dksX5_areRoutes_0 19 rfl rfl)
theorem dX5_areRoutes_20 : decode cX5_areRoutes 20 = .ok (.invokevirtual 102, 3) := dk_182 0 102 (dk_at dksX5_areRoutes_0 20 rfl rfl)
theorem dX5_areRoutes_23 : decode cX5_areRoutes 23 = .ok (.iconst 0, 1) := dk_3 (dk_at dksX5_areRoutes_0 23 rfl rfl)
theorem dX5_areRoutes_24 : decode cX5_areRoutes 24 = .ok (.istore_n 2, 1) := dk_61 (dk_at dksX5_areRoutes_1 0 rfl rfl)
theorem dX5_areRoutes_25 : decode cX5_areRoutes 25 = .ok (.iload_n 2, 1) := dk_28 (dk_at dksX5_areRoutes_1 1 rfl rfl)
theorem dX5_areRoutes_26 : decode cX5_areRoutes 26 = .ok (.aload_n 0, 1) := dk_42 (dk_at dksX5_areRoutes_1 2 rfl rfl)
theorem dX5_areRoutes_27 : decode cX5_areRoutes 27 = .ok (.getfield 9, 3) := dk_180 0 9 (dk_at dksX5_areRoutes_1 3 rfl rfl)
theorem dX5_areRoutes_30 : decode cX5_areRoutes 30 = .ok (.iconst 0, 1) := dk_3 (dk_at dksX5_areRoutes_1 6 rfl rfl)
theorem dX5_areRoutes_31 : decode cX5_areRoutes 31 = .ok (.iaload, 1) := dk_46 (dk_at dksX5_areRoutes_1 7 rfl rfl)
theorem dX5_areRoutes_32 : decode cX5_areRoutes 32 = .ok (.if_icmp .ge 26, 3) := dk_162 0 26 (dk_at dksX5_areRoutes_1 8 rfl rfl)
theorem dX5_areRoutes_35 : decode cX5_areRoutes 35 = .ok (.aload_n 0, 1) := dk_42 (dk_at dksX5_areRoutes_1 11 rfl rfl)
theorem dX5_areRoutes_36 : decode cX5_areRoutes 36 = .ok (.getfield 42, 3) := dk_180 0 42 (dk_at dksX5_areRoutes_1 12 rfl rfl)
theorem dX5_areRoutes_39 : decode cX5_areRoutes 39 = .ok (.iload_n 2, 1) := dk_28 (dk_at dksX5_areRoutes_1 15 rfl rfl)
theorem dX5_areRoutes_40 : decode cX5_areRoutes 40 = .ok (.iaload, 1) := dk_46 (dk_at dksX5_areRoutes_1 16 rfl rfl)
theorem dX5_areRoutes_41 : decode cX5_areRoutes 41 = .ok (.aload_n 0, 1) := dk_42 (dk_at dksX5_areRoutes_1 17 rfl rfl)
theorem dX5_areRoutes_42 : decode cX5_areRoutes 42 = .ok (.getfield 25, 3) := dk_180 0 25 (dk_at dksX5_areRoutes_1 18 rfl rfl)
theorem dX5_areRoutes_45 : decode cX5_areRoutes 45 = .ok (.iload_n 2, 1) := dk_28 (dk_at dksX5_areRoutes_1 21 rfl rfl)
theorem dX5_areRoutes_46 : decode cX5_areRoutes 46 = .ok (.iaload, 1) := dk_46 (dk_at dksX5_areRoutes_1 22 rfl rfl)
theorem dX5_areRoutes_47 : decode cX5_areRoutes 47 = .ok (.if_icmp .eq 5, 3) := dk_159 0 5 (dk_at dksX5_areRoutes_2 0 rfl rfl)
theorem dX5_areRoutes_50 : decode cX5_areRoutes 50 = .ok (.iconst 0, 1) := dk_3 (dk_at dksX5_areRoutes_2 3 rfl rfl)
theorem dX5_areRoutes_51 : decode cX5_areRoutes 51 = .ok (.ireturn, 1) := dk_172 (dk_at dksX5_areRoutes_2 4 rfl rfl)
theorem dX5_areRoutes_52 : decode cX5_areRoutes 52 = .ok (.iinc 2 1, 3) := dk_132 2 1 (dk_at dksX5_areRoutes_2 5 rfl rfl)
theorem dX5_areRoutes_55 : decode cX5_areRoutes 55 = .ok (.goto (-30), 3) := dk_167 255 226 (dk_at dksX5_areRoutes_2 8 rfl rfl)
theorem dX5_areRoutes_58 : decode cX5_areRoutes 58 = .ok (.iinc 1 1, 3) := dk_132 1 1 (dk_at dksX5_areRoutes_2 11 rfl rfl)
theorem dX5_areRoutes_61 : decode cX5_areRoutes 61 = .ok (.goto (-59), 3) := dk_167 255 197 (dk_at dksX5_areRoutes_2 14 rfl rfl)
theorem dX5_areRoutes_64 : decode cX5_areRoutes 64 = .ok (.iconst 1, 1) := dk_4 (dk_at dksX5_areRoutes_2 17 rfl rfl)
theorem dX5_areRoutes_65 : decode cX5_areRoutes 65 = .ok (.ireturn, 1) := dk_172 (dk_at dksX5_areRoutes_2 18 rfl rfl)
abbrev cX5_goesOut : ByteArray := prog_15_method_109_code
def yX5_goesOut : MethodName := ⟨RX5, "goesOut", "(I)V"⟩
def dkwX5_goesOut_6 : List UInt8 := [167, 255, 168, 42, 182, 1, 164, 61, 167, 255, 146, 177]
abbrev dktX5_goesOut_6 : List UInt8 := dkwX5_goesOut_6 ++ []
def dkwX5_goesOut_5 : List UInt8 := [160, 0, 8, 21, 5, 167, 0, 15, 42, 180, 0, 42, 21, 4, 46, 21, 5, 184, 0, 134, 79, 132, 3, 1]
abbrev dktX5_goesOut_5 : List UInt8 := dkwX5_goesOut_5 ++ dktX5_goesOut_6
def dkwX5_goesOut_4 : List UInt8 := [29, 184, 0, 88, 5, 96, 46, 96, 54, 5, 42, 180, 0, 42, 21, 4, 42, 180, 0, 42, 21, 4, 46, 2]
abbrev dktX5_goesOut_4 : List UInt8 := dkwX5_goesOut_4 ++ dktX5_goesOut_5
def dkwX5_goesOut_3 : List UInt8 := [154, 0, 6, 167, 0, 66, 42, 29, 28, 182, 0, 95, 54, 4, 42, 180, 0, 42, 28, 46, 42, 180, 0, 9]
abbrev dktX5_goesOut_3 : List UInt8 := dkwX5_goesOut_3 ++ dktX5_goesOut_4
def dkwX5_goesOut_2 : List UInt8 := [180, 0, 45, 28, 4, 84, 3, 62, 29, 42, 180, 0, 9, 4, 46, 162, 0, 84, 42, 29, 28, 182, 0, 91]
abbrev dktX5_goesOut_2 : List UInt8 := dkwX5_goesOut_2 ++ dktX5_goesOut_3
def dkwX5_goesOut_1 : List UInt8 := [42, 180, 0, 45, 28, 3, 84, 132, 2, 1, 167, 255, 224, 42, 182, 1, 164, 61, 28, 2, 159, 0, 111, 42]
abbrev dktX5_goesOut_1 : List UInt8 := dkwX5_goesOut_1 ++ dktX5_goesOut_2
def dkwX5_goesOut_0 : List UInt8 := [3, 61, 28, 16, 10, 162, 0, 32, 42, 180, 0, 42, 28, 28, 27, 160, 0, 7, 3, 167, 0, 4, 2, 79]
abbrev dktX5_goesOut_0 : List UInt8 := dkwX5_goesOut_0 ++ dktX5_goesOut_1
theorem dksX5_goesOut_0 : cX5_goesOut.data.toList.drop 0 = dktX5_goesOut_0 := by decide +kernel
theorem dksX5_goesOut_1 : cX5_goesOut.data.toList.drop 24 = dktX5_goesOut_1 := dk_seg dksX5_goesOut_0 24 rfl rfl
theorem dksX5_goesOut_2 : cX5_goesOut.data.toList.drop 48 = dktX5_goesOut_2 := dk_seg dksX5_goesOut_1 24 rfl rfl
theorem dksX5_goesOut_3 : cX5_goesOut.data.toList.drop 72 = dktX5_goesOut_3 := dk_seg dksX5_goesOut_2 24 rfl rfl
theorem dksX5_goesOut_4 : cX5_goesOut.data.toList.drop 96 = dktX5_goesOut_4 := dk_seg dksX5_goesOut_3 24 rfl rfl
theorem dksX5_goesOut_5 : cX5_goesOut.data.toList.drop 120 = dktX5_goesOut_5 := dk_seg dksX5_goesOut_4 24 rfl rfl
theorem dksX5_goesOut_6 : cX5_goesOut.data.toList.drop 144 = dktX5_goesOut_6 := dk_seg dksX5_goesOut_5 24 rfl rfl
theorem dX5_goesOut_0 : decode cX5_goesOut 0 = .ok (.iconst 0, 1) := dk_3 (dk_at dksX5_goesOut_0 0 rfl rfl)
theorem dX5_goesOut_1 : decode cX5_goesOut 1 = .ok (.istore_n 2, 1) := dk_61 (dk_at dksX5_goesOut_0 1 rfl rfl)
theorem dX5_goesOut_2 : decode cX5_goesOut 2 = .ok (.iload_n 2, 1) := dk_28 (dk_at dksX5_goesOut_0 2 rfl rfl)
theorem dX5_goesOut_3 : decode cX5_goesOut 3 = .ok (.bipush 10, 2) := dk_16 10 (dk_at dksX5_goesOut_0 3 rfl rfl)
theorem dX5_goesOut_5 : decode cX5_goesOut 5 = .ok (.if_icmp .ge 32, 3) := dk_162 0 32 (dk_at dksX5_goesOut_0 5 rfl rfl)
theorem dX5_goesOut_8 : decode cX5_goesOut 8 = .ok (.aload_n 0, 1) := dk_42 (dk_at dksX5_goesOut_0 8 rfl rfl)
theorem dX5_goesOut_9 : decode cX5_goesOut 9 = .ok (.getfield 42, 3) := dk_180 0 42 (dk_at dksX5_goesOut_0 9 rfl rfl)
theorem dX5_goesOut_12 : decode cX5_goesOut 12 = .ok (.iload_n 2, 1) := dk_28 (dk_at dksX5_goesOut_0 12 rfl rfl)
theorem dX5_goesOut_13 : decode cX5_goesOut 13 = .ok (.iload_n 2, 1) := dk_28 (dk_at dksX5_goesOut_0 13 rfl rfl)
theorem dX5_goesOut_14 : decode cX5_goesOut 14 = .ok (.iload_n 1, 1) := dk_27 (dk_at dksX5_goesOut_0 14 rfl rfl)
theorem dX5_goesOut_15 : decode cX5_goesOut 15 = .ok (.if_icmp .ne 7, 3) := dk_160 0 7 (dk_at dksX5_goesOut_0 15 rfl rfl)
theorem dX5_goesOut_18 : decode cX5_goesOut 18 = .ok (.iconst 0, 1) := dk_3 (dk_at dksX5_goesOut_0 18 rfl rfl)
theorem dX5_goesOut_19 : decode cX5_goesOut 19 = .ok (.goto 4, 3) := dk_167 0 4 (dk_at dksX5_goesOut_0 19 rfl rfl)
theorem dX5_goesOut_22 : decode cX5_goesOut 22 = .ok (.iconst (-1), 1) := dk_2 (dk_at dksX5_goesOut_0 22 rfl rfl)
theorem dX5_goesOut_23 : decode cX5_goesOut 23 = .ok (.iastore, 1) := dk_79 (dk_at dksX5_goesOut_0 23 rfl rfl)
theorem dX5_goesOut_24 : decode cX5_goesOut 24 = .ok (.aload_n 0, 1) := dk_42 (dk_at dksX5_goesOut_1 0 rfl rfl)
theorem dX5_goesOut_25 : decode cX5_goesOut 25 = .ok (.getfield 45, 3) := dk_180 0 45 (dk_at dksX5_goesOut_1 1 rfl rfl)
theorem dX5_goesOut_28 : decode cX5_goesOut 28 = .ok (.iload_n 2, 1) := dk_28 (dk_at dksX5_goesOut_1 4 rfl rfl)
theorem dX5_goesOut_29 : decode cX5_goesOut 29 = .ok (.iconst 0, 1) := dk_3 (dk_at dksX5_goesOut_1 5 rfl rfl)
theorem dX5_goesOut_30 : decode cX5_goesOut 30 = .ok (.bastore, 1) := dk_84 (dk_at dksX5_goesOut_1 6 rfl rfl)
theorem dX5_goesOut_31 : decode cX5_goesOut 31 = .ok (.iinc 2 1, 3) := dk_132 2 1 (dk_at dksX5_goesOut_1 7 rfl rfl)
theorem dX5_goesOut_34 : decode cX5_goesOut 34 = .ok (.goto (-32), 3) := dk_167 255 224 (dk_at dksX5_goesOut_1 10 rfl rfl)
theorem dX5_goesOut_37 : decode cX5_goesOut 37 = .ok (.aload_n 0, 1) := dk_42 (dk_at dksX5_goesOut_1 13 rfl rfl)
theorem dX5_goesOut_38 : decode cX5_goesOut 38 = .ok (.invokevirtual 420, 3) := dk_182 1 164 (dk_at dksX5_goesOut_1 14 rfl rfl)
theorem dX5_goesOut_41 : decode cX5_goesOut 41 = .ok (.istore_n 2, 1) := dk_61 (dk_at dksX5_goesOut_1 17 rfl rfl)
theorem dX5_goesOut_42 : decode cX5_goesOut 42 = .ok (.iload_n 2, 1) := dk_28 (dk_at dksX5_goesOut_1 18 rfl rfl)
theorem dX5_goesOut_43 : decode cX5_goesOut 43 = .ok (.iconst (-1), 1) := dk_2 (dk_at dksX5_goesOut_1 19 rfl rfl)
theorem dX5_goesOut_44 : decode cX5_goesOut 44 = .ok (.if_icmp .eq 111, 3) := dk_159 0 111 (dk_at dksX5_goesOut_1 20 rfl rfl)
theorem dX5_goesOut_47 : decode cX5_goesOut 47 = .ok (.aload_n 0, 1) := dk_42 (dk_at dksX5_goesOut_1 23 rfl rfl)
theorem dX5_goesOut_48 : decode cX5_goesOut 48 = .ok (.getfield 45, 3) := dk_180 0 45 (dk_at dksX5_goesOut_2 0 rfl rfl)
theorem dX5_goesOut_51 : decode cX5_goesOut 51 = .ok (.iload_n 2, 1) := dk_28 (dk_at dksX5_goesOut_2 3 rfl rfl)
theorem dX5_goesOut_52 : decode cX5_goesOut 52 = .ok (.iconst 1, 1) := dk_4 (dk_at dksX5_goesOut_2 4 rfl rfl)
theorem dX5_goesOut_53 : decode cX5_goesOut 53 = .ok (.bastore, 1) := dk_84 (dk_at dksX5_goesOut_2 5 rfl rfl)
theorem dX5_goesOut_54 : decode cX5_goesOut 54 = .ok (.iconst 0, 1) := dk_3 (dk_at dksX5_goesOut_2 6 rfl rfl)
theorem dX5_goesOut_55 : decode cX5_goesOut 55 = .ok (.istore_n 3, 1) := dk_62 (dk_at dksX5_goesOut_2 7 rfl rfl)
theorem dX5_goesOut_56 : decode cX5_goesOut 56 = .ok (.iload_n 3, 1) := dk_29 (dk_at dksX5_goesOut_2 8 rfl rfl)
theorem dX5_goesOut_57 : decode cX5_goesOut 57 = .ok (.aload_n 0, 1) := dk_42 (dk_at dksX5_goesOut_2 9 rfl rfl)
theorem dX5_goesOut_58 : decode cX5_goesOut 58 = .ok (.getfield 9, 3) := dk_180 0 9 (dk_at dksX5_goesOut_2 10 rfl rfl)
theorem dX5_goesOut_61 : decode cX5_goesOut 61 = .ok (.iconst 1, 1) := dk_4 (dk_at dksX5_goesOut_2 13 rfl rfl)
theorem dX5_goesOut_62 : decode cX5_goesOut 62 = .ok (.iaload, 1) := dk_46 (dk_at dksX5_goesOut_2 14 rfl rfl)
theorem dX5_goesOut_63 : decode cX5_goesOut 63 = .ok (.if_icmp .ge 84, 3) := dk_162 0 84 (dk_at dksX5_goesOut_2 15 rfl rfl)
theorem dX5_goesOut_66 : decode cX5_goesOut 66 = .ok (.aload_n 0, 1) := dk_42 (dk_at dksX5_goesOut_2 18 rfl rfl)
theorem dX5_goesOut_67 : decode cX5_goesOut 67 = .ok (.iload_n 3, 1) := dk_29 (dk_at dksX5_goesOut_2 19 rfl rfl)
theorem dX5_goesOut_68 : decode cX5_goesOut 68 = .ok (.iload_n 2, 1) := dk_28 (dk_at dksX5_goesOut_2 20 rfl rfl)
theorem dX5_goesOut_69 : decode cX5_goesOut 69 = .ok (.invokevirtual 91, 3) := dk_182 0 91 (dk_at dksX5_goesOut_2 21 rfl rfl)
theorem dX5_goesOut_72 : decode cX5_goesOut 72 = .ok (.ifCond .ne 6, 3) := dk_154 0 6 (dk_at dksX5_goesOut_3 0 rfl rfl)
theorem dX5_goesOut_75 : decode cX5_goesOut 75 = .ok (.goto 66, 3) := dk_167 0 66 (dk_at dksX5_goesOut_3 3 rfl rfl)
theorem dX5_goesOut_78 : decode cX5_goesOut 78 = .ok (.aload_n 0, 1) := dk_42 (dk_at dksX5_goesOut_3 6 rfl rfl)
theorem dX5_goesOut_79 : decode cX5_goesOut 79 = .ok (.iload_n 3, 1) := dk_29 (dk_at dksX5_goesOut_3 7 rfl rfl)
theorem dX5_goesOut_80 : decode cX5_goesOut 80 = .ok (.iload_n 2, 1) := dk_28 (dk_at dksX5_goesOut_3 8 rfl rfl)
theorem dX5_goesOut_81 : decode cX5_goesOut 81 = .ok (.invokevirtual 95, 3) := dk_182 0 95 (dk_at dksX5_goesOut_3 9 rfl rfl)
theorem dX5_goesOut_84 : decode cX5_goesOut 84 = .ok (.istore 4, 2) := dk_54 4 (dk_at dksX5_goesOut_3 12 rfl rfl)
theorem dX5_goesOut_86 : decode cX5_goesOut 86 = .ok (.aload_n 0, 1) := dk_42 (dk_at dksX5_goesOut_3 14 rfl rfl)
theorem dX5_goesOut_87 : decode cX5_goesOut 87 = .ok (.getfield 42, 3) := dk_180 0 42 (dk_at dksX5_goesOut_3 15 rfl rfl)
theorem dX5_goesOut_90 : decode cX5_goesOut 90 = .ok (.iload_n 2, 1) := dk_28 (dk_at dksX5_goesOut_3 18 rfl rfl)
theorem dX5_goesOut_91 : decode cX5_goesOut 91 = .ok (.iaload, 1) := dk_46 (dk_at dksX5_goesOut_3 19 rfl rfl)
theorem dX5_goesOut_92 : decode cX5_goesOut 92 = .ok (.aload_n 0, 1) := dk_42 (dk_at dksX5_goesOut_3 20 rfl rfl)
theorem dX5_goesOut_93 : decode cX5_goesOut 93 = .ok (.getfield 9, 3) := dk_180 0 9 (dk_at dksX5_goesOut_3 21 rfl rfl)
theorem dX5_goesOut_96 : decode cX5_goesOut 96 = .ok (.iload_n 3, 1) := dk_29 (dk_at dksX5_goesOut_4 0 rfl rfl)
theorem dX5_goesOut_97 : decode cX5_goesOut 97 = .ok (.invokestatic 88, 3) := dk_184 0 88 (dk_at dksX5_goesOut_4 1 rfl rfl)
theorem dX5_goesOut_100 : decode cX5_goesOut 100 = .ok (.iconst 2, 1) := dk_5 (dk_at dksX5_goesOut_4 4 rfl rfl)
theorem dX5_goesOut_101 : decode cX5_goesOut 101 = .ok (.iadd, 1) := dk_96 (dk_at dksX5_goesOut_4 5 rfl rfl)
theorem dX5_goesOut_102 : decode cX5_goesOut 102 = .ok (.iaload, 1) := dk_46 (dk_at dksX5_goesOut_4 6 rfl rfl)
theorem dX5_goesOut_103 : decode cX5_goesOut 103 = .ok (.iadd, 1) := dk_96 (dk_at dksX5_goesOut_4 7 rfl rfl)
theorem dX5_goesOut_104 : decode cX5_goesOut 104 = .ok (.istore 5, 2) := dk_54 5 (dk_at dksX5_goesOut_4 8 rfl rfl)
theorem dX5_goesOut_106 : decode cX5_goesOut 106 = .ok (.aload_n 0, 1) := dk_42 (dk_at dksX5_goesOut_4 10 rfl rfl)
theorem dX5_goesOut_107 : decode cX5_goesOut 107 = .ok (.getfield 42, 3) := dk_180 0 42 (dk_at dksX5_goesOut_4 11 rfl rfl)
theorem dX5_goesOut_110 : decode cX5_goesOut 110 = .ok (.iload 4, 2) := dk_21 4 (dk_at dksX5_goesOut_4 14 rfl rfl)
theorem dX5_goesOut_112 : decode cX5_goesOut 112 = .ok (.aload_n 0, 1) := dk_42 (dk_at dksX5_goesOut_4 16 rfl rfl)
theorem dX5_goesOut_113 : decode cX5_goesOut 113 = .ok (.getfield 42, 3) := dk_180 0 42 (dk_at dksX5_goesOut_4 17 rfl rfl)
theorem dX5_goesOut_116 : decode cX5_goesOut 116 = .ok (.iload 4, 2) := dk_21 4 (dk_at dksX5_goesOut_4 20 rfl rfl)
theorem dX5_goesOut_118 : decode cX5_goesOut 118 = .ok (.iaload, 1) := dk_46 (dk_at dksX5_goesOut_4 22 rfl rfl)
theorem dX5_goesOut_119 : decode cX5_goesOut 119 = .ok (.iconst (-1), 1) := dk_2 (dk_at dksX5_goesOut_4 23 rfl rfl)
theorem dX5_goesOut_120 : decode cX5_goesOut 120 = .ok (.if_icmp .ne 8, 3) := dk_160 0 8 (dk_at dksX5_goesOut_5 0 rfl rfl)
theorem dX5_goesOut_123 : decode cX5_goesOut 123 = .ok (.iload 5, 2) := dk_21 5 (dk_at dksX5_goesOut_5 3 rfl rfl)
theorem dX5_goesOut_125 : decode cX5_goesOut 125 = .ok (.goto 15, 3) := dk_167 0 15 (dk_at dksX5_goesOut_5 5 rfl rfl)
theorem dX5_goesOut_128 : decode cX5_goesOut 128 = .ok (.aload_n 0, 1) := dk_42 (dk_at dksX5_goesOut_5 8 rfl rfl)
theorem dX5_goesOut_129 : decode cX5_goesOut 129 = .ok (.getfield 42, 3) := dk_180 0 42 (dk_at dksX5_goesOut_5 9 rfl rfl)
theorem dX5_goesOut_132 : decode cX5_goesOut 132 = .ok (.iload 4, 2) := dk_21 4 (dk_at dksX5_goesOut_5 12 rfl rfl)
theorem dX5_goesOut_134 : decode cX5_goesOut 134 = .ok (.iaload, 1) := dk_46 (dk_at dksX5_goesOut_5 14 rfl rfl)
theorem dX5_goesOut_135 : decode cX5_goesOut 135 = .ok (.iload 5, 2) := dk_21 5 (dk_at dksX5_goesOut_5 15 rfl rfl)
theorem dX5_goesOut_137 : decode cX5_goesOut 137 = .ok (.invokestatic 134, 3) := dk_184 0 134 (dk_at dksX5_goesOut_5 17 rfl rfl)
theorem dX5_goesOut_140 : decode cX5_goesOut 140 = .ok (.iastore, 1) := dk_79 (dk_at dksX5_goesOut_5 20 rfl rfl)
theorem dX5_goesOut_141 : decode cX5_goesOut 141 = .ok (.iinc 3 1, 3) := dk_132 3 1 (dk_at dksX5_goesOut_5 21 rfl rfl)
theorem dX5_goesOut_144 : decode cX5_goesOut 144 = .ok (.goto (-88), 3) := dk_167 255 168 (dk_at dksX5_goesOut_6 0 rfl rfl)
theorem dX5_goesOut_147 : decode cX5_goesOut 147 = .ok (.aload_n 0, 1) := dk_42 (dk_at dksX5_goesOut_6 3 rfl rfl)
theorem dX5_goesOut_148 : decode cX5_goesOut 148 = .ok (.invokevirtual 420, 3) := dk_182 1 164 (dk_at dksX5_goesOut_6 4 rfl rfl)
theorem dX5_goesOut_151 : decode cX5_goesOut 151 = .ok (.istore_n 2, 1) := dk_61 (dk_at dksX5_goesOut_6 7 rfl rfl)
theorem dX5_goesOut_152 : decode cX5_goesOut 152 = .ok (.goto (-110), 3) := dk_167 255 146 (dk_at dksX5_goesOut_6 8 rfl rfl)
theorem dX5_goesOut_155 : decode cX5_goesOut 155 = .ok (.return_, 1) := dk_177 (dk_at dksX5_goesOut_6 11 rfl rfl)
abbrev cX5_nearestOpen : ByteArray := prog_15_method_108_code
def yX5_nearestOpen : MethodName := ⟨RX5, "nearestOpen", "()I"⟩
def dkwX5_nearestOpen_2 : List UInt8 := [27, 46, 162, 0, 5, 28, 60, 132, 2, 1, 167, 255, 202, 27, 172]
abbrev dktX5_nearestOpen_2 : List UInt8 := dkwX5_nearestOpen_2 ++ []
def dkwX5_nearestOpen_1 : List UInt8 := [180, 0, 42, 28, 46, 2, 159, 0, 25, 27, 2, 159, 0, 18, 42, 180, 0, 42, 28, 46, 42, 180, 0, 42]
abbrev dktX5_nearestOpen_1 : List UInt8 := dkwX5_nearestOpen_1 ++ dktX5_nearestOpen_2
def dkwX5_nearestOpen_0 : List UInt8 := [2, 60, 3, 61, 28, 42, 180, 0, 9, 3, 46, 162, 0, 50, 42, 180, 0, 45, 28, 51, 154, 0, 35, 42]
abbrev dktX5_nearestOpen_0 : List UInt8 := dkwX5_nearestOpen_0 ++ dktX5_nearestOpen_1
theorem dksX5_nearestOpen_0 : cX5_nearestOpen.data.toList.drop 0 = dktX5_nearestOpen_0 := by decide +kernel
theorem dksX5_nearestOpen_1 : cX5_nearestOpen.data.toList.drop 24 = dktX5_nearestOpen_1 := dk_seg dksX5_nearestOpen_0 24 rfl rfl
theorem dksX5_nearestOpen_2 : cX5_nearestOpen.data.toList.drop 48 = dktX5_nearestOpen_2 := dk_seg dksX5_nearestOpen_1 24 rfl rfl
theorem dX5_nearestOpen_0 : decode cX5_nearestOpen 0 = .ok (.iconst (-1), 1) := dk_2 (dk_at dksX5_nearestOpen_0 0 rfl rfl)
theorem dX5_nearestOpen_1 : decode cX5_nearestOpen 1 = .ok (.istore_n 1, 1) := dk_60 (dk_at dksX5_nearestOpen_0 1 rfl rfl)
theorem dX5_nearestOpen_2 : decode cX5_nearestOpen 2 = .ok (.iconst 0, 1) := dk_3 (dk_at dksX5_nearestOpen_0 2 rfl rfl)
theorem dX5_nearestOpen_3 : decode cX5_nearestOpen 3 = .ok (.istore_n 2, 1) := dk_61 (dk_at dksX5_nearestOpen_0 3 rfl rfl)
theorem dX5_nearestOpen_4 : decode cX5_nearestOpen 4 = .ok (.iload_n 2, 1) := dk_28 (dk_at dksX5_nearestOpen_0 4 rfl rfl)
theorem dX5_nearestOpen_5 : decode cX5_nearestOpen 5 = .ok (.aload_n 0, 1) := dk_42 (dk_at dksX5_nearestOpen_0 5 rfl rfl)
theorem dX5_nearestOpen_6 : decode cX5_nearestOpen 6 = .ok (.getfield 9, 3) := dk_180 0 9 (dk_at dksX5_nearestOpen_0 6 rfl rfl)
theorem dX5_nearestOpen_9 : decode cX5_nearestOpen 9 = .ok (.iconst 0, 1) := dk_3 (dk_at dksX5_nearestOpen_0 9 rfl rfl)
theorem dX5_nearestOpen_10 : decode cX5_nearestOpen 10 = .ok (.iaload, 1) := dk_46 (dk_at dksX5_nearestOpen_0 10 rfl rfl)
theorem dX5_nearestOpen_11 : decode cX5_nearestOpen 11 = .ok (.if_icmp .ge 50, 3) := dk_162 0 50 (dk_at dksX5_nearestOpen_0 11 rfl rfl)
theorem dX5_nearestOpen_14 : decode cX5_nearestOpen 14 = .ok (.aload_n 0, 1) := dk_42 (dk_at dksX5_nearestOpen_0 14 rfl rfl)
theorem dX5_nearestOpen_15 : decode cX5_nearestOpen 15 = .ok (.getfield 45, 3) := dk_180 0 45 (dk_at dksX5_nearestOpen_0 15 rfl rfl)
theorem dX5_nearestOpen_18 : decode cX5_nearestOpen 18 = .ok (.iload_n 2, 1) := dk_28 (dk_at dksX5_nearestOpen_0 18 rfl rfl)
theorem dX5_nearestOpen_19 : decode cX5_nearestOpen 19 = .ok (.baload, 1) := dk_51 (dk_at dksX5_nearestOpen_0 19 rfl rfl)
theorem dX5_nearestOpen_20 : decode cX5_nearestOpen 20 = .ok (.ifCond .ne 35, 3) := dk_154 0 35 (dk_at dksX5_nearestOpen_0 20 rfl rfl)
theorem dX5_nearestOpen_23 : decode cX5_nearestOpen 23 = .ok (.aload_n 0, 1) := dk_42 (dk_at dksX5_nearestOpen_0 23 rfl rfl)
theorem dX5_nearestOpen_24 : decode cX5_nearestOpen 24 = .ok (.getfield 42, 3) := dk_180 0 42 (dk_at dksX5_nearestOpen_1 0 rfl rfl)
theorem dX5_nearestOpen_27 : decode cX5_nearestOpen 27 = .ok (.iload_n 2, 1) := dk_28 (dk_at dksX5_nearestOpen_1 3 rfl rfl)
theorem dX5_nearestOpen_28 : decode cX5_nearestOpen 28 = .ok (.iaload, 1) := dk_46 (dk_at dksX5_nearestOpen_1 4 rfl rfl)
theorem dX5_nearestOpen_29 : decode cX5_nearestOpen 29 = .ok (.iconst (-1), 1) := dk_2 (dk_at dksX5_nearestOpen_1 5 rfl rfl)
theorem dX5_nearestOpen_30 : decode cX5_nearestOpen 30 = .ok (.if_icmp .eq 25, 3) := dk_159 0 25 (dk_at dksX5_nearestOpen_1 6 rfl rfl)
theorem dX5_nearestOpen_33 : decode cX5_nearestOpen 33 = .ok (.iload_n 1, 1) := dk_27 (dk_at dksX5_nearestOpen_1 9 rfl rfl)
theorem dX5_nearestOpen_34 : decode cX5_nearestOpen 34 = .ok (.iconst (-1), 1) := dk_2 (dk_at dksX5_nearestOpen_1 10 rfl rfl)
theorem dX5_nearestOpen_35 : decode cX5_nearestOpen 35 = .ok (.if_icmp .eq 18, 3) := dk_159 0 18 (dk_at dksX5_nearestOpen_1 11 rfl rfl)
theorem dX5_nearestOpen_38 : decode cX5_nearestOpen 38 = .ok (.aload_n 0, 1) := dk_42 (dk_at dksX5_nearestOpen_1 14 rfl rfl)
theorem dX5_nearestOpen_39 : decode cX5_nearestOpen 39 = .ok (.getfield 42, 3) := dk_180 0 42 (dk_at dksX5_nearestOpen_1 15 rfl rfl)
theorem dX5_nearestOpen_42 : decode cX5_nearestOpen 42 = .ok (.iload_n 2, 1) := dk_28 (dk_at dksX5_nearestOpen_1 18 rfl rfl)
theorem dX5_nearestOpen_43 : decode cX5_nearestOpen 43 = .ok (.iaload, 1) := dk_46 (dk_at dksX5_nearestOpen_1 19 rfl rfl)
theorem dX5_nearestOpen_44 : decode cX5_nearestOpen 44 = .ok (.aload_n 0, 1) := dk_42 (dk_at dksX5_nearestOpen_1 20 rfl rfl)
theorem dX5_nearestOpen_45 : decode cX5_nearestOpen 45 = .ok (.getfield 42, 3) := dk_180 0 42 (dk_at dksX5_nearestOpen_1 21 rfl rfl)
theorem dX5_nearestOpen_48 : decode cX5_nearestOpen 48 = .ok (.iload_n 1, 1) := dk_27 (dk_at dksX5_nearestOpen_2 0 rfl rfl)
theorem dX5_nearestOpen_49 : decode cX5_nearestOpen 49 = .ok (.iaload, 1) := dk_46 (dk_at dksX5_nearestOpen_2 1 rfl rfl)
theorem dX5_nearestOpen_50 : decode cX5_nearestOpen 50 = .ok (.if_icmp .ge 5, 3) := dk_162 0 5 (dk_at dksX5_nearestOpen_2 2 rfl rfl)
theorem dX5_nearestOpen_53 : decode cX5_nearestOpen 53 = .ok (.iload_n 2, 1) := dk_28 (dk_at dksX5_nearestOpen_2 5 rfl rfl)
theorem dX5_nearestOpen_54 : decode cX5_nearestOpen 54 = .ok (.istore_n 1, 1) := dk_60 (dk_at dksX5_nearestOpen_2 6 rfl rfl)
theorem dX5_nearestOpen_55 : decode cX5_nearestOpen 55 = .ok (.iinc 2 1, 3) := dk_132 2 1 (dk_at dksX5_nearestOpen_2 7 rfl rfl)
theorem dX5_nearestOpen_58 : decode cX5_nearestOpen 58 = .ok (.goto (-54), 3) := dk_167 255 202 (dk_at dksX5_nearestOpen_2 10 rfl rfl)
theorem dX5_nearestOpen_61 : decode cX5_nearestOpen 61 = .ok (.iload_n 1, 1) := dk_27 (dk_at dksX5_nearestOpen_2 13 rfl rfl)
theorem dX5_nearestOpen_62 : decode cX5_nearestOpen 62 = .ok (.ireturn, 1) := dk_172 (dk_at dksX5_nearestOpen_2 14 rfl rfl)
abbrev cX5_meanPurse : ByteArray := prog_15_method_113_code
def yX5_meanPurse : MethodName := ⟨RX5, "meanPurse", "()D"⟩
def dkwX5_meanPurse_0 : List UInt8 := [42, 3, 181, 0, 78, 42, 182, 1, 119, 135, 42, 180, 0, 9, 3, 46, 135, 111, 175]
abbrev dktX5_meanPurse_0 : List UInt8 := dkwX5_meanPurse_0 ++ []
theorem dksX5_meanPurse_0 : cX5_meanPurse.data.toList.drop 0 = dktX5_meanPurse_0 := by decide +kernel
theorem dX5_meanPurse_0 : decode cX5_meanPurse 0 = .ok (.aload_n 0, 1) := dk_42 (dk_at dksX5_meanPurse_0 0 rfl rfl)
theorem dX5_meanPurse_1 : decode cX5_meanPurse 1 = .ok (.iconst 0, 1) := dk_3 (dk_at dksX5_meanPurse_0 1 rfl rfl)
theorem dX5_meanPurse_2 : decode cX5_meanPurse 2 = .ok (.putfield 78, 3) := dk_181 0 78 (dk_at dksX5_meanPurse_0 2 rfl rfl)
theorem dX5_meanPurse_5 : decode cX5_meanPurse 5 = .ok (.aload_n 0, 1) := dk_42 (dk_at dksX5_meanPurse_0 5 rfl rfl)
theorem dX5_meanPurse_6 : decode cX5_meanPurse 6 = .ok (.invokevirtual 375, 3) := dk_182 1 119 (dk_at dksX5_meanPurse_0 6 rfl rfl)
theorem dX5_meanPurse_9 : decode cX5_meanPurse 9 = .ok (.i2d, 1) := dk_135 (dk_at dksX5_meanPurse_0 9 rfl rfl)
theorem dX5_meanPurse_10 : decode cX5_meanPurse 10 = .ok (.aload_n 0, 1) := dk_42 (dk_at dksX5_meanPurse_0 10 rfl rfl)
theorem dX5_meanPurse_11 : decode cX5_meanPurse 11 = .ok (.getfield 9, 3) := dk_180 0 9 (dk_at dksX5_meanPurse_0 11 rfl rfl)
theorem dX5_meanPurse_14 : decode cX5_meanPurse 14 = .ok (.iconst 0, 1) := dk_3 (dk_at dksX5_meanPurse_0 14 rfl rfl)
theorem dX5_meanPurse_15 : decode cX5_meanPurse 15 = .ok (.iaload, 1) := dk_46 (dk_at dksX5_meanPurse_0 15 rfl rfl)
theorem dX5_meanPurse_16 : decode cX5_meanPurse 16 = .ok (.i2d, 1) := dk_135 (dk_at dksX5_meanPurse_0 16 rfl rfl)
theorem dX5_meanPurse_17 : decode cX5_meanPurse 17 = .ok (.ddiv, 1) := dk_111 (dk_at dksX5_meanPurse_0 17 rfl rfl)
theorem dX5_meanPurse_18 : decode cX5_meanPurse 18 = .ok (.dreturn, 1) := dk_175 (dk_at dksX5_meanPurse_0 18 rfl rfl)
abbrev cX5_rightPart : ByteArray := prog_15_method_114_code
def yX5_rightPart : MethodName := ⟨RX5, "rightPart", "()F"⟩
def dkwX5_rightPart_1 : List UInt8 := [180, 0, 9, 16, 16, 46, 134, 27, 134, 110, 174]
abbrev dktX5_rightPart_1 : List UInt8 := dkwX5_rightPart_1 ++ []
def dkwX5_rightPart_0 : List UInt8 := [42, 3, 181, 0, 78, 42, 180, 0, 9, 16, 15, 46, 60, 27, 154, 0, 7, 11, 167, 0, 14, 42]
abbrev dktX5_rightPart_0 : List UInt8 := dkwX5_rightPart_0 ++ dktX5_rightPart_1
theorem dksX5_rightPart_0 : cX5_rightPart.data.toList.drop 0 = dktX5_rightPart_0 := by decide +kernel
theorem dksX5_rightPart_1 : cX5_rightPart.data.toList.drop 22 = dktX5_rightPart_1 := dk_seg dksX5_rightPart_0 22 rfl rfl
theorem dX5_rightPart_0 : decode cX5_rightPart 0 = .ok (.aload_n 0, 1) := dk_42 (dk_at dksX5_rightPart_0 0 rfl rfl)
theorem dX5_rightPart_1 : decode cX5_rightPart 1 = .ok (.iconst 0, 1) := dk_3 (dk_at dksX5_rightPart_0 1 rfl rfl)
theorem dX5_rightPart_2 : decode cX5_rightPart 2 = .ok (.putfield 78, 3) := dk_181 0 78 (dk_at dksX5_rightPart_0 2 rfl rfl)
theorem dX5_rightPart_5 : decode cX5_rightPart 5 = .ok (.aload_n 0, 1) := dk_42 (dk_at dksX5_rightPart_0 5 rfl rfl)
theorem dX5_rightPart_6 : decode cX5_rightPart 6 = .ok (.getfield 9, 3) := dk_180 0 9 (dk_at dksX5_rightPart_0 6 rfl rfl)
theorem dX5_rightPart_9 : decode cX5_rightPart 9 = .ok (.bipush 15, 2) := dk_16 15 (dk_at dksX5_rightPart_0 9 rfl rfl)
theorem dX5_rightPart_11 : decode cX5_rightPart 11 = .ok (.iaload, 1) := dk_46 (dk_at dksX5_rightPart_0 11 rfl rfl)
theorem dX5_rightPart_12 : decode cX5_rightPart 12 = .ok (.istore_n 1, 1) := dk_60 (dk_at dksX5_rightPart_0 12 rfl rfl)
theorem dX5_rightPart_13 : decode cX5_rightPart 13 = .ok (.iload_n 1, 1) := dk_27 (dk_at dksX5_rightPart_0 13 rfl rfl)
theorem dX5_rightPart_14 : decode cX5_rightPart 14 = .ok (.ifCond .ne 7, 3) := dk_154 0 7 (dk_at dksX5_rightPart_0 14 rfl rfl)
theorem dX5_rightPart_17 : decode cX5_rightPart 17 = .ok (.fconst 0, 1) := dk_11 (dk_at dksX5_rightPart_0 17 rfl rfl)
theorem dX5_rightPart_18 : decode cX5_rightPart 18 = .ok (.goto 14, 3) := dk_167 0 14 (dk_at dksX5_rightPart_0 18 rfl rfl)
theorem dX5_rightPart_21 : decode cX5_rightPart 21 = .ok (.aload_n 0, 1) := dk_42 (dk_at dksX5_rightPart_0 21 rfl rfl)
theorem dX5_rightPart_22 : decode cX5_rightPart 22 = .ok (.getfield 9, 3) := dk_180 0 9 (dk_at dksX5_rightPart_1 0 rfl rfl)
theorem dX5_rightPart_25 : decode cX5_rightPart 25 = .ok (.bipush 16, 2) := dk_16 16 (dk_at dksX5_rightPart_1 3 rfl rfl)
theorem dX5_rightPart_27 : decode cX5_rightPart 27 = .ok (.iaload, 1) := dk_46 (dk_at dksX5_rightPart_1 5 rfl rfl)
theorem dX5_rightPart_28 : decode cX5_rightPart 28 = .ok (.i2f, 1) := dk_134 (dk_at dksX5_rightPart_1 6 rfl rfl)
theorem dX5_rightPart_29 : decode cX5_rightPart 29 = .ok (.iload_n 1, 1) := dk_27 (dk_at dksX5_rightPart_1 7 rfl rfl)
theorem dX5_rightPart_30 : decode cX5_rightPart 30 = .ok (.i2f, 1) := dk_134 (dk_at dksX5_rightPart_1 8 rfl rfl)
theorem dX5_rightPart_31 : decode cX5_rightPart 31 = .ok (.fdiv, 1) := dk_110 (dk_at dksX5_rightPart_1 9 rfl rfl)
theorem dX5_rightPart_32 : decode cX5_rightPart 32 = .ok (.freturn, 1) := dk_174 (dk_at dksX5_rightPart_1 10 rfl rfl)
abbrev cX5_send : ByteArray := prog_15_method_116_code
def yX5_send : MethodName := ⟨RX5, "send", "(IIIZ)I"⟩
def dkwX5_send_3 : List UInt8 := [27, 28, 3, 21, 4, 182, 0, 144, 172]
abbrev dktX5_send_3 : List UInt8 := dkwX5_send_3 ++ []
def dkwX5_send_2 : List UInt8 := [46, 16, 30, 162, 0, 7, 4, 167, 0, 4, 3, 182, 1, 109, 154, 0, 5, 3, 172, 42, 182, 1, 101, 42]
abbrev dktX5_send_2 : List UInt8 := dkwX5_send_2 ++ dktX5_send_3
def dkwX5_send_1 : List UInt8 := [153, 0, 7, 4, 167, 0, 4, 3, 54, 5, 42, 42, 27, 28, 182, 1, 137, 21, 5, 42, 180, 0, 9, 5]
abbrev dktX5_send_1 : List UInt8 := dkwX5_send_1 ++ dktX5_send_2
def dkwX5_send_0 : List UInt8 := [27, 28, 159, 0, 27, 29, 133, 9, 20, 1, 177, 184, 0, 199, 153, 0, 15, 42, 29, 182, 1, 179]
abbrev dktX5_send_0 : List UInt8 := dkwX5_send_0 ++ dktX5_send_1
theorem dksX5_send_0 : cX5_send.data.toList.drop 0 = dktX5_send_0 := by decide +kernel
theorem dksX5_send_1 : cX5_send.data.toList.drop 22 = dktX5_send_1 := dk_seg dksX5_send_0 22 rfl rfl
theorem dksX5_send_2 : cX5_send.data.toList.drop 46 = dktX5_send_2 := dk_seg dksX5_send_1 24 rfl rfl
theorem dksX5_send_3 : cX5_send.data.toList.drop 70 = dktX5_send_3 := dk_seg dksX5_send_2 24 rfl rfl
theorem dX5_send_0 : decode cX5_send 0 = .ok (.iload_n 1, 1) := dk_27 (dk_at dksX5_send_0 0 rfl rfl)
theorem dX5_send_1 : decode cX5_send 1 = .ok (.iload_n 2, 1) := dk_28 (dk_at dksX5_send_0 1 rfl rfl)
theorem dX5_send_2 : decode cX5_send 2 = .ok (.if_icmp .eq 27, 3) := dk_159 0 27 (dk_at dksX5_send_0 2 rfl rfl)
theorem dX5_send_5 : decode cX5_send 5 = .ok (.iload_n 3, 1) := dk_29 (dk_at dksX5_send_0 5 rfl rfl)
theorem dX5_send_6 : decode cX5_send 6 = .ok (.i2l, 1) := dk_133 (dk_at dksX5_send_0 6 rfl rfl)
theorem dX5_send_7 : decode cX5_send 7 = .ok (.lconst 0, 1) := dk_9 (dk_at dksX5_send_0 7 rfl rfl)
theorem dX5_send_8 : decode cX5_send 8 = .ok (.ldc2_w 433, 3) := dk_20 1 177 (dk_at dksX5_send_0 8 rfl rfl)
theorem dX5_send_11 : decode cX5_send 11 = .ok (.invokestatic 199, 3) := dk_184 0 199 (dk_at dksX5_send_0 11 rfl rfl)
theorem dX5_send_14 : decode cX5_send 14 = .ok (.ifCond .eq 15, 3) := dk_153 0 15 (dk_at dksX5_send_0 14 rfl rfl)
theorem dX5_send_17 : decode cX5_send 17 = .ok (.aload_n 0, 1) := dk_42 (dk_at dksX5_send_0 17 rfl rfl)
theorem dX5_send_18 : decode cX5_send 18 = .ok (.iload_n 3, 1) := dk_29 (dk_at dksX5_send_0 18 rfl rfl)
theorem dX5_send_19 : decode cX5_send 19 = .ok (.invokevirtual 435, 3) := dk_182 1 179 (dk_at dksX5_send_0 19 rfl rfl)
theorem dX5_send_22 : decode cX5_send 22 = .ok (.ifCond .eq 7, 3) := dk_153 0 7 (dk_at dksX5_send_1 0 rfl rfl)
theorem dX5_send_25 : decode cX5_send 25 = .ok (.iconst 1, 1) := dk_4 (dk_at dksX5_send_1 3 rfl rfl)
theorem dX5_send_26 : decode cX5_send 26 = .ok (.goto 4, 3) := dk_167 0 4 (dk_at dksX5_send_1 4 rfl rfl)
theorem dX5_send_29 : decode cX5_send 29 = .ok (.iconst 0, 1) := dk_3 (dk_at dksX5_send_1 7 rfl rfl)
theorem dX5_send_30 : decode cX5_send 30 = .ok (.istore 5, 2) := dk_54 5 (dk_at dksX5_send_1 8 rfl rfl)
theorem dX5_send_32 : decode cX5_send 32 = .ok (.aload_n 0, 1) := dk_42 (dk_at dksX5_send_1 10 rfl rfl)
theorem dX5_send_33 : decode cX5_send 33 = .ok (.aload_n 0, 1) := dk_42 (dk_at dksX5_send_1 11 rfl rfl)
theorem dX5_send_34 : decode cX5_send 34 = .ok (.iload_n 1, 1) := dk_27 (dk_at dksX5_send_1 12 rfl rfl)
theorem dX5_send_35 : decode cX5_send 35 = .ok (.iload_n 2, 1) := dk_28 (dk_at dksX5_send_1 13 rfl rfl)
theorem dX5_send_36 : decode cX5_send 36 = .ok (.invokevirtual 393, 3) := dk_182 1 137 (dk_at dksX5_send_1 14 rfl rfl)
theorem dX5_send_39 : decode cX5_send 39 = .ok (.iload 5, 2) := dk_21 5 (dk_at dksX5_send_1 17 rfl rfl)
theorem dX5_send_41 : decode cX5_send 41 = .ok (.aload_n 0, 1) := dk_42 (dk_at dksX5_send_1 19 rfl rfl)
theorem dX5_send_42 : decode cX5_send 42 = .ok (.getfield 9, 3) := dk_180 0 9 (dk_at dksX5_send_1 20 rfl rfl)
theorem dX5_send_45 : decode cX5_send 45 = .ok (.iconst 2, 1) := dk_5 (dk_at dksX5_send_1 23 rfl rfl)
theorem dX5_send_46 : decode cX5_send 46 = .ok (.iaload, 1) := dk_46 (dk_at dksX5_send_2 0 rfl rfl)
theorem dX5_send_47 : decode cX5_send 47 = .ok (.bipush 30, 2) := dk_16 30 (dk_at dksX5_send_2 1 rfl rfl)
theorem dX5_send_49 : decode cX5_send 49 = .ok (.if_icmp .ge 7, 3) := dk_162 0 7 (dk_at dksX5_send_2 3 rfl rfl)
theorem dX5_send_52 : decode cX5_send 52 = .ok (.iconst 1, 1) := dk_4 (dk_at dksX5_send_2 6 rfl rfl)
theorem dX5_send_53 : decode cX5_send 53 = .ok (.goto 4, 3) := dk_167 0 4 (dk_at dksX5_send_2 7 rfl rfl)
theorem dX5_send_56 : decode cX5_send 56 = .ok (.iconst 0, 1) := dk_3 (dk_at dksX5_send_2 10 rfl rfl)
theorem dX5_send_57 : decode cX5_send 57 = .ok (.invokevirtual 365, 3) := dk_182 1 109 (dk_at dksX5_send_2 11 rfl rfl)
theorem dX5_send_60 : decode cX5_send 60 = .ok (.ifCond .ne 5, 3) := dk_154 0 5 (dk_at dksX5_send_2 14 rfl rfl)
theorem dX5_send_63 : decode cX5_send 63 = .ok (.iconst 0, 1) := dk_3 (dk_at dksX5_send_2 17 rfl rfl)
theorem dX5_send_64 : decode cX5_send 64 = .ok (.ireturn, 1) := dk_172 (dk_at dksX5_send_2 18 rfl rfl)
theorem dX5_send_65 : decode cX5_send 65 = .ok (.aload_n 0, 1) := dk_42 (dk_at dksX5_send_2 19 rfl rfl)
theorem dX5_send_66 : decode cX5_send 66 = .ok (.invokevirtual 357, 3) := dk_182 1 101 (dk_at dksX5_send_2 20 rfl rfl)
theorem dX5_send_69 : decode cX5_send 69 = .ok (.aload_n 0, 1) := dk_42 (dk_at dksX5_send_2 23 rfl rfl)
theorem dX5_send_70 : decode cX5_send 70 = .ok (.iload_n 1, 1) := dk_27 (dk_at dksX5_send_3 0 rfl rfl)
theorem dX5_send_71 : decode cX5_send 71 = .ok (.iload_n 2, 1) := dk_28 (dk_at dksX5_send_3 1 rfl rfl)
theorem dX5_send_72 : decode cX5_send 72 = .ok (.iconst 0, 1) := dk_3 (dk_at dksX5_send_3 2 rfl rfl)
theorem dX5_send_73 : decode cX5_send 73 = .ok (.iload 4, 2) := dk_21 4 (dk_at dksX5_send_3 3 rfl rfl)
theorem dX5_send_75 : decode cX5_send 75 = .ok (.invokevirtual 144, 3) := dk_182 0 144 (dk_at dksX5_send_3 5 rfl rfl)
theorem dX5_send_78 : decode cX5_send 78 = .ok (.ireturn, 1) := dk_172 (dk_at dksX5_send_3 8 rfl rfl)
abbrev cX5_sings : ByteArray := prog_15_method_115_code
def yX5_sings : MethodName := ⟨RX5, "sings", "(I)Z"⟩
def dkwX5_sings_4 : List UInt8 := [172]
abbrev dktX5_sings_4 : List UInt8 := dkwX5_sings_4 ++ []
def dkwX5_sings_3 : List UInt8 := [46, 16, 8, 162, 0, 7, 4, 167, 0, 4, 3, 62, 28, 16, 10, 108, 61, 132, 4, 255, 167, 255, 210, 29]
abbrev dktX5_sings_3 : List UInt8 := dkwX5_sings_3 ++ dktX5_sings_4
def dkwX5_sings_2 : List UInt8 := [155, 0, 47, 42, 180, 0, 28, 21, 4, 28, 16, 10, 112, 79, 29, 153, 0, 19, 42, 180, 0, 28, 21, 4]
abbrev dktX5_sings_2 : List UInt8 := dkwX5_sings_2 ++ dktX5_sings_3
def dkwX5_sings_1 : List UInt8 := [28, 16, 10, 108, 61, 167, 255, 237, 27, 61, 4, 62, 42, 180, 0, 119, 4, 100, 54, 4, 21, 4]
abbrev dktX5_sings_1 : List UInt8 := dkwX5_sings_1 ++ dktX5_sings_2
def dkwX5_sings_0 : List UInt8 := [42, 4, 181, 0, 119, 27, 16, 10, 108, 61, 28, 158, 0, 21, 42, 89, 180, 0, 119, 4, 96, 181, 0, 119]
abbrev dktX5_sings_0 : List UInt8 := dkwX5_sings_0 ++ dktX5_sings_1
theorem dksX5_sings_0 : cX5_sings.data.toList.drop 0 = dktX5_sings_0 := by decide +kernel
theorem dksX5_sings_1 : cX5_sings.data.toList.drop 24 = dktX5_sings_1 := dk_seg dksX5_sings_0 24 rfl rfl
theorem dksX5_sings_2 : cX5_sings.data.toList.drop 46 = dktX5_sings_2 := dk_seg dksX5_sings_1 22 rfl rfl
theorem dksX5_sings_3 : cX5_sings.data.toList.drop 70 = dktX5_sings_3 := dk_seg dksX5_sings_2 24 rfl rfl
theorem dksX5_sings_4 : cX5_sings.data.toList.drop 94 = dktX5_sings_4 := dk_seg dksX5_sings_3 24 rfl rfl
theorem dX5_sings_0 : decode cX5_sings 0 = .ok (.aload_n 0, 1) := dk_42 (dk_at dksX5_sings_0 0 rfl rfl)
theorem dX5_sings_1 : decode cX5_sings 1 = .ok (.iconst 1, 1) := dk_4 (dk_at dksX5_sings_0 1 rfl rfl)
theorem dX5_sings_2 : decode cX5_sings 2 = .ok (.putfield 119, 3) := dk_181 0 119 (dk_at dksX5_sings_0 2 rfl rfl)
theorem dX5_sings_5 : decode cX5_sings 5 = .ok (.iload_n 1, 1) := dk_27 (dk_at dksX5_sings_0 5 rfl rfl)
theorem dX5_sings_6 : decode cX5_sings 6 = .ok (.bipush 10, 2) := dk_16 10 (dk_at dksX5_sings_0 6 rfl rfl)
theorem dX5_sings_8 : decode cX5_sings 8 = .ok (.idiv, 1) := dk_108 (dk_at dksX5_sings_0 8 rfl rfl)
theorem dX5_sings_9 : decode cX5_sings 9 = .ok (.istore_n 2, 1) := dk_61 (dk_at dksX5_sings_0 9 rfl rfl)
theorem dX5_sings_10 : decode cX5_sings 10 = .ok (.iload_n 2, 1) := dk_28 (dk_at dksX5_sings_0 10 rfl rfl)
theorem dX5_sings_11 : decode cX5_sings 11 = .ok (.ifCond .le 21, 3) := dk_158 0 21 (dk_at dksX5_sings_0 11 rfl rfl)
theorem dX5_sings_14 : decode cX5_sings 14 = .ok (.aload_n 0, 1) := dk_42 (dk_at dksX5_sings_0 14 rfl rfl)
theorem dX5_sings_15 : decode cX5_sings 15 = .ok (.dup, 1) := dk_89 (dk_at dksX5_sings_0 15 rfl rfl)
theorem dX5_sings_16 : decode cX5_sings 16 = .ok (.getfield 119, 3) := dk_180 0 119 (dk_at dksX5_sings_0 16 rfl rfl)
theorem dX5_sings_19 : decode cX5_sings 19 = .ok (.iconst 1, 1) := dk_4 (dk_at dksX5_sings_0 19 rfl rfl)
theorem dX5_sings_20 : decode cX5_sings 20 = .ok (.iadd, 1) := dk_96 (dk_at dksX5_sings_0 20 rfl rfl)
theorem dX5_sings_21 : decode cX5_sings 21 = .ok (.putfield 119, 3) := dk_181 0 119 (dk_at dksX5_sings_0 21 rfl rfl)
theorem dX5_sings_24 : decode cX5_sings 24 = .ok (.iload_n 2, 1) := dk_28 (dk_at dksX5_sings_1 0 rfl rfl)
theorem dX5_sings_25 : decode cX5_sings 25 = .ok (.bipush 10, 2) := dk_16 10 (dk_at dksX5_sings_1 1 rfl rfl)
theorem dX5_sings_27 : decode cX5_sings 27 = .ok (.idiv, 1) := dk_108 (dk_at dksX5_sings_1 3 rfl rfl)
theorem dX5_sings_28 : decode cX5_sings 28 = .ok (.istore_n 2, 1) := dk_61 (dk_at dksX5_sings_1 4 rfl rfl)
theorem dX5_sings_29 : decode cX5_sings 29 = .ok (.goto (-19), 3) := dk_167 255 237 (dk_at dksX5_sings_1 5 rfl rfl)
theorem dX5_sings_32 : decode cX5_sings 32 = .ok (.iload_n 1, 1) := dk_27 (dk_at dksX5_sings_1 8 rfl rfl)
theorem dX5_sings_33 : decode cX5_sings 33 = .ok (.istore_n 2, 1) := dk_61 (dk_at dksX5_sings_1 9 rfl rfl)
theorem dX5_sings_34 : decode cX5_sings 34 = .ok (.iconst 1, 1) := dk_4 (dk_at dksX5_sings_1 10 rfl rfl)
theorem dX5_sings_35 : decode cX5_sings 35 = .ok (.istore_n 3, 1) := dk_62 (dk_at dksX5_sings_1 11 rfl rfl)
theorem dX5_sings_36 : decode cX5_sings 36 = .ok (.aload_n 0, 1) := dk_42 (dk_at dksX5_sings_1 12 rfl rfl)
theorem dX5_sings_37 : decode cX5_sings 37 = .ok (.getfield 119, 3) := dk_180 0 119 (dk_at dksX5_sings_1 13 rfl rfl)
theorem dX5_sings_40 : decode cX5_sings 40 = .ok (.iconst 1, 1) := dk_4 (dk_at dksX5_sings_1 16 rfl rfl)
theorem dX5_sings_41 : decode cX5_sings 41 = .ok (.isub, 1) := dk_100 (dk_at dksX5_sings_1 17 rfl rfl)
theorem dX5_sings_42 : decode cX5_sings 42 = .ok (.istore 4, 2) := dk_54 4 (dk_at dksX5_sings_1 18 rfl rfl)
theorem dX5_sings_44 : decode cX5_sings 44 = .ok (.iload 4, 2) := dk_21 4 (dk_at dksX5_sings_1 20 rfl rfl)
theorem dX5_sings_46 : decode cX5_sings 46 = .ok (.ifCond .lt 47, 3) := dk_155 0 47 (dk_at dksX5_sings_2 0 rfl rfl)
theorem dX5_sings_49 : decode cX5_sings 49 = .ok (.aload_n 0, 1) := dk_42 (dk_at dksX5_sings_2 3 rfl rfl)
theorem dX5_sings_50 : decode cX5_sings 50 = .ok (.getfield 28, 3) := dk_180 0 28 (dk_at dksX5_sings_2 4 rfl rfl)
theorem dX5_sings_53 : decode cX5_sings 53 = .ok (.iload 4, 2) := dk_21 4 (dk_at dksX5_sings_2 7 rfl rfl)
theorem dX5_sings_55 : decode cX5_sings 55 = .ok (.iload_n 2, 1) := dk_28 (dk_at dksX5_sings_2 9 rfl rfl)
theorem dX5_sings_56 : decode cX5_sings 56 = .ok (.bipush 10, 2) := dk_16 10 (dk_at dksX5_sings_2 10 rfl rfl)
theorem dX5_sings_58 : decode cX5_sings 58 = .ok (.irem, 1) := dk_112 (dk_at dksX5_sings_2 12 rfl rfl)
theorem dX5_sings_59 : decode cX5_sings 59 = .ok (.iastore, 1) := dk_79 (dk_at dksX5_sings_2 13 rfl rfl)
theorem dX5_sings_60 : decode cX5_sings 60 = .ok (.iload_n 3, 1) := dk_29 (dk_at dksX5_sings_2 14 rfl rfl)
theorem dX5_sings_61 : decode cX5_sings 61 = .ok (.ifCond .eq 19, 3) := dk_153 0 19 (dk_at dksX5_sings_2 15 rfl rfl)
theorem dX5_sings_64 : decode cX5_sings 64 = .ok (.aload_n 0, 1) := dk_42 (dk_at dksX5_sings_2 18 rfl rfl)
theorem dX5_sings_65 : decode cX5_sings 65 = .ok (.getfield 28, 3) := dk_180 0 28 (dk_at dksX5_sings_2 19 rfl rfl)
theorem dX5_sings_68 : decode cX5_sings 68 = .ok (.iload 4, 2) := dk_21 4 (dk_at dksX5_sings_2 22 rfl rfl)
theorem dX5_sings_70 : decode cX5_sings 70 = .ok (.iaload, 1) := dk_46 (dk_at dksX5_sings_3 0 rfl rfl)
theorem dX5_sings_71 : decode cX5_sings 71 = .ok (.bipush 8, 2) := dk_16 8 (dk_at dksX5_sings_3 1 rfl rfl)
theorem dX5_sings_73 : decode cX5_sings 73 = .ok (.if_icmp .ge 7, 3) := dk_162 0 7 (dk_at dksX5_sings_3 3 rfl rfl)
theorem dX5_sings_76 : decode cX5_sings 76 = .ok (.iconst 1, 1) := dk_4 (dk_at dksX5_sings_3 6 rfl rfl)
theorem dX5_sings_77 : decode cX5_sings 77 = .ok (.goto 4, 3) := dk_167 0 4 (dk_at dksX5_sings_3 7 rfl rfl)
theorem dX5_sings_80 : decode cX5_sings 80 = .ok (.iconst 0, 1) := dk_3 (dk_at dksX5_sings_3 10 rfl rfl)
theorem dX5_sings_81 : decode cX5_sings 81 = .ok (.istore_n 3, 1) := dk_62 (dk_at dksX5_sings_3 11 rfl rfl)
theorem dX5_sings_82 : decode cX5_sings 82 = .ok (.iload_n 2, 1) := dk_28 (dk_at dksX5_sings_3 12 rfl rfl)
theorem dX5_sings_83 : decode cX5_sings 83 = .ok (.bipush 10, 2) := dk_16 10 (dk_at dksX5_sings_3 13 rfl rfl)
theorem dX5_sings_85 : decode cX5_sings 85 = .ok (.idiv, 1) := dk_108 (dk_at dksX5_sings_3 15 rfl rfl)
theorem dX5_sings_86 : decode cX5_sings 86 = .ok (.istore_n 2, 1) := dk_61 (dk_at dksX5_sings_3 16 rfl rfl)
theorem dX5_sings_87 : decode cX5_sings 87 = .ok (.iinc 4 (-1), 3) := dk_132 4 255 (dk_at dksX5_sings_3 17 rfl rfl)
theorem dX5_sings_90 : decode cX5_sings 90 = .ok (.goto (-46), 3) := dk_167 255 210 (dk_at dksX5_sings_3 20 rfl rfl)
theorem dX5_sings_93 : decode cX5_sings 93 = .ok (.iload_n 3, 1) := dk_29 (dk_at dksX5_sings_3 23 rfl rfl)
theorem dX5_sings_94 : decode cX5_sings 94 = .ok (.ireturn, 1) := dk_172 (dk_at dksX5_sings_4 0 rfl rfl)
abbrev cX5_tick : ByteArray := prog_15_method_117_code
def yX5_tick : MethodName := ⟨RX5, "tick", "(I)I"⟩
def dkwX5_tick_2 : List UInt8 := [182, 1, 86, 172]
abbrev dktX5_tick_2 : List UInt8 := dkwX5_tick_2 ++ []
def dkwX5_tick_1 : List UInt8 := [157, 0, 7, 4, 167, 0, 4, 3, 4, 182, 1, 109, 154, 0, 5, 3, 172, 42, 182, 1, 101, 42, 27]
abbrev dktX5_tick_1 : List UInt8 := dkwX5_tick_1 ++ dktX5_tick_2
def dkwX5_tick_0 : List UInt8 := [42, 27, 133, 10, 20, 1, 159, 184, 0, 199, 42, 180, 0, 9, 6, 46, 133, 27, 133, 97, 20, 1, 182, 148]
abbrev dktX5_tick_0 : List UInt8 := dkwX5_tick_0 ++ dktX5_tick_1
theorem dksX5_tick_0 : cX5_tick.data.toList.drop 0 = dktX5_tick_0 := by decide +kernel
theorem dksX5_tick_1 : cX5_tick.data.toList.drop 24 = dktX5_tick_1 := dk_seg dksX5_tick_0 24 rfl rfl
theorem dksX5_tick_2 : cX5_tick.data.toList.drop 47 = dktX5_tick_2 := dk_seg dksX5_tick_1 23 rfl rfl
theorem dX5_tick_0 : decode cX5_tick 0 = .ok (.aload_n 0, 1) := dk_42 (dk_at dksX5_tick_0 0 rfl rfl)
theorem dX5_tick_1 : decode cX5_tick 1 = .ok (.iload_n 1, 1) := dk_27 (dk_at dksX5_tick_0 1 rfl rfl)
theorem dX5_tick_2 : decode cX5_tick 2 = .ok (.i2l, 1) := dk_133 (dk_at dksX5_tick_0 2 rfl rfl)
theorem dX5_tick_3 : decode cX5_tick 3 = .ok (.lconst 1, 1) := dk_10 (dk_at dksX5_tick_0 3 rfl rfl)
theorem dX5_tick_4 : decode cX5_tick 4 = .ok (.ldc2_w 415, 3) := dk_20 1 159 (dk_at dksX5_tick_0 4 rfl rfl)
theorem dX5_tick_7 : decode cX5_tick 7 = .ok (.invokestatic 199, 3) := dk_184 0 199 (dk_at dksX5_tick_0 7 rfl rfl)
theorem dX5_tick_10 : decode cX5_tick 10 = .ok (.aload_n 0, 1) := dk_42 (dk_at dksX5_tick_0 10 rfl rfl)
theorem dX5_tick_11 : decode cX5_tick 11 = .ok (.getfield 9, 3) := dk_180 0 9 (dk_at dksX5_tick_0 11 rfl rfl)
theorem dX5_tick_14 : decode cX5_tick 14 = .ok (.iconst 3, 1) := dk_6 (dk_at dksX5_tick_0 14 rfl rfl)
theorem dX5_tick_15 : decode cX5_tick 15 = .ok (.iaload, 1) := dk_46 (dk_at dksX5_tick_0 15 rfl rfl)
theorem dX5_tick_16 : decode cX5_tick 16 = .ok (.i2l, 1) := dk_133 (dk_at dksX5_tick_0 16 rfl rfl)
theorem dX5_tick_17 : decode cX5_tick 17 = .ok (.iload_n 1, 1) := dk_27 (dk_at dksX5_tick_0 17 rfl rfl)
theorem dX5_tick_18 : decode cX5_tick 18 = .ok (.i2l, 1) := dk_133 (dk_at dksX5_tick_0 18 rfl rfl)
theorem dX5_tick_19 : decode cX5_tick 19 = .ok (.ladd, 1) := dk_97 (dk_at dksX5_tick_0 19 rfl rfl)
theorem dX5_tick_20 : decode cX5_tick 20 = .ok (.ldc2_w 438, 3) := dk_20 1 182 (dk_at dksX5_tick_0 20 rfl rfl)
theorem dX5_tick_23 : decode cX5_tick 23 = .ok (.lcmp, 1) := dk_148 (dk_at dksX5_tick_0 23 rfl rfl)
theorem dX5_tick_24 : decode cX5_tick 24 = .ok (.ifCond .gt 7, 3) := dk_157 0 7 (dk_at dksX5_tick_1 0 rfl rfl)
theorem dX5_tick_27 : decode cX5_tick 27 = .ok (.iconst 1, 1) := dk_4 (dk_at dksX5_tick_1 3 rfl rfl)
theorem dX5_tick_28 : decode cX5_tick 28 = .ok (.goto 4, 3) := dk_167 0 4 (dk_at dksX5_tick_1 4 rfl rfl)
theorem dX5_tick_31 : decode cX5_tick 31 = .ok (.iconst 0, 1) := dk_3 (dk_at dksX5_tick_1 7 rfl rfl)
theorem dX5_tick_32 : decode cX5_tick 32 = .ok (.iconst 1, 1) := dk_4 (dk_at dksX5_tick_1 8 rfl rfl)
theorem dX5_tick_33 : decode cX5_tick 33 = .ok (.invokevirtual 365, 3) := dk_182 1 109 (dk_at dksX5_tick_1 9 rfl rfl)
theorem dX5_tick_36 : decode cX5_tick 36 = .ok (.ifCond .ne 5, 3) := dk_154 0 5 (dk_at dksX5_tick_1 12 rfl rfl)
theorem dX5_tick_39 : decode cX5_tick 39 = .ok (.iconst 0, 1) := dk_3 (dk_at dksX5_tick_1 15 rfl rfl)
theorem dX5_tick_40 : decode cX5_tick 40 = .ok (.ireturn, 1) := dk_172 (dk_at dksX5_tick_1 16 rfl rfl)
theorem dX5_tick_41 : decode cX5_tick 41 = .ok (.aload_n 0, 1) := dk_42 (dk_at dksX5_tick_1 17 rfl rfl)
theorem dX5_tick_42 : decode cX5_tick 42 = .ok (.invokevirtual 357, 3) := dk_182 1 101 (dk_at dksX5_tick_1 18 rfl rfl)
theorem dX5_tick_45 : decode cX5_tick 45 = .ok (.aload_n 0, 1) := dk_42 (dk_at dksX5_tick_1 21 rfl rfl)
theorem dX5_tick_46 : decode cX5_tick 46 = .ok (.iload_n 1, 1) := dk_27 (dk_at dksX5_tick_1 22 rfl rfl)
theorem dX5_tick_47 : decode cX5_tick 47 = .ok (.invokevirtual 342, 3) := dk_182 1 86 (dk_at dksX5_tick_2 0 rfl rfl)
theorem dX5_tick_50 : decode cX5_tick 50 = .ok (.ireturn, 1) := dk_172 (dk_at dksX5_tick_2 3 rfl rfl)
abbrev cX5_give : ByteArray := prog_15_method_118_code
def yX5_give : MethodName := ⟨RX5, "give", "(II)I"⟩
def dkwX5_give_3 : List UInt8 := [27, 28, 182, 1, 89, 172]
abbrev dktX5_give_3 : List UInt8 := dkwX5_give_3 ++ []
def dkwX5_give_2 : List UInt8 := [17, 39, 15, 163, 0, 7, 4, 167, 0, 4, 3, 182, 1, 109, 154, 0, 5, 3, 172, 42, 182, 1, 101, 42]
abbrev dktX5_give_2 : List UInt8 := dkwX5_give_2 ++ dktX5_give_3
def dkwX5_give_1 : List UInt8 := [153, 0, 32, 21, 4, 153, 0, 27, 42, 180, 0, 9, 27, 184, 0, 84, 16, 10, 96, 46, 28, 96]
abbrev dktX5_give_1 : List UInt8 := dkwX5_give_1 ++ dktX5_give_2
def dkwX5_give_0 : List UInt8 := [42, 27, 182, 1, 124, 62, 28, 133, 10, 20, 1, 184, 184, 0, 199, 54, 4, 42, 29, 21, 4, 29]
abbrev dktX5_give_0 : List UInt8 := dkwX5_give_0 ++ dktX5_give_1
theorem dksX5_give_0 : cX5_give.data.toList.drop 0 = dktX5_give_0 := by decide +kernel
theorem dksX5_give_1 : cX5_give.data.toList.drop 22 = dktX5_give_1 := dk_seg dksX5_give_0 22 rfl rfl
theorem dksX5_give_2 : cX5_give.data.toList.drop 44 = dktX5_give_2 := dk_seg dksX5_give_1 22 rfl rfl
theorem dksX5_give_3 : cX5_give.data.toList.drop 68 = dktX5_give_3 := dk_seg dksX5_give_2 24 rfl rfl
theorem dX5_give_0 : decode cX5_give 0 = .ok (.aload_n 0, 1) := dk_42 (dk_at dksX5_give_0 0 rfl rfl)
theorem dX5_give_1 : decode cX5_give 1 = .ok (.iload_n 1, 1) := dk_27 (dk_at dksX5_give_0 1 rfl rfl)
theorem dX5_give_2 : decode cX5_give 2 = .ok (.invokevirtual 380, 3) := dk_182 1 124 (dk_at dksX5_give_0 2 rfl rfl)
theorem dX5_give_5 : decode cX5_give 5 = .ok (.istore_n 3, 1) := dk_62 (dk_at dksX5_give_0 5 rfl rfl)
theorem dX5_give_6 : decode cX5_give 6 = .ok (.iload_n 2, 1) := dk_28 (dk_at dksX5_give_0 6 rfl rfl)
theorem dX5_give_7 : decode cX5_give 7 = .ok (.i2l, 1) := dk_133 (dk_at dksX5_give_0 7 rfl rfl)
theorem dX5_give_8 : decode cX5_give 8 = .ok (.lconst 1, 1) := dk_10 (dk_at dksX5_give_0 8 rfl rfl)
theorem dX5_give_9 : decode cX5_give 9 = .ok (.ldc2_w 440, 3) := dk_20 1 184 (dk_at dksX5_give_0 9 rfl rfl)
theorem dX5_give_12 : decode cX5_give 12 = .ok (.invokestatic 199, 3) := dk_184 0 199 (dk_at dksX5_give_0 12 rfl rfl)
theorem dX5_give_15 : decode cX5_give 15 = .ok (.istore 4, 2) := dk_54 4 (dk_at dksX5_give_0 15 rfl rfl)
theorem dX5_give_17 : decode cX5_give 17 = .ok (.aload_n 0, 1) := dk_42 (dk_at dksX5_give_0 17 rfl rfl)
theorem dX5_give_18 : decode cX5_give 18 = .ok (.iload_n 3, 1) := dk_29 (dk_at dksX5_give_0 18 rfl rfl)
theorem dX5_give_19 : decode cX5_give 19 = .ok (.iload 4, 2) := dk_21 4 (dk_at dksX5_give_0 19 rfl rfl)
theorem dX5_give_21 : decode cX5_give 21 = .ok (.iload_n 3, 1) := dk_29 (dk_at dksX5_give_0 21 rfl rfl)
theorem dX5_give_22 : decode cX5_give 22 = .ok (.ifCond .eq 32, 3) := dk_153 0 32 (dk_at dksX5_give_1 0 rfl rfl)
theorem dX5_give_25 : decode cX5_give 25 = .ok (.iload 4, 2) := dk_21 4 (dk_at dksX5_give_1 3 rfl rfl)
theorem dX5_give_27 : decode cX5_give 27 = .ok (.ifCond .eq 27, 3) := dk_153 0 27 (dk_at dksX5_give_1 5 rfl rfl)
theorem dX5_give_30 : decode cX5_give 30 = .ok (.aload_n 0, 1) := dk_42 (dk_at dksX5_give_1 8 rfl rfl)
theorem dX5_give_31 : decode cX5_give 31 = .ok (.getfield 9, 3) := dk_180 0 9 (dk_at dksX5_give_1 9 rfl rfl)
theorem dX5_give_34 : decode cX5_give 34 = .ok (.iload_n 1, 1) := dk_27 (dk_at dksX5_give_1 12 rfl rfl)
theorem dX5_give_35 : decode cX5_give 35 = .ok (.invokestatic 84, 3) := dk_184 0 84 (dk_at dksX5_give_1 13 rfl rfl)
theorem dX5_give_38 : decode cX5_give 38 = .ok (.bipush 10, 2) := dk_16 10 (dk_at dksX5_give_1 16 rfl rfl)
theorem dX5_give_40 : decode cX5_give 40 = .ok (.iadd, 1) := dk_96 (dk_at dksX5_give_1 18 rfl rfl)
theorem dX5_give_41 : decode cX5_give 41 = .ok (.iaload, 1) := dk_46 (dk_at dksX5_give_1 19 rfl rfl)
theorem dX5_give_42 : decode cX5_give 42 = .ok (.iload_n 2, 1) := dk_28 (dk_at dksX5_give_1 20 rfl rfl)
theorem dX5_give_43 : decode cX5_give 43 = .ok (.iadd, 1) := dk_96 (dk_at dksX5_give_1 21 rfl rfl)
theorem dX5_give_44 : decode cX5_give 44 = .ok (.sipush 9999, 3) := dk_17 39 15 (dk_at dksX5_give_2 0 rfl rfl)
theorem dX5_give_47 : decode cX5_give 47 = .ok (.if_icmp .gt 7, 3) := dk_163 0 7 (dk_at dksX5_give_2 3 rfl rfl)
theorem dX5_give_50 : decode cX5_give 50 = .ok (.iconst 1, 1) := dk_4 (dk_at dksX5_give_2 6 rfl rfl)
theorem dX5_give_51 : decode cX5_give 51 = .ok (.goto 4, 3) := dk_167 0 4 (dk_at dksX5_give_2 7 rfl rfl)
theorem dX5_give_54 : decode cX5_give 54 = .ok (.iconst 0, 1) := dk_3 (dk_at dksX5_give_2 10 rfl rfl)
theorem dX5_give_55 : decode cX5_give 55 = .ok (.invokevirtual 365, 3) := dk_182 1 109 (dk_at dksX5_give_2 11 rfl rfl)
theorem dX5_give_58 : decode cX5_give 58 = .ok (.ifCond .ne 5, 3) := dk_154 0 5 (dk_at dksX5_give_2 14 rfl rfl)
theorem dX5_give_61 : decode cX5_give 61 = .ok (.iconst 0, 1) := dk_3 (dk_at dksX5_give_2 17 rfl rfl)
theorem dX5_give_62 : decode cX5_give 62 = .ok (.ireturn, 1) := dk_172 (dk_at dksX5_give_2 18 rfl rfl)
theorem dX5_give_63 : decode cX5_give 63 = .ok (.aload_n 0, 1) := dk_42 (dk_at dksX5_give_2 19 rfl rfl)
theorem dX5_give_64 : decode cX5_give 64 = .ok (.invokevirtual 357, 3) := dk_182 1 101 (dk_at dksX5_give_2 20 rfl rfl)
theorem dX5_give_67 : decode cX5_give 67 = .ok (.aload_n 0, 1) := dk_42 (dk_at dksX5_give_2 23 rfl rfl)
theorem dX5_give_68 : decode cX5_give 68 = .ok (.iload_n 1, 1) := dk_27 (dk_at dksX5_give_3 0 rfl rfl)
theorem dX5_give_69 : decode cX5_give 69 = .ok (.iload_n 2, 1) := dk_28 (dk_at dksX5_give_3 1 rfl rfl)
theorem dX5_give_70 : decode cX5_give 70 = .ok (.invokevirtual 345, 3) := dk_182 1 89 (dk_at dksX5_give_3 2 rfl rfl)
theorem dX5_give_73 : decode cX5_give 73 = .ok (.ireturn, 1) := dk_172 (dk_at dksX5_give_3 5 rfl rfl)
abbrev cX5_cut : ByteArray := prog_15_method_119_code
def yX5_cut : MethodName := ⟨RX5, "cut", "(II)I"⟩
def dkwX5_cut_2 : List UInt8 := [182, 1, 92, 172]
abbrev dktX5_cut_2 : List UInt8 := dkwX5_cut_2 ++ []
def dkwX5_cut_1 : List UInt8 := [167, 0, 4, 3, 4, 182, 1, 109, 154, 0, 5, 3, 172, 42, 182, 1, 101, 42, 42, 27, 28, 182, 0, 169]
abbrev dktX5_cut_1 : List UInt8 := dkwX5_cut_1 ++ dktX5_cut_2
def dkwX5_cut_0 : List UInt8 := [42, 27, 28, 182, 1, 137, 62, 42, 29, 29, 153, 0, 17, 42, 27, 28, 182, 0, 169, 2, 159, 0, 7, 4]
abbrev dktX5_cut_0 : List UInt8 := dkwX5_cut_0 ++ dktX5_cut_1
theorem dksX5_cut_0 : cX5_cut.data.toList.drop 0 = dktX5_cut_0 := by decide +kernel
theorem dksX5_cut_1 : cX5_cut.data.toList.drop 24 = dktX5_cut_1 := dk_seg dksX5_cut_0 24 rfl rfl
theorem dksX5_cut_2 : cX5_cut.data.toList.drop 48 = dktX5_cut_2 := dk_seg dksX5_cut_1 24 rfl rfl
theorem dX5_cut_0 : decode cX5_cut 0 = .ok (.aload_n 0, 1) := dk_42 (dk_at dksX5_cut_0 0 rfl rfl)
theorem dX5_cut_1 : decode cX5_cut 1 = .ok (.iload_n 1, 1) := dk_27 (dk_at dksX5_cut_0 1 rfl rfl)
theorem dX5_cut_2 : decode cX5_cut 2 = .ok (.iload_n 2, 1) := dk_28 (dk_at dksX5_cut_0 2 rfl rfl)
theorem dX5_cut_3 : decode cX5_cut 3 = .ok (.invokevirtual 393, 3) := dk_182 1 137 (dk_at dksX5_cut_0 3 rfl rfl)
theorem dX5_cut_6 : decode cX5_cut 6 = .ok (.istore_n 3, 1) := dk_62 (dk_at dksX5_cut_0 6 rfl rfl)
theorem dX5_cut_7 : decode cX5_cut 7 = .ok (.aload_n 0, 1) := dk_42 (dk_at dksX5_cut_0 7 rfl rfl)
theorem dX5_cut_8 : decode cX5_cut 8 = .ok (.iload_n 3, 1) := dk_29 (dk_at dksX5_cut_0 8 rfl rfl)
theorem dX5_cut_9 : decode cX5_cut 9 = .ok (.iload_n 3, 1) := dk_29 (dk_at dksX5_cut_0 9 rfl rfl)
theorem dX5_cut_10 : decode cX5_cut 10 = .ok (.ifCond .eq 17, 3) := dk_153 0 17 (dk_at dksX5_cut_0 10 rfl rfl)
theorem dX5_cut_13 : decode cX5_cut 13 = .ok (.aload_n 0, 1) := dk_42 (dk_at dksX5_cut_0 13 rfl rfl)
theorem dX5_cut_14 : decode cX5_cut 14 = .ok (.iload_n 1, 1) := dk_27 (dk_at dksX5_cut_0 14 rfl rfl)
theorem dX5_cut_15 : decode cX5_cut 15 = .ok (.iload_n 2, 1) := dk_28 (dk_at dksX5_cut_0 15 rfl rfl)
theorem dX5_cut_16 : decode cX5_cut 16 = .ok (.invokevirtual 169, 3) := dk_182 0 169 (dk_at dksX5_cut_0 16 rfl rfl)
theorem dX5_cut_19 : decode cX5_cut 19 = .ok (.iconst (-1), 1) := dk_2 (dk_at dksX5_cut_0 19 rfl rfl)
theorem dX5_cut_20 : decode cX5_cut 20 = .ok (.if_icmp .eq 7, 3) := dk_159 0 7 (dk_at dksX5_cut_0 20 rfl rfl)
theorem dX5_cut_23 : decode cX5_cut 23 = .ok (.iconst 1, 1) := dk_4 (dk_at dksX5_cut_0 23 rfl rfl)
theorem dX5_cut_24 : decode cX5_cut 24 = .ok (.goto 4, 3) := dk_167 0 4 (dk_at dksX5_cut_1 0 rfl rfl)
theorem dX5_cut_27 : decode cX5_cut 27 = .ok (.iconst 0, 1) := dk_3 (dk_at dksX5_cut_1 3 rfl rfl)
theorem dX5_cut_28 : decode cX5_cut 28 = .ok (.iconst 1, 1) := dk_4 (dk_at dksX5_cut_1 4 rfl rfl)
theorem dX5_cut_29 : decode cX5_cut 29 = .ok (.invokevirtual 365, 3) := dk_182 1 109 (dk_at dksX5_cut_1 5 rfl rfl)
theorem dX5_cut_32 : decode cX5_cut 32 = .ok (.ifCond .ne 5, 3) := dk_154 0 5 (dk_at dksX5_cut_1 8 rfl rfl)
theorem dX5_cut_35 : decode cX5_cut 35 = .ok (.iconst 0, 1) := dk_3 (dk_at dksX5_cut_1 11 rfl rfl)
theorem dX5_cut_36 : decode cX5_cut 36 = .ok (.ireturn, 1) := dk_172 (dk_at dksX5_cut_1 12 rfl rfl)
theorem dX5_cut_37 : decode cX5_cut 37 = .ok (.aload_n 0, 1) := dk_42 (dk_at dksX5_cut_1 13 rfl rfl)
theorem dX5_cut_38 : decode cX5_cut 38 = .ok (.invokevirtual 357, 3) := dk_182 1 101 (dk_at dksX5_cut_1 14 rfl rfl)
theorem dX5_cut_41 : decode cX5_cut 41 = .ok (.aload_n 0, 1) := dk_42 (dk_at dksX5_cut_1 17 rfl rfl)
theorem dX5_cut_42 : decode cX5_cut 42 = .ok (.aload_n 0, 1) := dk_42 (dk_at dksX5_cut_1 18 rfl rfl)
theorem dX5_cut_43 : decode cX5_cut 43 = .ok (.iload_n 1, 1) := dk_27 (dk_at dksX5_cut_1 19 rfl rfl)
theorem dX5_cut_44 : decode cX5_cut 44 = .ok (.iload_n 2, 1) := dk_28 (dk_at dksX5_cut_1 20 rfl rfl)
theorem dX5_cut_45 : decode cX5_cut 45 = .ok (.invokevirtual 169, 3) := dk_182 0 169 (dk_at dksX5_cut_1 21 rfl rfl)
theorem dX5_cut_48 : decode cX5_cut 48 = .ok (.invokevirtual 348, 3) := dk_182 1 92 (dk_at dksX5_cut_2 0 rfl rfl)
theorem dX5_cut_51 : decode cX5_cut 51 = .ok (.ireturn, 1) := dk_172 (dk_at dksX5_cut_2 3 rfl rfl)
abbrev cX5_set : ByteArray := prog_15_method_120_code
def yX5_set : MethodName := ⟨RX5, "set", "(II)I"⟩
def dkwX5_set_3 : List UInt8 := [28, 182, 1, 95, 172]
abbrev dktX5_set_3 : List UInt8 := dkwX5_set_3 ++ []
def dkwX5_set_2 : List UInt8 := [153, 0, 7, 4, 167, 0, 4, 3, 4, 4, 182, 1, 109, 154, 0, 5, 3, 172, 42, 182, 1, 101, 42, 29]
abbrev dktX5_set_2 : List UInt8 := dkwX5_set_2 ++ dktX5_set_3
def dkwX5_set_1 : List UInt8 := [62, 42, 29, 2, 159, 0, 25, 28, 133, 29, 184, 1, 21, 133, 29, 184, 1, 24, 133, 184, 0, 199]
abbrev dktX5_set_1 : List UInt8 := dkwX5_set_1 ++ dktX5_set_2
def dkwX5_set_0 : List UInt8 := [27, 133, 20, 1, 154, 20, 1, 122, 184, 0, 199, 153, 0, 12, 7, 27, 96, 16, 8, 100, 167, 0, 4, 2]
abbrev dktX5_set_0 : List UInt8 := dkwX5_set_0 ++ dktX5_set_1
theorem dksX5_set_0 : cX5_set.data.toList.drop 0 = dktX5_set_0 := by decide +kernel
theorem dksX5_set_1 : cX5_set.data.toList.drop 24 = dktX5_set_1 := dk_seg dksX5_set_0 24 rfl rfl
theorem dksX5_set_2 : cX5_set.data.toList.drop 46 = dktX5_set_2 := dk_seg dksX5_set_1 22 rfl rfl
theorem dksX5_set_3 : cX5_set.data.toList.drop 70 = dktX5_set_3 := dk_seg dksX5_set_2 24 rfl rfl
theorem dX5_set_0 : decode cX5_set 0 = .ok (.iload_n 1, 1) := dk_27 (dk_at dksX5_set_0 0 rfl rfl)
theorem dX5_set_1 : decode cX5_set 1 = .ok (.i2l, 1) := dk_133 (dk_at dksX5_set_0 1 rfl rfl)
theorem dX5_set_2 : decode cX5_set 2 = .ok (.ldc2_w 410, 3) := dk_20 1 154 (dk_at dksX5_set_0 2 rfl rfl)
theorem dX5_set_5 : decode cX5_set 5 = .ok (.ldc2_w 378, 3) := dk_20 1 122 (dk_at dksX5_set_0 5 rfl rfl)
theorem dX5_set_8 : decode cX5_set 8 = .ok (.invokestatic 199, 3) := dk_184 0 199 (dk_at dksX5_set_0 8 rfl rfl)
theorem dX5_set_11 : decode cX5_set 11 = .ok (.ifCond .eq 12, 3) := dk_153 0 12 (dk_at dksX5_set_0 11 rfl rfl)
theorem dX5_set_14 : decode cX5_set 14 = .ok (.iconst 4, 1) := dk_7 (dk_at dksX5_set_0 14 rfl rfl)
theorem dX5_set_15 : decode cX5_set 15 = .ok (.iload_n 1, 1) := dk_27 (dk_at dksX5_set_0 15 rfl rfl)
theorem dX5_set_16 : decode cX5_set 16 = .ok (.iadd, 1) := dk_96 (dk_at dksX5_set_0 16 rfl rfl)
theorem dX5_set_17 : decode cX5_set 17 = .ok (.bipush 8, 2) := dk_16 8 (dk_at dksX5_set_0 17 rfl rfl)
theorem dX5_set_19 : decode cX5_set 19 = .ok (.isub, 1) := dk_100 (dk_at dksX5_set_0 19 rfl rfl)
theorem dX5_set_20 : decode cX5_set 20 = .ok (.goto 4, 3) := dk_167 0 4 (dk_at dksX5_set_0 20 rfl rfl)
theorem dX5_set_23 : decode cX5_set 23 = .ok (.iconst (-1), 1) := dk_2 (dk_at dksX5_set_0 23 rfl rfl)
theorem dX5_set_24 : decode cX5_set 24 = .ok (.istore_n 3, 1) := dk_62 (dk_at dksX5_set_1 0 rfl rfl)
theorem dX5_set_25 : decode cX5_set 25 = .ok (.aload_n 0, 1) := dk_42 (dk_at dksX5_set_1 1 rfl rfl)
theorem dX5_set_26 : decode cX5_set 26 = .ok (.iload_n 3, 1) := dk_29 (dk_at dksX5_set_1 2 rfl rfl)
theorem dX5_set_27 : decode cX5_set 27 = .ok (.iconst (-1), 1) := dk_2 (dk_at dksX5_set_1 3 rfl rfl)
theorem dX5_set_28 : decode cX5_set 28 = .ok (.if_icmp .eq 25, 3) := dk_159 0 25 (dk_at dksX5_set_1 4 rfl rfl)
theorem dX5_set_31 : decode cX5_set 31 = .ok (.iload_n 2, 1) := dk_28 (dk_at dksX5_set_1 7 rfl rfl)
theorem dX5_set_32 : decode cX5_set 32 = .ok (.i2l, 1) := dk_133 (dk_at dksX5_set_1 8 rfl rfl)
theorem dX5_set_33 : decode cX5_set 33 = .ok (.iload_n 3, 1) := dk_29 (dk_at dksX5_set_1 9 rfl rfl)
theorem dX5_set_34 : decode cX5_set 34 = .ok (.invokestatic 277, 3) := dk_184 1 21 (dk_at dksX5_set_1 10 rfl rfl)
theorem dX5_set_37 : decode cX5_set 37 = .ok (.i2l, 1) := dk_133 (dk_at dksX5_set_1 13 rfl rfl)
theorem dX5_set_38 : decode cX5_set 38 = .ok (.iload_n 3, 1) := dk_29 (dk_at dksX5_set_1 14 rfl rfl)
theorem dX5_set_39 : decode cX5_set 39 = .ok (.invokestatic 280, 3) := dk_184 1 24 (dk_at dksX5_set_1 15 rfl rfl)
theorem dX5_set_42 : decode cX5_set 42 = .ok (.i2l, 1) := dk_133 (dk_at dksX5_set_1 18 rfl rfl)
theorem dX5_set_43 : decode cX5_set 43 = .ok (.invokestatic 199, 3) := dk_184 0 199 (dk_at dksX5_set_1 19 rfl rfl)
theorem dX5_set_46 : decode cX5_set 46 = .ok (.ifCond .eq 7, 3) := dk_153 0 7 (dk_at dksX5_set_2 0 rfl rfl)
theorem dX5_set_49 : decode cX5_set 49 = .ok (.iconst 1, 1) := dk_4 (dk_at dksX5_set_2 3 rfl rfl)
theorem dX5_set_50 : decode cX5_set 50 = .ok (.goto 4, 3) := dk_167 0 4 (dk_at dksX5_set_2 4 rfl rfl)
theorem dX5_set_53 : decode cX5_set 53 = .ok (.iconst 0, 1) := dk_3 (dk_at dksX5_set_2 7 rfl rfl)
theorem dX5_set_54 : decode cX5_set 54 = .ok (.iconst 1, 1) := dk_4 (dk_at dksX5_set_2 8 rfl rfl)
theorem dX5_set_55 : decode cX5_set 55 = .ok (.iconst 1, 1) := dk_4 (dk_at dksX5_set_2 9 rfl rfl)
theorem dX5_set_56 : decode cX5_set 56 = .ok (.invokevirtual 365, 3) := dk_182 1 109 (dk_at dksX5_set_2 10 rfl rfl)
theorem dX5_set_59 : decode cX5_set 59 = .ok (.ifCond .ne 5, 3) := dk_154 0 5 (dk_at dksX5_set_2 13 rfl rfl)
theorem dX5_set_62 : decode cX5_set 62 = .ok (.iconst 0, 1) := dk_3 (dk_at dksX5_set_2 16 rfl rfl)
theorem dX5_set_63 : decode cX5_set 63 = .ok (.ireturn, 1) := dk_172 (dk_at dksX5_set_2 17 rfl rfl)
theorem dX5_set_64 : decode cX5_set 64 = .ok (.aload_n 0, 1) := dk_42 (dk_at dksX5_set_2 18 rfl rfl)
theorem dX5_set_65 : decode cX5_set 65 = .ok (.invokevirtual 357, 3) := dk_182 1 101 (dk_at dksX5_set_2 19 rfl rfl)
theorem dX5_set_68 : decode cX5_set 68 = .ok (.aload_n 0, 1) := dk_42 (dk_at dksX5_set_2 22 rfl rfl)
theorem dX5_set_69 : decode cX5_set 69 = .ok (.iload_n 3, 1) := dk_29 (dk_at dksX5_set_2 23 rfl rfl)
theorem dX5_set_70 : decode cX5_set 70 = .ok (.iload_n 2, 1) := dk_28 (dk_at dksX5_set_3 0 rfl rfl)
theorem dX5_set_71 : decode cX5_set 71 = .ok (.invokevirtual 351, 3) := dk_182 1 95 (dk_at dksX5_set_3 1 rfl rfl)
theorem dX5_set_74 : decode cX5_set 74 = .ok (.ireturn, 1) := dk_172 (dk_at dksX5_set_3 4 rfl rfl)
abbrev cX5_undo : ByteArray := prog_15_method_121_code
def yX5_undo : MethodName := ⟨RX5, "undo", "()I"⟩
def dkwX5_undo_3 : List UInt8 := [180, 0, 81, 172]
abbrev dktX5_undo_3 : List UInt8 := dkwX5_undo_3 ++ []
def dkwX5_undo_2 : List UInt8 := [180, 0, 19, 17, 4, 6, 42, 180, 0, 81, 104, 27, 96, 46, 79, 132, 1, 1, 167, 255, 225, 42]
abbrev dktX5_undo_2 : List UInt8 := dkwX5_undo_2 ++ dktX5_undo_3
def dkwX5_undo_1 : List UInt8 := [89, 180, 0, 81, 4, 100, 181, 0, 81, 3, 60, 27, 17, 4, 6, 162, 0, 30, 42, 180, 0, 9, 27, 42]
abbrev dktX5_undo_1 : List UInt8 := dkwX5_undo_1 ++ dktX5_undo_2
def dkwX5_undo_0 : List UInt8 := [42, 42, 180, 0, 81, 158, 0, 7, 4, 167, 0, 4, 3, 4, 4, 182, 1, 109, 154, 0, 5, 3, 172, 42]
abbrev dktX5_undo_0 : List UInt8 := dkwX5_undo_0 ++ dktX5_undo_1
theorem dksX5_undo_0 : cX5_undo.data.toList.drop 0 = dktX5_undo_0 := by decide +kernel
theorem dksX5_undo_1 : cX5_undo.data.toList.drop 24 = dktX5_undo_1 := dk_seg dksX5_undo_0 24 rfl rfl
theorem dksX5_undo_2 : cX5_undo.data.toList.drop 48 = dktX5_undo_2 := dk_seg dksX5_undo_1 24 rfl rfl
theorem dksX5_undo_3 : cX5_undo.data.toList.drop 70 = dktX5_undo_3 := dk_seg dksX5_undo_2 22 rfl rfl
theorem dX5_undo_0 : decode cX5_undo 0 = .ok (.aload_n 0, 1) := dk_42 (dk_at dksX5_undo_0 0 rfl rfl)
theorem dX5_undo_1 : decode cX5_undo 1 = .ok (.aload_n 0, 1) := dk_42 (dk_at dksX5_undo_0 1 rfl rfl)
theorem dX5_undo_2 : decode cX5_undo 2 = .ok (.getfield 81, 3) := dk_180 0 81 (dk_at dksX5_undo_0 2 rfl rfl)
theorem dX5_undo_5 : decode cX5_undo 5 = .ok (.ifCond .le 7, 3) := dk_158 0 7 (dk_at dksX5_undo_0 5 rfl rfl)
theorem dX5_undo_8 : decode cX5_undo 8 = .ok (.iconst 1, 1) := dk_4 (dk_at dksX5_undo_0 8 rfl rfl)
theorem dX5_undo_9 : decode cX5_undo 9 = .ok (.goto 4, 3) := dk_167 0 4 (dk_at dksX5_undo_0 9 rfl rfl)
theorem dX5_undo_12 : decode cX5_undo 12 = .ok (.iconst 0, 1) := dk_3 (dk_at dksX5_undo_0 12 rfl rfl)
theorem dX5_undo_13 : decode cX5_undo 13 = .ok (.iconst 1, 1) := dk_4 (dk_at dksX5_undo_0 13 rfl rfl)
theorem dX5_undo_14 : decode cX5_undo 14 = .ok (.iconst 1, 1) := dk_4 (dk_at dksX5_undo_0 14 rfl rfl)
theorem dX5_undo_15 : decode cX5_undo 15 = .ok (.invokevirtual 365, 3) := dk_182 1 109 (dk_at dksX5_undo_0 15 rfl rfl)
theorem dX5_undo_18 : decode cX5_undo 18 = .ok (.ifCond .ne 5, 3) := dk_154 0 5 (dk_at dksX5_undo_0 18 rfl rfl)
theorem dX5_undo_21 : decode cX5_undo 21 = .ok (.iconst 0, 1) := dk_3 (dk_at dksX5_undo_0 21 rfl rfl)
theorem dX5_undo_22 : decode cX5_undo 22 = .ok (.ireturn, 1) := dk_172 (dk_at dksX5_undo_0 22 rfl rfl)
theorem dX5_undo_23 : decode cX5_undo 23 = .ok (.aload_n 0, 1) := dk_42 (dk_at dksX5_undo_0 23 rfl rfl)
theorem dX5_undo_24 : decode cX5_undo 24 = .ok (.dup, 1) := dk_89 (dk_at dksX5_undo_1 0 rfl rfl)
theorem dX5_undo_25 : decode cX5_undo 25 = .ok (.getfield 81, 3) := dk_180 0 81 (dk_at dksX5_undo_1 1 rfl rfl)
theorem dX5_undo_28 : decode cX5_undo 28 = .ok (.iconst 1, 1) := dk_4 (dk_at dksX5_undo_1 4 rfl rfl)
theorem dX5_undo_29 : decode cX5_undo 29 = .ok (.isub, 1) := dk_100 (dk_at dksX5_undo_1 5 rfl rfl)
theorem dX5_undo_30 : decode cX5_undo 30 = .ok (.putfield 81, 3) := dk_181 0 81 (dk_at dksX5_undo_1 6 rfl rfl)
theorem dX5_undo_33 : decode cX5_undo 33 = .ok (.iconst 0, 1) := dk_3 (dk_at dksX5_undo_1 9 rfl rfl)
theorem dX5_undo_34 : decode cX5_undo 34 = .ok (.istore_n 1, 1) := dk_60 (dk_at dksX5_undo_1 10 rfl rfl)
theorem dX5_undo_35 : decode cX5_undo 35 = .ok (.iload_n 1, 1) := dk_27 (dk_at dksX5_undo_1 11 rfl rfl)
theorem dX5_undo_36 : decode cX5_undo 36 = .ok (.sipush 1030, 3) := dk_17 4 6 (dk_at dksX5_undo_1 12 rfl rfl)
theorem dX5_undo_39 : decode cX5_undo 39 = .ok (.if_icmp .ge 30, 3) := dk_162 0 30 (dk_at dksX5_undo_1 15 rfl rfl)
theorem dX5_undo_42 : decode cX5_undo 42 = .ok (.aload_n 0, 1) := dk_42 (dk_at dksX5_undo_1 18 rfl rfl)
theorem dX5_undo_43 : decode cX5_undo 43 = .ok (.getfield 9, 3) := dk_180 0 9 (dk_at dksX5_undo_1 19 rfl rfl)
theorem dX5_undo_46 : decode cX5_undo 46 = .ok (.iload_n 1, 1) := dk_27 (dk_at dksX5_undo_1 22 rfl rfl)
theorem dX5_undo_47 : decode cX5_undo 47 = .ok (.aload_n 0, 1) := dk_42 (dk_at dksX5_undo_1 23 rfl rfl)
theorem dX5_undo_48 : decode cX5_undo 48 = .ok (.getfield 19, 3) := dk_180 0 19 (dk_at dksX5_undo_2 0 rfl rfl)
theorem dX5_undo_51 : decode cX5_undo 51 = .ok (.sipush 1030, 3) := dk_17 4 6 (dk_at dksX5_undo_2 3 rfl rfl)
theorem dX5_undo_54 : decode cX5_undo 54 = .ok (.aload_n 0, 1) := dk_42 (dk_at dksX5_undo_2 6 rfl rfl)
theorem dX5_undo_55 : decode cX5_undo 55 = .ok (.getfield 81, 3) := dk_180 0 81 (dk_at dksX5_undo_2 7 rfl rfl)
theorem dX5_undo_58 : decode cX5_undo 58 = .ok (.imul, 1) := dk_104 (dk_at dksX5_undo_2 10 rfl rfl)
theorem dX5_undo_59 : decode cX5_undo 59 = .ok (.iload_n 1, 1) := dk_27 (dk_at dksX5_undo_2 11 rfl rfl)
theorem dX5_undo_60 : decode cX5_undo 60 = .ok (.iadd, 1) := dk_96 (dk_at dksX5_undo_2 12 rfl rfl)
theorem dX5_undo_61 : decode cX5_undo 61 = .ok (.iaload, 1) := dk_46 (dk_at dksX5_undo_2 13 rfl rfl)
theorem dX5_undo_62 : decode cX5_undo 62 = .ok (.iastore, 1) := dk_79 (dk_at dksX5_undo_2 14 rfl rfl)
theorem dX5_undo_63 : decode cX5_undo 63 = .ok (.iinc 1 1, 3) := dk_132 1 1 (dk_at dksX5_undo_2 15 rfl rfl)
theorem dX5_undo_66 : decode cX5_undo 66 = .ok (.goto (-31), 3) := dk_167 255 225 (dk_at dksX5_undo_2 18 rfl rfl)
theorem dX5_undo_69 : decode cX5_undo 69 = .ok (.aload_n 0, 1) := dk_42 (dk_at dksX5_undo_2 21 rfl rfl)
theorem dX5_undo_70 : decode cX5_undo 70 = .ok (.getfield 81, 3) := dk_180 0 81 (dk_at dksX5_undo_3 0 rfl rfl)
theorem dX5_undo_73 : decode cX5_undo 73 = .ok (.ireturn, 1) := dk_172 (dk_at dksX5_undo_3 3 rfl rfl)
abbrev cX5_printRoofs : ByteArray := prog_15_method_126_code
def yX5_printRoofs : MethodName := ⟨RX5, "printRoofs", "()I"⟩
def dkwX5_printRoofs_1 : List UInt8 := [182, 1, 198, 132, 1, 1, 167, 255, 238, 42, 180, 1, 186, 172]
abbrev dktX5_printRoofs_1 : List UInt8 := dkwX5_printRoofs_1 ++ []
def dkwX5_printRoofs_0 : List UInt8 := [42, 3, 181, 0, 78, 42, 3, 181, 1, 186, 3, 60, 27, 42, 180, 0, 9, 3, 46, 162, 0, 14, 42, 27]
abbrev dktX5_printRoofs_0 : List UInt8 := dkwX5_printRoofs_0 ++ dktX5_printRoofs_1
theorem dksX5_printRoofs_0 : cX5_printRoofs.data.toList.drop 0 = dktX5_printRoofs_0 := by decide +kernel
theorem dksX5_printRoofs_1 : cX5_printRoofs.data.toList.drop 24 = dktX5_printRoofs_1 := dk_seg dksX5_printRoofs_0 24 rfl rfl
theorem dX5_printRoofs_0 : decode cX5_printRoofs 0 = .ok (.aload_n 0, 1) := dk_42 (dk_at dksX5_printRoofs_0 0 rfl rfl)
theorem dX5_printRoofs_1 : decode cX5_printRoofs 1 = .ok (.iconst 0, 1) := dk_3 (dk_at dksX5_printRoofs_0 1 rfl rfl)
theorem dX5_printRoofs_2 : decode cX5_printRoofs 2 = .ok (.putfield 78, 3) := dk_181 0 78 (dk_at dksX5_printRoofs_0 2 rfl rfl)
theorem dX5_printRoofs_5 : decode cX5_printRoofs 5 = .ok (.aload_n 0, 1) := dk_42 (dk_at dksX5_printRoofs_0 5 rfl rfl)
theorem dX5_printRoofs_6 : decode cX5_printRoofs 6 = .ok (.iconst 0, 1) := dk_3 (dk_at dksX5_printRoofs_0 6 rfl rfl)
theorem dX5_printRoofs_7 : decode cX5_printRoofs 7 = .ok (.putfield 442, 3) := dk_181 1 186 (dk_at dksX5_printRoofs_0 7 rfl rfl)
theorem dX5_printRoofs_10 : decode cX5_printRoofs 10 = .ok (.iconst 0, 1) := dk_3 (dk_at dksX5_printRoofs_0 10 rfl rfl)
theorem dX5_printRoofs_11 : decode cX5_printRoofs 11 = .ok (.istore_n 1, 1) := dk_60 (dk_at dksX5_printRoofs_0 11 rfl rfl)
theorem dX5_printRoofs_12 : decode cX5_printRoofs 12 = .ok (.iload_n 1, 1) := dk_27 (dk_at dksX5_printRoofs_0 12 rfl rfl)
theorem dX5_printRoofs_13 : decode cX5_printRoofs 13 = .ok (.aload_n 0, 1) := dk_42 (dk_at dksX5_printRoofs_0 13 rfl rfl)
theorem dX5_printRoofs_14 : decode cX5_printRoofs 14 = .ok (.getfield 9, 3) := dk_180 0 9 (dk_at dksX5_printRoofs_0 14 rfl rfl)
theorem dX5_printRoofs_17 : decode cX5_printRoofs 17 = .ok (.iconst 0, 1) := dk_3 (dk_at dksX5_printRoofs_0 17 rfl rfl)
theorem dX5_printRoofs_18 : decode cX5_printRoofs 18 = .ok (.iaload, 1) := dk_46 (dk_at dksX5_printRoofs_0 18 rfl rfl)
theorem dX5_printRoofs_19 : decode cX5_printRoofs 19 = .ok (.if_icmp .ge 14, 3) := dk_162 0 14 (dk_at dksX5_printRoofs_0 19 rfl rfl)
theorem dX5_printRoofs_22 : decode cX5_printRoofs 22 = .ok (.aload_n 0, 1) := dk_42 (dk_at dksX5_printRoofs_0 22 rfl rfl)
theorem dX5_printRoofs_23 : decode cX5_printRoofs 23 = .ok (.iload_n 1, 1) := dk_27 (dk_at dksX5_printRoofs_0 23 rfl rfl)
theorem dX5_printRoofs_24 : decode cX5_printRoofs 24 = .ok (.invokevirtual 454, 3) := dk_182 1 198 (dk_at dksX5_printRoofs_1 0 rfl rfl)
theorem dX5_printRoofs_27 : decode cX5_printRoofs 27 = .ok (.iinc 1 1, 3) := dk_132 1 1 (dk_at dksX5_printRoofs_1 3 rfl rfl)
theorem dX5_printRoofs_30 : decode cX5_printRoofs 30 = .ok (.goto (-18), 3) := dk_167 255 238 (dk_at dksX5_printRoofs_1 6 rfl rfl)
theorem dX5_printRoofs_33 : decode cX5_printRoofs 33 = .ok (.aload_n 0, 1) := dk_42 (dk_at dksX5_printRoofs_1 9 rfl rfl)
theorem dX5_printRoofs_34 : decode cX5_printRoofs 34 = .ok (.getfield 442, 3) := dk_180 1 186 (dk_at dksX5_printRoofs_1 10 rfl rfl)
theorem dX5_printRoofs_37 : decode cX5_printRoofs 37 = .ok (.ireturn, 1) := dk_172 (dk_at dksX5_printRoofs_1 13 rfl rfl)
abbrev cX5_saysRoof : ByteArray := prog_15_method_125_code
def yX5_saysRoof : MethodName := ⟨RX5, "saysRoof", "(I)V"⟩
def dkwX5_saysRoof_3 : List UInt8 := [182, 1, 189, 42, 42, 27, 182, 1, 129, 182, 1, 195, 177]
abbrev dktX5_saysRoof_3 : List UInt8 := dkwX5_saysRoof_3 ++ []
def dkwX5_saysRoof_2 : List UInt8 := [182, 0, 178, 153, 0, 9, 42, 16, 33, 182, 1, 189, 42, 27, 182, 1, 129, 158, 0, 18, 42, 16, 47]
abbrev dktX5_saysRoof_2 : List UInt8 := dkwX5_saysRoof_2 ++ dktX5_saysRoof_3
def dkwX5_saysRoof_1 : List UInt8 := [180, 0, 9, 27, 184, 0, 84, 16, 10, 96, 46, 182, 1, 195, 42, 27, 42, 180, 0, 9, 6, 46]
abbrev dktX5_saysRoof_1 : List UInt8 := dkwX5_saysRoof_1 ++ dktX5_saysRoof_2
def dkwX5_saysRoof_0 : List UInt8 := [27, 158, 0, 9, 42, 16, 32, 182, 1, 189, 42, 27, 182, 1, 192, 42, 16, 58, 182, 1, 189, 42, 42]
abbrev dktX5_saysRoof_0 : List UInt8 := dkwX5_saysRoof_0 ++ dktX5_saysRoof_1
theorem dksX5_saysRoof_0 : cX5_saysRoof.data.toList.drop 0 = dktX5_saysRoof_0 := by decide +kernel
theorem dksX5_saysRoof_1 : cX5_saysRoof.data.toList.drop 23 = dktX5_saysRoof_1 := dk_seg dksX5_saysRoof_0 23 rfl rfl
theorem dksX5_saysRoof_2 : cX5_saysRoof.data.toList.drop 45 = dktX5_saysRoof_2 := dk_seg dksX5_saysRoof_1 22 rfl rfl
theorem dksX5_saysRoof_3 : cX5_saysRoof.data.toList.drop 68 = dktX5_saysRoof_3 := dk_seg dksX5_saysRoof_2 23 rfl rfl
theorem dX5_saysRoof_0 : decode cX5_saysRoof 0 = .ok (.iload_n 1, 1) := dk_27 (dk_at dksX5_saysRoof_0 0 rfl rfl)
theorem dX5_saysRoof_1 : decode cX5_saysRoof 1 = .ok (.ifCond .le 9, 3) := dk_158 0 9 (dk_at dksX5_saysRoof_0 1 rfl rfl)
theorem dX5_saysRoof_4 : decode cX5_saysRoof 4 = .ok (.aload_n 0, 1) := dk_42 (dk_at dksX5_saysRoof_0 4 rfl rfl)
theorem dX5_saysRoof_5 : decode cX5_saysRoof 5 = .ok (.bipush 32, 2) := dk_16 32 (dk_at dksX5_saysRoof_0 5 rfl rfl)
theorem dX5_saysRoof_7 : decode cX5_saysRoof 7 = .ok (.invokevirtual 445, 3) := dk_182 1 189 (dk_at dksX5_saysRoof_0 7 rfl rfl)
theorem dX5_saysRoof_10 : decode cX5_saysRoof 10 = .ok (.aload_n 0, 1) := dk_42 (dk_at dksX5_saysRoof_0 10 rfl rfl)
theorem dX5_saysRoof_11 : decode cX5_saysRoof 11 = .ok (.iload_n 1, 1) := dk_27 (dk_at dksX5_saysRoof_0 11 rfl rfl)
theorem dX5_saysRoof_12 : decode cX5_saysRoof 12 = .ok (.invokevirtual 448, 3) := dk_182 1 192 (dk_at dksX5_saysRoof_0 12 rfl rfl)
theorem dX5_saysRoof_15 : decode cX5_saysRoof 15 = .ok (.aload_n 0, 1) := dk_42 (dk_at dksX5_saysRoof_0 15 rfl rfl)
theorem dX5_saysRoof_16 : decode cX5_saysRoof 16 = .ok (.bipush 58, 2) := dk_16 58 (dk_at dksX5_saysRoof_0 16 rfl rfl)
theorem dX5_saysRoof_18 : decode cX5_saysRoof 18 = .ok (.invokevirtual 445, 3) := dk_182 1 189 (dk_at dksX5_saysRoof_0 18 rfl rfl)
theorem dX5_saysRoof_21 : decode cX5_saysRoof 21 = .ok (.aload_n 0, 1) := dk_42 (dk_at dksX5_saysRoof_0 21 rfl rfl)
theorem dX5_saysRoof_22 : decode cX5_saysRoof 22 = .ok (.aload_n 0, 1) := dk_42 (dk_at dksX5_saysRoof_0 22 rfl rfl)
theorem dX5_saysRoof_23 : decode cX5_saysRoof 23 = .ok (.getfield 9, 3) := dk_180 0 9 (dk_at dksX5_saysRoof_1 0 rfl rfl)
theorem dX5_saysRoof_26 : decode cX5_saysRoof 26 = .ok (.iload_n 1, 1) := dk_27 (dk_at dksX5_saysRoof_1 3 rfl rfl)
theorem dX5_saysRoof_27 : decode cX5_saysRoof 27 = .ok (.invokestatic 84, 3) := dk_184 0 84 (dk_at dksX5_saysRoof_1 4 rfl rfl)
theorem dX5_saysRoof_30 : decode cX5_saysRoof 30 = .ok (.bipush 10, 2) := dk_16 10 (dk_at dksX5_saysRoof_1 7 rfl rfl)
theorem dX5_saysRoof_32 : decode cX5_saysRoof 32 = .ok (.iadd, 1) := dk_96 (dk_at dksX5_saysRoof_1 9 rfl rfl)
theorem dX5_saysRoof_33 : decode cX5_saysRoof 33 = .ok (.iaload, 1) := dk_46 (dk_at dksX5_saysRoof_1 10 rfl rfl)
theorem dX5_saysRoof_34 : decode cX5_saysRoof 34 = .ok (.invokevirtual 451, 3) := dk_182 1 195 (dk_at dksX5_saysRoof_1 11 rfl rfl)
theorem dX5_saysRoof_37 : decode cX5_saysRoof 37 = .ok (.aload_n 0, 1) := dk_42 (dk_at dksX5_saysRoof_1 14 rfl rfl)
theorem dX5_saysRoof_38 : decode cX5_saysRoof 38 = .ok (.iload_n 1, 1) := dk_27 (dk_at dksX5_saysRoof_1 15 rfl rfl)
theorem dX5_saysRoof_39 : decode cX5_saysRoof 39 = .ok (.aload_n 0, 1) := dk_42 (dk_at dksX5_saysRoof_1 16 rfl rfl)
theorem dX5_saysRoof_40 : decode cX5_saysRoof 40 = .ok (.getfield 9, 3) := dk_180 0 9 (dk_at dksX5_saysRoof_1 17 rfl rfl)
theorem dX5_saysRoof_43 : decode cX5_saysRoof 43 = .ok (.iconst 3, 1) := dk_6 (dk_at dksX5_saysRoof_1 20 rfl rfl)
theorem dX5_saysRoof_44 : decode cX5_saysRoof 44 = .ok (.iaload, 1) := dk_46 (dk_at dksX5_saysRoof_1 21 rfl rfl)
theorem dX5_saysRoof_45 : decode cX5_saysRoof 45 = .ok (.invokevirtual 178, 3) := dk_182 0 178 (dk_at dksX5_saysRoof_2 0 rfl rfl)
theorem dX5_saysRoof_48 : decode cX5_saysRoof 48 = .ok (.ifCond .eq 9, 3) := dk_153 0 9 (dk_at dksX5_saysRoof_2 3 rfl rfl)
theorem dX5_saysRoof_51 : decode cX5_saysRoof 51 = .ok (.aload_n 0, 1) := dk_42 (dk_at dksX5_saysRoof_2 6 rfl rfl)
theorem dX5_saysRoof_52 : decode cX5_saysRoof 52 = .ok (.bipush 33, 2) := dk_16 33 (dk_at dksX5_saysRoof_2 7 rfl rfl)
theorem dX5_saysRoof_54 : decode cX5_saysRoof 54 = .ok (.invokevirtual 445, 3) := dk_182 1 189 (dk_at dksX5_saysRoof_2 9 rfl rfl)
theorem dX5_saysRoof_57 : decode cX5_saysRoof 57 = .ok (.aload_n 0, 1) := dk_42 (dk_at dksX5_saysRoof_2 12 rfl rfl)
theorem dX5_saysRoof_58 : decode cX5_saysRoof 58 = .ok (.iload_n 1, 1) := dk_27 (dk_at dksX5_saysRoof_2 13 rfl rfl)
theorem dX5_saysRoof_59 : decode cX5_saysRoof 59 = .ok (.invokevirtual 385, 3) := dk_182 1 129 (dk_at dksX5_saysRoof_2 14 rfl rfl)
theorem dX5_saysRoof_62 : decode cX5_saysRoof 62 = .ok (.ifCond .le 18, 3) := dk_158 0 18 (dk_at dksX5_saysRoof_2 17 rfl rfl)
theorem dX5_saysRoof_65 : decode cX5_saysRoof 65 = .ok (.aload_n 0, 1) := dk_42 (dk_at dksX5_saysRoof_2 20 rfl rfl)
theorem dX5_saysRoof_66 : decode cX5_saysRoof 66 = .ok (.bipush 47, 2) := dk_16 47 (dk_at dksX5_saysRoof_2 21 rfl rfl)
theorem dX5_saysRoof_68 : decode cX5_saysRoof 68 = .ok (.invokevirtual 445, 3) := dk_182 1 189 (dk_at dksX5_saysRoof_3 0 rfl rfl)
theorem dX5_saysRoof_71 : decode cX5_saysRoof 71 = .ok (.aload_n 0, 1) := dk_42 (dk_at dksX5_saysRoof_3 3 rfl rfl)
theorem dX5_saysRoof_72 : decode cX5_saysRoof 72 = .ok (.aload_n 0, 1) := dk_42 (dk_at dksX5_saysRoof_3 4 rfl rfl)
theorem dX5_saysRoof_73 : decode cX5_saysRoof 73 = .ok (.iload_n 1, 1) := dk_27 (dk_at dksX5_saysRoof_3 5 rfl rfl)
theorem dX5_saysRoof_74 : decode cX5_saysRoof 74 = .ok (.invokevirtual 385, 3) := dk_182 1 129 (dk_at dksX5_saysRoof_3 6 rfl rfl)
theorem dX5_saysRoof_77 : decode cX5_saysRoof 77 = .ok (.invokevirtual 451, 3) := dk_182 1 195 (dk_at dksX5_saysRoof_3 9 rfl rfl)
theorem dX5_saysRoof_80 : decode cX5_saysRoof 80 = .ok (.return_, 1) := dk_177 (dk_at dksX5_saysRoof_3 12 rfl rfl)
abbrev cX5_says : ByteArray := prog_15_method_122_code
def yX5_says : MethodName := ⟨RX5, "says", "(I)V"⟩
def dkwX5_says_0 : List UInt8 := [42, 180, 0, 49, 42, 180, 1, 186, 27, 145, 84, 42, 89, 180, 1, 186, 4, 96, 181, 1, 186, 177]
abbrev dktX5_says_0 : List UInt8 := dkwX5_says_0 ++ []
theorem dksX5_says_0 : cX5_says.data.toList.drop 0 = dktX5_says_0 := by decide +kernel
theorem dX5_says_0 : decode cX5_says 0 = .ok (.aload_n 0, 1) := dk_42 (dk_at dksX5_says_0 0 rfl rfl)
theorem dX5_says_1 : decode cX5_says 1 = .ok (.getfield 49, 3) := dk_180 0 49 (dk_at dksX5_says_0 1 rfl rfl)
theorem dX5_says_4 : decode cX5_says 4 = .ok (.aload_n 0, 1) := dk_42 (dk_at dksX5_says_0 4 rfl rfl)
theorem dX5_says_5 : decode cX5_says 5 = .ok (.getfield 442, 3) := dk_180 1 186 (dk_at dksX5_says_0 5 rfl rfl)
theorem dX5_says_8 : decode cX5_says 8 = .ok (.iload_n 1, 1) := dk_27 (dk_at dksX5_says_0 8 rfl rfl)
theorem dX5_says_9 : decode cX5_says 9 = .ok (.i2b, 1) := dk_145 (dk_at dksX5_says_0 9 rfl rfl)
theorem dX5_says_10 : decode cX5_says 10 = .ok (.bastore, 1) := dk_84 (dk_at dksX5_says_0 10 rfl rfl)
theorem dX5_says_11 : decode cX5_says 11 = .ok (.aload_n 0, 1) := dk_42 (dk_at dksX5_says_0 11 rfl rfl)
theorem dX5_says_12 : decode cX5_says 12 = .ok (.dup, 1) := dk_89 (dk_at dksX5_says_0 12 rfl rfl)
theorem dX5_says_13 : decode cX5_says 13 = .ok (.getfield 442, 3) := dk_180 1 186 (dk_at dksX5_says_0 13 rfl rfl)
theorem dX5_says_16 : decode cX5_says 16 = .ok (.iconst 1, 1) := dk_4 (dk_at dksX5_says_0 16 rfl rfl)
theorem dX5_says_17 : decode cX5_says 17 = .ok (.iadd, 1) := dk_96 (dk_at dksX5_says_0 17 rfl rfl)
theorem dX5_says_18 : decode cX5_says 18 = .ok (.putfield 442, 3) := dk_181 1 186 (dk_at dksX5_says_0 18 rfl rfl)
theorem dX5_says_21 : decode cX5_says 21 = .ok (.return_, 1) := dk_177 (dk_at dksX5_says_0 21 rfl rfl)
abbrev cX5_saysName : ByteArray := prog_15_method_124_code
def yX5_saysName : MethodName := ⟨RX5, "saysName", "(I)V"⟩
def dkwX5_saysName_1 : List UInt8 := [4, 96, 28, 96, 46, 182, 1, 189, 132, 2, 1, 167, 255, 223, 177]
abbrev dktX5_saysName_1 : List UInt8 := dkwX5_saysName_1 ++ []
def dkwX5_saysName_0 : List UInt8 := [3, 61, 28, 42, 180, 0, 9, 27, 184, 0, 84, 46, 162, 0, 26, 42, 42, 180, 0, 9, 27, 184, 0, 84]
abbrev dktX5_saysName_0 : List UInt8 := dkwX5_saysName_0 ++ dktX5_saysName_1
theorem dksX5_saysName_0 : cX5_saysName.data.toList.drop 0 = dktX5_saysName_0 := by decide +kernel
theorem dksX5_saysName_1 : cX5_saysName.data.toList.drop 24 = dktX5_saysName_1 := dk_seg dksX5_saysName_0 24 rfl rfl
theorem dX5_saysName_0 : decode cX5_saysName 0 = .ok (.iconst 0, 1) := dk_3 (dk_at dksX5_saysName_0 0 rfl rfl)
theorem dX5_saysName_1 : decode cX5_saysName 1 = .ok (.istore_n 2, 1) := dk_61 (dk_at dksX5_saysName_0 1 rfl rfl)
theorem dX5_saysName_2 : decode cX5_saysName 2 = .ok (.iload_n 2, 1) := dk_28 (dk_at dksX5_saysName_0 2 rfl rfl)
theorem dX5_saysName_3 : decode cX5_saysName 3 = .ok (.aload_n 0, 1) := dk_42 (dk_at dksX5_saysName_0 3 rfl rfl)
theorem dX5_saysName_4 : decode cX5_saysName 4 = .ok (.getfield 9, 3) := dk_180 0 9 (dk_at dksX5_saysName_0 4 rfl rfl)
theorem dX5_saysName_7 : decode cX5_saysName 7 = .ok (.iload_n 1, 1) := dk_27 (dk_at dksX5_saysName_0 7 rfl rfl)
theorem dX5_saysName_8 : decode cX5_saysName 8 = .ok (.invokestatic 84, 3) := dk_184 0 84 (dk_at dksX5_saysName_0 8 rfl rfl)
theorem dX5_saysName_11 : decode cX5_saysName 11 = .ok (.iaload, 1) := dk_46 (dk_at dksX5_saysName_0 11 rfl rfl)
theorem dX5_saysName_12 : decode cX5_saysName 12 = .ok (.if_icmp .ge 26, 3) := dk_162 0 26 (dk_at dksX5_saysName_0 12 rfl rfl)
theorem dX5_saysName_15 : decode cX5_saysName 15 = .ok (.aload_n 0, 1) := dk_42 (dk_at dksX5_saysName_0 15 rfl rfl)
theorem dX5_saysName_16 : decode cX5_saysName 16 = .ok (.aload_n 0, 1) := dk_42 (dk_at dksX5_saysName_0 16 rfl rfl)
theorem dX5_saysName_17 : decode cX5_saysName 17 = .ok (.getfield 9, 3) := dk_180 0 9 (dk_at dksX5_saysName_0 17 rfl rfl)
theorem dX5_saysName_20 : decode cX5_saysName 20 = .ok (.iload_n 1, 1) := dk_27 (dk_at dksX5_saysName_0 20 rfl rfl)
theorem dX5_saysName_21 : decode cX5_saysName 21 = .ok (.invokestatic 84, 3) := dk_184 0 84 (dk_at dksX5_saysName_0 21 rfl rfl)
theorem dX5_saysName_24 : decode cX5_saysName 24 = .ok (.iconst 1, 1) := dk_4 (dk_at dksX5_saysName_1 0 rfl rfl)
theorem dX5_saysName_25 : decode cX5_saysName 25 = .ok (.iadd, 1) := dk_96 (dk_at dksX5_saysName_1 1 rfl rfl)
theorem dX5_saysName_26 : decode cX5_saysName 26 = .ok (.iload_n 2, 1) := dk_28 (dk_at dksX5_saysName_1 2 rfl rfl)
theorem dX5_saysName_27 : decode cX5_saysName 27 = .ok (.iadd, 1) := dk_96 (dk_at dksX5_saysName_1 3 rfl rfl)
theorem dX5_saysName_28 : decode cX5_saysName 28 = .ok (.iaload, 1) := dk_46 (dk_at dksX5_saysName_1 4 rfl rfl)
theorem dX5_saysName_29 : decode cX5_saysName 29 = .ok (.invokevirtual 445, 3) := dk_182 1 189 (dk_at dksX5_saysName_1 5 rfl rfl)
theorem dX5_saysName_32 : decode cX5_saysName 32 = .ok (.iinc 2 1, 3) := dk_132 2 1 (dk_at dksX5_saysName_1 8 rfl rfl)
theorem dX5_saysName_35 : decode cX5_saysName 35 = .ok (.goto (-33), 3) := dk_167 255 223 (dk_at dksX5_saysName_1 11 rfl rfl)
theorem dX5_saysName_38 : decode cX5_saysName 38 = .ok (.return_, 1) := dk_177 (dk_at dksX5_saysName_1 14 rfl rfl)
abbrev cX5_saysNumber : ByteArray := prog_15_method_123_code
def yX5_saysNumber : MethodName := ⟨RX5, "saysNumber", "(I)V"⟩
def dkwX5_saysNumber_1 : List UInt8 := [16, 48, 27, 28, 108, 16, 10, 112, 96, 182, 1, 189, 28, 16, 10, 108, 61, 167, 255, 234, 177]
abbrev dktX5_saysNumber_1 : List UInt8 := dkwX5_saysNumber_1 ++ []
def dkwX5_saysNumber_0 : List UInt8 := [4, 61, 27, 28, 108, 16, 9, 164, 0, 11, 28, 16, 10, 104, 61, 167, 255, 243, 28, 158, 0, 24, 42]
abbrev dktX5_saysNumber_0 : List UInt8 := dkwX5_saysNumber_0 ++ dktX5_saysNumber_1
theorem dksX5_saysNumber_0 : cX5_saysNumber.data.toList.drop 0 = dktX5_saysNumber_0 := by decide +kernel
theorem dksX5_saysNumber_1 : cX5_saysNumber.data.toList.drop 23 = dktX5_saysNumber_1 := dk_seg dksX5_saysNumber_0 23 rfl rfl
theorem dX5_saysNumber_0 : decode cX5_saysNumber 0 = .ok (.iconst 1, 1) := dk_4 (dk_at dksX5_saysNumber_0 0 rfl rfl)
theorem dX5_saysNumber_1 : decode cX5_saysNumber 1 = .ok (.istore_n 2, 1) := dk_61 (dk_at dksX5_saysNumber_0 1 rfl rfl)
theorem dX5_saysNumber_2 : decode cX5_saysNumber 2 = .ok (.iload_n 1, 1) := dk_27 (dk_at dksX5_saysNumber_0 2 rfl rfl)
theorem dX5_saysNumber_3 : decode cX5_saysNumber 3 = .ok (.iload_n 2, 1) := dk_28 (dk_at dksX5_saysNumber_0 3 rfl rfl)
theorem dX5_saysNumber_4 : decode cX5_saysNumber 4 = .ok (.idiv, 1) := dk_108 (dk_at dksX5_saysNumber_0 4 rfl rfl)
theorem dX5_saysNumber_5 : decode cX5_saysNumber 5 = .ok (.bipush 9, 2) := dk_16 9 (dk_at dksX5_saysNumber_0 5 rfl rfl)
theorem dX5_saysNumber_7 : decode cX5_saysNumber 7 = .ok (.if_icmp .le 11, 3) := dk_164 0 11 (dk_at dksX5_saysNumber_0 7 rfl rfl)
theorem dX5_saysNumber_10 : decode cX5_saysNumber 10 = .ok (.iload_n 2, 1) := dk_28 (dk_at dksX5_saysNumber_0 10 rfl rfl)
theorem dX5_saysNumber_11 : decode cX5_saysNumber 11 = .ok (.bipush 10, 2) := dk_16 10 (dk_at dksX5_saysNumber_0 11 rfl rfl)
theorem dX5_saysNumber_13 : decode cX5_saysNumber 13 = .ok (.imul, 1) := dk_104 (dk_at dksX5_saysNumber_0 13 rfl rfl)
theorem dX5_saysNumber_14 : decode cX5_saysNumber 14 = .ok (.istore_n 2, 1) := dk_61 (dk_at dksX5_saysNumber_0 14 rfl rfl)
theorem dX5_saysNumber_15 : decode cX5_saysNumber 15 = .ok (.goto (-13), 3) := dk_167 255 243 (dk_at dksX5_saysNumber_0 15 rfl rfl)
theorem dX5_saysNumber_18 : decode cX5_saysNumber 18 = .ok (.iload_n 2, 1) := dk_28 (dk_at dksX5_saysNumber_0 18 rfl rfl)
theorem dX5_saysNumber_19 : decode cX5_saysNumber 19 = .ok (.ifCond .le 24, 3) := dk_158 0 24 (dk_at dksX5_saysNumber_0 19 rfl rfl)
theorem dX5_saysNumber_22 : decode cX5_saysNumber 22 = .ok (.aload_n 0, 1) := dk_42 (dk_at dksX5_saysNumber_0 22 rfl rfl)
theorem dX5_saysNumber_23 : decode cX5_saysNumber 23 = .ok (.bipush 48, 2) := dk_16 48 (dk_at dksX5_saysNumber_1 0 rfl rfl)
theorem dX5_saysNumber_25 : decode cX5_saysNumber 25 = .ok (.iload_n 1, 1) := dk_27 (dk_at dksX5_saysNumber_1 2 rfl rfl)
theorem dX5_saysNumber_26 : decode cX5_saysNumber 26 = .ok (.iload_n 2, 1) := dk_28 (dk_at dksX5_saysNumber_1 3 rfl rfl)
theorem dX5_saysNumber_27 : decode cX5_saysNumber 27 = .ok (.idiv, 1) := dk_108 (dk_at dksX5_saysNumber_1 4 rfl rfl)
theorem dX5_saysNumber_28 : decode cX5_saysNumber 28 = .ok (.bipush 10, 2) := dk_16 10 (dk_at dksX5_saysNumber_1 5 rfl rfl)
theorem dX5_saysNumber_30 : decode cX5_saysNumber 30 = .ok (.irem, 1) := dk_112 (dk_at dksX5_saysNumber_1 7 rfl rfl)
theorem dX5_saysNumber_31 : decode cX5_saysNumber 31 = .ok (.iadd, 1) := dk_96 (dk_at dksX5_saysNumber_1 8 rfl rfl)
theorem dX5_saysNumber_32 : decode cX5_saysNumber 32 = .ok (.invokevirtual 445, 3) := dk_182 1 189 (dk_at dksX5_saysNumber_1 9 rfl rfl)
theorem dX5_saysNumber_35 : decode cX5_saysNumber 35 = .ok (.iload_n 2, 1) := dk_28 (dk_at dksX5_saysNumber_1 12 rfl rfl)
theorem dX5_saysNumber_36 : decode cX5_saysNumber 36 = .ok (.bipush 10, 2) := dk_16 10 (dk_at dksX5_saysNumber_1 13 rfl rfl)
theorem dX5_saysNumber_38 : decode cX5_saysNumber 38 = .ok (.idiv, 1) := dk_108 (dk_at dksX5_saysNumber_1 15 rfl rfl)
theorem dX5_saysNumber_39 : decode cX5_saysNumber 39 = .ok (.istore_n 2, 1) := dk_61 (dk_at dksX5_saysNumber_1 16 rfl rfl)
theorem dX5_saysNumber_40 : decode cX5_saysNumber 40 = .ok (.goto (-22), 3) := dk_167 255 234 (dk_at dksX5_saysNumber_1 17 rfl rfl)
theorem dX5_saysNumber_43 : decode cX5_saysNumber 43 = .ok (.return_, 1) := dk_177 (dk_at dksX5_saysNumber_1 20 rfl rfl)
abbrev cX5_printTune : ByteArray := prog_15_method_127_code
def yX5_printTune : MethodName := ⟨RX5, "printTune", "(I)I"⟩
def dkwX5_printTune_5 : List UInt8 := [180, 1, 186, 172]
abbrev dktX5_printTune_5 : List UInt8 := dkwX5_printTune_5 ++ []
def dkwX5_printTune_4 : List UInt8 := [167, 255, 192, 42, 16, 62, 182, 1, 189, 42, 42, 180, 0, 9, 28, 4, 96, 46, 182, 1, 192, 42]
abbrev dktX5_printTune_4 : List UInt8 := dkwX5_printTune_4 ++ dktX5_printTune_5
def dkwX5_printTune_3 : List UInt8 := [46, 42, 180, 0, 9, 28, 16, 11, 96, 29, 96, 46, 159, 0, 9, 42, 16, 39, 182, 1, 189, 132, 3, 1]
abbrev dktX5_printTune_3 : List UInt8 := dkwX5_printTune_3 ++ dktX5_printTune_4
def dkwX5_printTune_2 : List UInt8 := [180, 0, 9, 28, 16, 19, 96, 29, 96, 46, 96, 182, 1, 189, 42, 180, 0, 9, 28, 16, 19, 96, 29, 96]
abbrev dktX5_printTune_2 : List UInt8 := dkwX5_printTune_2 ++ dktX5_printTune_3
def dkwX5_printTune_1 : List UInt8 := [184, 0, 109, 61, 3, 62, 29, 42, 180, 0, 9, 28, 5, 96, 46, 162, 0, 58, 42, 16, 48, 42]
abbrev dktX5_printTune_1 : List UInt8 := dkwX5_printTune_1 ++ dktX5_printTune_2
def dkwX5_printTune_0 : List UInt8 := [42, 42, 27, 182, 1, 140, 4, 4, 182, 1, 109, 154, 0, 5, 3, 172, 42, 3, 181, 1, 186, 27]
abbrev dktX5_printTune_0 : List UInt8 := dkwX5_printTune_0 ++ dktX5_printTune_1
theorem dksX5_printTune_0 : cX5_printTune.data.toList.drop 0 = dktX5_printTune_0 := by decide +kernel
theorem dksX5_printTune_1 : cX5_printTune.data.toList.drop 22 = dktX5_printTune_1 := dk_seg dksX5_printTune_0 22 rfl rfl
theorem dksX5_printTune_2 : cX5_printTune.data.toList.drop 44 = dktX5_printTune_2 := dk_seg dksX5_printTune_1 22 rfl rfl
theorem dksX5_printTune_3 : cX5_printTune.data.toList.drop 68 = dktX5_printTune_3 := dk_seg dksX5_printTune_2 24 rfl rfl
theorem dksX5_printTune_4 : cX5_printTune.data.toList.drop 92 = dktX5_printTune_4 := dk_seg dksX5_printTune_3 24 rfl rfl
theorem dksX5_printTune_5 : cX5_printTune.data.toList.drop 114 = dktX5_printTune_5 := dk_seg dksX5_printTune_4 22 rfl rfl
theorem dX5_printTune_0 : decode cX5_printTune 0 = .ok (.aload_n 0, 1) := dk_42 (dk_at dksX5_printTune_0 0 rfl rfl)
theorem dX5_printTune_1 : decode cX5_printTune 1 = .ok (.aload_n 0, 1) := dk_42 (dk_at dksX5_printTune_0 1 rfl rfl)
theorem dX5_printTune_2 : decode cX5_printTune 2 = .ok (.iload_n 1, 1) := dk_27 (dk_at dksX5_printTune_0 2 rfl rfl)
theorem dX5_printTune_3 : decode cX5_printTune 3 = .ok (.invokevirtual 396, 3) := dk_182 1 140 (dk_at dksX5_printTune_0 3 rfl rfl)
theorem dX5_printTune_6 : decode cX5_printTune 6 = .ok (.iconst 1, 1) := dk_4 (dk_at dksX5_printTune_0 6 rfl rfl)
theorem dX5_printTune_7 : decode cX5_printTune 7 = .ok (.iconst 1, 1) := dk_4 (dk_at dksX5_printTune_0 7 rfl rfl)
theorem dX5_printTune_8 : decode cX5_printTune 8 = .ok (.invokevirtual 365, 3) := dk_182 1 109 (dk_at dksX5_printTune_0 8 rfl rfl)
theorem dX5_printTune_11 : decode cX5_printTune 11 = .ok (.ifCond .ne 5, 3) := dk_154 0 5 (dk_at dksX5_printTune_0 11 rfl rfl)
theorem dX5_printTune_14 : decode cX5_printTune 14 = .ok (.iconst 0, 1) := dk_3 (dk_at dksX5_printTune_0 14 rfl rfl)
theorem dX5_printTune_15 : decode cX5_printTune 15 = .ok (.ireturn, 1) := dk_172 (dk_at dksX5_printTune_0 15 rfl rfl)
theorem dX5_printTune_16 : decode cX5_printTune 16 = .ok (.aload_n 0, 1) := dk_42 (dk_at dksX5_printTune_0 16 rfl rfl)
theorem dX5_printTune_17 : decode cX5_printTune 17 = .ok (.iconst 0, 1) := dk_3 (dk_at dksX5_printTune_0 17 rfl rfl)
theorem dX5_printTune_18 : decode cX5_printTune 18 = .ok (.putfield 442, 3) := dk_181 1 186 (dk_at dksX5_printTune_0 18 rfl rfl)
theorem dX5_printTune_21 : decode cX5_printTune 21 = .ok (.iload_n 1, 1) := dk_27 (dk_at dksX5_printTune_0 21 rfl rfl)
theorem dX5_printTune_22 : decode cX5_printTune 22 = .ok (.invokestatic 109, 3) := dk_184 0 109 (dk_at dksX5_printTune_1 0 rfl rfl)
theorem dX5_printTune_25 : decode cX5_printTune 25 = .ok (.istore_n 2, 1) := dk_61 (dk_at dksX5_printTune_1 3 rfl rfl)
theorem dX5_printTune_26 : decode cX5_printTune 26 = .ok (.iconst 0, 1) := dk_3 (dk_at dksX5_printTune_1 4 rfl rfl)
theorem dX5_printTune_27 : decode cX5_printTune 27 = .ok (.istore_n 3, 1) := dk_62 (dk_at dksX5_printTune_1 5 rfl rfl)
theorem dX5_printTune_28 : decode cX5_printTune 28 = .ok (.iload_n 3, 1) := dk_29 (dk_at dksX5_printTune_1 6 rfl rfl)
theorem dX5_printTune_29 : decode cX5_printTune 29 = .ok (.aload_n 0, 1) := dk_42 (dk_at dksX5_printTune_1 7 rfl rfl)
theorem dX5_printTune_30 : decode cX5_printTune 30 = .ok (.getfield 9, 3) := dk_180 0 9 (dk_at dksX5_printTune_1 8 rfl rfl)
theorem dX5_printTune_33 : decode cX5_printTune 33 = .ok (.iload_n 2, 1) := dk_28 (dk_at dksX5_printTune_1 11 rfl rfl)
theorem dX5_printTune_34 : decode cX5_printTune 34 = .ok (.iconst 2, 1) := dk_5 (dk_at dksX5_printTune_1 12 rfl rfl)
theorem dX5_printTune_35 : decode cX5_printTune 35 = .ok (.iadd, 1) := dk_96 (dk_at dksX5_printTune_1 13 rfl rfl)
theorem dX5_printTune_36 : decode cX5_printTune 36 = .ok (.iaload, 1) := dk_46 (dk_at dksX5_printTune_1 14 rfl rfl)
theorem dX5_printTune_37 : decode cX5_printTune 37 = .ok (.if_icmp .ge 58, 3) := dk_162 0 58 (dk_at dksX5_printTune_1 15 rfl rfl)
theorem dX5_printTune_40 : decode cX5_printTune 40 = .ok (.aload_n 0, 1) := dk_42 (dk_at dksX5_printTune_1 18 rfl rfl)
theorem dX5_printTune_41 : decode cX5_printTune 41 = .ok (.bipush 48, 2) := dk_16 48 (dk_at dksX5_printTune_1 19 rfl rfl)
theorem dX5_printTune_43 : decode cX5_printTune 43 = .ok (.aload_n 0, 1) := dk_42 (dk_at dksX5_printTune_1 21 rfl rfl)
theorem dX5_printTune_44 : decode cX5_printTune 44 = .ok (.getfield 9, 3) := dk_180 0 9 (dk_at dksX5_printTune_2 0 rfl rfl)
theorem dX5_printTune_47 : decode cX5_printTune 47 = .ok (.iload_n 2, 1) := dk_28 (dk_at dksX5_printTune_2 3 rfl rfl)
theorem dX5_printTune_48 : decode cX5_printTune 48 = .ok (.bipush 19, 2) := dk_16 19 (dk_at dksX5_printTune_2 4 rfl rfl)
theorem dX5_printTune_50 : decode cX5_printTune 50 = .ok (.iadd, 1) := dk_96 (dk_at dksX5_printTune_2 6 rfl rfl)
theorem dX5_printTune_51 : decode cX5_printTune 51 = .ok (.iload_n 3, 1) := dk_29 (dk_at dksX5_printTune_2 7 rfl rfl)
theorem dX5_printTune_52 : decode cX5_printTune 52 = .ok (.iadd, 1) := dk_96 (dk_at dksX5_printTune_2 8 rfl rfl)
theorem dX5_printTune_53 : decode cX5_printTune 53 = .ok (.iaload, 1) := dk_46 (dk_at dksX5_printTune_2 9 rfl rfl)
theorem dX5_printTune_54 : decode cX5_printTune 54 = .ok (.iadd, 1) := dk_96 (dk_at dksX5_printTune_2 10 rfl rfl)
theorem dX5_printTune_55 : decode cX5_printTune 55 = .ok (.invokevirtual 445, 3) := dk_182 1 189 (dk_at dksX5_printTune_2 11 rfl rfl)
theorem dX5_printTune_58 : decode cX5_printTune 58 = .ok (.aload_n 0, 1) := dk_42 (dk_at dksX5_printTune_2 14 rfl rfl)
theorem dX5_printTune_59 : decode cX5_printTune 59 = .ok (.getfield 9, 3) := dk_180 0 9 (dk_at dksX5_printTune_2 15 rfl rfl)
theorem dX5_printTune_62 : decode cX5_printTune 62 = .ok (.iload_n 2, 1) := dk_28 (dk_at dksX5_printTune_2 18 rfl rfl)
theorem dX5_printTune_63 : decode cX5_printTune 63 = .ok (.bipush 19, 2) := dk_16 19 (dk_at dksX5_printTune_2 19 rfl rfl)
theorem dX5_printTune_65 : decode cX5_printTune 65 = .ok (.iadd, 1) := dk_96 (dk_at dksX5_printTune_2 21 rfl rfl)
theorem dX5_printTune_66 : decode cX5_printTune 66 = .ok (.iload_n 3, 1) := dk_29 (dk_at dksX5_printTune_2 22 rfl rfl)
theorem dX5_printTune_67 : decode cX5_printTune 67 = .ok (.iadd, 1) := dk_96 (dk_at dksX5_printTune_2 23 rfl rfl)
theorem dX5_printTune_68 : decode cX5_printTune 68 = .ok (.iaload, 1) := dk_46 (dk_at dksX5_printTune_3 0 rfl rfl)
theorem dX5_printTune_69 : decode cX5_printTune 69 = .ok (.aload_n 0, 1) := dk_42 (dk_at dksX5_printTune_3 1 rfl rfl)
theorem dX5_printTune_70 : decode cX5_printTune 70 = .ok (.getfield 9, 3) := dk_180 0 9 (dk_at dksX5_printTune_3 2 rfl rfl)
theorem dX5_printTune_73 : decode cX5_printTune 73 = .ok (.iload_n 2, 1) := dk_28 (dk_at dksX5_printTune_3 5 rfl rfl)
theorem dX5_printTune_74 : decode cX5_printTune 74 = .ok (.bipush 11, 2) := dk_16 11 (dk_at dksX5_printTune_3 6 rfl rfl)
theorem dX5_printTune_76 : decode cX5_printTune 76 = .ok (.iadd, 1) := dk_96 (dk_at dksX5_printTune_3 8 rfl rfl)
theorem dX5_printTune_77 : decode cX5_printTune 77 = .ok (.iload_n 3, 1) := dk_29 (dk_at dksX5_printTune_3 9 rfl rfl)
theorem dX5_printTune_78 : decode cX5_printTune 78 = .ok (.iadd, 1) := dk_96 (dk_at dksX5_printTune_3 10 rfl rfl)
theorem dX5_printTune_79 : decode cX5_printTune 79 = .ok (.iaload, 1) := dk_46 (dk_at dksX5_printTune_3 11 rfl rfl)
theorem dX5_printTune_80 : decode cX5_printTune 80 = .ok (.if_icmp .eq 9, 3) := dk_159 0 9 (dk_at dksX5_printTune_3 12 rfl rfl)
theorem dX5_printTune_83 : decode cX5_printTune 83 = .ok (.aload_n 0, 1) := dk_42 (dk_at dksX5_printTune_3 15 rfl rfl)
theorem dX5_printTune_84 : decode cX5_printTune 84 = .ok (.bipush 39, 2) := dk_16 39 (dk_at dksX5_printTune_3 16 rfl rfl)
theorem dX5_printTune_86 : decode cX5_printTune 86 = .ok (.invokevirtual 445, 3) := dk_182 1 189 (dk_at dksX5_printTune_3 18 rfl rfl)
theorem dX5_printTune_89 : decode cX5_printTune 89 = .ok (.iinc 3 1, 3) := dk_132 3 1 (dk_at dksX5_printTune_3 21 rfl rfl)
theorem dX5_printTune_92 : decode cX5_printTune 92 = .ok (.goto (-64), 3) := dk_167 255 192 (dk_at dksX5_printTune_4 0 rfl rfl)
theorem dX5_printTune_95 : decode cX5_printTune 95 = .ok (.aload_n 0, 1) := dk_42 (dk_at dksX5_printTune_4 3 rfl rfl)
theorem dX5_printTune_96 : decode cX5_printTune 96 = .ok (.bipush 62, 2) := dk_16 62 (dk_at dksX5_printTune_4 4 rfl rfl)
theorem dX5_printTune_98 : decode cX5_printTune 98 = .ok (.invokevirtual 445, 3) := dk_182 1 189 (dk_at dksX5_printTune_4 6 rfl rfl)
theorem dX5_printTune_101 : decode cX5_printTune 101 = .ok (.aload_n 0, 1) := dk_42 (dk_at dksX5_printTune_4 9 rfl rfl)
theorem dX5_printTune_102 : decode cX5_printTune 102 = .ok (.aload_n 0, 1) := dk_42 (dk_at dksX5_printTune_4 10 rfl rfl)
theorem dX5_printTune_103 : decode cX5_printTune 103 = .ok (.getfield 9, 3) := dk_180 0 9 (dk_at dksX5_printTune_4 11 rfl rfl)
theorem dX5_printTune_106 : decode cX5_printTune 106 = .ok (.iload_n 2, 1) := dk_28 (dk_at dksX5_printTune_4 14 rfl rfl)
theorem dX5_printTune_107 : decode cX5_printTune 107 = .ok (.iconst 1, 1) := dk_4 (dk_at dksX5_printTune_4 15 rfl rfl)
theorem dX5_printTune_108 : decode cX5_printTune 108 = .ok (.iadd, 1) := dk_96 (dk_at dksX5_printTune_4 16 rfl rfl)
theorem dX5_printTune_109 : decode cX5_printTune 109 = .ok (.iaload, 1) := dk_46 (dk_at dksX5_printTune_4 17 rfl rfl)
theorem dX5_printTune_110 : decode cX5_printTune 110 = .ok (.invokevirtual 448, 3) := dk_182 1 192 (dk_at dksX5_printTune_4 18 rfl rfl)
theorem dX5_printTune_113 : decode cX5_printTune 113 = .ok (.aload_n 0, 1) := dk_42 (dk_at dksX5_printTune_4 21 rfl rfl)
theorem dX5_printTune_114 : decode cX5_printTune 114 = .ok (.getfield 442, 3) := dk_180 1 186 (dk_at dksX5_printTune_5 0 rfl rfl)
theorem dX5_printTune_117 : decode cX5_printTune 117 = .ok (.ireturn, 1) := dk_172 (dk_at dksX5_printTune_5 3 rfl rfl)
abbrev cX5_outputByte : ByteArray := prog_15_method_128_code
def yX5_outputByte : MethodName := ⟨RX5, "outputByte", "(I)I"⟩
def dkwX5_outputByte_1 : List UInt8 := [180, 0, 49, 27, 51, 167, 0, 4, 2, 172]
abbrev dktX5_outputByte_1 : List UInt8 := dkwX5_outputByte_1 ++ []
def dkwX5_outputByte_0 : List UInt8 := [42, 3, 181, 0, 78, 27, 133, 9, 42, 180, 1, 186, 4, 100, 133, 184, 0, 199, 153, 0, 12, 42]
abbrev dktX5_outputByte_0 : List UInt8 := dkwX5_outputByte_0 ++ dktX5_outputByte_1
theorem dksX5_outputByte_0 : cX5_outputByte.data.toList.drop 0 = dktX5_outputByte_0 := by decide +kernel
theorem dksX5_outputByte_1 : cX5_outputByte.data.toList.drop 22 = dktX5_outputByte_1 := dk_seg dksX5_outputByte_0 22 rfl rfl
theorem dX5_outputByte_0 : decode cX5_outputByte 0 = .ok (.aload_n 0, 1) := dk_42 (dk_at dksX5_outputByte_0 0 rfl rfl)
theorem dX5_outputByte_1 : decode cX5_outputByte 1 = .ok (.iconst 0, 1) := dk_3 (dk_at dksX5_outputByte_0 1 rfl rfl)
theorem dX5_outputByte_2 : decode cX5_outputByte 2 = .ok (.putfield 78, 3) := dk_181 0 78 (dk_at dksX5_outputByte_0 2 rfl rfl)
theorem dX5_outputByte_5 : decode cX5_outputByte 5 = .ok (.iload_n 1, 1) := dk_27 (dk_at dksX5_outputByte_0 5 rfl rfl)
theorem dX5_outputByte_6 : decode cX5_outputByte 6 = .ok (.i2l, 1) := dk_133 (dk_at dksX5_outputByte_0 6 rfl rfl)
theorem dX5_outputByte_7 : decode cX5_outputByte 7 = .ok (.lconst 0, 1) := dk_9 (dk_at dksX5_outputByte_0 7 rfl rfl)
theorem dX5_outputByte_8 : decode cX5_outputByte 8 = .ok (.aload_n 0, 1) := dk_42 (dk_at dksX5_outputByte_0 8 rfl rfl)
theorem dX5_outputByte_9 : decode cX5_outputByte 9 = .ok (.getfield 442, 3) := dk_180 1 186 (dk_at dksX5_outputByte_0 9 rfl rfl)
theorem dX5_outputByte_12 : decode cX5_outputByte 12 = .ok (.iconst 1, 1) := dk_4 (dk_at dksX5_outputByte_0 12 rfl rfl)
theorem dX5_outputByte_13 : decode cX5_outputByte 13 = .ok (.isub, 1) := dk_100 (dk_at dksX5_outputByte_0 13 rfl rfl)
theorem dX5_outputByte_14 : decode cX5_outputByte 14 = .ok (.i2l, 1) := dk_133 (dk_at dksX5_outputByte_0 14 rfl rfl)
theorem dX5_outputByte_15 : decode cX5_outputByte 15 = .ok (.invokestatic 199, 3) := dk_184 0 199 (dk_at dksX5_outputByte_0 15 rfl rfl)
theorem dX5_outputByte_18 : decode cX5_outputByte 18 = .ok (.ifCond .eq 12, 3) := dk_153 0 12 (dk_at dksX5_outputByte_0 18 rfl rfl)
theorem dX5_outputByte_21 : decode cX5_outputByte 21 = .ok (.aload_n 0, 1) := dk_42 (dk_at dksX5_outputByte_0 21 rfl rfl)
theorem dX5_outputByte_22 : decode cX5_outputByte 22 = .ok (.getfield 49, 3) := dk_180 0 49 (dk_at dksX5_outputByte_1 0 rfl rfl)
theorem dX5_outputByte_25 : decode cX5_outputByte 25 = .ok (.iload_n 1, 1) := dk_27 (dk_at dksX5_outputByte_1 3 rfl rfl)
theorem dX5_outputByte_26 : decode cX5_outputByte 26 = .ok (.baload, 1) := dk_51 (dk_at dksX5_outputByte_1 4 rfl rfl)
theorem dX5_outputByte_27 : decode cX5_outputByte 27 = .ok (.goto 4, 3) := dk_167 0 4 (dk_at dksX5_outputByte_1 5 rfl rfl)
theorem dX5_outputByte_30 : decode cX5_outputByte 30 = .ok (.iconst (-1), 1) := dk_2 (dk_at dksX5_outputByte_1 8 rfl rfl)
theorem dX5_outputByte_31 : decode cX5_outputByte 31 = .ok (.ireturn, 1) := dk_172 (dk_at dksX5_outputByte_1 9 rfl rfl)
abbrev cX5_saveState : ByteArray := prog_15_method_129_code
def yX5_saveState : MethodName := ⟨RX5, "saveState", "()I"⟩
def dkwX5_saveState_1 : List UInt8 := [172]
abbrev dktX5_saveState_1 : List UInt8 := dkwX5_saveState_1 ++ []
def dkwX5_saveState_0 : List UInt8 := [42, 3, 181, 0, 78, 42, 42, 180, 0, 16, 182, 1, 43, 42, 4, 181, 1, 60, 42, 180, 0, 9, 5, 46]
abbrev dktX5_saveState_0 : List UInt8 := dkwX5_saveState_0 ++ dktX5_saveState_1
theorem dksX5_saveState_0 : cX5_saveState.data.toList.drop 0 = dktX5_saveState_0 := by decide +kernel
theorem dksX5_saveState_1 : cX5_saveState.data.toList.drop 24 = dktX5_saveState_1 := dk_seg dksX5_saveState_0 24 rfl rfl
theorem dX5_saveState_0 : decode cX5_saveState 0 = .ok (.aload_n 0, 1) := dk_42 (dk_at dksX5_saveState_0 0 rfl rfl)
theorem dX5_saveState_1 : decode cX5_saveState 1 = .ok (.iconst 0, 1) := dk_3 (dk_at dksX5_saveState_0 1 rfl rfl)
theorem dX5_saveState_2 : decode cX5_saveState 2 = .ok (.putfield 78, 3) := dk_181 0 78 (dk_at dksX5_saveState_0 2 rfl rfl)
theorem dX5_saveState_5 : decode cX5_saveState 5 = .ok (.aload_n 0, 1) := dk_42 (dk_at dksX5_saveState_0 5 rfl rfl)
theorem dX5_saveState_6 : decode cX5_saveState 6 = .ok (.aload_n 0, 1) := dk_42 (dk_at dksX5_saveState_0 6 rfl rfl)
theorem dX5_saveState_7 : decode cX5_saveState 7 = .ok (.getfield 16, 3) := dk_180 0 16 (dk_at dksX5_saveState_0 7 rfl rfl)
theorem dX5_saveState_10 : decode cX5_saveState 10 = .ok (.invokevirtual 299, 3) := dk_182 1 43 (dk_at dksX5_saveState_0 10 rfl rfl)
theorem dX5_saveState_13 : decode cX5_saveState 13 = .ok (.aload_n 0, 1) := dk_42 (dk_at dksX5_saveState_0 13 rfl rfl)
theorem dX5_saveState_14 : decode cX5_saveState 14 = .ok (.iconst 1, 1) := dk_4 (dk_at dksX5_saveState_0 14 rfl rfl)
theorem dX5_saveState_15 : decode cX5_saveState 15 = .ok (.putfield 316, 3) := dk_181 1 60 (dk_at dksX5_saveState_0 15 rfl rfl)
theorem dX5_saveState_18 : decode cX5_saveState 18 = .ok (.aload_n 0, 1) := dk_42 (dk_at dksX5_saveState_0 18 rfl rfl)
theorem dX5_saveState_19 : decode cX5_saveState 19 = .ok (.getfield 9, 3) := dk_180 0 9 (dk_at dksX5_saveState_0 19 rfl rfl)
theorem dX5_saveState_22 : decode cX5_saveState 22 = .ok (.iconst 2, 1) := dk_5 (dk_at dksX5_saveState_0 22 rfl rfl)
theorem dX5_saveState_23 : decode cX5_saveState 23 = .ok (.iaload, 1) := dk_46 (dk_at dksX5_saveState_0 23 rfl rfl)
theorem dX5_saveState_24 : decode cX5_saveState 24 = .ok (.ireturn, 1) := dk_172 (dk_at dksX5_saveState_1 0 rfl rfl)
abbrev cX5_restoreState : ByteArray := prog_15_method_130_code
def yX5_restoreState : MethodName := ⟨RX5, "restoreState", "()I"⟩
def dkwX5_restoreState_1 : List UInt8 := [60, 42, 3, 181, 0, 81, 42, 180, 0, 9, 5, 46, 172]
abbrev dktX5_restoreState_1 : List UInt8 := dkwX5_restoreState_1 ++ []
def dkwX5_restoreState_0 : List UInt8 := [42, 42, 180, 1, 60, 4, 4, 182, 1, 109, 154, 0, 5, 3, 172, 42, 42, 180, 0, 16, 3, 182, 1, 56]
abbrev dktX5_restoreState_0 : List UInt8 := dkwX5_restoreState_0 ++ dktX5_restoreState_1
theorem dksX5_restoreState_0 : cX5_restoreState.data.toList.drop 0 = dktX5_restoreState_0 := by decide +kernel
theorem dksX5_restoreState_1 : cX5_restoreState.data.toList.drop 24 = dktX5_restoreState_1 := dk_seg dksX5_restoreState_0 24 rfl rfl
theorem dX5_restoreState_0 : decode cX5_restoreState 0 = .ok (.aload_n 0, 1) := dk_42 (dk_at dksX5_restoreState_0 0 rfl rfl)
theorem dX5_restoreState_1 : decode cX5_restoreState 1 = .ok (.aload_n 0, 1) := dk_42 (dk_at dksX5_restoreState_0 1 rfl rfl)
theorem dX5_restoreState_2 : decode cX5_restoreState 2 = .ok (.getfield 316, 3) := dk_180 1 60 (dk_at dksX5_restoreState_0 2 rfl rfl)
theorem dX5_restoreState_5 : decode cX5_restoreState 5 = .ok (.iconst 1, 1) := dk_4 (dk_at dksX5_restoreState_0 5 rfl rfl)
theorem dX5_restoreState_6 : decode cX5_restoreState 6 = .ok (.iconst 1, 1) := dk_4 (dk_at dksX5_restoreState_0 6 rfl rfl)
theorem dX5_restoreState_7 : decode cX5_restoreState 7 = .ok (.invokevirtual 365, 3) := dk_182 1 109 (dk_at dksX5_restoreState_0 7 rfl rfl)
theorem dX5_restoreState_10 : decode cX5_restoreState 10 = .ok (.ifCond .ne 5, 3) := dk_154 0 5 (dk_at dksX5_restoreState_0 10 rfl rfl)
theorem dX5_restoreState_13 : decode cX5_restoreState 13 = .ok (.iconst 0, 1) := dk_3 (dk_at dksX5_restoreState_0 13 rfl rfl)
theorem dX5_restoreState_14 : decode cX5_restoreState 14 = .ok (.ireturn, 1) := dk_172 (dk_at dksX5_restoreState_0 14 rfl rfl)
theorem dX5_restoreState_15 : decode cX5_restoreState 15 = .ok (.aload_n 0, 1) := dk_42 (dk_at dksX5_restoreState_0 15 rfl rfl)
theorem dX5_restoreState_16 : decode cX5_restoreState 16 = .ok (.aload_n 0, 1) := dk_42 (dk_at dksX5_restoreState_0 16 rfl rfl)
theorem dX5_restoreState_17 : decode cX5_restoreState 17 = .ok (.getfield 16, 3) := dk_180 0 16 (dk_at dksX5_restoreState_0 17 rfl rfl)
theorem dX5_restoreState_20 : decode cX5_restoreState 20 = .ok (.iconst 0, 1) := dk_3 (dk_at dksX5_restoreState_0 20 rfl rfl)
theorem dX5_restoreState_21 : decode cX5_restoreState 21 = .ok (.invokevirtual 312, 3) := dk_182 1 56 (dk_at dksX5_restoreState_0 21 rfl rfl)
theorem dX5_restoreState_24 : decode cX5_restoreState 24 = .ok (.istore_n 1, 1) := dk_60 (dk_at dksX5_restoreState_1 0 rfl rfl)
theorem dX5_restoreState_25 : decode cX5_restoreState 25 = .ok (.aload_n 0, 1) := dk_42 (dk_at dksX5_restoreState_1 1 rfl rfl)
theorem dX5_restoreState_26 : decode cX5_restoreState 26 = .ok (.iconst 0, 1) := dk_3 (dk_at dksX5_restoreState_1 2 rfl rfl)
theorem dX5_restoreState_27 : decode cX5_restoreState 27 = .ok (.putfield 81, 3) := dk_181 0 81 (dk_at dksX5_restoreState_1 3 rfl rfl)
theorem dX5_restoreState_30 : decode cX5_restoreState 30 = .ok (.aload_n 0, 1) := dk_42 (dk_at dksX5_restoreState_1 6 rfl rfl)
theorem dX5_restoreState_31 : decode cX5_restoreState 31 = .ok (.getfield 9, 3) := dk_180 0 9 (dk_at dksX5_restoreState_1 7 rfl rfl)
theorem dX5_restoreState_34 : decode cX5_restoreState 34 = .ok (.iconst 2, 1) := dk_5 (dk_at dksX5_restoreState_1 10 rfl rfl)
theorem dX5_restoreState_35 : decode cX5_restoreState 35 = .ok (.iaload, 1) := dk_46 (dk_at dksX5_restoreState_1 11 rfl rfl)
theorem dX5_restoreState_36 : decode cX5_restoreState 36 = .ok (.ireturn, 1) := dk_172 (dk_at dksX5_restoreState_1 12 rfl rfl)
theorem q179 : (Jvm.Cond.initialized "WhistlePostsModel") ∈ lw_all := lw_g (lw_at lw_m1 29 rfl) rfl
theorem q720 : (Jvm.Cond.selects "WhistlePostsModel" ({ cls := "java/lang/Object", name := "getClass", desc := "()Ljava/lang/Class;" } : Jvm.MethodName) ({ cls := "java/lang/Object", name := "getClass", desc := "()Ljava/lang/Class;" } : Jvm.MethodName)) ∈ lw_all := lw_g (lw_at lw_m3 90 rfl) rfl
theorem q2833 : (Jvm.Cond.instantiable "WhistlePostsModel" (28 : Nat)) ∈ lw_all := lw_g (lw_at lw_m12 43 rfl) rfl
theorem q2835 : (Jvm.Cond.instanceMethod ({ cls := "WhistlePostsModel", name := "<init>", desc := "()V" } : Jvm.MethodName)) ∈ lw_all := lw_g (lw_at lw_m12 45 rfl) rfl
theorem q2836 : (Jvm.Cond.code ({ cls := "WhistlePostsModel", name := "<init>", desc := "()V" } : Jvm.MethodName) prog_15_method_1_code (5 : Nat) (Option.none : Option Jvm.ClassFile.FieldType)) ∈ lw_all := lw_g (lw_at lw_m12 46 rfl) rfl
theorem q2837 : (Jvm.Cond.methodLink "WhistlePostsModel" (1 : Nat) ({ cls := "java/lang/Object", name := "<init>", desc := "()V" } : Jvm.MethodName)) ∈ lw_all := lw_g (lw_at lw_m12 47 rfl) rfl
theorem q2838 : (Jvm.Cond.methodLink "WhistlePostsModel" (52 : Nat) ({ cls := "WhistlePostsModel", name := "clears", desc := "()V" } : Jvm.MethodName)) ∈ lw_all := lw_g (lw_at lw_m12 48 rfl) rfl
theorem q2839 : (Jvm.Cond.privateMethod ({ cls := "WhistlePostsModel", name := "clears", desc := "()V" } : Jvm.MethodName)) ∈ lw_tbl := lw_at lw_m12 49 rfl
theorem q2840 : (Jvm.Cond.instanceMethod ({ cls := "WhistlePostsModel", name := "clears", desc := "()V" } : Jvm.MethodName)) ∈ lw_all := lw_g (lw_at lw_m12 50 rfl) rfl
theorem q2841 : (Jvm.Cond.code ({ cls := "WhistlePostsModel", name := "clears", desc := "()V" } : Jvm.MethodName) prog_15_method_10_code (2 : Nat) (Option.none : Option Jvm.ClassFile.FieldType)) ∈ lw_all := lw_g (lw_at lw_m12 51 rfl) rfl
theorem q2842 : (Jvm.Cond.stringRef "WhistlePostsModel" (55 : Nat) "tower barn mill inn ") ∈ lw_tbl := lw_at lw_m12 52 rfl
theorem q2843 : (Jvm.Cond.methodLink "WhistlePostsModel" (57 : Nat) ({ cls := "java/lang/String", name := "length", desc := "()I" } : Jvm.MethodName)) ∈ lw_all := lw_g (lw_at lw_m12 53 rfl) rfl
theorem q2844 : (Jvm.Cond.methodLink "WhistlePostsModel" (66 : Nat) ({ cls := "java/lang/String", name := "charAt", desc := "(I)C" } : Jvm.MethodName)) ∈ lw_all := lw_g (lw_at lw_m12 54 rfl) rfl
theorem q2845 : (Jvm.Cond.methodLink "WhistlePostsModel" (70 : Nat) ({ cls := "WhistlePostsModel", name := "newRoof", desc := "(IIII)V" } : Jvm.MethodName)) ∈ lw_all := lw_g (lw_at lw_m12 55 rfl) rfl
theorem q2846 : (Jvm.Cond.privateMethod ({ cls := "WhistlePostsModel", name := "newRoof", desc := "(IIII)V" } : Jvm.MethodName)) ∈ lw_tbl := lw_at lw_m12 56 rfl
theorem q2847 : (Jvm.Cond.instanceMethod ({ cls := "WhistlePostsModel", name := "newRoof", desc := "(IIII)V" } : Jvm.MethodName)) ∈ lw_all := lw_g (lw_at lw_m12 57 rfl) rfl
theorem q2848 : (Jvm.Cond.code ({ cls := "WhistlePostsModel", name := "newRoof", desc := "(IIII)V" } : Jvm.MethodName) prog_15_method_15_code (7 : Nat) (Option.none : Option Jvm.ClassFile.FieldType)) ∈ lw_all := lw_g (lw_at lw_m12 58 rfl) rfl
theorem q2849 : (Jvm.Cond.methodLink "WhistlePostsModel" (84 : Nat) ({ cls := "WhistlePostsModel", name := "r", desc := "(I)I" } : Jvm.MethodName)) ∈ lw_all := lw_g (lw_at lw_m12 59 rfl) rfl
theorem q2850 : (Jvm.Cond.static ({ cls := "WhistlePostsModel", name := "r", desc := "(I)I" } : Jvm.MethodName)) ∈ lw_all := lw_g (lw_at lw_m12 60 rfl) rfl
theorem q2851 : (Jvm.Cond.code ({ cls := "WhistlePostsModel", name := "r", desc := "(I)I" } : Jvm.MethodName) prog_15_method_6_code (1 : Nat) (Option.some Jvm.ClassFile.FieldType.int)) ∈ lw_all := lw_g (lw_at lw_m12 61 rfl) rfl
theorem q2852 : (Jvm.Cond.methodLink "WhistlePostsModel" (74 : Nat) ({ cls := "WhistlePostsModel", name := "newWay", desc := "(III)V" } : Jvm.MethodName)) ∈ lw_all := lw_g (lw_at lw_m12 62 rfl) rfl
theorem q2853 : (Jvm.Cond.privateMethod ({ cls := "WhistlePostsModel", name := "newWay", desc := "(III)V" } : Jvm.MethodName)) ∈ lw_tbl := lw_at lw_m12 63 rfl
theorem q2854 : (Jvm.Cond.instanceMethod ({ cls := "WhistlePostsModel", name := "newWay", desc := "(III)V" } : Jvm.MethodName)) ∈ lw_all := lw_g (lw_at lw_m12 64 rfl) rfl
theorem q2855 : (Jvm.Cond.code ({ cls := "WhistlePostsModel", name := "newWay", desc := "(III)V" } : Jvm.MethodName) prog_15_method_16_code (4 : Nat) (Option.none : Option Jvm.ClassFile.FieldType)) ∈ lw_all := lw_g (lw_at lw_m12 65 rfl) rfl
theorem q2856 : (Jvm.Cond.methodLink "WhistlePostsModel" (88 : Nat) ({ cls := "WhistlePostsModel", name := "w", desc := "(I)I" } : Jvm.MethodName)) ∈ lw_all := lw_g (lw_at lw_m12 66 rfl) rfl
theorem q2857 : (Jvm.Cond.static ({ cls := "WhistlePostsModel", name := "w", desc := "(I)I" } : Jvm.MethodName)) ∈ lw_all := lw_g (lw_at lw_m12 67 rfl) rfl
theorem q2858 : (Jvm.Cond.code ({ cls := "WhistlePostsModel", name := "w", desc := "(I)I" } : Jvm.MethodName) prog_15_method_7_code (1 : Nat) (Option.some Jvm.ClassFile.FieldType.int)) ∈ lw_all := lw_g (lw_at lw_m12 68 rfl) rfl
theorem q2859 : (Jvm.Cond.fieldLink "WhistlePostsModel" (9 : Nat) "WhistlePostsModel" "row" "[I") ∈ lw_all := lw_g (lw_at lw_m12 69 rfl) rfl
theorem q2860 : (Jvm.Cond.fieldLink "WhistlePostsModel" (13 : Nat) "WhistlePostsModel" "aside" "[I") ∈ lw_all := lw_g (lw_at lw_m12 70 rfl) rfl
theorem q2861 : (Jvm.Cond.fieldLink "WhistlePostsModel" (16 : Nat) "WhistlePostsModel" "kept" "[I") ∈ lw_all := lw_g (lw_at lw_m12 71 rfl) rfl
theorem q2862 : (Jvm.Cond.fieldLink "WhistlePostsModel" (19 : Nat) "WhistlePostsModel" "past" "[I") ∈ lw_all := lw_g (lw_at lw_m12 72 rfl) rfl
theorem q2863 : (Jvm.Cond.fieldLink "WhistlePostsModel" (81 : Nat) "WhistlePostsModel" "pastMany" "I") ∈ lw_all := lw_g (lw_at lw_m12 73 rfl) rfl
theorem q2864 : (Jvm.Cond.fieldLink "WhistlePostsModel" (316 : Nat) "WhistlePostsModel" "isKept" "Z") ∈ lw_all := lw_g (lw_at lw_m12 74 rfl) rfl
theorem q2865 : (Jvm.Cond.fieldLink "WhistlePostsModel" (78 : Nat) "WhistlePostsModel" "thrown" "I") ∈ lw_all := lw_g (lw_at lw_m12 75 rfl) rfl
theorem q2866 : (Jvm.Cond.fieldLink "WhistlePostsModel" (22 : Nat) "WhistlePostsModel" "spelled" "[I") ∈ lw_all := lw_g (lw_at lw_m12 76 rfl) rfl
theorem q2867 : (Jvm.Cond.fieldLink "WhistlePostsModel" (63 : Nat) "WhistlePostsModel" "spelledMany" "I") ∈ lw_all := lw_g (lw_at lw_m12 77 rfl) rfl
theorem q2868 : (Jvm.Cond.fieldLink "WhistlePostsModel" (25 : Nat) "WhistlePostsModel" "sums" "[I") ∈ lw_all := lw_g (lw_at lw_m12 78 rfl) rfl
theorem q2869 : (Jvm.Cond.fieldLink "WhistlePostsModel" (28 : Nat) "WhistlePostsModel" "sung" "[I") ∈ lw_all := lw_g (lw_at lw_m12 79 rfl) rfl
theorem q2870 : (Jvm.Cond.fieldLink "WhistlePostsModel" (119 : Nat) "WhistlePostsModel" "sungMany" "I") ∈ lw_all := lw_g (lw_at lw_m12 80 rfl) rfl
theorem q2871 : (Jvm.Cond.fieldLink "WhistlePostsModel" (31 : Nat) "WhistlePostsModel" "buffer" "[B") ∈ lw_all := lw_g (lw_at lw_m12 81 rfl) rfl
theorem q2872 : (Jvm.Cond.fieldLink "WhistlePostsModel" (193 : Nat) "WhistlePostsModel" "buffered" "I") ∈ lw_all := lw_g (lw_at lw_m12 82 rfl) rfl
theorem q2873 : (Jvm.Cond.fieldLink "WhistlePostsModel" (203 : Nat) "WhistlePostsModel" "errorCode" "I") ∈ lw_all := lw_g (lw_at lw_m12 83 rfl) rfl
theorem q2874 : (Jvm.Cond.fieldLink "WhistlePostsModel" (35 : Nat) "WhistlePostsModel" "errorOffset" "I") ∈ lw_all := lw_g (lw_at lw_m12 84 rfl) rfl
theorem q2875 : (Jvm.Cond.fieldLink "WhistlePostsModel" (220 : Nat) "WhistlePostsModel" "from" "I") ∈ lw_all := lw_g (lw_at lw_m12 85 rfl) rfl
theorem q2876 : (Jvm.Cond.fieldLink "WhistlePostsModel" (217 : Nat) "WhistlePostsModel" "to" "I") ∈ lw_all := lw_g (lw_at lw_m12 86 rfl) rfl
theorem q2877 : (Jvm.Cond.fieldLink "WhistlePostsModel" (223 : Nat) "WhistlePostsModel" "token" "I") ∈ lw_all := lw_g (lw_at lw_m12 87 rfl) rfl
theorem q2878 : (Jvm.Cond.fieldLink "WhistlePostsModel" (233 : Nat) "WhistlePostsModel" "told" "I") ∈ lw_all := lw_g (lw_at lw_m12 88 rfl) rfl
theorem q2879 : (Jvm.Cond.fieldLink "WhistlePostsModel" (214 : Nat) "WhistlePostsModel" "fault" "I") ∈ lw_all := lw_g (lw_at lw_m12 89 rfl) rfl
theorem q2880 : (Jvm.Cond.fieldLink "WhistlePostsModel" (236 : Nat) "WhistlePostsModel" "faultAt" "I") ∈ lw_all := lw_g (lw_at lw_m12 90 rfl) rfl
theorem q2881 : (Jvm.Cond.fieldLink "WhistlePostsModel" (39 : Nat) "WhistlePostsModel" "deeds" "[I") ∈ lw_all := lw_g (lw_at lw_m12 91 rfl) rfl
theorem q2882 : (Jvm.Cond.fieldLink "WhistlePostsModel" (333 : Nat) "WhistlePostsModel" "deedMany" "I") ∈ lw_all := lw_g (lw_at lw_m12 92 rfl) rfl
theorem q2883 : (Jvm.Cond.fieldLink "WhistlePostsModel" (42 : Nat) "WhistlePostsModel" "near" "[I") ∈ lw_all := lw_g (lw_at lw_m12 93 rfl) rfl
theorem q2884 : (Jvm.Cond.fieldLink "WhistlePostsModel" (45 : Nat) "WhistlePostsModel" "done" "[Z") ∈ lw_all := lw_g (lw_at lw_m12 94 rfl) rfl
theorem q2885 : (Jvm.Cond.fieldLink "WhistlePostsModel" (49 : Nat) "WhistlePostsModel" "output" "[B") ∈ lw_all := lw_g (lw_at lw_m12 95 rfl) rfl
theorem q2886 : (Jvm.Cond.fieldLink "WhistlePostsModel" (442 : Nat) "WhistlePostsModel" "outputMany" "I") ∈ lw_all := lw_g (lw_at lw_m12 96 rfl) rfl
theorem q2887 : (Jvm.Cond.laysFinal "WhistlePostsModel" "WhistlePostsModel" "row" "[I") ∈ lw_all := lw_g (lw_at lw_m12 97 rfl) rfl
theorem q2888 : (Jvm.Cond.soleField "WhistlePostsModel" "row") ∈ lw_all := lw_g (lw_at lw_m12 98 rfl) rfl
theorem q2889 : (Jvm.Cond.laysFinal "WhistlePostsModel" "WhistlePostsModel" "aside" "[I") ∈ lw_all := lw_g (lw_at lw_m12 99 rfl) rfl
theorem q2890 : (Jvm.Cond.soleField "WhistlePostsModel" "aside") ∈ lw_all := lw_g (lw_at lw_m12 100 rfl) rfl
theorem q2891 : (Jvm.Cond.laysFinal "WhistlePostsModel" "WhistlePostsModel" "kept" "[I") ∈ lw_all := lw_g (lw_at lw_m12 101 rfl) rfl
theorem q2892 : (Jvm.Cond.soleField "WhistlePostsModel" "kept") ∈ lw_all := lw_g (lw_at lw_m12 102 rfl) rfl
theorem q2893 : (Jvm.Cond.laysFinal "WhistlePostsModel" "WhistlePostsModel" "past" "[I") ∈ lw_all := lw_g (lw_at lw_m12 103 rfl) rfl
theorem q2894 : (Jvm.Cond.soleField "WhistlePostsModel" "past") ∈ lw_all := lw_g (lw_at lw_m12 104 rfl) rfl
theorem q2895 : (Jvm.Cond.lays "WhistlePostsModel" "WhistlePostsModel" "pastMany" "I") ∈ lw_all := lw_g (lw_at lw_m12 105 rfl) rfl
theorem q2896 : (Jvm.Cond.soleField "WhistlePostsModel" "pastMany") ∈ lw_all := lw_g (lw_at lw_m12 106 rfl) rfl
theorem q2897 : (Jvm.Cond.lays "WhistlePostsModel" "WhistlePostsModel" "isKept" "Z") ∈ lw_all := lw_g (lw_at lw_m12 107 rfl) rfl
theorem q2898 : (Jvm.Cond.soleField "WhistlePostsModel" "isKept") ∈ lw_all := lw_g (lw_at lw_m12 108 rfl) rfl
theorem q2899 : (Jvm.Cond.lays "WhistlePostsModel" "WhistlePostsModel" "thrown" "I") ∈ lw_all := lw_g (lw_at lw_m12 109 rfl) rfl
theorem q2900 : (Jvm.Cond.soleField "WhistlePostsModel" "thrown") ∈ lw_all := lw_g (lw_at lw_m12 110 rfl) rfl
theorem q2901 : (Jvm.Cond.laysFinal "WhistlePostsModel" "WhistlePostsModel" "spelled" "[I") ∈ lw_all := lw_g (lw_at lw_m12 111 rfl) rfl
theorem q2902 : (Jvm.Cond.soleField "WhistlePostsModel" "spelled") ∈ lw_all := lw_g (lw_at lw_m12 112 rfl) rfl
theorem q2903 : (Jvm.Cond.lays "WhistlePostsModel" "WhistlePostsModel" "spelledMany" "I") ∈ lw_all := lw_g (lw_at lw_m12 113 rfl) rfl
theorem q2904 : (Jvm.Cond.soleField "WhistlePostsModel" "spelledMany") ∈ lw_all := lw_g (lw_at lw_m12 114 rfl) rfl
theorem q2905 : (Jvm.Cond.laysFinal "WhistlePostsModel" "WhistlePostsModel" "sums" "[I") ∈ lw_all := lw_g (lw_at lw_m12 115 rfl) rfl
theorem q2906 : (Jvm.Cond.soleField "WhistlePostsModel" "sums") ∈ lw_all := lw_g (lw_at lw_m12 116 rfl) rfl
theorem q2907 : (Jvm.Cond.laysFinal "WhistlePostsModel" "WhistlePostsModel" "sung" "[I") ∈ lw_all := lw_g (lw_at lw_m12 117 rfl) rfl
theorem q2908 : (Jvm.Cond.soleField "WhistlePostsModel" "sung") ∈ lw_all := lw_g (lw_at lw_m12 118 rfl) rfl
theorem q2909 : (Jvm.Cond.lays "WhistlePostsModel" "WhistlePostsModel" "sungMany" "I") ∈ lw_all := lw_g (lw_at lw_m12 119 rfl) rfl
theorem q2910 : (Jvm.Cond.soleField "WhistlePostsModel" "sungMany") ∈ lw_all := lw_g (lw_at lw_m12 120 rfl) rfl
theorem q2911 : (Jvm.Cond.laysFinal "WhistlePostsModel" "WhistlePostsModel" "buffer" "[B") ∈ lw_all := lw_g (lw_at lw_m12 121 rfl) rfl
theorem q2912 : (Jvm.Cond.soleField "WhistlePostsModel" "buffer") ∈ lw_all := lw_g (lw_at lw_m12 122 rfl) rfl
theorem q2913 : (Jvm.Cond.lays "WhistlePostsModel" "WhistlePostsModel" "buffered" "I") ∈ lw_all := lw_g (lw_at lw_m12 123 rfl) rfl
theorem q2914 : (Jvm.Cond.soleField "WhistlePostsModel" "buffered") ∈ lw_all := lw_g (lw_at lw_m12 124 rfl) rfl
theorem q2915 : (Jvm.Cond.lays "WhistlePostsModel" "WhistlePostsModel" "errorCode" "I") ∈ lw_all := lw_g (lw_at lw_m12 125 rfl) rfl
theorem q2916 : (Jvm.Cond.soleField "WhistlePostsModel" "errorCode") ∈ lw_all := lw_g (lw_at lw_m12 126 rfl) rfl
theorem q2917 : (Jvm.Cond.lays "WhistlePostsModel" "WhistlePostsModel" "errorOffset" "I") ∈ lw_all := lw_g (lw_at lw_m12 127 rfl) rfl
theorem q2918 : (Jvm.Cond.soleField "WhistlePostsModel" "errorOffset") ∈ lw_all := lw_g (lw_at lw_m12 128 rfl) rfl
theorem q2919 : (Jvm.Cond.lays "WhistlePostsModel" "WhistlePostsModel" "from" "I") ∈ lw_all := lw_g (lw_at lw_m12 129 rfl) rfl
theorem q2920 : (Jvm.Cond.soleField "WhistlePostsModel" "from") ∈ lw_all := lw_g (lw_at lw_m12 130 rfl) rfl
theorem q2921 : (Jvm.Cond.lays "WhistlePostsModel" "WhistlePostsModel" "to" "I") ∈ lw_all := lw_g (lw_at lw_m12 131 rfl) rfl
theorem q2922 : (Jvm.Cond.soleField "WhistlePostsModel" "to") ∈ lw_all := lw_g (lw_at lw_m12 132 rfl) rfl
theorem q2923 : (Jvm.Cond.lays "WhistlePostsModel" "WhistlePostsModel" "token" "I") ∈ lw_all := lw_g (lw_at lw_m12 133 rfl) rfl
theorem q2924 : (Jvm.Cond.soleField "WhistlePostsModel" "token") ∈ lw_all := lw_g (lw_at lw_m12 134 rfl) rfl
theorem q2925 : (Jvm.Cond.lays "WhistlePostsModel" "WhistlePostsModel" "told" "I") ∈ lw_all := lw_g (lw_at lw_m12 135 rfl) rfl
theorem q2926 : (Jvm.Cond.soleField "WhistlePostsModel" "told") ∈ lw_all := lw_g (lw_at lw_m12 136 rfl) rfl
theorem q2927 : (Jvm.Cond.lays "WhistlePostsModel" "WhistlePostsModel" "fault" "I") ∈ lw_all := lw_g (lw_at lw_m12 137 rfl) rfl
theorem q2928 : (Jvm.Cond.soleField "WhistlePostsModel" "fault") ∈ lw_all := lw_g (lw_at lw_m12 138 rfl) rfl
theorem q2929 : (Jvm.Cond.lays "WhistlePostsModel" "WhistlePostsModel" "faultAt" "I") ∈ lw_all := lw_g (lw_at lw_m12 139 rfl) rfl
theorem q2930 : (Jvm.Cond.soleField "WhistlePostsModel" "faultAt") ∈ lw_all := lw_g (lw_at lw_m12 140 rfl) rfl
theorem q2931 : (Jvm.Cond.laysFinal "WhistlePostsModel" "WhistlePostsModel" "deeds" "[I") ∈ lw_all := lw_g (lw_at lw_m12 141 rfl) rfl
theorem q2932 : (Jvm.Cond.soleField "WhistlePostsModel" "deeds") ∈ lw_all := lw_g (lw_at lw_m12 142 rfl) rfl
theorem q2933 : (Jvm.Cond.lays "WhistlePostsModel" "WhistlePostsModel" "deedMany" "I") ∈ lw_all := lw_g (lw_at lw_m12 143 rfl) rfl
theorem q2934 : (Jvm.Cond.soleField "WhistlePostsModel" "deedMany") ∈ lw_all := lw_g (lw_at lw_m12 144 rfl) rfl
theorem q2935 : (Jvm.Cond.laysFinal "WhistlePostsModel" "WhistlePostsModel" "near" "[I") ∈ lw_all := lw_g (lw_at lw_m12 145 rfl) rfl
theorem q2936 : (Jvm.Cond.soleField "WhistlePostsModel" "near") ∈ lw_all := lw_g (lw_at lw_m12 146 rfl) rfl
theorem q2937 : (Jvm.Cond.laysFinal "WhistlePostsModel" "WhistlePostsModel" "done" "[Z") ∈ lw_all := lw_g (lw_at lw_m12 147 rfl) rfl
theorem q2938 : (Jvm.Cond.soleField "WhistlePostsModel" "done") ∈ lw_all := lw_g (lw_at lw_m12 148 rfl) rfl
theorem q2939 : (Jvm.Cond.laysFinal "WhistlePostsModel" "WhistlePostsModel" "output" "[B") ∈ lw_all := lw_g (lw_at lw_m12 149 rfl) rfl
theorem q2940 : (Jvm.Cond.soleField "WhistlePostsModel" "output") ∈ lw_all := lw_g (lw_at lw_m12 150 rfl) rfl
theorem q2941 : (Jvm.Cond.lays "WhistlePostsModel" "WhistlePostsModel" "outputMany" "I") ∈ lw_all := lw_g (lw_at lw_m12 151 rfl) rfl
theorem q2942 : (Jvm.Cond.soleField "WhistlePostsModel" "outputMany") ∈ lw_all := lw_g (lw_at lw_m12 152 rfl) rfl
theorem q2943 : (Jvm.Cond.superclass "WhistlePostsModel" "java/lang/Object") ∈ lw_all := lw_g (lw_at lw_m12 153 rfl) rfl
theorem q2946 : (Jvm.Cond.instanceMethod ({ cls := "WhistlePostsModel", name := "thrown", desc := "()I" } : Jvm.MethodName)) ∈ lw_all := lw_g (lw_at lw_m12 156 rfl) rfl
theorem q2947 : (Jvm.Cond.selects "WhistlePostsModel" ({ cls := "WhistlePostsModel", name := "thrown", desc := "()I" } : Jvm.MethodName) ({ cls := "WhistlePostsModel", name := "thrown", desc := "()I" } : Jvm.MethodName)) ∈ lw_all := lw_g (lw_at lw_m12 157 rfl) rfl
theorem q2948 : (Jvm.Cond.code ({ cls := "WhistlePostsModel", name := "thrown", desc := "()I" } : Jvm.MethodName) prog_15_method_2_code (1 : Nat) (Option.some Jvm.ClassFile.FieldType.int)) ∈ lw_all := lw_g (lw_at lw_m12 158 rfl) rfl
theorem q2950 : (Jvm.Cond.instanceMethod ({ cls := "WhistlePostsModel", name := "appendInput", desc := "(IIIII)I" } : Jvm.MethodName)) ∈ lw_all := lw_g (lw_at lw_m12 160 rfl) rfl
theorem q2951 : (Jvm.Cond.selects "WhistlePostsModel" ({ cls := "WhistlePostsModel", name := "appendInput", desc := "(IIIII)I" } : Jvm.MethodName) ({ cls := "WhistlePostsModel", name := "appendInput", desc := "(IIIII)I" } : Jvm.MethodName)) ∈ lw_all := lw_g (lw_at lw_m12 161 rfl) rfl
theorem q2952 : (Jvm.Cond.code ({ cls := "WhistlePostsModel", name := "appendInput", desc := "(IIIII)I" } : Jvm.MethodName) prog_15_method_49_code (6 : Nat) (Option.some Jvm.ClassFile.FieldType.int)) ∈ lw_all := lw_g (lw_at lw_m12 162 rfl) rfl
theorem q2953 : (Jvm.Cond.methodLink "WhistlePostsModel" (196 : Nat) ({ cls := "WhistlePostsModel", name := "four", desc := "(I)V" } : Jvm.MethodName)) ∈ lw_all := lw_g (lw_at lw_m12 163 rfl) rfl
theorem q2954 : (Jvm.Cond.privateMethod ({ cls := "WhistlePostsModel", name := "four", desc := "(I)V" } : Jvm.MethodName)) ∈ lw_tbl := lw_at lw_m12 164 rfl
theorem q2955 : (Jvm.Cond.instanceMethod ({ cls := "WhistlePostsModel", name := "four", desc := "(I)V" } : Jvm.MethodName)) ∈ lw_all := lw_g (lw_at lw_m12 165 rfl) rfl
theorem q2956 : (Jvm.Cond.code ({ cls := "WhistlePostsModel", name := "four", desc := "(I)V" } : Jvm.MethodName) prog_15_method_48_code (3 : Nat) (Option.none : Option Jvm.ClassFile.FieldType)) ∈ lw_all := lw_g (lw_at lw_m12 166 rfl) rfl
theorem q2958 : (Jvm.Cond.instanceMethod ({ cls := "WhistlePostsModel", name := "truncateInput", desc := "(I)Z" } : Jvm.MethodName)) ∈ lw_all := lw_g (lw_at lw_m12 168 rfl) rfl
theorem q2959 : (Jvm.Cond.selects "WhistlePostsModel" ({ cls := "WhistlePostsModel", name := "truncateInput", desc := "(I)Z" } : Jvm.MethodName) ({ cls := "WhistlePostsModel", name := "truncateInput", desc := "(I)Z" } : Jvm.MethodName)) ∈ lw_all := lw_g (lw_at lw_m12 169 rfl) rfl
theorem q2960 : (Jvm.Cond.code ({ cls := "WhistlePostsModel", name := "truncateInput", desc := "(I)Z" } : Jvm.MethodName) prog_15_method_50_code (2 : Nat) (Option.some Jvm.ClassFile.FieldType.boolean)) ∈ lw_all := lw_g (lw_at lw_m12 170 rfl) rfl
theorem q2961 : (Jvm.Cond.methodLink "WhistlePostsModel" (199 : Nat) ({ cls := "WhistlePostsModel", name := "in", desc := "(JJJ)Z" } : Jvm.MethodName)) ∈ lw_all := lw_g (lw_at lw_m12 171 rfl) rfl
theorem q2962 : (Jvm.Cond.static ({ cls := "WhistlePostsModel", name := "in", desc := "(JJJ)Z" } : Jvm.MethodName)) ∈ lw_all := lw_g (lw_at lw_m12 172 rfl) rfl
theorem q2963 : (Jvm.Cond.code ({ cls := "WhistlePostsModel", name := "in", desc := "(JJJ)Z" } : Jvm.MethodName) prog_15_method_3_code (6 : Nat) (Option.some Jvm.ClassFile.FieldType.boolean)) ∈ lw_all := lw_g (lw_at lw_m12 173 rfl) rfl
theorem q2965 : (Jvm.Cond.instanceMethod ({ cls := "WhistlePostsModel", name := "errorCode", desc := "()I" } : Jvm.MethodName)) ∈ lw_all := lw_g (lw_at lw_m12 175 rfl) rfl
theorem q2966 : (Jvm.Cond.selects "WhistlePostsModel" ({ cls := "WhistlePostsModel", name := "errorCode", desc := "()I" } : Jvm.MethodName) ({ cls := "WhistlePostsModel", name := "errorCode", desc := "()I" } : Jvm.MethodName)) ∈ lw_all := lw_g (lw_at lw_m12 176 rfl) rfl
theorem q2967 : (Jvm.Cond.code ({ cls := "WhistlePostsModel", name := "errorCode", desc := "()I" } : Jvm.MethodName) prog_15_method_51_code (1 : Nat) (Option.some Jvm.ClassFile.FieldType.int)) ∈ lw_all := lw_g (lw_at lw_m12 177 rfl) rfl
theorem q2969 : (Jvm.Cond.instanceMethod ({ cls := "WhistlePostsModel", name := "errorOffset", desc := "()I" } : Jvm.MethodName)) ∈ lw_all := lw_g (lw_at lw_m12 179 rfl) rfl
theorem q2970 : (Jvm.Cond.selects "WhistlePostsModel" ({ cls := "WhistlePostsModel", name := "errorOffset", desc := "()I" } : Jvm.MethodName) ({ cls := "WhistlePostsModel", name := "errorOffset", desc := "()I" } : Jvm.MethodName)) ∈ lw_all := lw_g (lw_at lw_m12 180 rfl) rfl
theorem q2971 : (Jvm.Cond.code ({ cls := "WhistlePostsModel", name := "errorOffset", desc := "()I" } : Jvm.MethodName) prog_15_method_52_code (1 : Nat) (Option.some Jvm.ClassFile.FieldType.int)) ∈ lw_all := lw_g (lw_at lw_m12 181 rfl) rfl
theorem q2973 : (Jvm.Cond.instanceMethod ({ cls := "WhistlePostsModel", name := "loadPost", desc := "()I" } : Jvm.MethodName)) ∈ lw_all := lw_g (lw_at lw_m12 183 rfl) rfl
theorem q2974 : (Jvm.Cond.selects "WhistlePostsModel" ({ cls := "WhistlePostsModel", name := "loadPost", desc := "()I" } : Jvm.MethodName) ({ cls := "WhistlePostsModel", name := "loadPost", desc := "()I" } : Jvm.MethodName)) ∈ lw_all := lw_g (lw_at lw_m12 184 rfl) rfl
theorem q2975 : (Jvm.Cond.code ({ cls := "WhistlePostsModel", name := "loadPost", desc := "()I" } : Jvm.MethodName) prog_15_method_71_code (1 : Nat) (Option.some Jvm.ClassFile.FieldType.int)) ∈ lw_all := lw_g (lw_at lw_m12 185 rfl) rfl
theorem q2976 : (Jvm.Cond.methodLink "WhistlePostsModel" (299 : Nat) ({ cls := "WhistlePostsModel", name := "copies", desc := "([I)V" } : Jvm.MethodName)) ∈ lw_all := lw_g (lw_at lw_m12 186 rfl) rfl
theorem q2977 : (Jvm.Cond.privateMethod ({ cls := "WhistlePostsModel", name := "copies", desc := "([I)V" } : Jvm.MethodName)) ∈ lw_tbl := lw_at lw_m12 187 rfl
theorem q2978 : (Jvm.Cond.instanceMethod ({ cls := "WhistlePostsModel", name := "copies", desc := "([I)V" } : Jvm.MethodName)) ∈ lw_all := lw_g (lw_at lw_m12 188 rfl) rfl
theorem q2979 : (Jvm.Cond.code ({ cls := "WhistlePostsModel", name := "copies", desc := "([I)V" } : Jvm.MethodName) prog_15_method_11_code (3 : Nat) (Option.none : Option Jvm.ClassFile.FieldType)) ∈ lw_all := lw_g (lw_at lw_m12 189 rfl) rfl
theorem q2980 : (Jvm.Cond.methodLink "WhistlePostsModel" (303 : Nat) ({ cls := "WhistlePostsModel", name := "starts", desc := "()V" } : Jvm.MethodName)) ∈ lw_all := lw_g (lw_at lw_m12 190 rfl) rfl
theorem q2981 : (Jvm.Cond.privateMethod ({ cls := "WhistlePostsModel", name := "starts", desc := "()V" } : Jvm.MethodName)) ∈ lw_tbl := lw_at lw_m12 191 rfl
theorem q2982 : (Jvm.Cond.instanceMethod ({ cls := "WhistlePostsModel", name := "starts", desc := "()V" } : Jvm.MethodName)) ∈ lw_all := lw_g (lw_at lw_m12 192 rfl) rfl
theorem q2983 : (Jvm.Cond.code ({ cls := "WhistlePostsModel", name := "starts", desc := "()V" } : Jvm.MethodName) prog_15_method_57_code (1 : Nat) (Option.none : Option Jvm.ClassFile.FieldType)) ∈ lw_all := lw_g (lw_at lw_m12 193 rfl) rfl
theorem q2984 : (Jvm.Cond.methodLink "WhistlePostsModel" (239 : Nat) ({ cls := "WhistlePostsModel", name := "goesOn", desc := "()V" } : Jvm.MethodName)) ∈ lw_all := lw_g (lw_at lw_m12 194 rfl) rfl
theorem q2985 : (Jvm.Cond.privateMethod ({ cls := "WhistlePostsModel", name := "goesOn", desc := "()V" } : Jvm.MethodName)) ∈ lw_tbl := lw_at lw_m12 195 rfl
theorem q2986 : (Jvm.Cond.instanceMethod ({ cls := "WhistlePostsModel", name := "goesOn", desc := "()V" } : Jvm.MethodName)) ∈ lw_all := lw_g (lw_at lw_m12 196 rfl) rfl
theorem q2987 : (Jvm.Cond.code ({ cls := "WhistlePostsModel", name := "goesOn", desc := "()V" } : Jvm.MethodName) prog_15_method_55_code (1 : Nat) (Option.none : Option Jvm.ClassFile.FieldType)) ∈ lw_all := lw_g (lw_at lw_m12 197 rfl) rfl
theorem q2988 : (Jvm.Cond.methodLink "WhistlePostsModel" (226 : Nat) ({ cls := "WhistlePostsModel", name := "isLetter", desc := "(I)Z" } : Jvm.MethodName)) ∈ lw_all := lw_g (lw_at lw_m12 198 rfl) rfl
theorem q2989 : (Jvm.Cond.privateMethod ({ cls := "WhistlePostsModel", name := "isLetter", desc := "(I)Z" } : Jvm.MethodName)) ∈ lw_tbl := lw_at lw_m12 199 rfl
theorem q2990 : (Jvm.Cond.instanceMethod ({ cls := "WhistlePostsModel", name := "isLetter", desc := "(I)Z" } : Jvm.MethodName)) ∈ lw_all := lw_g (lw_at lw_m12 200 rfl) rfl
theorem q2991 : (Jvm.Cond.code ({ cls := "WhistlePostsModel", name := "isLetter", desc := "(I)Z" } : Jvm.MethodName) prog_15_method_53_code (2 : Nat) (Option.some Jvm.ClassFile.FieldType.boolean)) ∈ lw_all := lw_g (lw_at lw_m12 201 rfl) rfl
theorem q2992 : (Jvm.Cond.constantLong "WhistlePostsModel" (206 : Nat) (97 : Int64)) ∈ lw_all := lw_g (lw_at lw_m12 202 rfl) rfl
theorem q2993 : (Jvm.Cond.constantLong "WhistlePostsModel" (208 : Nat) (122 : Int64)) ∈ lw_all := lw_g (lw_at lw_m12 203 rfl) rfl
theorem q2994 : (Jvm.Cond.methodLink "WhistlePostsModel" (230 : Nat) ({ cls := "WhistlePostsModel", name := "isDigit", desc := "(I)Z" } : Jvm.MethodName)) ∈ lw_all := lw_g (lw_at lw_m12 204 rfl) rfl
theorem q2995 : (Jvm.Cond.privateMethod ({ cls := "WhistlePostsModel", name := "isDigit", desc := "(I)Z" } : Jvm.MethodName)) ∈ lw_tbl := lw_at lw_m12 205 rfl
theorem q2996 : (Jvm.Cond.instanceMethod ({ cls := "WhistlePostsModel", name := "isDigit", desc := "(I)Z" } : Jvm.MethodName)) ∈ lw_all := lw_g (lw_at lw_m12 206 rfl) rfl
theorem q2997 : (Jvm.Cond.code ({ cls := "WhistlePostsModel", name := "isDigit", desc := "(I)Z" } : Jvm.MethodName) prog_15_method_54_code (2 : Nat) (Option.some Jvm.ClassFile.FieldType.boolean)) ∈ lw_all := lw_g (lw_at lw_m12 207 rfl) rfl
theorem q2998 : (Jvm.Cond.constantLong "WhistlePostsModel" (210 : Nat) (48 : Int64)) ∈ lw_all := lw_g (lw_at lw_m12 208 rfl) rfl
theorem q2999 : (Jvm.Cond.constantLong "WhistlePostsModel" (212 : Nat) (57 : Int64)) ∈ lw_all := lw_g (lw_at lw_m12 209 rfl) rfl
theorem q3000 : (Jvm.Cond.methodLink "WhistlePostsModel" (306 : Nat) ({ cls := "WhistlePostsModel", name := "readsStatement", desc := "()V" } : Jvm.MethodName)) ∈ lw_all := lw_g (lw_at lw_m12 210 rfl) rfl
theorem q3001 : (Jvm.Cond.privateMethod ({ cls := "WhistlePostsModel", name := "readsStatement", desc := "()V" } : Jvm.MethodName)) ∈ lw_tbl := lw_at lw_m12 211 rfl
theorem q3002 : (Jvm.Cond.instanceMethod ({ cls := "WhistlePostsModel", name := "readsStatement", desc := "()V" } : Jvm.MethodName)) ∈ lw_all := lw_g (lw_at lw_m12 212 rfl) rfl
theorem q3003 : (Jvm.Cond.code ({ cls := "WhistlePostsModel", name := "readsStatement", desc := "()V" } : Jvm.MethodName) prog_15_method_70_code (1 : Nat) (Option.none : Option Jvm.ClassFile.FieldType)) ∈ lw_all := lw_g (lw_at lw_m12 213 rfl) rfl
theorem q3004 : (Jvm.Cond.stringRef "WhistlePostsModel" (283 : Nat) "roof") ∈ lw_tbl := lw_at lw_m12 214 rfl
theorem q3005 : (Jvm.Cond.methodLink "WhistlePostsModel" (260 : Nat) ({ cls := "WhistlePostsModel", name := "isWord", desc := "(Ljava/lang/String;)Z" } : Jvm.MethodName)) ∈ lw_all := lw_g (lw_at lw_m12 215 rfl) rfl
theorem q3006 : (Jvm.Cond.privateMethod ({ cls := "WhistlePostsModel", name := "isWord", desc := "(Ljava/lang/String;)Z" } : Jvm.MethodName)) ∈ lw_tbl := lw_at lw_m12 216 rfl
theorem q3007 : (Jvm.Cond.instanceMethod ({ cls := "WhistlePostsModel", name := "isWord", desc := "(Ljava/lang/String;)Z" } : Jvm.MethodName)) ∈ lw_all := lw_g (lw_at lw_m12 217 rfl) rfl
theorem q3008 : (Jvm.Cond.code ({ cls := "WhistlePostsModel", name := "isWord", desc := "(Ljava/lang/String;)Z" } : Jvm.MethodName) prog_15_method_59_code (3 : Nat) (Option.some Jvm.ClassFile.FieldType.boolean)) ∈ lw_all := lw_g (lw_at lw_m12 218 rfl) rfl
theorem q3009 : (Jvm.Cond.methodLink "WhistlePostsModel" (285 : Nat) ({ cls := "WhistlePostsModel", name := "readsRoof", desc := "()V" } : Jvm.MethodName)) ∈ lw_all := lw_g (lw_at lw_m12 219 rfl) rfl
theorem q3010 : (Jvm.Cond.privateMethod ({ cls := "WhistlePostsModel", name := "readsRoof", desc := "()V" } : Jvm.MethodName)) ∈ lw_tbl := lw_at lw_m12 220 rfl
theorem q3011 : (Jvm.Cond.instanceMethod ({ cls := "WhistlePostsModel", name := "readsRoof", desc := "()V" } : Jvm.MethodName)) ∈ lw_all := lw_g (lw_at lw_m12 221 rfl) rfl
theorem q3012 : (Jvm.Cond.code ({ cls := "WhistlePostsModel", name := "readsRoof", desc := "()V" } : Jvm.MethodName) prog_15_method_67_code (5 : Nat) (Option.none : Option Jvm.ClassFile.FieldType)) ∈ lw_all := lw_g (lw_at lw_m12 222 rfl) rfl
theorem q3013 : (Jvm.Cond.methodLink "WhistlePostsModel" (242 : Nat) ({ cls := "WhistlePostsModel", name := "need", desc := "(ZI)V" } : Jvm.MethodName)) ∈ lw_all := lw_g (lw_at lw_m12 223 rfl) rfl
theorem q3014 : (Jvm.Cond.privateMethod ({ cls := "WhistlePostsModel", name := "need", desc := "(ZI)V" } : Jvm.MethodName)) ∈ lw_tbl := lw_at lw_m12 224 rfl
theorem q3015 : (Jvm.Cond.instanceMethod ({ cls := "WhistlePostsModel", name := "need", desc := "(ZI)V" } : Jvm.MethodName)) ∈ lw_all := lw_g (lw_at lw_m12 225 rfl) rfl
theorem q3016 : (Jvm.Cond.code ({ cls := "WhistlePostsModel", name := "need", desc := "(ZI)V" } : Jvm.MethodName) prog_15_method_56_code (3 : Nat) (Option.none : Option Jvm.ClassFile.FieldType)) ∈ lw_all := lw_g (lw_at lw_m12 226 rfl) rfl
theorem q3017 : (Jvm.Cond.methodLink "WhistlePostsModel" (249 : Nat) ({ cls := "WhistlePostsModel", name := "spells", desc := "()V" } : Jvm.MethodName)) ∈ lw_all := lw_g (lw_at lw_m12 227 rfl) rfl
theorem q3018 : (Jvm.Cond.privateMethod ({ cls := "WhistlePostsModel", name := "spells", desc := "()V" } : Jvm.MethodName)) ∈ lw_tbl := lw_at lw_m12 228 rfl
theorem q3019 : (Jvm.Cond.instanceMethod ({ cls := "WhistlePostsModel", name := "spells", desc := "()V" } : Jvm.MethodName)) ∈ lw_all := lw_g (lw_at lw_m12 229 rfl) rfl
theorem q3020 : (Jvm.Cond.code ({ cls := "WhistlePostsModel", name := "spells", desc := "()V" } : Jvm.MethodName) prog_15_method_63_code (2 : Nat) (Option.none : Option Jvm.ClassFile.FieldType)) ∈ lw_all := lw_g (lw_at lw_m12 230 rfl) rfl
theorem q3021 : (Jvm.Cond.methodLink "WhistlePostsModel" (252 : Nat) ({ cls := "WhistlePostsModel", name := "named", desc := "()I" } : Jvm.MethodName)) ∈ lw_all := lw_g (lw_at lw_m12 231 rfl) rfl
theorem q3022 : (Jvm.Cond.privateMethod ({ cls := "WhistlePostsModel", name := "named", desc := "()I" } : Jvm.MethodName)) ∈ lw_tbl := lw_at lw_m12 232 rfl
theorem q3023 : (Jvm.Cond.instanceMethod ({ cls := "WhistlePostsModel", name := "named", desc := "()I" } : Jvm.MethodName)) ∈ lw_all := lw_g (lw_at lw_m12 233 rfl) rfl
theorem q3024 : (Jvm.Cond.code ({ cls := "WhistlePostsModel", name := "named", desc := "()I" } : Jvm.MethodName) prog_15_method_14_code (4 : Nat) (Option.some Jvm.ClassFile.FieldType.int)) ∈ lw_all := lw_g (lw_at lw_m12 234 rfl) rfl
theorem q3025 : (Jvm.Cond.methodLink "WhistlePostsModel" (268 : Nat) ({ cls := "WhistlePostsModel", name := "number", desc := "(II)I" } : Jvm.MethodName)) ∈ lw_all := lw_g (lw_at lw_m12 235 rfl) rfl
theorem q3026 : (Jvm.Cond.privateMethod ({ cls := "WhistlePostsModel", name := "number", desc := "(II)I" } : Jvm.MethodName)) ∈ lw_tbl := lw_at lw_m12 236 rfl
theorem q3027 : (Jvm.Cond.instanceMethod ({ cls := "WhistlePostsModel", name := "number", desc := "(II)I" } : Jvm.MethodName)) ∈ lw_all := lw_g (lw_at lw_m12 237 rfl) rfl
theorem q3028 : (Jvm.Cond.code ({ cls := "WhistlePostsModel", name := "number", desc := "(II)I" } : Jvm.MethodName) prog_15_method_61_code (4 : Nat) (Option.some Jvm.ClassFile.FieldType.int)) ∈ lw_all := lw_g (lw_at lw_m12 238 rfl) rfl
theorem q3029 : (Jvm.Cond.methodLink "WhistlePostsModel" (246 : Nat) ({ cls := "WhistlePostsModel", name := "numberHere", desc := "(II)I" } : Jvm.MethodName)) ∈ lw_all := lw_g (lw_at lw_m12 239 rfl) rfl
theorem q3030 : (Jvm.Cond.privateMethod ({ cls := "WhistlePostsModel", name := "numberHere", desc := "(II)I" } : Jvm.MethodName)) ∈ lw_tbl := lw_at lw_m13 0 rfl
theorem q3031 : (Jvm.Cond.instanceMethod ({ cls := "WhistlePostsModel", name := "numberHere", desc := "(II)I" } : Jvm.MethodName)) ∈ lw_all := lw_g (lw_at lw_m13 1 rfl) rfl
theorem q3032 : (Jvm.Cond.code ({ cls := "WhistlePostsModel", name := "numberHere", desc := "(II)I" } : Jvm.MethodName) prog_15_method_60_code (3 : Nat) (Option.some Jvm.ClassFile.FieldType.int)) ∈ lw_all := lw_g (lw_at lw_m13 2 rfl) rfl
theorem q3033 : (Jvm.Cond.stringRef "WhistlePostsModel" (288 : Nat) "way") ∈ lw_tbl := lw_at lw_m13 3 rfl
theorem q3034 : (Jvm.Cond.methodLink "WhistlePostsModel" (290 : Nat) ({ cls := "WhistlePostsModel", name := "readsWay", desc := "()V" } : Jvm.MethodName)) ∈ lw_all := lw_g (lw_at lw_m13 4 rfl) rfl
theorem q3035 : (Jvm.Cond.privateMethod ({ cls := "WhistlePostsModel", name := "readsWay", desc := "()V" } : Jvm.MethodName)) ∈ lw_tbl := lw_at lw_m13 5 rfl
theorem q3036 : (Jvm.Cond.instanceMethod ({ cls := "WhistlePostsModel", name := "readsWay", desc := "()V" } : Jvm.MethodName)) ∈ lw_all := lw_g (lw_at lw_m13 6 rfl) rfl
theorem q3037 : (Jvm.Cond.code ({ cls := "WhistlePostsModel", name := "readsWay", desc := "()V" } : Jvm.MethodName) prog_15_method_68_code (4 : Nat) (Option.none : Option Jvm.ClassFile.FieldType)) ∈ lw_all := lw_g (lw_at lw_m13 7 rfl) rfl
theorem q3038 : (Jvm.Cond.methodLink "WhistlePostsModel" (271 : Nat) ({ cls := "WhistlePostsModel", name := "roofOfText", desc := "(I)I" } : Jvm.MethodName)) ∈ lw_all := lw_g (lw_at lw_m13 8 rfl) rfl
theorem q3039 : (Jvm.Cond.privateMethod ({ cls := "WhistlePostsModel", name := "roofOfText", desc := "(I)I" } : Jvm.MethodName)) ∈ lw_tbl := lw_at lw_m13 9 rfl
theorem q3040 : (Jvm.Cond.instanceMethod ({ cls := "WhistlePostsModel", name := "roofOfText", desc := "(I)I" } : Jvm.MethodName)) ∈ lw_all := lw_g (lw_at lw_m13 10 rfl) rfl
theorem q3041 : (Jvm.Cond.code ({ cls := "WhistlePostsModel", name := "roofOfText", desc := "(I)I" } : Jvm.MethodName) prog_15_method_65_code (3 : Nat) (Option.some Jvm.ClassFile.FieldType.int)) ∈ lw_all := lw_g (lw_at lw_m13 11 rfl) rfl
theorem q3042 : (Jvm.Cond.methodLink "WhistlePostsModel" (255 : Nat) ({ cls := "WhistlePostsModel", name := "roofHere", desc := "(I)I" } : Jvm.MethodName)) ∈ lw_all := lw_g (lw_at lw_m13 12 rfl) rfl
theorem q3043 : (Jvm.Cond.privateMethod ({ cls := "WhistlePostsModel", name := "roofHere", desc := "(I)I" } : Jvm.MethodName)) ∈ lw_tbl := lw_at lw_m13 13 rfl
theorem q3044 : (Jvm.Cond.instanceMethod ({ cls := "WhistlePostsModel", name := "roofHere", desc := "(I)I" } : Jvm.MethodName)) ∈ lw_all := lw_g (lw_at lw_m13 14 rfl) rfl
theorem q3045 : (Jvm.Cond.code ({ cls := "WhistlePostsModel", name := "roofHere", desc := "(I)I" } : Jvm.MethodName) prog_15_method_64_code (3 : Nat) (Option.some Jvm.ClassFile.FieldType.int)) ∈ lw_all := lw_g (lw_at lw_m13 15 rfl) rfl
theorem q3046 : (Jvm.Cond.methodLink "WhistlePostsModel" (129 : Nat) ({ cls := "java/lang/Math", name := "max", desc := "(II)I" } : Jvm.MethodName)) ∈ lw_all := lw_g (lw_at lw_m13 16 rfl) rfl
theorem q3047 : (Jvm.Cond.methodLink "WhistlePostsModel" (169 : Nat) ({ cls := "WhistlePostsModel", name := "wayBetween", desc := "(II)I" } : Jvm.MethodName)) ∈ lw_all := lw_g (lw_at lw_m13 17 rfl) rfl
theorem q3048 : (Jvm.Cond.privateMethod ({ cls := "WhistlePostsModel", name := "wayBetween", desc := "(II)I" } : Jvm.MethodName)) ∈ lw_tbl := lw_at lw_m13 18 rfl
theorem q3049 : (Jvm.Cond.instanceMethod ({ cls := "WhistlePostsModel", name := "wayBetween", desc := "(II)I" } : Jvm.MethodName)) ∈ lw_all := lw_g (lw_at lw_m13 19 rfl) rfl
theorem q3050 : (Jvm.Cond.code ({ cls := "WhistlePostsModel", name := "wayBetween", desc := "(II)I" } : Jvm.MethodName) prog_15_method_19_code (4 : Nat) (Option.some Jvm.ClassFile.FieldType.int)) ∈ lw_all := lw_g (lw_at lw_m13 20 rfl) rfl
theorem q3051 : (Jvm.Cond.methodLink "WhistlePostsModel" (91 : Nat) ({ cls := "WhistlePostsModel", name := "ends", desc := "(II)Z" } : Jvm.MethodName)) ∈ lw_all := lw_g (lw_at lw_m13 21 rfl) rfl
theorem q3052 : (Jvm.Cond.privateMethod ({ cls := "WhistlePostsModel", name := "ends", desc := "(II)Z" } : Jvm.MethodName)) ∈ lw_tbl := lw_at lw_m13 22 rfl
theorem q3053 : (Jvm.Cond.instanceMethod ({ cls := "WhistlePostsModel", name := "ends", desc := "(II)Z" } : Jvm.MethodName)) ∈ lw_all := lw_g (lw_at lw_m13 23 rfl) rfl
theorem q3054 : (Jvm.Cond.code ({ cls := "WhistlePostsModel", name := "ends", desc := "(II)Z" } : Jvm.MethodName) prog_15_method_17_code (3 : Nat) (Option.some Jvm.ClassFile.FieldType.boolean)) ∈ lw_all := lw_g (lw_at lw_m13 24 rfl) rfl
theorem q3055 : (Jvm.Cond.methodLink "WhistlePostsModel" (293 : Nat) ({ cls := "WhistlePostsModel", name := "readsSetting", desc := "()V" } : Jvm.MethodName)) ∈ lw_all := lw_g (lw_at lw_m13 25 rfl) rfl
theorem q3056 : (Jvm.Cond.privateMethod ({ cls := "WhistlePostsModel", name := "readsSetting", desc := "()V" } : Jvm.MethodName)) ∈ lw_tbl := lw_at lw_m13 26 rfl
theorem q3057 : (Jvm.Cond.instanceMethod ({ cls := "WhistlePostsModel", name := "readsSetting", desc := "()V" } : Jvm.MethodName)) ∈ lw_all := lw_g (lw_at lw_m13 27 rfl) rfl
theorem q3058 : (Jvm.Cond.code ({ cls := "WhistlePostsModel", name := "readsSetting", desc := "()V" } : Jvm.MethodName) prog_15_method_69_code (3 : Nat) (Option.none : Option Jvm.ClassFile.FieldType)) ∈ lw_all := lw_g (lw_at lw_m13 28 rfl) rfl
theorem q3059 : (Jvm.Cond.methodLink "WhistlePostsModel" (274 : Nat) ({ cls := "WhistlePostsModel", name := "settingHere", desc := "()I" } : Jvm.MethodName)) ∈ lw_all := lw_g (lw_at lw_m13 29 rfl) rfl
theorem q3060 : (Jvm.Cond.privateMethod ({ cls := "WhistlePostsModel", name := "settingHere", desc := "()I" } : Jvm.MethodName)) ∈ lw_tbl := lw_at lw_m13 30 rfl
theorem q3061 : (Jvm.Cond.instanceMethod ({ cls := "WhistlePostsModel", name := "settingHere", desc := "()I" } : Jvm.MethodName)) ∈ lw_all := lw_g (lw_at lw_m13 31 rfl) rfl
theorem q3062 : (Jvm.Cond.code ({ cls := "WhistlePostsModel", name := "settingHere", desc := "()I" } : Jvm.MethodName) prog_15_method_66_code (1 : Nat) (Option.some Jvm.ClassFile.FieldType.int)) ∈ lw_all := lw_g (lw_at lw_m13 32 rfl) rfl
theorem q3063 : (Jvm.Cond.stringRef "WhistlePostsModel" (258 : Nat) "wind") ∈ lw_tbl := lw_at lw_m13 33 rfl
theorem q3064 : (Jvm.Cond.stringRef "WhistlePostsModel" (264 : Nat) "dusk") ∈ lw_tbl := lw_at lw_m13 34 rfl
theorem q3065 : (Jvm.Cond.stringRef "WhistlePostsModel" (266 : Nat) "again") ∈ lw_tbl := lw_at lw_m13 35 rfl
theorem q3066 : (Jvm.Cond.methodLink "WhistlePostsModel" (277 : Nat) ({ cls := "WhistlePostsModel", name := "lowOf", desc := "(I)I" } : Jvm.MethodName)) ∈ lw_all := lw_g (lw_at lw_m13 36 rfl) rfl
theorem q3067 : (Jvm.Cond.static ({ cls := "WhistlePostsModel", name := "lowOf", desc := "(I)I" } : Jvm.MethodName)) ∈ lw_all := lw_g (lw_at lw_m13 37 rfl) rfl
theorem q3068 : (Jvm.Cond.code ({ cls := "WhistlePostsModel", name := "lowOf", desc := "(I)I" } : Jvm.MethodName) prog_15_method_45_code (1 : Nat) (Option.some Jvm.ClassFile.FieldType.int)) ∈ lw_all := lw_g (lw_at lw_m13 38 rfl) rfl
theorem q3069 : (Jvm.Cond.methodLink "WhistlePostsModel" (280 : Nat) ({ cls := "WhistlePostsModel", name := "highOf", desc := "(I)I" } : Jvm.MethodName)) ∈ lw_all := lw_g (lw_at lw_m13 39 rfl) rfl
theorem q3070 : (Jvm.Cond.static ({ cls := "WhistlePostsModel", name := "highOf", desc := "(I)I" } : Jvm.MethodName)) ∈ lw_all := lw_g (lw_at lw_m13 40 rfl) rfl
theorem q3071 : (Jvm.Cond.code ({ cls := "WhistlePostsModel", name := "highOf", desc := "(I)I" } : Jvm.MethodName) prog_15_method_46_code (1 : Nat) (Option.some Jvm.ClassFile.FieldType.int)) ∈ lw_all := lw_g (lw_at lw_m13 41 rfl) rfl
theorem q3072 : (Jvm.Cond.methodLink "WhistlePostsModel" (296 : Nat) ({ cls := "WhistlePostsModel", name := "semicolon", desc := "()V" } : Jvm.MethodName)) ∈ lw_all := lw_g (lw_at lw_m13 42 rfl) rfl
theorem q3073 : (Jvm.Cond.privateMethod ({ cls := "WhistlePostsModel", name := "semicolon", desc := "()V" } : Jvm.MethodName)) ∈ lw_tbl := lw_at lw_m13 43 rfl
theorem q3074 : (Jvm.Cond.instanceMethod ({ cls := "WhistlePostsModel", name := "semicolon", desc := "()V" } : Jvm.MethodName)) ∈ lw_all := lw_g (lw_at lw_m13 44 rfl) rfl
theorem q3075 : (Jvm.Cond.code ({ cls := "WhistlePostsModel", name := "semicolon", desc := "()V" } : Jvm.MethodName) prog_15_method_62_code (1 : Nat) (Option.none : Option Jvm.ClassFile.FieldType)) ∈ lw_all := lw_g (lw_at lw_m13 45 rfl) rfl
theorem q3076 : (Jvm.Cond.methodLink "WhistlePostsModel" (309 : Nat) ({ cls := "WhistlePostsModel", name := "ending", desc := "()V" } : Jvm.MethodName)) ∈ lw_all := lw_g (lw_at lw_m13 46 rfl) rfl
theorem q3077 : (Jvm.Cond.privateMethod ({ cls := "WhistlePostsModel", name := "ending", desc := "()V" } : Jvm.MethodName)) ∈ lw_tbl := lw_at lw_m13 47 rfl
theorem q3078 : (Jvm.Cond.instanceMethod ({ cls := "WhistlePostsModel", name := "ending", desc := "()V" } : Jvm.MethodName)) ∈ lw_all := lw_g (lw_at lw_m13 48 rfl) rfl
theorem q3079 : (Jvm.Cond.code ({ cls := "WhistlePostsModel", name := "ending", desc := "()V" } : Jvm.MethodName) prog_15_method_58_code (1 : Nat) (Option.none : Option Jvm.ClassFile.FieldType)) ∈ lw_all := lw_g (lw_at lw_m13 49 rfl) rfl
theorem q3080 : (Jvm.Cond.methodLink "WhistlePostsModel" (312 : Nat) ({ cls := "WhistlePostsModel", name := "gives", desc := "([II)I" } : Jvm.MethodName)) ∈ lw_all := lw_g (lw_at lw_m13 50 rfl) rfl
theorem q3081 : (Jvm.Cond.privateMethod ({ cls := "WhistlePostsModel", name := "gives", desc := "([II)I" } : Jvm.MethodName)) ∈ lw_tbl := lw_at lw_m13 51 rfl
theorem q3082 : (Jvm.Cond.instanceMethod ({ cls := "WhistlePostsModel", name := "gives", desc := "([II)I" } : Jvm.MethodName)) ∈ lw_all := lw_g (lw_at lw_m13 52 rfl) rfl
theorem q3083 : (Jvm.Cond.code ({ cls := "WhistlePostsModel", name := "gives", desc := "([II)I" } : Jvm.MethodName) prog_15_method_12_code (4 : Nat) (Option.some Jvm.ClassFile.FieldType.int)) ∈ lw_all := lw_g (lw_at lw_m13 53 rfl) rfl
theorem q3085 : (Jvm.Cond.instanceMethod ({ cls := "WhistlePostsModel", name := "playScript", desc := "()I" } : Jvm.MethodName)) ∈ lw_all := lw_g (lw_at lw_m13 55 rfl) rfl
theorem q3086 : (Jvm.Cond.selects "WhistlePostsModel" ({ cls := "WhistlePostsModel", name := "playScript", desc := "()I" } : Jvm.MethodName) ({ cls := "WhistlePostsModel", name := "playScript", desc := "()I" } : Jvm.MethodName)) ∈ lw_all := lw_g (lw_at lw_m13 56 rfl) rfl
theorem q3087 : (Jvm.Cond.code ({ cls := "WhistlePostsModel", name := "playScript", desc := "()I" } : Jvm.MethodName) prog_15_method_77_code (2 : Nat) (Option.some Jvm.ClassFile.FieldType.int)) ∈ lw_all := lw_g (lw_at lw_m13 57 rfl) rfl
theorem q3088 : (Jvm.Cond.methodLink "WhistlePostsModel" (354 : Nat) ({ cls := "WhistlePostsModel", name := "readsDeed", desc := "()V" } : Jvm.MethodName)) ∈ lw_all := lw_g (lw_at lw_m13 58 rfl) rfl
theorem q3089 : (Jvm.Cond.privateMethod ({ cls := "WhistlePostsModel", name := "readsDeed", desc := "()V" } : Jvm.MethodName)) ∈ lw_tbl := lw_at lw_m13 59 rfl
theorem q3090 : (Jvm.Cond.instanceMethod ({ cls := "WhistlePostsModel", name := "readsDeed", desc := "()V" } : Jvm.MethodName)) ∈ lw_all := lw_g (lw_at lw_m13 60 rfl) rfl
theorem q3091 : (Jvm.Cond.code ({ cls := "WhistlePostsModel", name := "readsDeed", desc := "()V" } : Jvm.MethodName) prog_15_method_74_code (4 : Nat) (Option.none : Option Jvm.ClassFile.FieldType)) ∈ lw_all := lw_g (lw_at lw_m13 61 rfl) rfl
theorem q3092 : (Jvm.Cond.methodLink "WhistlePostsModel" (330 : Nat) ({ cls := "WhistlePostsModel", name := "kindHere", desc := "()I" } : Jvm.MethodName)) ∈ lw_all := lw_g (lw_at lw_m13 62 rfl) rfl
theorem q3093 : (Jvm.Cond.privateMethod ({ cls := "WhistlePostsModel", name := "kindHere", desc := "()I" } : Jvm.MethodName)) ∈ lw_tbl := lw_at lw_m13 63 rfl
theorem q3094 : (Jvm.Cond.instanceMethod ({ cls := "WhistlePostsModel", name := "kindHere", desc := "()I" } : Jvm.MethodName)) ∈ lw_all := lw_g (lw_at lw_m13 64 rfl) rfl
theorem q3095 : (Jvm.Cond.code ({ cls := "WhistlePostsModel", name := "kindHere", desc := "()I" } : Jvm.MethodName) prog_15_method_72_code (1 : Nat) (Option.some Jvm.ClassFile.FieldType.int)) ∈ lw_all := lw_g (lw_at lw_m13 65 rfl) rfl
theorem q3096 : (Jvm.Cond.stringRef "WhistlePostsModel" (320 : Nat) "send") ∈ lw_tbl := lw_at lw_m13 66 rfl
theorem q3097 : (Jvm.Cond.stringRef "WhistlePostsModel" (322 : Nat) "ask") ∈ lw_tbl := lw_at lw_m13 67 rfl
theorem q3098 : (Jvm.Cond.stringRef "WhistlePostsModel" (324 : Nat) "tick") ∈ lw_tbl := lw_at lw_m13 68 rfl
theorem q3099 : (Jvm.Cond.stringRef "WhistlePostsModel" (326 : Nat) "give") ∈ lw_tbl := lw_at lw_m13 69 rfl
theorem q3100 : (Jvm.Cond.stringRef "WhistlePostsModel" (328 : Nat) "cut") ∈ lw_tbl := lw_at lw_m13 70 rfl
theorem q3101 : (Jvm.Cond.methodLink "WhistlePostsModel" (336 : Nat) ({ cls := "WhistlePostsModel", name := "readsNotes", desc := "(I)V" } : Jvm.MethodName)) ∈ lw_all := lw_g (lw_at lw_m13 71 rfl) rfl
theorem q3102 : (Jvm.Cond.privateMethod ({ cls := "WhistlePostsModel", name := "readsNotes", desc := "(I)V" } : Jvm.MethodName)) ∈ lw_tbl := lw_at lw_m13 72 rfl
theorem q3103 : (Jvm.Cond.instanceMethod ({ cls := "WhistlePostsModel", name := "readsNotes", desc := "(I)V" } : Jvm.MethodName)) ∈ lw_all := lw_g (lw_at lw_m13 73 rfl) rfl
theorem q3104 : (Jvm.Cond.code ({ cls := "WhistlePostsModel", name := "readsNotes", desc := "(I)V" } : Jvm.MethodName) prog_15_method_73_code (4 : Nat) (Option.none : Option Jvm.ClassFile.FieldType)) ∈ lw_all := lw_g (lw_at lw_m13 74 rfl) rfl
theorem q3105 : (Jvm.Cond.methodLink "WhistlePostsModel" (357 : Nat) ({ cls := "WhistlePostsModel", name := "remembers", desc := "()V" } : Jvm.MethodName)) ∈ lw_all := lw_g (lw_at lw_m13 75 rfl) rfl
theorem q3106 : (Jvm.Cond.privateMethod ({ cls := "WhistlePostsModel", name := "remembers", desc := "()V" } : Jvm.MethodName)) ∈ lw_tbl := lw_at lw_m13 76 rfl
theorem q3107 : (Jvm.Cond.instanceMethod ({ cls := "WhistlePostsModel", name := "remembers", desc := "()V" } : Jvm.MethodName)) ∈ lw_all := lw_g (lw_at lw_m13 77 rfl) rfl
theorem q3108 : (Jvm.Cond.code ({ cls := "WhistlePostsModel", name := "remembers", desc := "()V" } : Jvm.MethodName) prog_15_method_13_code (2 : Nat) (Option.none : Option Jvm.ClassFile.FieldType)) ∈ lw_all := lw_g (lw_at lw_m13 78 rfl) rfl
theorem q3109 : (Jvm.Cond.methodLink "WhistlePostsModel" (360 : Nat) ({ cls := "WhistlePostsModel", name := "does", desc := "(I)Z" } : Jvm.MethodName)) ∈ lw_all := lw_g (lw_at lw_m13 79 rfl) rfl
theorem q3110 : (Jvm.Cond.privateMethod ({ cls := "WhistlePostsModel", name := "does", desc := "(I)Z" } : Jvm.MethodName)) ∈ lw_tbl := lw_at lw_m13 80 rfl
theorem q3111 : (Jvm.Cond.instanceMethod ({ cls := "WhistlePostsModel", name := "does", desc := "(I)Z" } : Jvm.MethodName)) ∈ lw_all := lw_g (lw_at lw_m13 81 rfl) rfl
theorem q3112 : (Jvm.Cond.code ({ cls := "WhistlePostsModel", name := "does", desc := "(I)Z" } : Jvm.MethodName) prog_15_method_76_code (5 : Nat) (Option.some Jvm.ClassFile.FieldType.boolean)) ∈ lw_all := lw_g (lw_at lw_m13 82 rfl) rfl
theorem q3113 : (Jvm.Cond.methodLink "WhistlePostsModel" (339 : Nat) ({ cls := "WhistlePostsModel", name := "sendsDeed", desc := "(I)I" } : Jvm.MethodName)) ∈ lw_all := lw_g (lw_at lw_m13 83 rfl) rfl
theorem q3114 : (Jvm.Cond.privateMethod ({ cls := "WhistlePostsModel", name := "sendsDeed", desc := "(I)I" } : Jvm.MethodName)) ∈ lw_tbl := lw_at lw_m13 84 rfl
theorem q3115 : (Jvm.Cond.instanceMethod ({ cls := "WhistlePostsModel", name := "sendsDeed", desc := "(I)I" } : Jvm.MethodName)) ∈ lw_all := lw_g (lw_at lw_m13 85 rfl) rfl
theorem q3116 : (Jvm.Cond.code ({ cls := "WhistlePostsModel", name := "sendsDeed", desc := "(I)I" } : Jvm.MethodName) prog_15_method_75_code (3 : Nat) (Option.some Jvm.ClassFile.FieldType.int)) ∈ lw_all := lw_g (lw_at lw_m13 86 rfl) rfl
theorem q3117 : (Jvm.Cond.methodLink "WhistlePostsModel" (144 : Nat) ({ cls := "WhistlePostsModel", name := "newTune", desc := "(IIZZ)I" } : Jvm.MethodName)) ∈ lw_all := lw_g (lw_at lw_m13 87 rfl) rfl
theorem q3118 : (Jvm.Cond.privateMethod ({ cls := "WhistlePostsModel", name := "newTune", desc := "(IIZZ)I" } : Jvm.MethodName)) ∈ lw_tbl := lw_at lw_m13 88 rfl
theorem q3119 : (Jvm.Cond.instanceMethod ({ cls := "WhistlePostsModel", name := "newTune", desc := "(IIZZ)I" } : Jvm.MethodName)) ∈ lw_all := lw_g (lw_at lw_m13 89 rfl) rfl
theorem q3120 : (Jvm.Cond.code ({ cls := "WhistlePostsModel", name := "newTune", desc := "(IIZZ)I" } : Jvm.MethodName) prog_15_method_30_code (8 : Nat) (Option.some Jvm.ClassFile.FieldType.int)) ∈ lw_all := lw_g (lw_at lw_m13 90 rfl) rfl
theorem q3121 : (Jvm.Cond.methodLink "WhistlePostsModel" (109 : Nat) ({ cls := "WhistlePostsModel", name := "t", desc := "(I)I" } : Jvm.MethodName)) ∈ lw_all := lw_g (lw_at lw_m13 91 rfl) rfl
theorem q3122 : (Jvm.Cond.static ({ cls := "WhistlePostsModel", name := "t", desc := "(I)I" } : Jvm.MethodName)) ∈ lw_all := lw_g (lw_at lw_m13 92 rfl) rfl
theorem q3123 : (Jvm.Cond.code ({ cls := "WhistlePostsModel", name := "t", desc := "(I)I" } : Jvm.MethodName) prog_15_method_8_code (1 : Nat) (Option.some Jvm.ClassFile.FieldType.int)) ∈ lw_all := lw_g (lw_at lw_m13 93 rfl) rfl
theorem q3124 : (Jvm.Cond.methodLink "WhistlePostsModel" (115 : Nat) ({ cls := "WhistlePostsModel", name := "one", desc := "(Z)I" } : Jvm.MethodName)) ∈ lw_all := lw_g (lw_at lw_m13 94 rfl) rfl
theorem q3125 : (Jvm.Cond.static ({ cls := "WhistlePostsModel", name := "one", desc := "(Z)I" } : Jvm.MethodName)) ∈ lw_all := lw_g (lw_at lw_m13 95 rfl) rfl
theorem q3126 : (Jvm.Cond.code ({ cls := "WhistlePostsModel", name := "one", desc := "(Z)I" } : Jvm.MethodName) prog_15_method_4_code (1 : Nat) (Option.some Jvm.ClassFile.FieldType.int)) ∈ lw_all := lw_g (lw_at lw_m13 96 rfl) rfl
theorem q3127 : (Jvm.Cond.methodLink "WhistlePostsModel" (122 : Nat) ({ cls := "WhistlePostsModel", name := "hearsAsSent", desc := "(I)V" } : Jvm.MethodName)) ∈ lw_all := lw_g (lw_at lw_m13 97 rfl) rfl
theorem q3128 : (Jvm.Cond.privateMethod ({ cls := "WhistlePostsModel", name := "hearsAsSent", desc := "(I)V" } : Jvm.MethodName)) ∈ lw_tbl := lw_at lw_m13 98 rfl
theorem q3129 : (Jvm.Cond.instanceMethod ({ cls := "WhistlePostsModel", name := "hearsAsSent", desc := "(I)V" } : Jvm.MethodName)) ∈ lw_all := lw_g (lw_at lw_m13 99 rfl) rfl
theorem q3130 : (Jvm.Cond.code ({ cls := "WhistlePostsModel", name := "hearsAsSent", desc := "(I)V" } : Jvm.MethodName) prog_15_method_29_code (3 : Nat) (Option.none : Option Jvm.ClassFile.FieldType)) ∈ lw_all := lw_g (lw_at lw_m13 100 rfl) rfl
theorem q3131 : (Jvm.Cond.methodLink "WhistlePostsModel" (126 : Nat) ({ cls := "WhistlePostsModel", name := "counts", desc := "(II)V" } : Jvm.MethodName)) ∈ lw_all := lw_g (lw_at lw_m13 101 rfl) rfl
theorem q3132 : (Jvm.Cond.privateMethod ({ cls := "WhistlePostsModel", name := "counts", desc := "(II)V" } : Jvm.MethodName)) ∈ lw_tbl := lw_at lw_m13 102 rfl
theorem q3133 : (Jvm.Cond.instanceMethod ({ cls := "WhistlePostsModel", name := "counts", desc := "(II)V" } : Jvm.MethodName)) ∈ lw_all := lw_g (lw_at lw_m13 103 rfl) rfl
theorem q3134 : (Jvm.Cond.code ({ cls := "WhistlePostsModel", name := "counts", desc := "(II)V" } : Jvm.MethodName) prog_15_method_9_code (3 : Nat) (Option.none : Option Jvm.ClassFile.FieldType)) ∈ lw_all := lw_g (lw_at lw_m13 104 rfl) rfl
theorem q3135 : (Jvm.Cond.methodLink "WhistlePostsModel" (342 : Nat) ({ cls := "WhistlePostsModel", name := "goes", desc := "(I)I" } : Jvm.MethodName)) ∈ lw_all := lw_g (lw_at lw_m13 105 rfl) rfl
theorem q3136 : (Jvm.Cond.privateMethod ({ cls := "WhistlePostsModel", name := "goes", desc := "(I)I" } : Jvm.MethodName)) ∈ lw_tbl := lw_at lw_m13 106 rfl
theorem q3137 : (Jvm.Cond.instanceMethod ({ cls := "WhistlePostsModel", name := "goes", desc := "(I)I" } : Jvm.MethodName)) ∈ lw_all := lw_g (lw_at lw_m13 107 rfl) rfl
theorem q3138 : (Jvm.Cond.code ({ cls := "WhistlePostsModel", name := "goes", desc := "(I)I" } : Jvm.MethodName) prog_15_method_42_code (4 : Nat) (Option.some Jvm.ClassFile.FieldType.int)) ∈ lw_all := lw_g (lw_at lw_m13 108 rfl) rfl
theorem q3139 : (Jvm.Cond.methodLink "WhistlePostsModel" (190 : Nat) ({ cls := "WhistlePostsModel", name := "ticks", desc := "()V" } : Jvm.MethodName)) ∈ lw_all := lw_g (lw_at lw_m13 109 rfl) rfl
theorem q3140 : (Jvm.Cond.privateMethod ({ cls := "WhistlePostsModel", name := "ticks", desc := "()V" } : Jvm.MethodName)) ∈ lw_tbl := lw_at lw_m13 110 rfl
theorem q3141 : (Jvm.Cond.instanceMethod ({ cls := "WhistlePostsModel", name := "ticks", desc := "()V" } : Jvm.MethodName)) ∈ lw_all := lw_g (lw_at lw_m13 111 rfl) rfl
theorem q3142 : (Jvm.Cond.code ({ cls := "WhistlePostsModel", name := "ticks", desc := "()V" } : Jvm.MethodName) prog_15_method_41_code (3 : Nat) (Option.none : Option Jvm.ClassFile.FieldType)) ∈ lw_all := lw_g (lw_at lw_m13 112 rfl) rfl
theorem q3143 : (Jvm.Cond.methodLink "WhistlePostsModel" (175 : Nat) ({ cls := "WhistlePostsModel", name := "arrives", desc := "()V" } : Jvm.MethodName)) ∈ lw_all := lw_g (lw_at lw_m13 113 rfl) rfl
theorem q3144 : (Jvm.Cond.privateMethod ({ cls := "WhistlePostsModel", name := "arrives", desc := "()V" } : Jvm.MethodName)) ∈ lw_tbl := lw_at lw_m13 114 rfl
theorem q3145 : (Jvm.Cond.instanceMethod ({ cls := "WhistlePostsModel", name := "arrives", desc := "()V" } : Jvm.MethodName)) ∈ lw_all := lw_g (lw_at lw_m13 115 rfl) rfl
theorem q3146 : (Jvm.Cond.code ({ cls := "WhistlePostsModel", name := "arrives", desc := "()V" } : Jvm.MethodName) prog_15_method_39_code (3 : Nat) (Option.none : Option Jvm.ClassFile.FieldType)) ∈ lw_all := lw_g (lw_at lw_m13 116 rfl) rfl
theorem q3147 : (Jvm.Cond.methodLink "WhistlePostsModel" (172 : Nat) ({ cls := "WhistlePostsModel", name := "comes", desc := "(I)V" } : Jvm.MethodName)) ∈ lw_all := lw_g (lw_at lw_m13 117 rfl) rfl
theorem q3148 : (Jvm.Cond.privateMethod ({ cls := "WhistlePostsModel", name := "comes", desc := "(I)V" } : Jvm.MethodName)) ∈ lw_tbl := lw_at lw_m13 118 rfl
theorem q3149 : (Jvm.Cond.instanceMethod ({ cls := "WhistlePostsModel", name := "comes", desc := "(I)V" } : Jvm.MethodName)) ∈ lw_all := lw_g (lw_at lw_m13 119 rfl) rfl
theorem q3150 : (Jvm.Cond.code ({ cls := "WhistlePostsModel", name := "comes", desc := "(I)V" } : Jvm.MethodName) prog_15_method_34_code (3 : Nat) (Option.none : Option Jvm.ClassFile.FieldType)) ∈ lw_all := lw_g (lw_at lw_m13 120 rfl) rfl
theorem q3151 : (Jvm.Cond.methodLink "WhistlePostsModel" (148 : Nat) ({ cls := "WhistlePostsModel", name := "blurs", desc := "(I)V" } : Jvm.MethodName)) ∈ lw_all := lw_g (lw_at lw_m13 121 rfl) rfl
theorem q3152 : (Jvm.Cond.privateMethod ({ cls := "WhistlePostsModel", name := "blurs", desc := "(I)V" } : Jvm.MethodName)) ∈ lw_tbl := lw_at lw_m13 122 rfl
theorem q3153 : (Jvm.Cond.instanceMethod ({ cls := "WhistlePostsModel", name := "blurs", desc := "(I)V" } : Jvm.MethodName)) ∈ lw_all := lw_g (lw_at lw_m13 123 rfl) rfl
theorem q3154 : (Jvm.Cond.code ({ cls := "WhistlePostsModel", name := "blurs", desc := "(I)V" } : Jvm.MethodName) prog_15_method_32_code (7 : Nat) (Option.none : Option Jvm.ClassFile.FieldType)) ∈ lw_all := lw_g (lw_at lw_m13 124 rfl) rfl
theorem q3155 : (Jvm.Cond.methodLink "WhistlePostsModel" (137 : Nat) ({ cls := "WhistlePostsModel", name := "wrongBy", desc := "(IIII)I" } : Jvm.MethodName)) ∈ lw_all := lw_g (lw_at lw_m13 125 rfl) rfl
theorem q3156 : (Jvm.Cond.privateMethod ({ cls := "WhistlePostsModel", name := "wrongBy", desc := "(IIII)I" } : Jvm.MethodName)) ∈ lw_tbl := lw_at lw_m13 126 rfl
theorem q3157 : (Jvm.Cond.instanceMethod ({ cls := "WhistlePostsModel", name := "wrongBy", desc := "(IIII)I" } : Jvm.MethodName)) ∈ lw_all := lw_g (lw_at lw_m13 127 rfl) rfl
theorem q3158 : (Jvm.Cond.code ({ cls := "WhistlePostsModel", name := "wrongBy", desc := "(IIII)I" } : Jvm.MethodName) prog_15_method_31_code (5 : Nat) (Option.some Jvm.ClassFile.FieldType.int)) ∈ lw_all := lw_g (lw_at lw_m13 128 rfl) rfl
theorem q3159 : (Jvm.Cond.methodLink "WhistlePostsModel" (134 : Nat) ({ cls := "java/lang/Math", name := "min", desc := "(II)I" } : Jvm.MethodName)) ∈ lw_all := lw_g (lw_at lw_m13 129 rfl) rfl
theorem q3160 : (Jvm.Cond.methodLink "WhistlePostsModel" (141 : Nat) ({ cls := "WhistlePostsModel", name := "unlike", desc := "(I)I" } : Jvm.MethodName)) ∈ lw_all := lw_g (lw_at lw_m13 130 rfl) rfl
theorem q3161 : (Jvm.Cond.privateMethod ({ cls := "WhistlePostsModel", name := "unlike", desc := "(I)I" } : Jvm.MethodName)) ∈ lw_tbl := lw_at lw_m13 131 rfl
theorem q3162 : (Jvm.Cond.instanceMethod ({ cls := "WhistlePostsModel", name := "unlike", desc := "(I)I" } : Jvm.MethodName)) ∈ lw_all := lw_g (lw_at lw_m13 132 rfl) rfl
theorem q3163 : (Jvm.Cond.code ({ cls := "WhistlePostsModel", name := "unlike", desc := "(I)I" } : Jvm.MethodName) prog_15_method_28_code (4 : Nat) (Option.some Jvm.ClassFile.FieldType.int)) ∈ lw_all := lw_g (lw_at lw_m13 133 rfl) rfl
theorem q3164 : (Jvm.Cond.methodLink "WhistlePostsModel" (151 : Nat) ({ cls := "WhistlePostsModel", name := "replies", desc := "(I)V" } : Jvm.MethodName)) ∈ lw_all := lw_g (lw_at lw_m13 134 rfl) rfl
theorem q3165 : (Jvm.Cond.privateMethod ({ cls := "WhistlePostsModel", name := "replies", desc := "(I)V" } : Jvm.MethodName)) ∈ lw_tbl := lw_at lw_m13 135 rfl
theorem q3166 : (Jvm.Cond.instanceMethod ({ cls := "WhistlePostsModel", name := "replies", desc := "(I)V" } : Jvm.MethodName)) ∈ lw_all := lw_g (lw_at lw_m13 136 rfl) rfl
theorem q3167 : (Jvm.Cond.code ({ cls := "WhistlePostsModel", name := "replies", desc := "(I)V" } : Jvm.MethodName) prog_15_method_33_code (4 : Nat) (Option.none : Option Jvm.ClassFile.FieldType)) ∈ lw_all := lw_g (lw_at lw_m13 137 rfl) rfl
theorem q3168 : (Jvm.Cond.methodLink "WhistlePostsModel" (178 : Nat) ({ cls := "WhistlePostsModel", name := "isBusy", desc := "(II)Z" } : Jvm.MethodName)) ∈ lw_all := lw_g (lw_at lw_m13 138 rfl) rfl
theorem q3169 : (Jvm.Cond.privateMethod ({ cls := "WhistlePostsModel", name := "isBusy", desc := "(II)Z" } : Jvm.MethodName)) ∈ lw_tbl := lw_at lw_m13 139 rfl
theorem q3170 : (Jvm.Cond.instanceMethod ({ cls := "WhistlePostsModel", name := "isBusy", desc := "(II)Z" } : Jvm.MethodName)) ∈ lw_all := lw_g (lw_at lw_m13 140 rfl) rfl
theorem q3171 : (Jvm.Cond.code ({ cls := "WhistlePostsModel", name := "isBusy", desc := "(II)Z" } : Jvm.MethodName) prog_15_method_24_code (3 : Nat) (Option.some Jvm.ClassFile.FieldType.boolean)) ∈ lw_all := lw_g (lw_at lw_m13 141 rfl) rfl
theorem q3172 : (Jvm.Cond.methodLink "WhistlePostsModel" (181 : Nat) ({ cls := "WhistlePostsModel", name := "firstAt", desc := "(I)I" } : Jvm.MethodName)) ∈ lw_all := lw_g (lw_at lw_m13 142 rfl) rfl
theorem q3173 : (Jvm.Cond.privateMethod ({ cls := "WhistlePostsModel", name := "firstAt", desc := "(I)I" } : Jvm.MethodName)) ∈ lw_tbl := lw_at lw_m13 143 rfl
theorem q3174 : (Jvm.Cond.instanceMethod ({ cls := "WhistlePostsModel", name := "firstAt", desc := "(I)I" } : Jvm.MethodName)) ∈ lw_all := lw_g (lw_at lw_m13 144 rfl) rfl
theorem q3175 : (Jvm.Cond.code ({ cls := "WhistlePostsModel", name := "firstAt", desc := "(I)I" } : Jvm.MethodName) prog_15_method_37_code (5 : Nat) (Option.some Jvm.ClassFile.FieldType.int)) ∈ lw_all := lw_g (lw_at lw_m13 145 rfl) rfl
theorem q3176 : (Jvm.Cond.methodLink "WhistlePostsModel" (157 : Nat) ({ cls := "WhistlePostsModel", name := "waitsAt", desc := "(II)Z" } : Jvm.MethodName)) ∈ lw_all := lw_g (lw_at lw_m13 146 rfl) rfl
theorem q3177 : (Jvm.Cond.privateMethod ({ cls := "WhistlePostsModel", name := "waitsAt", desc := "(II)Z" } : Jvm.MethodName)) ∈ lw_tbl := lw_at lw_m13 147 rfl
theorem q3178 : (Jvm.Cond.instanceMethod ({ cls := "WhistlePostsModel", name := "waitsAt", desc := "(II)Z" } : Jvm.MethodName)) ∈ lw_all := lw_g (lw_at lw_m13 148 rfl) rfl
theorem q3179 : (Jvm.Cond.code ({ cls := "WhistlePostsModel", name := "waitsAt", desc := "(II)Z" } : Jvm.MethodName) prog_15_method_27_code (3 : Nat) (Option.some Jvm.ClassFile.FieldType.boolean)) ∈ lw_all := lw_g (lw_at lw_m13 149 rfl) rfl
theorem q3180 : (Jvm.Cond.methodLink "WhistlePostsModel" (154 : Nat) ({ cls := "WhistlePostsModel", name := "bars", desc := "(I)I" } : Jvm.MethodName)) ∈ lw_all := lw_g (lw_at lw_m13 150 rfl) rfl
theorem q3181 : (Jvm.Cond.privateMethod ({ cls := "WhistlePostsModel", name := "bars", desc := "(I)I" } : Jvm.MethodName)) ∈ lw_tbl := lw_at lw_m13 151 rfl
theorem q3182 : (Jvm.Cond.instanceMethod ({ cls := "WhistlePostsModel", name := "bars", desc := "(I)I" } : Jvm.MethodName)) ∈ lw_all := lw_g (lw_at lw_m13 152 rfl) rfl
theorem q3183 : (Jvm.Cond.code ({ cls := "WhistlePostsModel", name := "bars", desc := "(I)I" } : Jvm.MethodName) prog_15_method_26_code (2 : Nat) (Option.some Jvm.ClassFile.FieldType.int)) ∈ lw_all := lw_g (lw_at lw_m13 153 rfl) rfl
theorem q3184 : (Jvm.Cond.methodLink "WhistlePostsModel" (112 : Nat) ({ cls := "WhistlePostsModel", name := "barsOf", desc := "(I)I" } : Jvm.MethodName)) ∈ lw_all := lw_g (lw_at lw_m13 154 rfl) rfl
theorem q3185 : (Jvm.Cond.privateMethod ({ cls := "WhistlePostsModel", name := "barsOf", desc := "(I)I" } : Jvm.MethodName)) ∈ lw_tbl := lw_at lw_m13 155 rfl
theorem q3186 : (Jvm.Cond.instanceMethod ({ cls := "WhistlePostsModel", name := "barsOf", desc := "(I)I" } : Jvm.MethodName)) ∈ lw_all := lw_g (lw_at lw_m13 156 rfl) rfl
theorem q3187 : (Jvm.Cond.code ({ cls := "WhistlePostsModel", name := "barsOf", desc := "(I)I" } : Jvm.MethodName) prog_15_method_25_code (2 : Nat) (Option.some Jvm.ClassFile.FieldType.int)) ∈ lw_all := lw_g (lw_at lw_m13 157 rfl) rfl
theorem q3188 : (Jvm.Cond.methodLink "WhistlePostsModel" (160 : Nat) ({ cls := "WhistlePostsModel", name := "purseFor", desc := "(I)I" } : Jvm.MethodName)) ∈ lw_all := lw_g (lw_at lw_m13 158 rfl) rfl
theorem q3189 : (Jvm.Cond.privateMethod ({ cls := "WhistlePostsModel", name := "purseFor", desc := "(I)I" } : Jvm.MethodName)) ∈ lw_tbl := lw_at lw_m13 159 rfl
theorem q3190 : (Jvm.Cond.instanceMethod ({ cls := "WhistlePostsModel", name := "purseFor", desc := "(I)I" } : Jvm.MethodName)) ∈ lw_all := lw_g (lw_at lw_m13 160 rfl) rfl
theorem q3191 : (Jvm.Cond.code ({ cls := "WhistlePostsModel", name := "purseFor", desc := "(I)I" } : Jvm.MethodName) prog_15_method_36_code (2 : Nat) (Option.some Jvm.ClassFile.FieldType.int)) ∈ lw_all := lw_g (lw_at lw_m13 161 rfl) rfl
theorem q3192 : (Jvm.Cond.methodLink "WhistlePostsModel" (163 : Nat) ({ cls := "WhistlePostsModel", name := "feeAt", desc := "(II)I" } : Jvm.MethodName)) ∈ lw_all := lw_g (lw_at lw_m13 162 rfl) rfl
theorem q3193 : (Jvm.Cond.privateMethod ({ cls := "WhistlePostsModel", name := "feeAt", desc := "(II)I" } : Jvm.MethodName)) ∈ lw_tbl := lw_at lw_m13 163 rfl
theorem q3194 : (Jvm.Cond.instanceMethod ({ cls := "WhistlePostsModel", name := "feeAt", desc := "(II)I" } : Jvm.MethodName)) ∈ lw_all := lw_g (lw_at lw_m13 164 rfl) rfl
theorem q3195 : (Jvm.Cond.code ({ cls := "WhistlePostsModel", name := "feeAt", desc := "(II)I" } : Jvm.MethodName) prog_15_method_35_code (3 : Nat) (Option.some Jvm.ClassFile.FieldType.int)) ∈ lw_all := lw_g (lw_at lw_m13 165 rfl) rfl
theorem q3196 : (Jvm.Cond.methodLink "WhistlePostsModel" (166 : Nat) ({ cls := "WhistlePostsModel", name := "nextTo", desc := "(II)I" } : Jvm.MethodName)) ∈ lw_all := lw_g (lw_at lw_m13 166 rfl) rfl
theorem q3197 : (Jvm.Cond.privateMethod ({ cls := "WhistlePostsModel", name := "nextTo", desc := "(II)I" } : Jvm.MethodName)) ∈ lw_tbl := lw_at lw_m13 167 rfl
theorem q3198 : (Jvm.Cond.instanceMethod ({ cls := "WhistlePostsModel", name := "nextTo", desc := "(II)I" } : Jvm.MethodName)) ∈ lw_all := lw_g (lw_at lw_m13 168 rfl) rfl
theorem q3199 : (Jvm.Cond.code ({ cls := "WhistlePostsModel", name := "nextTo", desc := "(II)I" } : Jvm.MethodName) prog_15_method_23_code (7 : Nat) (Option.some Jvm.ClassFile.FieldType.int)) ∈ lw_all := lw_g (lw_at lw_m13 169 rfl) rfl
theorem q3200 : (Jvm.Cond.methodLink "WhistlePostsModel" (106 : Nat) ({ cls := "WhistlePostsModel", name := "sumTo", desc := "(II)I" } : Jvm.MethodName)) ∈ lw_all := lw_g (lw_at lw_m13 170 rfl) rfl
theorem q3201 : (Jvm.Cond.privateMethod ({ cls := "WhistlePostsModel", name := "sumTo", desc := "(II)I" } : Jvm.MethodName)) ∈ lw_tbl := lw_at lw_m13 171 rfl
theorem q3202 : (Jvm.Cond.instanceMethod ({ cls := "WhistlePostsModel", name := "sumTo", desc := "(II)I" } : Jvm.MethodName)) ∈ lw_all := lw_g (lw_at lw_m13 172 rfl) rfl
theorem q3203 : (Jvm.Cond.code ({ cls := "WhistlePostsModel", name := "sumTo", desc := "(II)I" } : Jvm.MethodName) prog_15_method_22_code (3 : Nat) (Option.some Jvm.ClassFile.FieldType.int)) ∈ lw_all := lw_g (lw_at lw_m13 173 rfl) rfl
theorem q3204 : (Jvm.Cond.methodLink "WhistlePostsModel" (102 : Nat) ({ cls := "WhistlePostsModel", name := "reckons", desc := "(II)V" } : Jvm.MethodName)) ∈ lw_all := lw_g (lw_at lw_m13 174 rfl) rfl
theorem q3205 : (Jvm.Cond.privateMethod ({ cls := "WhistlePostsModel", name := "reckons", desc := "(II)V" } : Jvm.MethodName)) ∈ lw_tbl := lw_at lw_m13 175 rfl
theorem q3206 : (Jvm.Cond.instanceMethod ({ cls := "WhistlePostsModel", name := "reckons", desc := "(II)V" } : Jvm.MethodName)) ∈ lw_all := lw_g (lw_at lw_m13 176 rfl) rfl
theorem q3207 : (Jvm.Cond.code ({ cls := "WhistlePostsModel", name := "reckons", desc := "(II)V" } : Jvm.MethodName) prog_15_method_21_code (5 : Nat) (Option.none : Option Jvm.ClassFile.FieldType)) ∈ lw_all := lw_g (lw_at lw_m13 177 rfl) rfl
theorem q3208 : (Jvm.Cond.methodLink "WhistlePostsModel" (99 : Nat) ({ cls := "WhistlePostsModel", name := "isNearer", desc := "(II)Z" } : Jvm.MethodName)) ∈ lw_all := lw_g (lw_at lw_m13 178 rfl) rfl
theorem q3209 : (Jvm.Cond.privateMethod ({ cls := "WhistlePostsModel", name := "isNearer", desc := "(II)Z" } : Jvm.MethodName)) ∈ lw_tbl := lw_at lw_m13 179 rfl
theorem q3210 : (Jvm.Cond.instanceMethod ({ cls := "WhistlePostsModel", name := "isNearer", desc := "(II)Z" } : Jvm.MethodName)) ∈ lw_all := lw_g (lw_at lw_m13 180 rfl) rfl
theorem q3211 : (Jvm.Cond.code ({ cls := "WhistlePostsModel", name := "isNearer", desc := "(II)Z" } : Jvm.MethodName) prog_15_method_20_code (5 : Nat) (Option.some Jvm.ClassFile.FieldType.boolean)) ∈ lw_all := lw_g (lw_at lw_m13 181 rfl) rfl
theorem q3212 : (Jvm.Cond.methodLink "WhistlePostsModel" (95 : Nat) ({ cls := "WhistlePostsModel", name := "otherEnd", desc := "(II)I" } : Jvm.MethodName)) ∈ lw_all := lw_g (lw_at lw_m13 182 rfl) rfl
theorem q3213 : (Jvm.Cond.privateMethod ({ cls := "WhistlePostsModel", name := "otherEnd", desc := "(II)I" } : Jvm.MethodName)) ∈ lw_tbl := lw_at lw_m13 183 rfl
theorem q3214 : (Jvm.Cond.instanceMethod ({ cls := "WhistlePostsModel", name := "otherEnd", desc := "(II)I" } : Jvm.MethodName)) ∈ lw_all := lw_g (lw_at lw_m13 184 rfl) rfl
theorem q3215 : (Jvm.Cond.code ({ cls := "WhistlePostsModel", name := "otherEnd", desc := "(II)I" } : Jvm.MethodName) prog_15_method_18_code (3 : Nat) (Option.some Jvm.ClassFile.FieldType.int)) ∈ lw_all := lw_g (lw_at lw_m13 185 rfl) rfl
theorem q3216 : (Jvm.Cond.methodLink "WhistlePostsModel" (184 : Nat) ({ cls := "WhistlePostsModel", name := "whistles", desc := "(II)V" } : Jvm.MethodName)) ∈ lw_all := lw_g (lw_at lw_m13 186 rfl) rfl
theorem q3217 : (Jvm.Cond.privateMethod ({ cls := "WhistlePostsModel", name := "whistles", desc := "(II)V" } : Jvm.MethodName)) ∈ lw_tbl := lw_at lw_m13 187 rfl
theorem q3218 : (Jvm.Cond.instanceMethod ({ cls := "WhistlePostsModel", name := "whistles", desc := "(II)V" } : Jvm.MethodName)) ∈ lw_all := lw_g (lw_at lw_m13 188 rfl) rfl
theorem q3219 : (Jvm.Cond.code ({ cls := "WhistlePostsModel", name := "whistles", desc := "(II)V" } : Jvm.MethodName) prog_15_method_38_code (7 : Nat) (Option.none : Option Jvm.ClassFile.FieldType)) ∈ lw_all := lw_g (lw_at lw_m13 189 rfl) rfl
theorem q3220 : (Jvm.Cond.methodLink "WhistlePostsModel" (187 : Nat) ({ cls := "WhistlePostsModel", name := "loses", desc := "()V" } : Jvm.MethodName)) ∈ lw_all := lw_g (lw_at lw_m13 190 rfl) rfl
theorem q3221 : (Jvm.Cond.privateMethod ({ cls := "WhistlePostsModel", name := "loses", desc := "()V" } : Jvm.MethodName)) ∈ lw_tbl := lw_at lw_m13 191 rfl
theorem q3222 : (Jvm.Cond.instanceMethod ({ cls := "WhistlePostsModel", name := "loses", desc := "()V" } : Jvm.MethodName)) ∈ lw_all := lw_g (lw_at lw_m13 192 rfl) rfl
theorem q3223 : (Jvm.Cond.code ({ cls := "WhistlePostsModel", name := "loses", desc := "()V" } : Jvm.MethodName) prog_15_method_40_code (3 : Nat) (Option.none : Option Jvm.ClassFile.FieldType)) ∈ lw_all := lw_g (lw_at lw_m13 193 rfl) rfl
theorem q3224 : (Jvm.Cond.methodLink "WhistlePostsModel" (345 : Nat) ({ cls := "WhistlePostsModel", name := "givesCoins", desc := "(II)I" } : Jvm.MethodName)) ∈ lw_all := lw_g (lw_at lw_m13 194 rfl) rfl
theorem q3225 : (Jvm.Cond.privateMethod ({ cls := "WhistlePostsModel", name := "givesCoins", desc := "(II)I" } : Jvm.MethodName)) ∈ lw_tbl := lw_at lw_m13 195 rfl
theorem q3226 : (Jvm.Cond.instanceMethod ({ cls := "WhistlePostsModel", name := "givesCoins", desc := "(II)I" } : Jvm.MethodName)) ∈ lw_all := lw_g (lw_at lw_m13 196 rfl) rfl
theorem q3227 : (Jvm.Cond.code ({ cls := "WhistlePostsModel", name := "givesCoins", desc := "(II)I" } : Jvm.MethodName) prog_15_method_43_code (3 : Nat) (Option.some Jvm.ClassFile.FieldType.int)) ∈ lw_all := lw_g (lw_at lw_m13 197 rfl) rfl
theorem q3228 : (Jvm.Cond.methodLink "WhistlePostsModel" (348 : Nat) ({ cls := "WhistlePostsModel", name := "cuts", desc := "(I)I" } : Jvm.MethodName)) ∈ lw_all := lw_g (lw_at lw_m13 198 rfl) rfl
theorem q3229 : (Jvm.Cond.privateMethod ({ cls := "WhistlePostsModel", name := "cuts", desc := "(I)I" } : Jvm.MethodName)) ∈ lw_tbl := lw_at lw_m13 199 rfl
theorem q3230 : (Jvm.Cond.instanceMethod ({ cls := "WhistlePostsModel", name := "cuts", desc := "(I)I" } : Jvm.MethodName)) ∈ lw_all := lw_g (lw_at lw_m13 200 rfl) rfl
theorem q3231 : (Jvm.Cond.code ({ cls := "WhistlePostsModel", name := "cuts", desc := "(I)I" } : Jvm.MethodName) prog_15_method_44_code (3 : Nat) (Option.some Jvm.ClassFile.FieldType.int)) ∈ lw_all := lw_g (lw_at lw_m13 201 rfl) rfl
theorem q3232 : (Jvm.Cond.methodLink "WhistlePostsModel" (351 : Nat) ({ cls := "WhistlePostsModel", name := "sets", desc := "(II)I" } : Jvm.MethodName)) ∈ lw_all := lw_g (lw_at lw_m13 202 rfl) rfl
theorem q3233 : (Jvm.Cond.privateMethod ({ cls := "WhistlePostsModel", name := "sets", desc := "(II)I" } : Jvm.MethodName)) ∈ lw_tbl := lw_at lw_m13 203 rfl
theorem q3234 : (Jvm.Cond.instanceMethod ({ cls := "WhistlePostsModel", name := "sets", desc := "(II)I" } : Jvm.MethodName)) ∈ lw_all := lw_g (lw_at lw_m13 204 rfl) rfl
theorem q3235 : (Jvm.Cond.code ({ cls := "WhistlePostsModel", name := "sets", desc := "(II)I" } : Jvm.MethodName) prog_15_method_47_code (4 : Nat) (Option.some Jvm.ClassFile.FieldType.int)) ∈ lw_all := lw_g (lw_at lw_m13 205 rfl) rfl
theorem q3237 : (Jvm.Cond.instanceMethod ({ cls := "WhistlePostsModel", name := "count", desc := "(I)I" } : Jvm.MethodName)) ∈ lw_all := lw_g (lw_at lw_m13 207 rfl) rfl
theorem q3238 : (Jvm.Cond.selects "WhistlePostsModel" ({ cls := "WhistlePostsModel", name := "count", desc := "(I)I" } : Jvm.MethodName) ({ cls := "WhistlePostsModel", name := "count", desc := "(I)I" } : Jvm.MethodName)) ∈ lw_all := lw_g (lw_at lw_m13 208 rfl) rfl
theorem q3239 : (Jvm.Cond.code ({ cls := "WhistlePostsModel", name := "count", desc := "(I)I" } : Jvm.MethodName) prog_15_method_81_code (2 : Nat) (Option.some Jvm.ClassFile.FieldType.int)) ∈ lw_all := lw_g (lw_at lw_m13 209 rfl) rfl
theorem q3240 : (Jvm.Cond.constantLong "WhistlePostsModel" (363 : Nat) (13 : Int64)) ∈ lw_all := lw_g (lw_at lw_m13 210 rfl) rfl
theorem q3241 : (Jvm.Cond.methodLink "WhistlePostsModel" (365 : Nat) ({ cls := "WhistlePostsModel", name := "may", desc := "(ZZZ)Z" } : Jvm.MethodName)) ∈ lw_all := lw_g (lw_at lw_m13 211 rfl) rfl
theorem q3242 : (Jvm.Cond.privateMethod ({ cls := "WhistlePostsModel", name := "may", desc := "(ZZZ)Z" } : Jvm.MethodName)) ∈ lw_tbl := lw_at lw_m13 212 rfl
theorem q3243 : (Jvm.Cond.instanceMethod ({ cls := "WhistlePostsModel", name := "may", desc := "(ZZZ)Z" } : Jvm.MethodName)) ∈ lw_all := lw_g (lw_at lw_m13 213 rfl) rfl
theorem q3244 : (Jvm.Cond.code ({ cls := "WhistlePostsModel", name := "may", desc := "(ZZZ)Z" } : Jvm.MethodName) prog_15_method_5_code (4 : Nat) (Option.some Jvm.ClassFile.FieldType.boolean)) ∈ lw_all := lw_g (lw_at lw_m13 214 rfl) rfl
theorem q3245 : (Jvm.Cond.methodLink "WhistlePostsModel" (369 : Nat) ({ cls := "WhistlePostsModel", name := "those", desc := "(I)I" } : Jvm.MethodName)) ∈ lw_all := lw_g (lw_at lw_m13 215 rfl) rfl
theorem q3246 : (Jvm.Cond.privateMethod ({ cls := "WhistlePostsModel", name := "those", desc := "(I)I" } : Jvm.MethodName)) ∈ lw_tbl := lw_at lw_m13 216 rfl
theorem q3247 : (Jvm.Cond.instanceMethod ({ cls := "WhistlePostsModel", name := "those", desc := "(I)I" } : Jvm.MethodName)) ∈ lw_all := lw_g (lw_at lw_m13 217 rfl) rfl
theorem q3248 : (Jvm.Cond.code ({ cls := "WhistlePostsModel", name := "those", desc := "(I)I" } : Jvm.MethodName) prog_15_method_78_code (4 : Nat) (Option.some Jvm.ClassFile.FieldType.int)) ∈ lw_all := lw_g (lw_at lw_m13 218 rfl) rfl
theorem q3249 : (Jvm.Cond.methodLink "WhistlePostsModel" (372 : Nat) ({ cls := "WhistlePostsModel", name := "busyMany", desc := "()I" } : Jvm.MethodName)) ∈ lw_all := lw_g (lw_at lw_m13 219 rfl) rfl
theorem q3250 : (Jvm.Cond.privateMethod ({ cls := "WhistlePostsModel", name := "busyMany", desc := "()I" } : Jvm.MethodName)) ∈ lw_tbl := lw_at lw_m13 220 rfl
theorem q3251 : (Jvm.Cond.instanceMethod ({ cls := "WhistlePostsModel", name := "busyMany", desc := "()I" } : Jvm.MethodName)) ∈ lw_all := lw_g (lw_at lw_m13 221 rfl) rfl
theorem q3252 : (Jvm.Cond.code ({ cls := "WhistlePostsModel", name := "busyMany", desc := "()I" } : Jvm.MethodName) prog_15_method_79_code (3 : Nat) (Option.some Jvm.ClassFile.FieldType.int)) ∈ lw_all := lw_g (lw_at lw_m13 222 rfl) rfl
theorem q3253 : (Jvm.Cond.methodLink "WhistlePostsModel" (375 : Nat) ({ cls := "WhistlePostsModel", name := "purses", desc := "()I" } : Jvm.MethodName)) ∈ lw_all := lw_g (lw_at lw_m13 223 rfl) rfl
theorem q3254 : (Jvm.Cond.privateMethod ({ cls := "WhistlePostsModel", name := "purses", desc := "()I" } : Jvm.MethodName)) ∈ lw_tbl := lw_at lw_m13 224 rfl
theorem q3255 : (Jvm.Cond.instanceMethod ({ cls := "WhistlePostsModel", name := "purses", desc := "()I" } : Jvm.MethodName)) ∈ lw_all := lw_g (lw_at lw_m13 225 rfl) rfl
theorem q3256 : (Jvm.Cond.code ({ cls := "WhistlePostsModel", name := "purses", desc := "()I" } : Jvm.MethodName) prog_15_method_80_code (3 : Nat) (Option.some Jvm.ClassFile.FieldType.int)) ∈ lw_all := lw_g (lw_at lw_m13 226 rfl) rfl
theorem q3258 : (Jvm.Cond.instanceMethod ({ cls := "WhistlePostsModel", name := "account", desc := "(I)I" } : Jvm.MethodName)) ∈ lw_all := lw_g (lw_at lw_m13 228 rfl) rfl
theorem q3259 : (Jvm.Cond.selects "WhistlePostsModel" ({ cls := "WhistlePostsModel", name := "account", desc := "(I)I" } : Jvm.MethodName) ({ cls := "WhistlePostsModel", name := "account", desc := "(I)I" } : Jvm.MethodName)) ∈ lw_all := lw_g (lw_at lw_m13 229 rfl) rfl
theorem q3260 : (Jvm.Cond.code ({ cls := "WhistlePostsModel", name := "account", desc := "(I)I" } : Jvm.MethodName) prog_15_method_82_code (2 : Nat) (Option.some Jvm.ClassFile.FieldType.int)) ∈ lw_all := lw_g (lw_at lw_m13 230 rfl) rfl
theorem q3261 : (Jvm.Cond.constantLong "WhistlePostsModel" (378 : Nat) (10 : Int64)) ∈ lw_all := lw_g (lw_at lw_m13 231 rfl) rfl
theorem q3263 : (Jvm.Cond.instanceMethod ({ cls := "WhistlePostsModel", name := "nameByte", desc := "(II)I" } : Jvm.MethodName)) ∈ lw_all := lw_g (lw_at lw_m13 233 rfl) rfl
theorem q3264 : (Jvm.Cond.selects "WhistlePostsModel" ({ cls := "WhistlePostsModel", name := "nameByte", desc := "(II)I" } : Jvm.MethodName) ({ cls := "WhistlePostsModel", name := "nameByte", desc := "(II)I" } : Jvm.MethodName)) ∈ lw_all := lw_g (lw_at lw_m13 234 rfl) rfl
theorem q3265 : (Jvm.Cond.code ({ cls := "WhistlePostsModel", name := "nameByte", desc := "(II)I" } : Jvm.MethodName) prog_15_method_86_code (3 : Nat) (Option.some Jvm.ClassFile.FieldType.int)) ∈ lw_all := lw_g (lw_at lw_m13 235 rfl) rfl
theorem q3266 : (Jvm.Cond.methodLink "WhistlePostsModel" (380 : Nat) ({ cls := "WhistlePostsModel", name := "isRoof", desc := "(I)Z" } : Jvm.MethodName)) ∈ lw_all := lw_g (lw_at lw_m13 236 rfl) rfl
theorem q3267 : (Jvm.Cond.privateMethod ({ cls := "WhistlePostsModel", name := "isRoof", desc := "(I)Z" } : Jvm.MethodName)) ∈ lw_tbl := lw_at lw_m13 237 rfl
theorem q3268 : (Jvm.Cond.instanceMethod ({ cls := "WhistlePostsModel", name := "isRoof", desc := "(I)Z" } : Jvm.MethodName)) ∈ lw_all := lw_g (lw_at lw_m13 238 rfl) rfl
theorem q3269 : (Jvm.Cond.code ({ cls := "WhistlePostsModel", name := "isRoof", desc := "(I)Z" } : Jvm.MethodName) prog_15_method_83_code (2 : Nat) (Option.some Jvm.ClassFile.FieldType.boolean)) ∈ lw_all := lw_g (lw_at lw_m13 239 rfl) rfl
theorem q3271 : (Jvm.Cond.instanceMethod ({ cls := "WhistlePostsModel", name := "roof", desc := "(II)I" } : Jvm.MethodName)) ∈ lw_all := lw_g (lw_at lw_m14 1 rfl) rfl
theorem q3272 : (Jvm.Cond.selects "WhistlePostsModel" ({ cls := "WhistlePostsModel", name := "roof", desc := "(II)I" } : Jvm.MethodName) ({ cls := "WhistlePostsModel", name := "roof", desc := "(II)I" } : Jvm.MethodName)) ∈ lw_all := lw_g (lw_at lw_m14 2 rfl) rfl
theorem q3273 : (Jvm.Cond.code ({ cls := "WhistlePostsModel", name := "roof", desc := "(II)I" } : Jvm.MethodName) prog_15_method_89_code (3 : Nat) (Option.some Jvm.ClassFile.FieldType.int)) ∈ lw_all := lw_g (lw_at lw_m14 3 rfl) rfl
theorem q3274 : (Jvm.Cond.constantLong "WhistlePostsModel" (383 : Nat) (7 : Int64)) ∈ lw_all := lw_g (lw_at lw_m14 4 rfl) rfl
theorem q3275 : (Jvm.Cond.methodLink "WhistlePostsModel" (385 : Nat) ({ cls := "WhistlePostsModel", name := "waitingMany", desc := "(I)I" } : Jvm.MethodName)) ∈ lw_all := lw_g (lw_at lw_m14 5 rfl) rfl
theorem q3276 : (Jvm.Cond.privateMethod ({ cls := "WhistlePostsModel", name := "waitingMany", desc := "(I)I" } : Jvm.MethodName)) ∈ lw_tbl := lw_at lw_m14 6 rfl
theorem q3277 : (Jvm.Cond.instanceMethod ({ cls := "WhistlePostsModel", name := "waitingMany", desc := "(I)I" } : Jvm.MethodName)) ∈ lw_all := lw_g (lw_at lw_m14 7 rfl) rfl
theorem q3278 : (Jvm.Cond.code ({ cls := "WhistlePostsModel", name := "waitingMany", desc := "(I)I" } : Jvm.MethodName) prog_15_method_87_code (4 : Nat) (Option.some Jvm.ClassFile.FieldType.int)) ∈ lw_all := lw_g (lw_at lw_m14 8 rfl) rfl
theorem q3279 : (Jvm.Cond.methodLink "WhistlePostsModel" (388 : Nat) ({ cls := "WhistlePostsModel", name := "waysAt", desc := "(I)I" } : Jvm.MethodName)) ∈ lw_all := lw_g (lw_at lw_m14 9 rfl) rfl
theorem q3280 : (Jvm.Cond.privateMethod ({ cls := "WhistlePostsModel", name := "waysAt", desc := "(I)I" } : Jvm.MethodName)) ∈ lw_tbl := lw_at lw_m14 10 rfl
theorem q3281 : (Jvm.Cond.instanceMethod ({ cls := "WhistlePostsModel", name := "waysAt", desc := "(I)I" } : Jvm.MethodName)) ∈ lw_all := lw_g (lw_at lw_m14 11 rfl) rfl
theorem q3282 : (Jvm.Cond.code ({ cls := "WhistlePostsModel", name := "waysAt", desc := "(I)I" } : Jvm.MethodName) prog_15_method_88_code (4 : Nat) (Option.some Jvm.ClassFile.FieldType.int)) ∈ lw_all := lw_g (lw_at lw_m14 12 rfl) rfl
theorem q3284 : (Jvm.Cond.instanceMethod ({ cls := "WhistlePostsModel", name := "way", desc := "(II)I" } : Jvm.MethodName)) ∈ lw_all := lw_g (lw_at lw_m14 14 rfl) rfl
theorem q3285 : (Jvm.Cond.selects "WhistlePostsModel" ({ cls := "WhistlePostsModel", name := "way", desc := "(II)I" } : Jvm.MethodName) ({ cls := "WhistlePostsModel", name := "way", desc := "(II)I" } : Jvm.MethodName)) ∈ lw_all := lw_g (lw_at lw_m14 15 rfl) rfl
theorem q3286 : (Jvm.Cond.code ({ cls := "WhistlePostsModel", name := "way", desc := "(II)I" } : Jvm.MethodName) prog_15_method_90_code (3 : Nat) (Option.some Jvm.ClassFile.FieldType.int)) ∈ lw_all := lw_g (lw_at lw_m14 16 rfl) rfl
theorem q3287 : (Jvm.Cond.constantLong "WhistlePostsModel" (391 : Nat) (2 : Int64)) ∈ lw_all := lw_g (lw_at lw_m14 17 rfl) rfl
theorem q3289 : (Jvm.Cond.instanceMethod ({ cls := "WhistlePostsModel", name := "route", desc := "(II)I" } : Jvm.MethodName)) ∈ lw_all := lw_g (lw_at lw_m14 19 rfl) rfl
theorem q3290 : (Jvm.Cond.selects "WhistlePostsModel" ({ cls := "WhistlePostsModel", name := "route", desc := "(II)I" } : Jvm.MethodName) ({ cls := "WhistlePostsModel", name := "route", desc := "(II)I" } : Jvm.MethodName)) ∈ lw_all := lw_g (lw_at lw_m14 20 rfl) rfl
theorem q3291 : (Jvm.Cond.code ({ cls := "WhistlePostsModel", name := "route", desc := "(II)I" } : Jvm.MethodName) prog_15_method_91_code (3 : Nat) (Option.some Jvm.ClassFile.FieldType.int)) ∈ lw_all := lw_g (lw_at lw_m14 21 rfl) rfl
theorem q3292 : (Jvm.Cond.methodLink "WhistlePostsModel" (393 : Nat) ({ cls := "WhistlePostsModel", name := "areRoofs", desc := "(II)Z" } : Jvm.MethodName)) ∈ lw_all := lw_g (lw_at lw_m14 22 rfl) rfl
theorem q3293 : (Jvm.Cond.privateMethod ({ cls := "WhistlePostsModel", name := "areRoofs", desc := "(II)Z" } : Jvm.MethodName)) ∈ lw_tbl := lw_at lw_m14 23 rfl
theorem q3294 : (Jvm.Cond.instanceMethod ({ cls := "WhistlePostsModel", name := "areRoofs", desc := "(II)Z" } : Jvm.MethodName)) ∈ lw_all := lw_g (lw_at lw_m14 24 rfl) rfl
theorem q3295 : (Jvm.Cond.code ({ cls := "WhistlePostsModel", name := "areRoofs", desc := "(II)Z" } : Jvm.MethodName) prog_15_method_84_code (3 : Nat) (Option.some Jvm.ClassFile.FieldType.boolean)) ∈ lw_all := lw_g (lw_at lw_m14 25 rfl) rfl
theorem q3297 : (Jvm.Cond.instanceMethod ({ cls := "WhistlePostsModel", name := "next", desc := "(II)I" } : Jvm.MethodName)) ∈ lw_all := lw_g (lw_at lw_m14 27 rfl) rfl
theorem q3298 : (Jvm.Cond.selects "WhistlePostsModel" ({ cls := "WhistlePostsModel", name := "next", desc := "(II)I" } : Jvm.MethodName) ({ cls := "WhistlePostsModel", name := "next", desc := "(II)I" } : Jvm.MethodName)) ∈ lw_all := lw_g (lw_at lw_m14 28 rfl) rfl
theorem q3299 : (Jvm.Cond.code ({ cls := "WhistlePostsModel", name := "next", desc := "(II)I" } : Jvm.MethodName) prog_15_method_92_code (3 : Nat) (Option.some Jvm.ClassFile.FieldType.int)) ∈ lw_all := lw_g (lw_at lw_m14 29 rfl) rfl
theorem q3301 : (Jvm.Cond.instanceMethod ({ cls := "WhistlePostsModel", name := "tune", desc := "(II)I" } : Jvm.MethodName)) ∈ lw_all := lw_g (lw_at lw_m14 31 rfl) rfl
theorem q3302 : (Jvm.Cond.selects "WhistlePostsModel" ({ cls := "WhistlePostsModel", name := "tune", desc := "(II)I" } : Jvm.MethodName) ({ cls := "WhistlePostsModel", name := "tune", desc := "(II)I" } : Jvm.MethodName)) ∈ lw_all := lw_g (lw_at lw_m14 32 rfl) rfl
theorem q3303 : (Jvm.Cond.code ({ cls := "WhistlePostsModel", name := "tune", desc := "(II)I" } : Jvm.MethodName) prog_15_method_93_code (3 : Nat) (Option.some Jvm.ClassFile.FieldType.int)) ∈ lw_all := lw_g (lw_at lw_m14 33 rfl) rfl
theorem q3304 : (Jvm.Cond.methodLink "WhistlePostsModel" (396 : Nat) ({ cls := "WhistlePostsModel", name := "isTune", desc := "(I)Z" } : Jvm.MethodName)) ∈ lw_all := lw_g (lw_at lw_m14 34 rfl) rfl
theorem q3305 : (Jvm.Cond.privateMethod ({ cls := "WhistlePostsModel", name := "isTune", desc := "(I)Z" } : Jvm.MethodName)) ∈ lw_tbl := lw_at lw_m14 35 rfl
theorem q3306 : (Jvm.Cond.instanceMethod ({ cls := "WhistlePostsModel", name := "isTune", desc := "(I)Z" } : Jvm.MethodName)) ∈ lw_all := lw_g (lw_at lw_m14 36 rfl) rfl
theorem q3307 : (Jvm.Cond.code ({ cls := "WhistlePostsModel", name := "isTune", desc := "(I)Z" } : Jvm.MethodName) prog_15_method_85_code (2 : Nat) (Option.some Jvm.ClassFile.FieldType.boolean)) ∈ lw_all := lw_g (lw_at lw_m14 37 rfl) rfl
theorem q3308 : (Jvm.Cond.constantLong "WhistlePostsModel" (399 : Nat) (11 : Int64)) ∈ lw_all := lw_g (lw_at lw_m14 38 rfl) rfl
theorem q3310 : (Jvm.Cond.instanceMethod ({ cls := "WhistlePostsModel", name := "note", desc := "(IIZ)I" } : Jvm.MethodName)) ∈ lw_all := lw_g (lw_at lw_m14 40 rfl) rfl
theorem q3311 : (Jvm.Cond.selects "WhistlePostsModel" ({ cls := "WhistlePostsModel", name := "note", desc := "(IIZ)I" } : Jvm.MethodName) ({ cls := "WhistlePostsModel", name := "note", desc := "(IIZ)I" } : Jvm.MethodName)) ∈ lw_all := lw_g (lw_at lw_m14 41 rfl) rfl
theorem q3312 : (Jvm.Cond.code ({ cls := "WhistlePostsModel", name := "note", desc := "(IIZ)I" } : Jvm.MethodName) prog_15_method_94_code (5 : Nat) (Option.some Jvm.ClassFile.FieldType.int)) ∈ lw_all := lw_g (lw_at lw_m14 42 rfl) rfl
theorem q3314 : (Jvm.Cond.instanceMethod ({ cls := "WhistlePostsModel", name := "waiting", desc := "(II)I" } : Jvm.MethodName)) ∈ lw_all := lw_g (lw_at lw_m14 44 rfl) rfl
theorem q3315 : (Jvm.Cond.selects "WhistlePostsModel" ({ cls := "WhistlePostsModel", name := "waiting", desc := "(II)I" } : Jvm.MethodName) ({ cls := "WhistlePostsModel", name := "waiting", desc := "(II)I" } : Jvm.MethodName)) ∈ lw_all := lw_g (lw_at lw_m14 45 rfl) rfl
theorem q3316 : (Jvm.Cond.code ({ cls := "WhistlePostsModel", name := "waiting", desc := "(II)I" } : Jvm.MethodName) prog_15_method_96_code (4 : Nat) (Option.some Jvm.ClassFile.FieldType.int)) ∈ lw_all := lw_g (lw_at lw_m14 46 rfl) rfl
theorem q3317 : (Jvm.Cond.methodLink "WhistlePostsModel" (401 : Nat) ({ cls := "WhistlePostsModel", name := "placeOf", desc := "(II)I" } : Jvm.MethodName)) ∈ lw_all := lw_g (lw_at lw_m14 47 rfl) rfl
theorem q3318 : (Jvm.Cond.privateMethod ({ cls := "WhistlePostsModel", name := "placeOf", desc := "(II)I" } : Jvm.MethodName)) ∈ lw_tbl := lw_at lw_m14 48 rfl
theorem q3319 : (Jvm.Cond.instanceMethod ({ cls := "WhistlePostsModel", name := "placeOf", desc := "(II)I" } : Jvm.MethodName)) ∈ lw_all := lw_g (lw_at lw_m14 49 rfl) rfl
theorem q3320 : (Jvm.Cond.code ({ cls := "WhistlePostsModel", name := "placeOf", desc := "(II)I" } : Jvm.MethodName) prog_15_method_95_code (6 : Nat) (Option.some Jvm.ClassFile.FieldType.int)) ∈ lw_all := lw_g (lw_at lw_m14 50 rfl) rfl
theorem q3322 : (Jvm.Cond.instanceMethod ({ cls := "WhistlePostsModel", name := "why", desc := "(II)I" } : Jvm.MethodName)) ∈ lw_all := lw_g (lw_at lw_m14 52 rfl) rfl
theorem q3323 : (Jvm.Cond.selects "WhistlePostsModel" ({ cls := "WhistlePostsModel", name := "why", desc := "(II)I" } : Jvm.MethodName) ({ cls := "WhistlePostsModel", name := "why", desc := "(II)I" } : Jvm.MethodName)) ∈ lw_all := lw_g (lw_at lw_m14 53 rfl) rfl
theorem q3324 : (Jvm.Cond.code ({ cls := "WhistlePostsModel", name := "why", desc := "(II)I" } : Jvm.MethodName) prog_15_method_99_code (4 : Nat) (Option.some Jvm.ClassFile.FieldType.int)) ∈ lw_all := lw_g (lw_at lw_m14 54 rfl) rfl
theorem q3325 : (Jvm.Cond.methodLink "WhistlePostsModel" (404 : Nat) ({ cls := "WhistlePostsModel", name := "reason", desc := "(I)I" } : Jvm.MethodName)) ∈ lw_all := lw_g (lw_at lw_m14 55 rfl) rfl
theorem q3326 : (Jvm.Cond.privateMethod ({ cls := "WhistlePostsModel", name := "reason", desc := "(I)I" } : Jvm.MethodName)) ∈ lw_tbl := lw_at lw_m14 56 rfl
theorem q3327 : (Jvm.Cond.instanceMethod ({ cls := "WhistlePostsModel", name := "reason", desc := "(I)I" } : Jvm.MethodName)) ∈ lw_all := lw_g (lw_at lw_m14 57 rfl) rfl
theorem q3328 : (Jvm.Cond.code ({ cls := "WhistlePostsModel", name := "reason", desc := "(I)I" } : Jvm.MethodName) prog_15_method_97_code (4 : Nat) (Option.some Jvm.ClassFile.FieldType.int)) ∈ lw_all := lw_g (lw_at lw_m14 58 rfl) rfl
theorem q3329 : (Jvm.Cond.methodLink "WhistlePostsModel" (407 : Nat) ({ cls := "WhistlePostsModel", name := "cause", desc := "(II)I" } : Jvm.MethodName)) ∈ lw_all := lw_g (lw_at lw_m14 59 rfl) rfl
theorem q3330 : (Jvm.Cond.privateMethod ({ cls := "WhistlePostsModel", name := "cause", desc := "(II)I" } : Jvm.MethodName)) ∈ lw_tbl := lw_at lw_m14 60 rfl
theorem q3331 : (Jvm.Cond.instanceMethod ({ cls := "WhistlePostsModel", name := "cause", desc := "(II)I" } : Jvm.MethodName)) ∈ lw_all := lw_g (lw_at lw_m14 61 rfl) rfl
theorem q3332 : (Jvm.Cond.code ({ cls := "WhistlePostsModel", name := "cause", desc := "(II)I" } : Jvm.MethodName) prog_15_method_98_code (5 : Nat) (Option.some Jvm.ClassFile.FieldType.int)) ∈ lw_all := lw_g (lw_at lw_m14 62 rfl) rfl
theorem q3334 : (Jvm.Cond.instanceMethod ({ cls := "WhistlePostsModel", name := "costOf", desc := "(III)I" } : Jvm.MethodName)) ∈ lw_all := lw_g (lw_at lw_m14 64 rfl) rfl
theorem q3335 : (Jvm.Cond.selects "WhistlePostsModel" ({ cls := "WhistlePostsModel", name := "costOf", desc := "(III)I" } : Jvm.MethodName) ({ cls := "WhistlePostsModel", name := "costOf", desc := "(III)I" } : Jvm.MethodName)) ∈ lw_all := lw_g (lw_at lw_m14 65 rfl) rfl
theorem q3336 : (Jvm.Cond.code ({ cls := "WhistlePostsModel", name := "costOf", desc := "(III)I" } : Jvm.MethodName) prog_15_method_100_code (6 : Nat) (Option.some Jvm.ClassFile.FieldType.int)) ∈ lw_all := lw_g (lw_at lw_m14 66 rfl) rfl
theorem q3337 : (Jvm.Cond.constantLong "WhistlePostsModel" (410 : Nat) (8 : Int64)) ∈ lw_all := lw_g (lw_at lw_m14 67 rfl) rfl
theorem q3339 : (Jvm.Cond.instanceMethod ({ cls := "WhistlePostsModel", name := "wrongOn", desc := "(III)I" } : Jvm.MethodName)) ∈ lw_all := lw_g (lw_at lw_m14 69 rfl) rfl
theorem q3340 : (Jvm.Cond.selects "WhistlePostsModel" ({ cls := "WhistlePostsModel", name := "wrongOn", desc := "(III)I" } : Jvm.MethodName) ({ cls := "WhistlePostsModel", name := "wrongOn", desc := "(III)I" } : Jvm.MethodName)) ∈ lw_all := lw_g (lw_at lw_m14 70 rfl) rfl
theorem q3341 : (Jvm.Cond.code ({ cls := "WhistlePostsModel", name := "wrongOn", desc := "(III)I" } : Jvm.MethodName) prog_15_method_102_code (4 : Nat) (Option.some Jvm.ClassFile.FieldType.int)) ∈ lw_all := lw_g (lw_at lw_m14 71 rfl) rfl
theorem q3342 : (Jvm.Cond.methodLink "WhistlePostsModel" (412 : Nat) ({ cls := "WhistlePostsModel", name := "wrongOf", desc := "(IIII)I" } : Jvm.MethodName)) ∈ lw_all := lw_g (lw_at lw_m14 72 rfl) rfl
theorem q3343 : (Jvm.Cond.privateMethod ({ cls := "WhistlePostsModel", name := "wrongOf", desc := "(IIII)I" } : Jvm.MethodName)) ∈ lw_tbl := lw_at lw_m14 73 rfl
theorem q3344 : (Jvm.Cond.instanceMethod ({ cls := "WhistlePostsModel", name := "wrongOf", desc := "(IIII)I" } : Jvm.MethodName)) ∈ lw_all := lw_g (lw_at lw_m14 74 rfl) rfl
theorem q3345 : (Jvm.Cond.code ({ cls := "WhistlePostsModel", name := "wrongOf", desc := "(IIII)I" } : Jvm.MethodName) prog_15_method_101_code (8 : Nat) (Option.some Jvm.ClassFile.FieldType.int)) ∈ lw_all := lw_g (lw_at lw_m14 75 rfl) rfl
theorem q3347 : (Jvm.Cond.instanceMethod ({ cls := "WhistlePostsModel", name := "calmest", desc := "(II)I" } : Jvm.MethodName)) ∈ lw_all := lw_g (lw_at lw_m14 77 rfl) rfl
theorem q3348 : (Jvm.Cond.selects "WhistlePostsModel" ({ cls := "WhistlePostsModel", name := "calmest", desc := "(II)I" } : Jvm.MethodName) ({ cls := "WhistlePostsModel", name := "calmest", desc := "(II)I" } : Jvm.MethodName)) ∈ lw_all := lw_g (lw_at lw_m14 78 rfl) rfl
theorem q3349 : (Jvm.Cond.code ({ cls := "WhistlePostsModel", name := "calmest", desc := "(II)I" } : Jvm.MethodName) prog_15_method_103_code (4 : Nat) (Option.some Jvm.ClassFile.FieldType.int)) ∈ lw_all := lw_g (lw_at lw_m14 79 rfl) rfl
theorem q3351 : (Jvm.Cond.instanceMethod ({ cls := "WhistlePostsModel", name := "arrivesIn", desc := "(I)I" } : Jvm.MethodName)) ∈ lw_all := lw_g (lw_at lw_m14 81 rfl) rfl
theorem q3352 : (Jvm.Cond.selects "WhistlePostsModel" ({ cls := "WhistlePostsModel", name := "arrivesIn", desc := "(I)I" } : Jvm.MethodName) ({ cls := "WhistlePostsModel", name := "arrivesIn", desc := "(I)I" } : Jvm.MethodName)) ∈ lw_all := lw_g (lw_at lw_m14 82 rfl) rfl
theorem q3353 : (Jvm.Cond.code ({ cls := "WhistlePostsModel", name := "arrivesIn", desc := "(I)I" } : Jvm.MethodName) prog_15_method_104_code (3 : Nat) (Option.some Jvm.ClassFile.FieldType.int)) ∈ lw_all := lw_g (lw_at lw_m14 83 rfl) rfl
theorem q3355 : (Jvm.Cond.instanceMethod ({ cls := "WhistlePostsModel", name := "growsBy", desc := "(II)I" } : Jvm.MethodName)) ∈ lw_all := lw_g (lw_at lw_m14 85 rfl) rfl
theorem q3356 : (Jvm.Cond.selects "WhistlePostsModel" ({ cls := "WhistlePostsModel", name := "growsBy", desc := "(II)I" } : Jvm.MethodName) ({ cls := "WhistlePostsModel", name := "growsBy", desc := "(II)I" } : Jvm.MethodName)) ∈ lw_all := lw_g (lw_at lw_m14 86 rfl) rfl
theorem q3357 : (Jvm.Cond.code ({ cls := "WhistlePostsModel", name := "growsBy", desc := "(II)I" } : Jvm.MethodName) prog_15_method_105_code (5 : Nat) (Option.some Jvm.ClassFile.FieldType.int)) ∈ lw_all := lw_g (lw_at lw_m14 87 rfl) rfl
theorem q3358 : (Jvm.Cond.constantLong "WhistlePostsModel" (415 : Nat) (200 : Int64)) ∈ lw_all := lw_g (lw_at lw_m14 88 rfl) rfl
theorem q3360 : (Jvm.Cond.instanceMethod ({ cls := "WhistlePostsModel", name := "dearestWay", desc := "()I" } : Jvm.MethodName)) ∈ lw_all := lw_g (lw_at lw_m14 90 rfl) rfl
theorem q3361 : (Jvm.Cond.selects "WhistlePostsModel" ({ cls := "WhistlePostsModel", name := "dearestWay", desc := "()I" } : Jvm.MethodName) ({ cls := "WhistlePostsModel", name := "dearestWay", desc := "()I" } : Jvm.MethodName)) ∈ lw_all := lw_g (lw_at lw_m14 91 rfl) rfl
theorem q3362 : (Jvm.Cond.code ({ cls := "WhistlePostsModel", name := "dearestWay", desc := "()I" } : Jvm.MethodName) prog_15_method_107_code (5 : Nat) (Option.some Jvm.ClassFile.FieldType.int)) ∈ lw_all := lw_g (lw_at lw_m14 92 rfl) rfl
theorem q3363 : (Jvm.Cond.methodLink "WhistlePostsModel" (417 : Nat) ({ cls := "WhistlePostsModel", name := "partedWithout", desc := "(I)I" } : Jvm.MethodName)) ∈ lw_all := lw_g (lw_at lw_m14 93 rfl) rfl
theorem q3364 : (Jvm.Cond.privateMethod ({ cls := "WhistlePostsModel", name := "partedWithout", desc := "(I)I" } : Jvm.MethodName)) ∈ lw_tbl := lw_at lw_m14 94 rfl
theorem q3365 : (Jvm.Cond.instanceMethod ({ cls := "WhistlePostsModel", name := "partedWithout", desc := "(I)I" } : Jvm.MethodName)) ∈ lw_all := lw_g (lw_at lw_m14 95 rfl) rfl
theorem q3366 : (Jvm.Cond.code ({ cls := "WhistlePostsModel", name := "partedWithout", desc := "(I)I" } : Jvm.MethodName) prog_15_method_106_code (5 : Nat) (Option.some Jvm.ClassFile.FieldType.int)) ∈ lw_all := lw_g (lw_at lw_m14 96 rfl) rfl
theorem q3368 : (Jvm.Cond.instanceMethod ({ cls := "WhistlePostsModel", name := "agree", desc := "()Z" } : Jvm.MethodName)) ∈ lw_all := lw_g (lw_at lw_m14 98 rfl) rfl
theorem q3369 : (Jvm.Cond.selects "WhistlePostsModel" ({ cls := "WhistlePostsModel", name := "agree", desc := "()Z" } : Jvm.MethodName) ({ cls := "WhistlePostsModel", name := "agree", desc := "()Z" } : Jvm.MethodName)) ∈ lw_all := lw_g (lw_at lw_m14 99 rfl) rfl
theorem q3370 : (Jvm.Cond.code ({ cls := "WhistlePostsModel", name := "agree", desc := "()Z" } : Jvm.MethodName) prog_15_method_112_code (2 : Nat) (Option.some Jvm.ClassFile.FieldType.boolean)) ∈ lw_all := lw_g (lw_at lw_m14 100 rfl) rfl
theorem q3371 : (Jvm.Cond.methodLink "WhistlePostsModel" (426 : Nat) ({ cls := "WhistlePostsModel", name := "areTunes", desc := "()Z" } : Jvm.MethodName)) ∈ lw_all := lw_g (lw_at lw_m14 101 rfl) rfl
theorem q3372 : (Jvm.Cond.privateMethod ({ cls := "WhistlePostsModel", name := "areTunes", desc := "()Z" } : Jvm.MethodName)) ∈ lw_tbl := lw_at lw_m14 102 rfl
theorem q3373 : (Jvm.Cond.instanceMethod ({ cls := "WhistlePostsModel", name := "areTunes", desc := "()Z" } : Jvm.MethodName)) ∈ lw_all := lw_g (lw_at lw_m14 103 rfl) rfl
theorem q3374 : (Jvm.Cond.code ({ cls := "WhistlePostsModel", name := "areTunes", desc := "()Z" } : Jvm.MethodName) prog_15_method_111_code (4 : Nat) (Option.some Jvm.ClassFile.FieldType.boolean)) ∈ lw_all := lw_g (lw_at lw_m14 104 rfl) rfl
theorem q3375 : (Jvm.Cond.methodLink "WhistlePostsModel" (430 : Nat) ({ cls := "WhistlePostsModel", name := "areRoutes", desc := "()Z" } : Jvm.MethodName)) ∈ lw_all := lw_g (lw_at lw_m14 105 rfl) rfl
theorem q3376 : (Jvm.Cond.privateMethod ({ cls := "WhistlePostsModel", name := "areRoutes", desc := "()Z" } : Jvm.MethodName)) ∈ lw_tbl := lw_at lw_m14 106 rfl
theorem q3377 : (Jvm.Cond.instanceMethod ({ cls := "WhistlePostsModel", name := "areRoutes", desc := "()Z" } : Jvm.MethodName)) ∈ lw_all := lw_g (lw_at lw_m14 107 rfl) rfl
theorem q3378 : (Jvm.Cond.code ({ cls := "WhistlePostsModel", name := "areRoutes", desc := "()Z" } : Jvm.MethodName) prog_15_method_110_code (3 : Nat) (Option.some Jvm.ClassFile.FieldType.boolean)) ∈ lw_all := lw_g (lw_at lw_m14 108 rfl) rfl
theorem q3379 : (Jvm.Cond.methodLink "WhistlePostsModel" (423 : Nat) ({ cls := "WhistlePostsModel", name := "goesOut", desc := "(I)V" } : Jvm.MethodName)) ∈ lw_all := lw_g (lw_at lw_m14 109 rfl) rfl
theorem q3380 : (Jvm.Cond.privateMethod ({ cls := "WhistlePostsModel", name := "goesOut", desc := "(I)V" } : Jvm.MethodName)) ∈ lw_tbl := lw_at lw_m14 110 rfl
theorem q3381 : (Jvm.Cond.instanceMethod ({ cls := "WhistlePostsModel", name := "goesOut", desc := "(I)V" } : Jvm.MethodName)) ∈ lw_all := lw_g (lw_at lw_m14 111 rfl) rfl
theorem q3382 : (Jvm.Cond.code ({ cls := "WhistlePostsModel", name := "goesOut", desc := "(I)V" } : Jvm.MethodName) prog_15_method_109_code (6 : Nat) (Option.none : Option Jvm.ClassFile.FieldType)) ∈ lw_all := lw_g (lw_at lw_m14 112 rfl) rfl
theorem q3383 : (Jvm.Cond.methodLink "WhistlePostsModel" (420 : Nat) ({ cls := "WhistlePostsModel", name := "nearestOpen", desc := "()I" } : Jvm.MethodName)) ∈ lw_all := lw_g (lw_at lw_m14 113 rfl) rfl
theorem q3384 : (Jvm.Cond.privateMethod ({ cls := "WhistlePostsModel", name := "nearestOpen", desc := "()I" } : Jvm.MethodName)) ∈ lw_tbl := lw_at lw_m14 114 rfl
theorem q3385 : (Jvm.Cond.instanceMethod ({ cls := "WhistlePostsModel", name := "nearestOpen", desc := "()I" } : Jvm.MethodName)) ∈ lw_all := lw_g (lw_at lw_m14 115 rfl) rfl
theorem q3386 : (Jvm.Cond.code ({ cls := "WhistlePostsModel", name := "nearestOpen", desc := "()I" } : Jvm.MethodName) prog_15_method_108_code (3 : Nat) (Option.some Jvm.ClassFile.FieldType.int)) ∈ lw_all := lw_g (lw_at lw_m14 116 rfl) rfl
theorem q3388 : (Jvm.Cond.instanceMethod ({ cls := "WhistlePostsModel", name := "meanPurse", desc := "()D" } : Jvm.MethodName)) ∈ lw_all := lw_g (lw_at lw_m14 118 rfl) rfl
theorem q3389 : (Jvm.Cond.selects "WhistlePostsModel" ({ cls := "WhistlePostsModel", name := "meanPurse", desc := "()D" } : Jvm.MethodName) ({ cls := "WhistlePostsModel", name := "meanPurse", desc := "()D" } : Jvm.MethodName)) ∈ lw_all := lw_g (lw_at lw_m14 119 rfl) rfl
theorem q3390 : (Jvm.Cond.code ({ cls := "WhistlePostsModel", name := "meanPurse", desc := "()D" } : Jvm.MethodName) prog_15_method_113_code (1 : Nat) (Option.some Jvm.ClassFile.FieldType.double)) ∈ lw_all := lw_g (lw_at lw_m14 120 rfl) rfl
theorem q3392 : (Jvm.Cond.instanceMethod ({ cls := "WhistlePostsModel", name := "rightPart", desc := "()F" } : Jvm.MethodName)) ∈ lw_all := lw_g (lw_at lw_m14 122 rfl) rfl
theorem q3393 : (Jvm.Cond.selects "WhistlePostsModel" ({ cls := "WhistlePostsModel", name := "rightPart", desc := "()F" } : Jvm.MethodName) ({ cls := "WhistlePostsModel", name := "rightPart", desc := "()F" } : Jvm.MethodName)) ∈ lw_all := lw_g (lw_at lw_m14 123 rfl) rfl
theorem q3394 : (Jvm.Cond.code ({ cls := "WhistlePostsModel", name := "rightPart", desc := "()F" } : Jvm.MethodName) prog_15_method_114_code (2 : Nat) (Option.some Jvm.ClassFile.FieldType.float)) ∈ lw_all := lw_g (lw_at lw_m14 124 rfl) rfl
theorem q3396 : (Jvm.Cond.instanceMethod ({ cls := "WhistlePostsModel", name := "send", desc := "(IIIZ)I" } : Jvm.MethodName)) ∈ lw_all := lw_g (lw_at lw_m14 126 rfl) rfl
theorem q3397 : (Jvm.Cond.selects "WhistlePostsModel" ({ cls := "WhistlePostsModel", name := "send", desc := "(IIIZ)I" } : Jvm.MethodName) ({ cls := "WhistlePostsModel", name := "send", desc := "(IIIZ)I" } : Jvm.MethodName)) ∈ lw_all := lw_g (lw_at lw_m14 127 rfl) rfl
theorem q3398 : (Jvm.Cond.code ({ cls := "WhistlePostsModel", name := "send", desc := "(IIIZ)I" } : Jvm.MethodName) prog_15_method_116_code (6 : Nat) (Option.some Jvm.ClassFile.FieldType.int)) ∈ lw_all := lw_g (lw_at lw_m14 128 rfl) rfl
theorem q3399 : (Jvm.Cond.constantLong "WhistlePostsModel" (433 : Nat) (77777777 : Int64)) ∈ lw_all := lw_g (lw_at lw_m14 129 rfl) rfl
theorem q3400 : (Jvm.Cond.methodLink "WhistlePostsModel" (435 : Nat) ({ cls := "WhistlePostsModel", name := "sings", desc := "(I)Z" } : Jvm.MethodName)) ∈ lw_all := lw_g (lw_at lw_m14 130 rfl) rfl
theorem q3401 : (Jvm.Cond.privateMethod ({ cls := "WhistlePostsModel", name := "sings", desc := "(I)Z" } : Jvm.MethodName)) ∈ lw_tbl := lw_at lw_m14 131 rfl
theorem q3402 : (Jvm.Cond.instanceMethod ({ cls := "WhistlePostsModel", name := "sings", desc := "(I)Z" } : Jvm.MethodName)) ∈ lw_all := lw_g (lw_at lw_m14 132 rfl) rfl
theorem q3403 : (Jvm.Cond.code ({ cls := "WhistlePostsModel", name := "sings", desc := "(I)Z" } : Jvm.MethodName) prog_15_method_115_code (5 : Nat) (Option.some Jvm.ClassFile.FieldType.boolean)) ∈ lw_all := lw_g (lw_at lw_m14 133 rfl) rfl
theorem q3405 : (Jvm.Cond.instanceMethod ({ cls := "WhistlePostsModel", name := "tick", desc := "(I)I" } : Jvm.MethodName)) ∈ lw_all := lw_g (lw_at lw_m14 135 rfl) rfl
theorem q3406 : (Jvm.Cond.selects "WhistlePostsModel" ({ cls := "WhistlePostsModel", name := "tick", desc := "(I)I" } : Jvm.MethodName) ({ cls := "WhistlePostsModel", name := "tick", desc := "(I)I" } : Jvm.MethodName)) ∈ lw_all := lw_g (lw_at lw_m14 136 rfl) rfl
theorem q3407 : (Jvm.Cond.code ({ cls := "WhistlePostsModel", name := "tick", desc := "(I)I" } : Jvm.MethodName) prog_15_method_117_code (2 : Nat) (Option.some Jvm.ClassFile.FieldType.int)) ∈ lw_all := lw_g (lw_at lw_m14 137 rfl) rfl
theorem q3408 : (Jvm.Cond.constantLong "WhistlePostsModel" (438 : Nat) (9999 : Int64)) ∈ lw_all := lw_g (lw_at lw_m14 138 rfl) rfl
theorem q3410 : (Jvm.Cond.instanceMethod ({ cls := "WhistlePostsModel", name := "give", desc := "(II)I" } : Jvm.MethodName)) ∈ lw_all := lw_g (lw_at lw_m14 140 rfl) rfl
theorem q3411 : (Jvm.Cond.selects "WhistlePostsModel" ({ cls := "WhistlePostsModel", name := "give", desc := "(II)I" } : Jvm.MethodName) ({ cls := "WhistlePostsModel", name := "give", desc := "(II)I" } : Jvm.MethodName)) ∈ lw_all := lw_g (lw_at lw_m14 141 rfl) rfl
theorem q3412 : (Jvm.Cond.code ({ cls := "WhistlePostsModel", name := "give", desc := "(II)I" } : Jvm.MethodName) prog_15_method_118_code (5 : Nat) (Option.some Jvm.ClassFile.FieldType.int)) ∈ lw_all := lw_g (lw_at lw_m14 142 rfl) rfl
theorem q3413 : (Jvm.Cond.constantLong "WhistlePostsModel" (440 : Nat) (99 : Int64)) ∈ lw_all := lw_g (lw_at lw_m14 143 rfl) rfl
theorem q3415 : (Jvm.Cond.instanceMethod ({ cls := "WhistlePostsModel", name := "cut", desc := "(II)I" } : Jvm.MethodName)) ∈ lw_all := lw_g (lw_at lw_m14 145 rfl) rfl
theorem q3416 : (Jvm.Cond.selects "WhistlePostsModel" ({ cls := "WhistlePostsModel", name := "cut", desc := "(II)I" } : Jvm.MethodName) ({ cls := "WhistlePostsModel", name := "cut", desc := "(II)I" } : Jvm.MethodName)) ∈ lw_all := lw_g (lw_at lw_m14 146 rfl) rfl
theorem q3417 : (Jvm.Cond.code ({ cls := "WhistlePostsModel", name := "cut", desc := "(II)I" } : Jvm.MethodName) prog_15_method_119_code (4 : Nat) (Option.some Jvm.ClassFile.FieldType.int)) ∈ lw_all := lw_g (lw_at lw_m14 147 rfl) rfl
theorem q3419 : (Jvm.Cond.instanceMethod ({ cls := "WhistlePostsModel", name := "set", desc := "(II)I" } : Jvm.MethodName)) ∈ lw_all := lw_g (lw_at lw_m14 149 rfl) rfl
theorem q3420 : (Jvm.Cond.selects "WhistlePostsModel" ({ cls := "WhistlePostsModel", name := "set", desc := "(II)I" } : Jvm.MethodName) ({ cls := "WhistlePostsModel", name := "set", desc := "(II)I" } : Jvm.MethodName)) ∈ lw_all := lw_g (lw_at lw_m14 150 rfl) rfl
theorem q3421 : (Jvm.Cond.code ({ cls := "WhistlePostsModel", name := "set", desc := "(II)I" } : Jvm.MethodName) prog_15_method_120_code (4 : Nat) (Option.some Jvm.ClassFile.FieldType.int)) ∈ lw_all := lw_g (lw_at lw_m14 151 rfl) rfl
theorem q3423 : (Jvm.Cond.instanceMethod ({ cls := "WhistlePostsModel", name := "undo", desc := "()I" } : Jvm.MethodName)) ∈ lw_all := lw_g (lw_at lw_m14 153 rfl) rfl
theorem q3424 : (Jvm.Cond.selects "WhistlePostsModel" ({ cls := "WhistlePostsModel", name := "undo", desc := "()I" } : Jvm.MethodName) ({ cls := "WhistlePostsModel", name := "undo", desc := "()I" } : Jvm.MethodName)) ∈ lw_all := lw_g (lw_at lw_m14 154 rfl) rfl
theorem q3425 : (Jvm.Cond.code ({ cls := "WhistlePostsModel", name := "undo", desc := "()I" } : Jvm.MethodName) prog_15_method_121_code (2 : Nat) (Option.some Jvm.ClassFile.FieldType.int)) ∈ lw_all := lw_g (lw_at lw_m14 155 rfl) rfl
theorem q3427 : (Jvm.Cond.instanceMethod ({ cls := "WhistlePostsModel", name := "printRoofs", desc := "()I" } : Jvm.MethodName)) ∈ lw_all := lw_g (lw_at lw_m14 157 rfl) rfl
theorem q3428 : (Jvm.Cond.selects "WhistlePostsModel" ({ cls := "WhistlePostsModel", name := "printRoofs", desc := "()I" } : Jvm.MethodName) ({ cls := "WhistlePostsModel", name := "printRoofs", desc := "()I" } : Jvm.MethodName)) ∈ lw_all := lw_g (lw_at lw_m14 158 rfl) rfl
theorem q3429 : (Jvm.Cond.code ({ cls := "WhistlePostsModel", name := "printRoofs", desc := "()I" } : Jvm.MethodName) prog_15_method_126_code (2 : Nat) (Option.some Jvm.ClassFile.FieldType.int)) ∈ lw_all := lw_g (lw_at lw_m14 159 rfl) rfl
theorem q3430 : (Jvm.Cond.methodLink "WhistlePostsModel" (454 : Nat) ({ cls := "WhistlePostsModel", name := "saysRoof", desc := "(I)V" } : Jvm.MethodName)) ∈ lw_all := lw_g (lw_at lw_m14 160 rfl) rfl
theorem q3431 : (Jvm.Cond.privateMethod ({ cls := "WhistlePostsModel", name := "saysRoof", desc := "(I)V" } : Jvm.MethodName)) ∈ lw_tbl := lw_at lw_m14 161 rfl
theorem q3432 : (Jvm.Cond.instanceMethod ({ cls := "WhistlePostsModel", name := "saysRoof", desc := "(I)V" } : Jvm.MethodName)) ∈ lw_all := lw_g (lw_at lw_m14 162 rfl) rfl
theorem q3433 : (Jvm.Cond.code ({ cls := "WhistlePostsModel", name := "saysRoof", desc := "(I)V" } : Jvm.MethodName) prog_15_method_125_code (2 : Nat) (Option.none : Option Jvm.ClassFile.FieldType)) ∈ lw_all := lw_g (lw_at lw_m14 163 rfl) rfl
theorem q3434 : (Jvm.Cond.methodLink "WhistlePostsModel" (445 : Nat) ({ cls := "WhistlePostsModel", name := "says", desc := "(I)V" } : Jvm.MethodName)) ∈ lw_all := lw_g (lw_at lw_m14 164 rfl) rfl
theorem q3435 : (Jvm.Cond.privateMethod ({ cls := "WhistlePostsModel", name := "says", desc := "(I)V" } : Jvm.MethodName)) ∈ lw_tbl := lw_at lw_m14 165 rfl
theorem q3436 : (Jvm.Cond.instanceMethod ({ cls := "WhistlePostsModel", name := "says", desc := "(I)V" } : Jvm.MethodName)) ∈ lw_all := lw_g (lw_at lw_m14 166 rfl) rfl
theorem q3437 : (Jvm.Cond.code ({ cls := "WhistlePostsModel", name := "says", desc := "(I)V" } : Jvm.MethodName) prog_15_method_122_code (2 : Nat) (Option.none : Option Jvm.ClassFile.FieldType)) ∈ lw_all := lw_g (lw_at lw_m14 167 rfl) rfl
theorem q3438 : (Jvm.Cond.methodLink "WhistlePostsModel" (448 : Nat) ({ cls := "WhistlePostsModel", name := "saysName", desc := "(I)V" } : Jvm.MethodName)) ∈ lw_all := lw_g (lw_at lw_m14 168 rfl) rfl
theorem q3439 : (Jvm.Cond.privateMethod ({ cls := "WhistlePostsModel", name := "saysName", desc := "(I)V" } : Jvm.MethodName)) ∈ lw_tbl := lw_at lw_m14 169 rfl
theorem q3440 : (Jvm.Cond.instanceMethod ({ cls := "WhistlePostsModel", name := "saysName", desc := "(I)V" } : Jvm.MethodName)) ∈ lw_all := lw_g (lw_at lw_m14 170 rfl) rfl
theorem q3441 : (Jvm.Cond.code ({ cls := "WhistlePostsModel", name := "saysName", desc := "(I)V" } : Jvm.MethodName) prog_15_method_124_code (3 : Nat) (Option.none : Option Jvm.ClassFile.FieldType)) ∈ lw_all := lw_g (lw_at lw_m14 171 rfl) rfl
theorem q3442 : (Jvm.Cond.methodLink "WhistlePostsModel" (451 : Nat) ({ cls := "WhistlePostsModel", name := "saysNumber", desc := "(I)V" } : Jvm.MethodName)) ∈ lw_all := lw_g (lw_at lw_m14 172 rfl) rfl
theorem q3443 : (Jvm.Cond.privateMethod ({ cls := "WhistlePostsModel", name := "saysNumber", desc := "(I)V" } : Jvm.MethodName)) ∈ lw_tbl := lw_at lw_m14 173 rfl
theorem q3444 : (Jvm.Cond.instanceMethod ({ cls := "WhistlePostsModel", name := "saysNumber", desc := "(I)V" } : Jvm.MethodName)) ∈ lw_all := lw_g (lw_at lw_m14 174 rfl) rfl
theorem q3445 : (Jvm.Cond.code ({ cls := "WhistlePostsModel", name := "saysNumber", desc := "(I)V" } : Jvm.MethodName) prog_15_method_123_code (3 : Nat) (Option.none : Option Jvm.ClassFile.FieldType)) ∈ lw_all := lw_g (lw_at lw_m14 175 rfl) rfl
theorem q3447 : (Jvm.Cond.instanceMethod ({ cls := "WhistlePostsModel", name := "printTune", desc := "(I)I" } : Jvm.MethodName)) ∈ lw_all := lw_g (lw_at lw_m14 177 rfl) rfl
theorem q3448 : (Jvm.Cond.selects "WhistlePostsModel" ({ cls := "WhistlePostsModel", name := "printTune", desc := "(I)I" } : Jvm.MethodName) ({ cls := "WhistlePostsModel", name := "printTune", desc := "(I)I" } : Jvm.MethodName)) ∈ lw_all := lw_g (lw_at lw_m14 178 rfl) rfl
theorem q3449 : (Jvm.Cond.code ({ cls := "WhistlePostsModel", name := "printTune", desc := "(I)I" } : Jvm.MethodName) prog_15_method_127_code (4 : Nat) (Option.some Jvm.ClassFile.FieldType.int)) ∈ lw_all := lw_g (lw_at lw_m14 179 rfl) rfl
theorem q3451 : (Jvm.Cond.instanceMethod ({ cls := "WhistlePostsModel", name := "outputByte", desc := "(I)I" } : Jvm.MethodName)) ∈ lw_all := lw_g (lw_at lw_m14 181 rfl) rfl
theorem q3452 : (Jvm.Cond.selects "WhistlePostsModel" ({ cls := "WhistlePostsModel", name := "outputByte", desc := "(I)I" } : Jvm.MethodName) ({ cls := "WhistlePostsModel", name := "outputByte", desc := "(I)I" } : Jvm.MethodName)) ∈ lw_all := lw_g (lw_at lw_m14 182 rfl) rfl
theorem q3453 : (Jvm.Cond.code ({ cls := "WhistlePostsModel", name := "outputByte", desc := "(I)I" } : Jvm.MethodName) prog_15_method_128_code (2 : Nat) (Option.some Jvm.ClassFile.FieldType.int)) ∈ lw_all := lw_g (lw_at lw_m14 183 rfl) rfl
theorem q3455 : (Jvm.Cond.instanceMethod ({ cls := "WhistlePostsModel", name := "saveState", desc := "()I" } : Jvm.MethodName)) ∈ lw_all := lw_g (lw_at lw_m14 185 rfl) rfl
theorem q3456 : (Jvm.Cond.selects "WhistlePostsModel" ({ cls := "WhistlePostsModel", name := "saveState", desc := "()I" } : Jvm.MethodName) ({ cls := "WhistlePostsModel", name := "saveState", desc := "()I" } : Jvm.MethodName)) ∈ lw_all := lw_g (lw_at lw_m14 186 rfl) rfl
theorem q3457 : (Jvm.Cond.code ({ cls := "WhistlePostsModel", name := "saveState", desc := "()I" } : Jvm.MethodName) prog_15_method_129_code (1 : Nat) (Option.some Jvm.ClassFile.FieldType.int)) ∈ lw_all := lw_g (lw_at lw_m14 187 rfl) rfl
theorem q3459 : (Jvm.Cond.instanceMethod ({ cls := "WhistlePostsModel", name := "restoreState", desc := "()I" } : Jvm.MethodName)) ∈ lw_all := lw_g (lw_at lw_m14 189 rfl) rfl
theorem q3460 : (Jvm.Cond.selects "WhistlePostsModel" ({ cls := "WhistlePostsModel", name := "restoreState", desc := "()I" } : Jvm.MethodName) ({ cls := "WhistlePostsModel", name := "restoreState", desc := "()I" } : Jvm.MethodName)) ∈ lw_all := lw_g (lw_at lw_m14 190 rfl) rfl
theorem q3461 : (Jvm.Cond.code ({ cls := "WhistlePostsModel", name := "restoreState", desc := "()I" } : Jvm.MethodName) prog_15_method_130_code (2 : Nat) (Option.some Jvm.ClassFile.FieldType.int)) ∈ lw_all := lw_g (lw_at lw_m14 191 rfl) rfl
theorem q3502 : (Jvm.Cond.castable "WhistlePostsModel" "java/lang/Object") ∈ lw_tbl := lw_at lw_m14 232 rfl
theorem in_X5 : ∀ w ∈ wsX50, w ∈ lw_all := lw_in wsX50 [2887, 2889, 2891, 2893, 2895, 2897, 2899, 2901, 2903, 2905, 2907, 2909, 2911, 2913, 2915, 2917, 2919, 2921, 2923, 2925, 2927, 2929, 2931, 2933, 2935, 2937, 2939, 2941] (by decide +kernel) (by decide +kernel)

