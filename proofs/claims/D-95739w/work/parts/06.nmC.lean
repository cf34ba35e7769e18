/-! FewKeysModel -/
set_option maxRecDepth 100000
def RX3 : String := "FewKeysModel"
def TX3 : u_T := fun k => match k with
  | 0 => ("FewKeysModel", "kind", "I", false)
  | 1 => ("FewKeysModel", "base", "I", false)
  | 2 => ("FewKeysModel", "figures", "I", false)
  | 3 => ("FewKeysModel", "numbers", "I", false)
  | 4 => ("FewKeysModel", "keys", "I", false)
  | 5 => ("FewKeysModel", "key", "[I", true)
  | 6 => ("FewKeysModel", "bytes", "I", false)
  | 7 => ("FewKeysModel", "text", "[I", true)
  | 8 => ("FewKeysModel", "position", "I", false)
  | 9 => ("FewKeysModel", "tokenAt", "I", false)
  | 10 => ("FewKeysModel", "token", "J", false)
  | 11 => ("FewKeysModel", "digits", "I", false)
  | 12 => ("FewKeysModel", "number", "I", false)
  | 13 => ("FewKeysModel", "faultAt", "I", false)
  | 14 => ("FewKeysModel", "faultIs", "I", false)
  | 15 => ("FewKeysModel", "readKind", "I", false)
  | 16 => ("FewKeysModel", "readBase", "I", false)
  | 17 => ("FewKeysModel", "readFigures", "I", false)
  | 18 => ("FewKeysModel", "readNumbers", "I", false)
  | 19 => ("FewKeysModel", "readKeys", "I", false)
  | 20 => ("FewKeysModel", "read", "[I", true)
  | 21 => ("FewKeysModel", "shown", "I", false)
  | 22 => ("FewKeysModel", "waits", "I", false)
  | 23 => ("FewKeysModel", "held", "I", false)
  | 24 => ("FewKeysModel", "isTyped", "Z", false)
  | 25 => ("FewKeysModel", "spent", "I", false)
  | 26 => ("FewKeysModel", "seed", "J", false)
  | 27 => ("FewKeysModel", "targets", "I", false)
  | 28 => ("FewKeysModel", "target", "[I", true)
  | 29 => ("FewKeysModel", "entries", "I", false)
  | 30 => ("FewKeysModel", "book", "[I", true)
  | 31 => ("FewKeysModel", "image", "[I", true)
  | 32 => ("FewKeysModel", "imageSeed", "[J", true)
  | 33 => ("FewKeysModel", "isKept", "[Z", true)
  | 34 => ("FewKeysModel", "far", "[I", true)
  | 35 => ("FewKeysModel", "line", "[I", true)
  | 36 => ("FewKeysModel", "by", "[I", true)
  | 37 => ("FewKeysModel", "more", "[I", true)
  | 38 => ("FewKeysModel", "fewest", "[I", true)
  | 39 => ("FewKeysModel", "first", "[I", true)
  | _ => ("FewKeysModel", "heads", "[I", true)
def tyX3 : Nat → FieldType := fun k => match k with
  | 0 => .int
  | 1 => .int
  | 2 => .int
  | 3 => .int
  | 4 => .int
  | 5 => .array .int
  | 6 => .int
  | 7 => .array .int
  | 8 => .int
  | 9 => .int
  | 10 => .long
  | 11 => .int
  | 12 => .int
  | 13 => .int
  | 14 => .int
  | 15 => .int
  | 16 => .int
  | 17 => .int
  | 18 => .int
  | 19 => .int
  | 20 => .array .int
  | 21 => .int
  | 22 => .int
  | 23 => .int
  | 24 => .boolean
  | 25 => .int
  | 26 => .long
  | 27 => .int
  | 28 => .array .int
  | 29 => .int
  | 30 => .array .int
  | 31 => .array .int
  | 32 => .array .long
  | 33 => .array .boolean
  | 34 => .array .int
  | 35 => .array .int
  | 36 => .array .int
  | 37 => .array .int
  | 38 => .array .int
  | 39 => .array .int
  | _ => .array .int
abbrev wsX30 : List Cond := u_ws RX3 TX3 41
set_option maxRecDepth 100000 in
theorem nmX3 : ∀ a, a < 41 → ∀ b, b < 41 → a ≠ b → (TX3 a).2.1 ≠ (TX3 b).2.1 := by decide +kernel
set_option maxRecDepth 100000 in
theorem tyX3_ok : ∀ k, k < 41 → parseFieldDescriptor (TX3 k).2.2.1 = some (tyX3 k) := by decide +kernel
abbrev cX3_init : ByteArray := prog_15_method_1_code
def yX3_init : MethodName := ⟨RX3, "<init>", "()V"⟩
def dkwX3_init_5 : List UInt8 := [16, 100, 188, 10, 181, 0, 59, 42, 16, 100, 188, 10, 181, 0, 62, 177]
abbrev dktX3_init_5 : List UInt8 := dkwX3_init_5 ++ []
def dkwX3_init_4 : List UInt8 := [18, 43, 188, 10, 181, 0, 50, 42, 18, 43, 188, 10, 181, 0, 53, 42, 16, 100, 188, 10, 181, 0, 56, 42]
abbrev dktX3_init_4 : List UInt8 := dkwX3_init_4 ++ dktX3_init_5
def dkwX3_init_3 : List UInt8 := [5, 188, 4, 181, 0, 39, 42, 18, 43, 188, 10, 181, 0, 44, 42, 18, 43, 188, 10, 181, 0, 47, 42]
abbrev dktX3_init_3 : List UInt8 := dkwX3_init_3 ++ dktX3_init_4
def dkwX3_init_2 : List UInt8 := [42, 16, 80, 188, 10, 181, 0, 29, 42, 16, 18, 188, 10, 181, 0, 32, 42, 5, 188, 11, 181, 0, 35, 42]
abbrev dktX3_init_2 : List UInt8 := dkwX3_init_2 ++ dktX3_init_3
def dkwX3_init_1 : List UInt8 := [181, 0, 17, 42, 2, 181, 0, 20, 42, 16, 32, 188, 10, 181, 0, 23, 42, 16, 6, 188, 10, 181, 0, 26]
abbrev dktX3_init_1 : List UInt8 := dkwX3_init_1 ++ dktX3_init_2
def dkwX3_init_0 : List UInt8 := [42, 183, 0, 1, 42, 2, 181, 0, 7, 42, 16, 36, 188, 10, 181, 0, 13, 42, 17, 1, 144, 188, 10]
abbrev dktX3_init_0 : List UInt8 := dkwX3_init_0 ++ dktX3_init_1
theorem dksX3_init_0 : cX3_init.data.toList.drop 0 = dktX3_init_0 := by decide +kernel
theorem dksX3_init_1 : cX3_init.data.toList.drop 23 = dktX3_init_1 := dk_seg dksX3_init_0 23 rfl rfl
theorem dksX3_init_2 : cX3_init.data.toList.drop 47 = dktX3_init_2 := dk_seg dksX3_init_1 24 rfl rfl
theorem dksX3_init_3 : cX3_init.data.toList.drop 71 = dktX3_init_3 := dk_seg dksX3_init_2 24 rfl rfl
theorem dksX3_init_4 : cX3_init.data.toList.drop 94 = dktX3_init_4 := dk_seg dksX3_init_3 23 rfl rfl
theorem dksX3_init_5 : cX3_init.data.toList.drop 118 = dktX3_init_5 := dk_seg dksX3_init_4 24 rfl rfl
theorem dX3_init_0 : decode cX3_init 0 = .ok (.aload_n 0, 1) := dk_42 (dk_at dksX3_init_0 0 rfl rfl)
theorem dX3_init_1 : decode cX3_init 1 = .ok (.invokespecial 1, 3) := dk_183 0 1 (dk_at dksX3_init_0 1 rfl rfl)
theorem dX3_init_4 : decode cX3_init 4 = .ok (.aload_n 0, 1) := dk_42 (dk_at dksX3_init_0 4 rfl rfl)
theorem dX3_init_5 : decode cX3_init 5 = .ok (.iconst (-1), 1) := dk_2 (dk_at dksX3_init_0 5 rfl rfl)
theorem dX3_init_6 : decode cX3_init 6 = .ok (.putfield 7, 3) := dk_181 0 7 (dk_at dksX3_init_0 6 rfl rfl)
theorem dX3_init_9 : decode cX3_init 9 = .ok (.aload_n 0, 1) := dk_42 (dk_at dksX3_init_0 9 rfl rfl)
theorem dX3_init_10 : decode cX3_init 10 = .ok (.bipush 36, 2) := dk_16 36 (dk_at dksX3_init_0 10 rfl rfl)
theorem dX3_init_12 : decode cX3_init 12 = .ok (.newarray .int, 2) := dk_188_10 (dk_at dksX3_init_0 12 rfl rfl)
theorem dX3_init_14 : decode cX3_init 14 = .ok (.putfield 13, 3) := dk_181 0 13 (dk_at dksX3_init_0 14 rfl rfl)
theorem dX3_init_17 : decode cX3_init 17 = .ok (.aload_n 0, 1) := dk_42 (dk_at dksX3_init_0 17 rfl rfl)
theorem dX3_init_18 : decode cX3_init 18 = .ok (.sipush 400, 3) := dk_17 1 144 (dk_at dksX3_init_0 18 rfl rfl)
theorem dX3_init_21 : decode cX3_init 21 = .ok (.newarray .int, 2) := dk_188_10 (dk_at dksX3_init_0 21 rfl rfl)
theorem dX3_init_23 : decode cX3_init 23 = .ok (.putfield 17, 3) := dk_181 0 17 (dk_at dksX3_init_1 0 rfl rfl)
theorem dX3_init_26 : decode cX3_init 26 = .ok (.aload_n 0, 1) := dk_42 (dk_at dksX3_init_1 3 rfl rfl)
theorem dX3_init_27 : decode cX3_init 27 = .ok (.iconst (-1), 1) := dk_2 (dk_at dksX3_init_1 4 rfl rfl)
theorem dX3_init_28 : decode cX3_init 28 = .ok (.putfield 20, 3) := dk_181 0 20 (dk_at dksX3_init_1 5 rfl rfl)
theorem dX3_init_31 : decode cX3_init 31 = .ok (.aload_n 0, 1) := dk_42 (dk_at dksX3_init_1 8 rfl rfl)
theorem dX3_init_32 : decode cX3_init 32 = .ok (.bipush 32, 2) := dk_16 32 (dk_at dksX3_init_1 9 rfl rfl)
theorem dX3_init_34 : decode cX3_init 34 = .ok (.newarray .int, 2) := dk_188_10 (dk_at dksX3_init_1 11 rfl rfl)
theorem dX3_init_36 : decode cX3_init 36 = .ok (.putfield 23, 3) := dk_181 0 23 (dk_at dksX3_init_1 13 rfl rfl)
theorem dX3_init_39 : decode cX3_init 39 = .ok (.aload_n 0, 1) := dk_42 (dk_at dksX3_init_1 16 rfl rfl)
theorem dX3_init_40 : decode cX3_init 40 = .ok (.bipush 6, 2) := dk_16 6 (dk_at dksX3_init_1 17 rfl rfl)
theorem dX3_init_42 : decode cX3_init 42 = .ok (.newarray .int, 2) := dk_188_10 (dk_at dksX3_init_1 19 rfl rfl)
theorem dX3_init_44 : decode cX3_init 44 = .ok (.putfield 26, 3) := dk_181 0 26 (dk_at dksX3_init_1 21 rfl rfl)
theorem dX3_init_47 : decode cX3_init 47 = .ok (.aload_n 0, 1) := dk_42 (dk_at dksX3_init_2 0 rfl rfl)
theorem dX3_init_48 : decode cX3_init 48 = .ok (.bipush 80, 2) := dk_16 80 (dk_at dksX3_init_2 1 rfl rfl)
theorem dX3_init_50 : decode cX3_init 50 = .ok (.newarray .int, 2) := dk_188_10 (dk_at dksX3_init_2 3 rfl rfl)
theorem dX3_init_52 : decode cX3_init 52 = .ok (.putfield 29, 3) := dk_181 0 29 (dk_at dksX3_init_2 5 rfl rfl)
theorem dX3_init_55 : decode cX3_init 55 = .ok (.aload_n 0, 1) := dk_42 (dk_at dksX3_init_2 8 rfl rfl)
theorem dX3_init_56 : decode cX3_init 56 = .ok (.bipush 18, 2) := dk_16 18 (dk_at dksX3_init_2 9 rfl rfl)
theorem dX3_init_58 : decode cX3_init 58 = .ok (.newarray .int, 2) := dk_188_10 (dk_at dksX3_init_2 11 rfl rfl)
theorem dX3_init_60 : decode cX3_init 60 = .ok (.putfield 32, 3) := dk_181 0 32 (dk_at dksX3_init_2 13 rfl rfl)
theorem dX3_init_63 : decode cX3_init 63 = .ok (.aload_n 0, 1) := dk_42 (dk_at dksX3_init_2 16 rfl rfl)
theorem dX3_init_64 : decode cX3_init 64 = .ok (.iconst 2, 1) := dk_5 (dk_at dksX3_init_2 17 rfl rfl)
theorem dX3_init_65 : decode cX3_init 65 = .ok (.newarray .long, 2) := dk_188_11 (dk_at dksX3_init_2 18 rfl rfl)
theorem dX3_init_67 : decode cX3_init 67 = .ok (.putfield 35, 3) := dk_181 0 35 (dk_at dksX3_init_2 20 rfl rfl)
theorem dX3_init_70 : decode cX3_init 70 = .ok (.aload_n 0, 1) := dk_42 (dk_at dksX3_init_2 23 rfl rfl)
theorem dX3_init_71 : decode cX3_init 71 = .ok (.iconst 2, 1) := dk_5 (dk_at dksX3_init_3 0 rfl rfl)
theorem dX3_init_72 : decode cX3_init 72 = .ok (.newarray .boolean, 2) := dk_188_4 (dk_at dksX3_init_3 1 rfl rfl)
theorem dX3_init_74 : decode cX3_init 74 = .ok (.putfield 39, 3) := dk_181 0 39 (dk_at dksX3_init_3 3 rfl rfl)
theorem dX3_init_77 : decode cX3_init 77 = .ok (.aload_n 0, 1) := dk_42 (dk_at dksX3_init_3 6 rfl rfl)
theorem dX3_init_78 : decode cX3_init 78 = .ok (.ldc 43, 2) := dk_18 43 (dk_at dksX3_init_3 7 rfl rfl)
theorem dX3_init_80 : decode cX3_init 80 = .ok (.newarray .int, 2) := dk_188_10 (dk_at dksX3_init_3 9 rfl rfl)
theorem dX3_init_82 : decode cX3_init 82 = .ok (.putfield 44, 3) := dk_181 0 44 (dk_at dksX3_init_3 11 rfl rfl)
theorem dX3_init_85 : decode cX3_init 85 = .ok (.aload_n 0, 1) := dk_42 (dk_at dksX3_init_3 14 rfl rfl)
theorem dX3_init_86 : decode cX3_init 86 = .ok (.ldc 43, 2) := dk_18 43 (dk_at dksX3_init_3 15 rfl rfl)
theorem dX3_init_88 : decode cX3_init 88 = .ok (.newarray .int, 2) := dk_188_10 (dk_at dksX3_init_3 17 rfl rfl)
theorem dX3_init_90 : decode cX3_init 90 = .ok (.putfield 47, 3) := dk_181 0 47 (dk_at dksX3_init_3 19 rfl rfl)
theorem dX3_init_93 : decode cX3_init 93 = .ok (.aload_n 0, 1) := dk_42 (dk_at dksX3_init_3 22 rfl rfl)
theorem dX3_init_94 : decode cX3_init 94 = .ok (.ldc 43, 2) := dk_18 43 (dk_at dksX3_init_4 0 rfl rfl)
theorem dX3_init_96 : decode cX3_init 96 = .ok (.newarray .int, 2) := dk_188_10 (dk_at dksX3_init_4 2 rfl rfl)
theorem dX3_init_98 : decode cX3_init 98 = .ok (.putfield 50, 3) := dk_181 0 50 (dk_at dksX3_init_4 4 rfl rfl)
theorem dX3_init_101 : decode cX3_init 101 = .ok (.aload_n 0, 1) := dk_42 (dk_at dksX3_init_4 7 rfl rfl)
theorem dX3_init_102 : decode cX3_init 102 = .ok (.ldc 43, 2) := dk_18 43 (dk_at dksX3_init_4 8 rfl rfl)
theorem dX3_init_104 : decode cX3_init 104 = .ok (.newarray .int, 2) := dk_188_10 (dk_at dksX3_init_4 10 rfl rfl)
theorem dX3_init_106 : decode cX3_init 106 = .ok (.putfield 53, 3) := dk_181 0 53 (dk_at dksX3_init_4 12 rfl rfl)
theorem dX3_init_109 : decode cX3_init 109 = .ok (.aload_n 0, 1) := dk_42 (dk_at dksX3_init_4 15 rfl rfl)
theorem dX3_init_110 : decode cX3_init 110 = .ok (.bipush 100, 2) := dk_16 100 (dk_at dksX3_init_4 16 rfl rfl)
theorem dX3_init_112 : decode cX3_init 112 = .ok (.newarray .int, 2) := dk_188_10 (dk_at dksX3_init_4 18 rfl rfl)
theorem dX3_init_114 : decode cX3_init 114 = .ok (.putfield 56, 3) := dk_181 0 56 (dk_at dksX3_init_4 20 rfl rfl)
theorem dX3_init_117 : decode cX3_init 117 = .ok (.aload_n 0, 1) := dk_42 (dk_at dksX3_init_4 23 rfl rfl)
theorem dX3_init_118 : decode cX3_init 118 = .ok (.bipush 100, 2) := dk_16 100 (dk_at dksX3_init_5 0 rfl rfl)
theorem dX3_init_120 : decode cX3_init 120 = .ok (.newarray .int, 2) := dk_188_10 (dk_at dksX3_init_5 2 rfl rfl)
theorem dX3_init_122 : decode cX3_init 122 = .ok (.putfield 59, 3) := dk_181 0 59 (dk_at dksX3_init_5 4 rfl rfl)
theorem dX3_init_125 : decode cX3_init 125 = .ok (.aload_n 0, 1) := dk_42 (dk_at dksX3_init_5 7 rfl rfl)
theorem dX3_init_126 : decode cX3_init 126 = .ok (.bipush 100, 2) := dk_16 100 (dk_at dksX3_init_5 8 rfl rfl)
theorem dX3_init_128 : decode cX3_init 128 = .ok (.newarray .int, 2) := dk_188_10 (dk_at dksX3_init_5 10 rfl rfl)
theorem dX3_init_130 : decode cX3_init 130 = .ok (.putfield 62, 3) := dk_181 0 62 (dk_at dksX3_init_5 12 rfl rfl)
theorem dX3_init_133 : decode cX3_init 133 = .ok (.return_, 1) := dk_177 (dk_at dksX3_init_5 15 rfl rfl)
abbrev cX3_feed : ByteArray := prog_15_method_5_code
def yX3_feed : MethodName := ⟨RX3, "feed", "(IJ)I"⟩
def dkwX3_feed_3 : List UInt8 := [167, 255, 219, 42, 89, 180, 0, 73, 27, 96, 181, 0, 73, 42, 180, 0, 73, 172]
abbrev dktX3_feed_3 : List UInt8 := dkwX3_feed_3 ++ []
def dkwX3_feed_2 : List UInt8 := [21, 4, 96, 32, 16, 8, 27, 4, 100, 21, 4, 100, 104, 123, 20, 0, 77, 127, 136, 79, 132, 4, 1]
abbrev dktX3_feed_2 : List UInt8 := dkwX3_feed_2 ++ dktX3_feed_3
def dkwX3_feed_1 : List UInt8 := [164, 0, 6, 18, 76, 172, 3, 54, 4, 21, 4, 27, 162, 0, 37, 42, 180, 0, 17, 42, 180, 0, 73]
abbrev dktX3_feed_1 : List UInt8 := dkwX3_feed_1 ++ dktX3_feed_2
def dkwX3_feed_0 : List UInt8 := [27, 4, 16, 8, 184, 0, 68, 154, 0, 6, 18, 72, 172, 42, 180, 0, 73, 27, 96, 17, 1, 144]
abbrev dktX3_feed_0 : List UInt8 := dkwX3_feed_0 ++ dktX3_feed_1
theorem dksX3_feed_0 : cX3_feed.data.toList.drop 0 = dktX3_feed_0 := by decide +kernel
theorem dksX3_feed_1 : cX3_feed.data.toList.drop 22 = dktX3_feed_1 := dk_seg dksX3_feed_0 22 rfl rfl
theorem dksX3_feed_2 : cX3_feed.data.toList.drop 45 = dktX3_feed_2 := dk_seg dksX3_feed_1 23 rfl rfl
theorem dksX3_feed_3 : cX3_feed.data.toList.drop 68 = dktX3_feed_3 := dk_seg dksX3_feed_2 23 rfl rfl
theorem dX3_feed_0 : decode cX3_feed 0 = .ok (.iload_n 1, 1) := dk_27 (dk_at dksX3_feed_0 0 rfl rfl)
theorem dX3_feed_1 : decode cX3_feed 1 = .ok (.iconst 1, 1) := dk_4 (dk_at dksX3_feed_0 1 rfl rfl)
theorem dX3_feed_2 : decode cX3_feed 2 = .ok (.bipush 8, 2) := dk_16 8 (dk_at dksX3_feed_0 2 rfl rfl)
theorem dX3_feed_4 : decode cX3_feed 4 = .ok (.invokestatic 68, 3) := dk_184 0 68 (dk_at dksX3_feed_0 4 rfl rfl)
theorem dX3_feed_7 : decode cX3_feed 7 = .ok (.ifCond .ne 6, 3) := dk_154 0 6 (dk_at dksX3_feed_0 7 rfl rfl)
theorem dX3_feed_10 : decode cX3_feed 10 = .ok (.ldc 72, 2) := dk_18 72 (dk_at dksX3_feed_0 10 rfl rfl)
theorem dX3_feed_12 : decode cX3_feed 12 = .ok (.ireturn, 1) := dk_172 (dk_at dksX3_feed_0 12 rfl rfl)
theorem dX3_feed_13 : decode cX3_feed 13 = .ok (.aload_n 0, 1) := dk_42 (dk_at dksX3_feed_0 13 rfl rfl)
theorem dX3_feed_14 : decode cX3_feed 14 = .ok (.getfield 73, 3) := dk_180 0 73 (dk_at dksX3_feed_0 14 rfl rfl)
theorem dX3_feed_17 : decode cX3_feed 17 = .ok (.iload_n 1, 1) := dk_27 (dk_at dksX3_feed_0 17 rfl rfl)
theorem dX3_feed_18 : decode cX3_feed 18 = .ok (.iadd, 1) := dk_96 (dk_at dksX3_feed_0 18 rfl rfl)
theorem dX3_feed_19 : decode cX3_feed 19 = .ok (.sipush 400, 3) := dk_17 1 144 (dk_at dksX3_feed_0 19 rfl rfl)
theorem dX3_feed_22 : decode cX3_feed 22 = .ok (.if_icmp .le 6, 3) := dk_164 0 6 (dk_at dksX3_feed_1 0 rfl rfl)
theorem dX3_feed_25 : decode cX3_feed 25 = .ok (.ldc 76, 2) := dk_18 76 (dk_at dksX3_feed_1 3 rfl rfl)
theorem dX3_feed_27 : decode cX3_feed 27 = .ok (.ireturn, 1) := dk_172 (dk_at dksX3_feed_1 5 rfl rfl)
theorem dX3_feed_28 : decode cX3_feed 28 = .ok (.iconst 0, 1) := dk_3 (dk_at dksX3_feed_1 6 rfl rfl)
theorem dX3_feed_29 : decode cX3_feed 29 = .ok (.istore 4, 2) := dk_54 4 (dk_at dksX3_feed_1 7 rfl rfl)
theorem dX3_feed_31 : decode cX3_feed 31 = .ok (.iload 4, 2) := dk_21 4 (dk_at dksX3_feed_1 9 rfl rfl)
theorem dX3_feed_33 : decode cX3_feed 33 = .ok (.iload_n 1, 1) := dk_27 (dk_at dksX3_feed_1 11 rfl rfl)
theorem dX3_feed_34 : decode cX3_feed 34 = .ok (.if_icmp .ge 37, 3) := dk_162 0 37 (dk_at dksX3_feed_1 12 rfl rfl)
theorem dX3_feed_37 : decode cX3_feed 37 = .ok (.aload_n 0, 1) := dk_42 (dk_at dksX3_feed_1 15 rfl rfl)
theorem dX3_feed_38 : decode cX3_feed 38 = .ok (.getfield 17, 3) := dk_180 0 17 (dk_at dksX3_feed_1 16 rfl rfl)
theorem dX3_feed_41 : decode cX3_feed 41 = .ok (.aload_n 0, 1) := dk_42 (dk_at dksX3_feed_1 19 rfl rfl)
theorem dX3_feed_42 : decode cX3_feed 42 = .ok (.getfield 73, 3) := dk_180 0 73 (dk_at dksX3_feed_1 20 rfl rfl)
theorem dX3_feed_45 : decode cX3_feed 45 = .ok (.iload 4, 2) := dk_21 4 (dk_at dksX3_feed_2 0 rfl rfl)
theorem dX3_feed_47 : decode cX3_feed 47 = .ok (.iadd, 1) := dk_96 (dk_at dksX3_feed_2 2 rfl rfl)
theorem dX3_feed_48 : decode cX3_feed 48 = .ok (.lload_n 2, 1) := dk_32 (dk_at dksX3_feed_2 3 rfl rfl)
theorem dX3_feed_49 : decode cX3_feed 49 = .ok (.bipush 8, 2) := dk_16 8 (dk_at dksX3_feed_2 4 rfl rfl)
theorem dX3_feed_51 : decode cX3_feed 51 = .ok (.iload_n 1, 1) := dk_27 (dk_at dksX3_feed_2 6 rfl rfl)
theorem dX3_feed_52 : decode cX3_feed 52 = .ok (.iconst 1, 1) := dk_4 (dk_at dksX3_feed_2 7 rfl rfl)
theorem dX3_feed_53 : decode cX3_feed 53 = .ok (.isub, 1) := dk_100 (dk_at dksX3_feed_2 8 rfl rfl)
theorem dX3_feed_54 : decode cX3_feed 54 = .ok (.iload 4, 2) := dk_21 4 (dk_at dksX3_feed_2 9 rfl rfl)
theorem dX3_feed_56 : decode cX3_feed 56 = .ok (.isub, 1) := dk_100 (dk_at dksX3_feed_2 11 rfl rfl)
theorem dX3_feed_57 : decode cX3_feed 57 = .ok (.imul, 1) := dk_104 (dk_at dksX3_feed_2 12 rfl rfl)
theorem dX3_feed_58 : decode cX3_feed 58 = .ok (.lshr, 1) := dk_123 (dk_at dksX3_feed_2 13 rfl rfl)
theorem dX3_feed_59 : decode cX3_feed 59 = .ok (.ldc2_w 77, 3) := dk_20 0 77 (dk_at dksX3_feed_2 14 rfl rfl)
theorem dX3_feed_62 : decode cX3_feed 62 = .ok (.land, 1) := dk_127 (dk_at dksX3_feed_2 17 rfl rfl)
theorem dX3_feed_63 : decode cX3_feed 63 = .ok (.l2i, 1) := dk_136 (dk_at dksX3_feed_2 18 rfl rfl)
theorem dX3_feed_64 : decode cX3_feed 64 = .ok (.iastore, 1) := dk_79 (dk_at dksX3_feed_2 19 rfl rfl)
theorem dX3_feed_65 : decode cX3_feed 65 = .ok (.iinc 4 1, 3) := dk_132 4 1 (dk_at dksX3_feed_2 20 rfl rfl)
theorem dX3_feed_68 : decode cX3_feed 68 = .ok (.goto (-37), 3) := dk_167 255 219 (dk_at dksX3_feed_3 0 rfl rfl)
theorem dX3_feed_71 : decode cX3_feed 71 = .ok (.aload_n 0, 1) := dk_42 (dk_at dksX3_feed_3 3 rfl rfl)
theorem dX3_feed_72 : decode cX3_feed 72 = .ok (.dup, 1) := dk_89 (dk_at dksX3_feed_3 4 rfl rfl)
theorem dX3_feed_73 : decode cX3_feed 73 = .ok (.getfield 73, 3) := dk_180 0 73 (dk_at dksX3_feed_3 5 rfl rfl)
theorem dX3_feed_76 : decode cX3_feed 76 = .ok (.iload_n 1, 1) := dk_27 (dk_at dksX3_feed_3 8 rfl rfl)
theorem dX3_feed_77 : decode cX3_feed 77 = .ok (.iadd, 1) := dk_96 (dk_at dksX3_feed_3 9 rfl rfl)
theorem dX3_feed_78 : decode cX3_feed 78 = .ok (.putfield 73, 3) := dk_181 0 73 (dk_at dksX3_feed_3 10 rfl rfl)
theorem dX3_feed_81 : decode cX3_feed 81 = .ok (.aload_n 0, 1) := dk_42 (dk_at dksX3_feed_3 13 rfl rfl)
theorem dX3_feed_82 : decode cX3_feed 82 = .ok (.getfield 73, 3) := dk_180 0 73 (dk_at dksX3_feed_3 14 rfl rfl)
theorem dX3_feed_85 : decode cX3_feed 85 = .ok (.ireturn, 1) := dk_172 (dk_at dksX3_feed_3 17 rfl rfl)
abbrev cX3_in : ByteArray := prog_15_method_2_code
def yX3_in : MethodName := ⟨RX3, "in", "(III)Z"⟩
def dkwX3_in_0 : List UInt8 := [26, 27, 161, 0, 12, 26, 28, 163, 0, 7, 4, 167, 0, 4, 3, 172]
abbrev dktX3_in_0 : List UInt8 := dkwX3_in_0 ++ []
theorem dksX3_in_0 : cX3_in.data.toList.drop 0 = dktX3_in_0 := by decide +kernel
theorem dX3_in_0 : decode cX3_in 0 = .ok (.iload_n 0, 1) := dk_26 (dk_at dksX3_in_0 0 rfl rfl)
theorem dX3_in_1 : decode cX3_in 1 = .ok (.iload_n 1, 1) := dk_27 (dk_at dksX3_in_0 1 rfl rfl)
theorem dX3_in_2 : decode cX3_in 2 = .ok (.if_icmp .lt 12, 3) := dk_161 0 12 (dk_at dksX3_in_0 2 rfl rfl)
theorem dX3_in_5 : decode cX3_in 5 = .ok (.iload_n 0, 1) := dk_26 (dk_at dksX3_in_0 5 rfl rfl)
theorem dX3_in_6 : decode cX3_in 6 = .ok (.iload_n 2, 1) := dk_28 (dk_at dksX3_in_0 6 rfl rfl)
theorem dX3_in_7 : decode cX3_in 7 = .ok (.if_icmp .gt 7, 3) := dk_163 0 7 (dk_at dksX3_in_0 7 rfl rfl)
theorem dX3_in_10 : decode cX3_in 10 = .ok (.iconst 1, 1) := dk_4 (dk_at dksX3_in_0 10 rfl rfl)
theorem dX3_in_11 : decode cX3_in 11 = .ok (.goto 4, 3) := dk_167 0 4 (dk_at dksX3_in_0 11 rfl rfl)
theorem dX3_in_14 : decode cX3_in 14 = .ok (.iconst 0, 1) := dk_3 (dk_at dksX3_in_0 14 rfl rfl)
theorem dX3_in_15 : decode cX3_in 15 = .ok (.ireturn, 1) := dk_172 (dk_at dksX3_in_0 15 rfl rfl)
abbrev cX3_reckoner : ByteArray := prog_15_method_15_code
def yX3_reckoner : MethodName := ⟨RX3, "reckoner", "()I"⟩
def dkwX3_reckoner_5 : List UInt8 := [180, 0, 39, 3, 3, 84, 42, 180, 0, 39, 4, 3, 84, 42, 180, 0, 65, 172]
abbrev dktX3_reckoner_5 : List UInt8 := dkwX3_reckoner_5 ++ []
def dkwX3_reckoner_4 : List UInt8 := [167, 255, 231, 42, 182, 0, 185, 42, 3, 181, 0, 188, 42, 3, 181, 0, 191, 42, 3, 181, 0, 194, 42]
abbrev dktX3_reckoner_4 : List UInt8 := dkwX3_reckoner_4 ++ dktX3_reckoner_5
def dkwX3_reckoner_3 : List UInt8 := [180, 0, 182, 104, 162, 0, 21, 42, 180, 0, 13, 28, 42, 180, 0, 23, 28, 46, 79, 132, 2, 1]
abbrev dktX3_reckoner_3 : List UInt8 := dkwX3_reckoner_3 ++ dktX3_reckoner_4
def dkwX3_reckoner_2 : List UInt8 := [181, 0, 179, 42, 42, 180, 0, 133, 181, 0, 65, 42, 42, 180, 0, 161, 181, 0, 182, 3, 61, 28, 7, 42]
abbrev dktX3_reckoner_2 : List UInt8 := dkwX3_reckoner_2 ++ dktX3_reckoner_3
def dkwX3_reckoner_1 : List UInt8 := [181, 0, 20, 42, 42, 180, 0, 121, 181, 0, 7, 42, 42, 180, 0, 127, 181, 0, 176, 42, 42, 180, 0, 130]
abbrev dktX3_reckoner_1 : List UInt8 := dkwX3_reckoner_1 ++ dktX3_reckoner_2
def dkwX3_reckoner_0 : List UInt8 := [42, 182, 0, 173, 60, 42, 3, 181, 0, 73, 27, 154, 0, 11, 16, 246, 42, 180, 0, 107, 100, 172, 42, 2]
abbrev dktX3_reckoner_0 : List UInt8 := dkwX3_reckoner_0 ++ dktX3_reckoner_1
theorem dksX3_reckoner_0 : cX3_reckoner.data.toList.drop 0 = dktX3_reckoner_0 := by decide +kernel
theorem dksX3_reckoner_1 : cX3_reckoner.data.toList.drop 24 = dktX3_reckoner_1 := dk_seg dksX3_reckoner_0 24 rfl rfl
theorem dksX3_reckoner_2 : cX3_reckoner.data.toList.drop 48 = dktX3_reckoner_2 := dk_seg dksX3_reckoner_1 24 rfl rfl
theorem dksX3_reckoner_3 : cX3_reckoner.data.toList.drop 72 = dktX3_reckoner_3 := dk_seg dksX3_reckoner_2 24 rfl rfl
theorem dksX3_reckoner_4 : cX3_reckoner.data.toList.drop 94 = dktX3_reckoner_4 := dk_seg dksX3_reckoner_3 22 rfl rfl
theorem dksX3_reckoner_5 : cX3_reckoner.data.toList.drop 117 = dktX3_reckoner_5 := dk_seg dksX3_reckoner_4 23 rfl rfl
theorem dX3_reckoner_0 : decode cX3_reckoner 0 = .ok (.aload_n 0, 1) := dk_42 (dk_at dksX3_reckoner_0 0 rfl rfl)
theorem dX3_reckoner_1 : decode cX3_reckoner 1 = .ok (.invokevirtual 173, 3) := dk_182 0 173 (dk_at dksX3_reckoner_0 1 rfl rfl)
theorem dX3_reckoner_4 : decode cX3_reckoner 4 = .ok (.istore_n 1, 1) := dk_60 (dk_at dksX3_reckoner_0 4 rfl rfl)
theorem dX3_reckoner_5 : decode cX3_reckoner 5 = .ok (.aload_n 0, 1) := dk_42 (dk_at dksX3_reckoner_0 5 rfl rfl)
theorem dX3_reckoner_6 : decode cX3_reckoner 6 = .ok (.iconst 0, 1) := dk_3 (dk_at dksX3_reckoner_0 6 rfl rfl)
theorem dX3_reckoner_7 : decode cX3_reckoner 7 = .ok (.putfield 73, 3) := dk_181 0 73 (dk_at dksX3_reckoner_0 7 rfl rfl)
theorem dX3_reckoner_10 : decode cX3_reckoner 10 = .ok (.iload_n 1, 1) := dk_27 (dk_at dksX3_reckoner_0 10 rfl rfl)
theorem dX3_reckoner_11 : decode cX3_reckoner 11 = .ok (.ifCond .ne 11, 3) := dk_154 0 11 (dk_at dksX3_reckoner_0 11 rfl rfl)
theorem dX3_reckoner_14 : decode cX3_reckoner 14 = .ok (.bipush (-10), 2) := dk_16 246 (dk_at dksX3_reckoner_0 14 rfl rfl)
theorem dX3_reckoner_16 : decode cX3_reckoner 16 = .ok (.aload_n 0, 1) := dk_42 (dk_at dksX3_reckoner_0 16 rfl rfl)
theorem dX3_reckoner_17 : decode cX3_reckoner 17 = .ok (.getfield 107, 3) := dk_180 0 107 (dk_at dksX3_reckoner_0 17 rfl rfl)
theorem dX3_reckoner_20 : decode cX3_reckoner 20 = .ok (.isub, 1) := dk_100 (dk_at dksX3_reckoner_0 20 rfl rfl)
theorem dX3_reckoner_21 : decode cX3_reckoner 21 = .ok (.ireturn, 1) := dk_172 (dk_at dksX3_reckoner_0 21 rfl rfl)
theorem dX3_reckoner_22 : decode cX3_reckoner 22 = .ok (.aload_n 0, 1) := dk_42 (dk_at dksX3_reckoner_0 22 rfl rfl)
theorem dX3_reckoner_23 : decode cX3_reckoner 23 = .ok (.iconst (-1), 1) := dk_2 (dk_at dksX3_reckoner_0 23 rfl rfl)
theorem dX3_reckoner_24 : decode cX3_reckoner 24 = .ok (.putfield 20, 3) := dk_181 0 20 (dk_at dksX3_reckoner_1 0 rfl rfl)
theorem dX3_reckoner_27 : decode cX3_reckoner 27 = .ok (.aload_n 0, 1) := dk_42 (dk_at dksX3_reckoner_1 3 rfl rfl)
theorem dX3_reckoner_28 : decode cX3_reckoner 28 = .ok (.aload_n 0, 1) := dk_42 (dk_at dksX3_reckoner_1 4 rfl rfl)
theorem dX3_reckoner_29 : decode cX3_reckoner 29 = .ok (.getfield 121, 3) := dk_180 0 121 (dk_at dksX3_reckoner_1 5 rfl rfl)
theorem dX3_reckoner_32 : decode cX3_reckoner 32 = .ok (.putfield 7, 3) := dk_181 0 7 (dk_at dksX3_reckoner_1 8 rfl rfl)
theorem dX3_reckoner_35 : decode cX3_reckoner 35 = .ok (.aload_n 0, 1) := dk_42 (dk_at dksX3_reckoner_1 11 rfl rfl)
theorem dX3_reckoner_36 : decode cX3_reckoner 36 = .ok (.aload_n 0, 1) := dk_42 (dk_at dksX3_reckoner_1 12 rfl rfl)
theorem dX3_reckoner_37 : decode cX3_reckoner 37 = .ok (.getfield 127, 3) := dk_180 0 127 (dk_at dksX3_reckoner_1 13 rfl rfl)
theorem dX3_reckoner_40 : decode cX3_reckoner 40 = .ok (.putfield 176, 3) := dk_181 0 176 (dk_at dksX3_reckoner_1 16 rfl rfl)
theorem dX3_reckoner_43 : decode cX3_reckoner 43 = .ok (.aload_n 0, 1) := dk_42 (dk_at dksX3_reckoner_1 19 rfl rfl)
theorem dX3_reckoner_44 : decode cX3_reckoner 44 = .ok (.aload_n 0, 1) := dk_42 (dk_at dksX3_reckoner_1 20 rfl rfl)
theorem dX3_reckoner_45 : decode cX3_reckoner 45 = .ok (.getfield 130, 3) := dk_180 0 130 (dk_at dksX3_reckoner_1 21 rfl rfl)
theorem dX3_reckoner_48 : decode cX3_reckoner 48 = .ok (.putfield 179, 3) := dk_181 0 179 (dk_at dksX3_reckoner_2 0 rfl rfl)
theorem dX3_reckoner_51 : decode cX3_reckoner 51 = .ok (.aload_n 0, 1) := dk_42 (dk_at dksX3_reckoner_2 3 rfl rfl)
theorem dX3_reckoner_52 : decode cX3_reckoner 52 = .ok (.aload_n 0, 1) := dk_42 (dk_at dksX3_reckoner_2 4 rfl rfl)
theorem dX3_reckoner_53 : decode cX3_reckoner 53 = .ok (.getfield 133, 3) := dk_180 0 133 (dk_at dksX3_reckoner_2 5 rfl rfl)
theorem dX3_reckoner_56 : decode cX3_reckoner 56 = .ok (.putfield 65, 3) := dk_181 0 65 (dk_at dksX3_reckoner_2 8 rfl rfl)
theorem dX3_reckoner_59 : decode cX3_reckoner 59 = .ok (.aload_n 0, 1) := dk_42 (dk_at dksX3_reckoner_2 11 rfl rfl)
theorem dX3_reckoner_60 : decode cX3_reckoner 60 = .ok (.aload_n 0, 1) := dk_42 (dk_at dksX3_reckoner_2 12 rfl rfl)
theorem dX3_reckoner_61 : decode cX3_reckoner 61 = .ok (.getfield 161, 3) := dk_180 0 161 (dk_at dksX3_reckoner_2 13 rfl rfl)
theorem dX3_reckoner_64 : decode cX3_reckoner 64 = .ok (.putfield 182, 3) := dk_181 0 182 (dk_at dksX3_reckoner_2 16 rfl rfl)
theorem dX3_reckoner_67 : decode cX3_reckoner 67 = .ok (.iconst 0, 1) := dk_3 (dk_at dksX3_reckoner_2 19 rfl rfl)
theorem dX3_reckoner_68 : decode cX3_reckoner 68 = .ok (.istore_n 2, 1) := dk_61 (dk_at dksX3_reckoner_2 20 rfl rfl)
theorem dX3_reckoner_69 : decode cX3_reckoner 69 = .ok (.iload_n 2, 1) := dk_28 (dk_at dksX3_reckoner_2 21 rfl rfl)
theorem dX3_reckoner_70 : decode cX3_reckoner 70 = .ok (.iconst 4, 1) := dk_7 (dk_at dksX3_reckoner_2 22 rfl rfl)
theorem dX3_reckoner_71 : decode cX3_reckoner 71 = .ok (.aload_n 0, 1) := dk_42 (dk_at dksX3_reckoner_2 23 rfl rfl)
theorem dX3_reckoner_72 : decode cX3_reckoner 72 = .ok (.getfield 182, 3) := dk_180 0 182 (dk_at dksX3_reckoner_3 0 rfl rfl)
theorem dX3_reckoner_75 : decode cX3_reckoner 75 = .ok (.imul, 1) := dk_104 (dk_at dksX3_reckoner_3 3 rfl rfl)
theorem dX3_reckoner_76 : decode cX3_reckoner 76 = .ok (.if_icmp .ge 21, 3) := dk_162 0 21 (dk_at dksX3_reckoner_3 4 rfl rfl)
theorem dX3_reckoner_79 : decode cX3_reckoner 79 = .ok (.aload_n 0, 1) := dk_42 (dk_at dksX3_reckoner_3 7 rfl rfl)
theorem dX3_reckoner_80 : decode cX3_reckoner 80 = .ok (.getfield 13, 3) := dk_180 0 13 (dk_at dksX3_reckoner_3 8 rfl rfl)
theorem dX3_reckoner_83 : decode cX3_reckoner 83 = .ok (.iload_n 2, 1) := dk_28 (dk_at dksX3_reckoner_3 11 rfl rfl)
theorem dX3_reckoner_84 : decode cX3_reckoner 84 = .ok (.aload_n 0, 1) := dk_42 (dk_at dksX3_reckoner_3 12 rfl rfl)
theorem dX3_reckoner_85 : decode cX3_reckoner 85 = .ok (.getfield 23, 3) := dk_180 0 23 (dk_at dksX3_reckoner_3 13 rfl rfl)
theorem dX3_reckoner_88 : decode cX3_reckoner 88 = .ok (.iload_n 2, 1) := dk_28 (dk_at dksX3_reckoner_3 16 rfl rfl)
theorem dX3_reckoner_89 : decode cX3_reckoner 89 = .ok (.iaload, 1) := dk_46 (dk_at dksX3_reckoner_3 17 rfl rfl)
theorem dX3_reckoner_90 : decode cX3_reckoner 90 = .ok (.iastore, 1) := dk_79 (dk_at dksX3_reckoner_3 18 rfl rfl)
theorem dX3_reckoner_91 : decode cX3_reckoner 91 = .ok (.iinc 2 1, 3) := dk_132 2 1 (dk_at dksX3_reckoner_3 19 rfl rfl)
theorem dX3_reckoner_94 : decode cX3_reckoner 94 = .ok (.goto (-25), 3) := dk_167 255 231 (dk_at dksX3_reckoner_4 0 rfl rfl)
theorem dX3_reckoner_97 : decode cX3_reckoner 97 = .ok (.aload_n 0, 1) := dk_42 (dk_at dksX3_reckoner_4 3 rfl rfl)
theorem dX3_reckoner_98 : decode cX3_reckoner 98 = .ok (.invokevirtual 185, 3) := dk_182 0 185 (dk_at dksX3_reckoner_4 4 rfl rfl)
theorem dX3_reckoner_101 : decode cX3_reckoner 101 = .ok (.aload_n 0, 1) := dk_42 (dk_at dksX3_reckoner_4 7 rfl rfl)
theorem dX3_reckoner_102 : decode cX3_reckoner 102 = .ok (.iconst 0, 1) := dk_3 (dk_at dksX3_reckoner_4 8 rfl rfl)
theorem dX3_reckoner_103 : decode cX3_reckoner 103 = .ok (.putfield 188, 3) := dk_181 0 188 (dk_at dksX3_reckoner_4 9 rfl rfl)
theorem dX3_reckoner_106 : decode cX3_reckoner 106 = .ok (.aload_n 0, 1) := dk_42 (dk_at dksX3_reckoner_4 12 rfl rfl)
theorem dX3_reckoner_107 : decode cX3_reckoner 107 = .ok (.iconst 0, 1) := dk_3 (dk_at dksX3_reckoner_4 13 rfl rfl)
theorem dX3_reckoner_108 : decode cX3_reckoner 108 = .ok (.putfield 191, 3) := dk_181 0 191 (dk_at dksX3_reckoner_4 14 rfl rfl)
theorem dX3_reckoner_111 : decode cX3_reckoner 111 = .ok (.aload_n 0, 1) := dk_42 (dk_at dksX3_reckoner_4 17 rfl rfl)
theorem dX3_reckoner_112 : decode cX3_reckoner 112 = .ok (.iconst 0, 1) := dk_3 (dk_at dksX3_reckoner_4 18 rfl rfl)
theorem dX3_reckoner_113 : decode cX3_reckoner 113 = .ok (.putfield 194, 3) := dk_181 0 194 (dk_at dksX3_reckoner_4 19 rfl rfl)
theorem dX3_reckoner_116 : decode cX3_reckoner 116 = .ok (.aload_n 0, 1) := dk_42 (dk_at dksX3_reckoner_4 22 rfl rfl)
theorem dX3_reckoner_117 : decode cX3_reckoner 117 = .ok (.getfield 39, 3) := dk_180 0 39 (dk_at dksX3_reckoner_5 0 rfl rfl)
theorem dX3_reckoner_120 : decode cX3_reckoner 120 = .ok (.iconst 0, 1) := dk_3 (dk_at dksX3_reckoner_5 3 rfl rfl)
theorem dX3_reckoner_121 : decode cX3_reckoner 121 = .ok (.iconst 0, 1) := dk_3 (dk_at dksX3_reckoner_5 4 rfl rfl)
theorem dX3_reckoner_122 : decode cX3_reckoner 122 = .ok (.bastore, 1) := dk_84 (dk_at dksX3_reckoner_5 5 rfl rfl)
theorem dX3_reckoner_123 : decode cX3_reckoner 123 = .ok (.aload_n 0, 1) := dk_42 (dk_at dksX3_reckoner_5 6 rfl rfl)
theorem dX3_reckoner_124 : decode cX3_reckoner 124 = .ok (.getfield 39, 3) := dk_180 0 39 (dk_at dksX3_reckoner_5 7 rfl rfl)
theorem dX3_reckoner_127 : decode cX3_reckoner 127 = .ok (.iconst 1, 1) := dk_4 (dk_at dksX3_reckoner_5 10 rfl rfl)
theorem dX3_reckoner_128 : decode cX3_reckoner 128 = .ok (.iconst 0, 1) := dk_3 (dk_at dksX3_reckoner_5 11 rfl rfl)
theorem dX3_reckoner_129 : decode cX3_reckoner 129 = .ok (.bastore, 1) := dk_84 (dk_at dksX3_reckoner_5 12 rfl rfl)
theorem dX3_reckoner_130 : decode cX3_reckoner 130 = .ok (.aload_n 0, 1) := dk_42 (dk_at dksX3_reckoner_5 13 rfl rfl)
theorem dX3_reckoner_131 : decode cX3_reckoner 131 = .ok (.getfield 65, 3) := dk_180 0 65 (dk_at dksX3_reckoner_5 14 rfl rfl)
theorem dX3_reckoner_134 : decode cX3_reckoner 134 = .ok (.ireturn, 1) := dk_172 (dk_at dksX3_reckoner_5 17 rfl rfl)
abbrev cX3_isRead : ByteArray := prog_15_method_14_code
def yX3_isRead : MethodName := ⟨RX3, "isRead", "()Z"⟩
def dkwX3_isRead_4 : List UInt8 := [60, 167, 255, 230, 3, 172]
abbrev dktX3_isRead_4 : List UInt8 := dkwX3_isRead_4 ++ []
def dkwX3_isRead_3 : List UInt8 := [153, 0, 28, 42, 182, 0, 110, 42, 180, 0, 93, 20, 0, 91, 148, 154, 0, 5, 4, 172, 42, 182, 0, 170]
abbrev dktX3_isRead_3 : List UInt8 := dkwX3_isRead_3 ++ dktX3_isRead_4
def dkwX3_isRead_2 : List UInt8 := [172, 42, 180, 0, 93, 20, 0, 159, 148, 153, 0, 9, 42, 4, 182, 0, 113, 172, 42, 182, 0, 167, 60, 27]
abbrev dktX3_isRead_2 : List UInt8 := dkwX3_isRead_2 ++ dktX3_isRead_3
def dkwX3_isRead_1 : List UInt8 := [181, 0, 133, 42, 3, 181, 0, 161, 42, 182, 0, 110, 42, 180, 0, 93, 20, 0, 91, 148, 154, 0, 5, 4]
abbrev dktX3_isRead_1 : List UInt8 := dkwX3_isRead_1 ++ dktX3_isRead_2
def dkwX3_isRead_0 : List UInt8 := [42, 3, 181, 0, 79, 42, 2, 181, 0, 121, 42, 3, 181, 0, 127, 42, 3, 181, 0, 130, 42, 3]
abbrev dktX3_isRead_0 : List UInt8 := dkwX3_isRead_0 ++ dktX3_isRead_1
theorem dksX3_isRead_0 : cX3_isRead.data.toList.drop 0 = dktX3_isRead_0 := by decide +kernel
theorem dksX3_isRead_1 : cX3_isRead.data.toList.drop 22 = dktX3_isRead_1 := dk_seg dksX3_isRead_0 22 rfl rfl
theorem dksX3_isRead_2 : cX3_isRead.data.toList.drop 46 = dktX3_isRead_2 := dk_seg dksX3_isRead_1 24 rfl rfl
theorem dksX3_isRead_3 : cX3_isRead.data.toList.drop 70 = dktX3_isRead_3 := dk_seg dksX3_isRead_2 24 rfl rfl
theorem dksX3_isRead_4 : cX3_isRead.data.toList.drop 94 = dktX3_isRead_4 := dk_seg dksX3_isRead_3 24 rfl rfl
theorem dX3_isRead_0 : decode cX3_isRead 0 = .ok (.aload_n 0, 1) := dk_42 (dk_at dksX3_isRead_0 0 rfl rfl)
theorem dX3_isRead_1 : decode cX3_isRead 1 = .ok (.iconst 0, 1) := dk_3 (dk_at dksX3_isRead_0 1 rfl rfl)
theorem dX3_isRead_2 : decode cX3_isRead 2 = .ok (.putfield 79, 3) := dk_181 0 79 (dk_at dksX3_isRead_0 2 rfl rfl)
theorem dX3_isRead_5 : decode cX3_isRead 5 = .ok (.aload_n 0, 1) := dk_42 (dk_at dksX3_isRead_0 5 rfl rfl)
theorem dX3_isRead_6 : decode cX3_isRead 6 = .ok (.iconst (-1), 1) := dk_2 (dk_at dksX3_isRead_0 6 rfl rfl)
theorem dX3_isRead_7 : decode cX3_isRead 7 = .ok (.putfield 121, 3) := dk_181 0 121 (dk_at dksX3_isRead_0 7 rfl rfl)
theorem dX3_isRead_10 : decode cX3_isRead 10 = .ok (.aload_n 0, 1) := dk_42 (dk_at dksX3_isRead_0 10 rfl rfl)
theorem dX3_isRead_11 : decode cX3_isRead 11 = .ok (.iconst 0, 1) := dk_3 (dk_at dksX3_isRead_0 11 rfl rfl)
theorem dX3_isRead_12 : decode cX3_isRead 12 = .ok (.putfield 127, 3) := dk_181 0 127 (dk_at dksX3_isRead_0 12 rfl rfl)
theorem dX3_isRead_15 : decode cX3_isRead 15 = .ok (.aload_n 0, 1) := dk_42 (dk_at dksX3_isRead_0 15 rfl rfl)
theorem dX3_isRead_16 : decode cX3_isRead 16 = .ok (.iconst 0, 1) := dk_3 (dk_at dksX3_isRead_0 16 rfl rfl)
theorem dX3_isRead_17 : decode cX3_isRead 17 = .ok (.putfield 130, 3) := dk_181 0 130 (dk_at dksX3_isRead_0 17 rfl rfl)
theorem dX3_isRead_20 : decode cX3_isRead 20 = .ok (.aload_n 0, 1) := dk_42 (dk_at dksX3_isRead_0 20 rfl rfl)
theorem dX3_isRead_21 : decode cX3_isRead 21 = .ok (.iconst 0, 1) := dk_3 (dk_at dksX3_isRead_0 21 rfl rfl)
theorem dX3_isRead_22 : decode cX3_isRead 22 = .ok (.putfield 133, 3) := dk_181 0 133 (dk_at dksX3_isRead_1 0 rfl rfl)
theorem dX3_isRead_25 : decode cX3_isRead 25 = .ok (.aload_n 0, 1) := dk_42 (dk_at dksX3_isRead_1 3 rfl rfl)
theorem dX3_isRead_26 : decode cX3_isRead 26 = .ok (.iconst 0, 1) := dk_3 (dk_at dksX3_isRead_1 4 rfl rfl)
theorem dX3_isRead_27 : decode cX3_isRead 27 = .ok (.putfield 161, 3) := dk_181 0 161 (dk_at dksX3_isRead_1 5 rfl rfl)
theorem dX3_isRead_30 : decode cX3_isRead 30 = .ok (.aload_n 0, 1) := dk_42 (dk_at dksX3_isRead_1 8 rfl rfl)
theorem dX3_isRead_31 : decode cX3_isRead 31 = .ok (.invokevirtual 110, 3) := dk_182 0 110 (dk_at dksX3_isRead_1 9 rfl rfl)
theorem dX3_isRead_34 : decode cX3_isRead 34 = .ok (.aload_n 0, 1) := dk_42 (dk_at dksX3_isRead_1 12 rfl rfl)
theorem dX3_isRead_35 : decode cX3_isRead 35 = .ok (.getfield 93, 3) := dk_180 0 93 (dk_at dksX3_isRead_1 13 rfl rfl)
theorem dX3_isRead_38 : decode cX3_isRead 38 = .ok (.ldc2_w 91, 3) := dk_20 0 91 (dk_at dksX3_isRead_1 16 rfl rfl)
theorem dX3_isRead_41 : decode cX3_isRead 41 = .ok (.lcmp, 1) := dk_148 (dk_at dksX3_isRead_1 19 rfl rfl)
theorem dX3_isRead_42 : decode cX3_isRead 42 = .ok (.ifCond .ne 5, 3) := dk_154 0 5 (dk_at dksX3_isRead_1 20 rfl rfl)
theorem dX3_isRead_45 : decode cX3_isRead 45 = .ok (.iconst 1, 1) := dk_4 (dk_at dksX3_isRead_1 23 rfl rfl)
theorem dX3_isRead_46 : decode cX3_isRead 46 = .ok (.ireturn, 1) := dk_172 (dk_at dksX3_isRead_2 0 rfl rfl)
theorem dX3_isRead_47 : decode cX3_isRead 47 = .ok (.aload_n 0, 1) := dk_42 (dk_at dksX3_isRead_2 1 rfl rfl)
theorem dX3_isRead_48 : decode cX3_isRead 48 = .ok (.getfield 93, 3) := dk_180 0 93 (dk_at dksX3_isRead_2 2 rfl rfl)
theorem dX3_isRead_51 : decode cX3_isRead 51 = .ok (.ldc2_w 159, 3) := dk_20 0 159 (dk_at dksX3_isRead_2 5 rfl rfl)
theorem dX3_isRead_54 : decode cX3_isRead 54 = .ok (.lcmp, 1) := dk_148 (dk_at dksX3_isRead_2 8 rfl rfl)
theorem dX3_isRead_55 : decode cX3_isRead 55 = .ok (.ifCond .eq 9, 3) := dk_153 0 9 (dk_at dksX3_isRead_2 9 rfl rfl)
theorem dX3_isRead_58 : decode cX3_isRead 58 = .ok (.aload_n 0, 1) := dk_42 (dk_at dksX3_isRead_2 12 rfl rfl)
theorem dX3_isRead_59 : decode cX3_isRead 59 = .ok (.iconst 1, 1) := dk_4 (dk_at dksX3_isRead_2 13 rfl rfl)
theorem dX3_isRead_60 : decode cX3_isRead 60 = .ok (.invokevirtual 113, 3) := dk_182 0 113 (dk_at dksX3_isRead_2 14 rfl rfl)
theorem dX3_isRead_63 : decode cX3_isRead 63 = .ok (.ireturn, 1) := dk_172 (dk_at dksX3_isRead_2 17 rfl rfl)
theorem dX3_isRead_64 : decode cX3_isRead 64 = .ok (.aload_n 0, 1) := dk_42 (dk_at dksX3_isRead_2 18 rfl rfl)
theorem dX3_isRead_65 : decode cX3_isRead 65 = .ok (.invokevirtual 167, 3) := dk_182 0 167 (dk_at dksX3_isRead_2 19 rfl rfl)
theorem dX3_isRead_68 : decode cX3_isRead 68 = .ok (.istore_n 1, 1) := dk_60 (dk_at dksX3_isRead_2 22 rfl rfl)
theorem dX3_isRead_69 : decode cX3_isRead 69 = .ok (.iload_n 1, 1) := dk_27 (dk_at dksX3_isRead_2 23 rfl rfl)
theorem dX3_isRead_70 : decode cX3_isRead 70 = .ok (.ifCond .eq 28, 3) := dk_153 0 28 (dk_at dksX3_isRead_3 0 rfl rfl)
theorem dX3_isRead_73 : decode cX3_isRead 73 = .ok (.aload_n 0, 1) := dk_42 (dk_at dksX3_isRead_3 3 rfl rfl)
theorem dX3_isRead_74 : decode cX3_isRead 74 = .ok (.invokevirtual 110, 3) := dk_182 0 110 (dk_at dksX3_isRead_3 4 rfl rfl)
theorem dX3_isRead_77 : decode cX3_isRead 77 = .ok (.aload_n 0, 1) := dk_42 (dk_at dksX3_isRead_3 7 rfl rfl)
theorem dX3_isRead_78 : decode cX3_isRead 78 = .ok (.getfield 93, 3) := dk_180 0 93 (dk_at dksX3_isRead_3 8 rfl rfl)
theorem dX3_isRead_81 : decode cX3_isRead 81 = .ok (.ldc2_w 91, 3) := dk_20 0 91 (dk_at dksX3_isRead_3 11 rfl rfl)
theorem dX3_isRead_84 : decode cX3_isRead 84 = .ok (.lcmp, 1) := dk_148 (dk_at dksX3_isRead_3 14 rfl rfl)
theorem dX3_isRead_85 : decode cX3_isRead 85 = .ok (.ifCond .ne 5, 3) := dk_154 0 5 (dk_at dksX3_isRead_3 15 rfl rfl)
theorem dX3_isRead_88 : decode cX3_isRead 88 = .ok (.iconst 1, 1) := dk_4 (dk_at dksX3_isRead_3 18 rfl rfl)
theorem dX3_isRead_89 : decode cX3_isRead 89 = .ok (.ireturn, 1) := dk_172 (dk_at dksX3_isRead_3 19 rfl rfl)
theorem dX3_isRead_90 : decode cX3_isRead 90 = .ok (.aload_n 0, 1) := dk_42 (dk_at dksX3_isRead_3 20 rfl rfl)
theorem dX3_isRead_91 : decode cX3_isRead 91 = .ok (.invokevirtual 170, 3) := dk_182 0 170 (dk_at dksX3_isRead_3 21 rfl rfl)
theorem dX3_isRead_94 : decode cX3_isRead 94 = .ok (.istore_n 1, 1) := dk_60 (dk_at dksX3_isRead_4 0 rfl rfl)
theorem dX3_isRead_95 : decode cX3_isRead 95 = .ok (.goto (-26), 3) := dk_167 255 230 (dk_at dksX3_isRead_4 1 rfl rfl)
theorem dX3_isRead_98 : decode cX3_isRead 98 = .ok (.iconst 0, 1) := dk_3 (dk_at dksX3_isRead_4 4 rfl rfl)
theorem dX3_isRead_99 : decode cX3_isRead 99 = .ok (.ireturn, 1) := dk_172 (dk_at dksX3_isRead_4 5 rfl rfl)
abbrev cX3_nextToken : ByteArray := prog_15_method_6_code
def yX3_nextToken : MethodName := ⟨RX3, "nextToken", "()V"⟩
def dkwX3_nextToken_16 : List UInt8 := [181, 0, 93, 42, 89, 180, 0, 79, 4, 96, 181, 0, 79, 177]
abbrev dktX3_nextToken_16 : List UInt8 := dkwX3_nextToken_16 ++ []
def dkwX3_nextToken_15 : List UInt8 := [180, 0, 17, 42, 180, 0, 79, 46, 16, 59, 160, 0, 9, 20, 0, 105, 167, 0, 6, 20, 0, 101]
abbrev dktX3_nextToken_15 : List UInt8 := dkwX3_nextToken_15 ++ dktX3_nextToken_16
def dkwX3_nextToken_14 : List UInt8 := [180, 0, 79, 4, 96, 181, 0, 79, 167, 255, 167, 42, 20, 0, 103, 181, 0, 93, 167, 0, 40, 42, 42]
abbrev dktX3_nextToken_14 : List UInt8 := dkwX3_nextToken_14 ++ dktX3_nextToken_15
def dkwX3_nextToken_13 : List UInt8 := [167, 0, 7, 42, 180, 0, 88, 181, 0, 88, 42, 89, 180, 0, 85, 4, 96, 181, 0, 85, 42, 89]
abbrev dktX3_nextToken_13 : List UInt8 := dkwX3_nextToken_13 ++ dktX3_nextToken_14
def dkwX3_nextToken_12 : List UInt8 := [162, 0, 26, 16, 10, 42, 180, 0, 88, 104, 42, 180, 0, 17, 42, 180, 0, 79, 46, 96, 16, 48, 100]
abbrev dktX3_nextToken_12 : List UInt8 := dkwX3_nextToken_12 ++ dktX3_nextToken_13
def dkwX3_nextToken_11 : List UInt8 := [180, 0, 17, 42, 180, 0, 79, 46, 16, 48, 16, 57, 184, 0, 68, 153, 0, 65, 42, 42, 180, 0, 85, 6]
abbrev dktX3_nextToken_11 : List UInt8 := dkwX3_nextToken_11 ++ dktX3_nextToken_12
def dkwX3_nextToken_10 : List UInt8 := [46, 16, 48, 16, 57, 184, 0, 68, 153, 0, 105, 42, 180, 0, 79, 42, 180, 0, 73, 162, 0, 84, 42]
abbrev dktX3_nextToken_10 : List UInt8 := dkwX3_nextToken_10 ++ dktX3_nextToken_11
def dkwX3_nextToken_9 : List UInt8 := [20, 0, 101, 167, 0, 7, 42, 180, 0, 93, 181, 0, 93, 167, 0, 161, 42, 180, 0, 17, 42, 180, 0, 79]
abbrev dktX3_nextToken_9 : List UInt8 := dkwX3_nextToken_9 ++ dktX3_nextToken_10
def dkwX3_nextToken_8 : List UInt8 := [4, 96, 181, 0, 79, 167, 255, 169, 42, 42, 180, 0, 79, 42, 180, 0, 82, 100, 16, 9, 164, 0, 9]
abbrev dktX3_nextToken_8 : List UInt8 := dkwX3_nextToken_8 ++ dktX3_nextToken_9
def dkwX3_nextToken_7 : List UInt8 := [180, 0, 79, 46, 133, 97, 20, 0, 99, 101, 167, 0, 6, 20, 0, 101, 181, 0, 93, 42, 89, 180, 0, 79]
abbrev dktX3_nextToken_7 : List UInt8 := dkwX3_nextToken_7 ++ dktX3_nextToken_8
def dkwX3_nextToken_6 : List UInt8 := [180, 0, 82, 100, 16, 9, 162, 0, 29, 20, 0, 97, 42, 180, 0, 93, 105, 42, 180, 0, 17, 42]
abbrev dktX3_nextToken_6 : List UInt8 := dkwX3_nextToken_6 ++ dktX3_nextToken_7
def dkwX3_nextToken_5 : List UInt8 := [180, 0, 17, 42, 180, 0, 79, 46, 16, 97, 16, 122, 184, 0, 68, 153, 0, 63, 42, 42, 180, 0, 79, 42]
abbrev dktX3_nextToken_5 : List UInt8 := dkwX3_nextToken_5 ++ dktX3_nextToken_6
def dkwX3_nextToken_4 : List UInt8 := [184, 0, 68, 153, 0, 129, 42, 9, 181, 0, 93, 42, 180, 0, 79, 42, 180, 0, 73, 162, 0, 82, 42]
abbrev dktX3_nextToken_4 : List UInt8 := dkwX3_nextToken_4 ++ dktX3_nextToken_5
def dkwX3_nextToken_3 : List UInt8 := [20, 0, 91, 181, 0, 93, 167, 1, 50, 42, 180, 0, 17, 42, 180, 0, 79, 46, 16, 97, 16, 122]
abbrev dktX3_nextToken_3 : List UInt8 := dkwX3_nextToken_3 ++ dktX3_nextToken_4
def dkwX3_nextToken_2 : List UInt8 := [42, 3, 181, 0, 85, 42, 3, 181, 0, 88, 42, 180, 0, 79, 42, 180, 0, 73, 160, 0, 13, 42]
abbrev dktX3_nextToken_2 : List UInt8 := dkwX3_nextToken_2 ++ dktX3_nextToken_3
def dkwX3_nextToken_1 : List UInt8 := [160, 0, 16, 42, 89, 180, 0, 79, 4, 96, 181, 0, 79, 167, 255, 221, 42, 42, 180, 0, 79, 181, 0, 82]
abbrev dktX3_nextToken_1 : List UInt8 := dkwX3_nextToken_1 ++ dktX3_nextToken_2
def dkwX3_nextToken_0 : List UInt8 := [42, 180, 0, 79, 42, 180, 0, 73, 162, 0, 30, 42, 180, 0, 17, 42, 180, 0, 79, 46, 16, 32]
abbrev dktX3_nextToken_0 : List UInt8 := dkwX3_nextToken_0 ++ dktX3_nextToken_1
theorem dksX3_nextToken_0 : cX3_nextToken.data.toList.drop 0 = dktX3_nextToken_0 := by decide +kernel
theorem dksX3_nextToken_1 : cX3_nextToken.data.toList.drop 22 = dktX3_nextToken_1 := dk_seg dksX3_nextToken_0 22 rfl rfl
theorem dksX3_nextToken_2 : cX3_nextToken.data.toList.drop 46 = dktX3_nextToken_2 := dk_seg dksX3_nextToken_1 24 rfl rfl
theorem dksX3_nextToken_3 : cX3_nextToken.data.toList.drop 68 = dktX3_nextToken_3 := dk_seg dksX3_nextToken_2 22 rfl rfl
theorem dksX3_nextToken_4 : cX3_nextToken.data.toList.drop 90 = dktX3_nextToken_4 := dk_seg dksX3_nextToken_3 22 rfl rfl
theorem dksX3_nextToken_5 : cX3_nextToken.data.toList.drop 113 = dktX3_nextToken_5 := dk_seg dksX3_nextToken_4 23 rfl rfl
theorem dksX3_nextToken_6 : cX3_nextToken.data.toList.drop 137 = dktX3_nextToken_6 := dk_seg dksX3_nextToken_5 24 rfl rfl
theorem dksX3_nextToken_7 : cX3_nextToken.data.toList.drop 159 = dktX3_nextToken_7 := dk_seg dksX3_nextToken_6 22 rfl rfl
theorem dksX3_nextToken_8 : cX3_nextToken.data.toList.drop 183 = dktX3_nextToken_8 := dk_seg dksX3_nextToken_7 24 rfl rfl
theorem dksX3_nextToken_9 : cX3_nextToken.data.toList.drop 206 = dktX3_nextToken_9 := dk_seg dksX3_nextToken_8 23 rfl rfl
theorem dksX3_nextToken_10 : cX3_nextToken.data.toList.drop 230 = dktX3_nextToken_10 := dk_seg dksX3_nextToken_9 24 rfl rfl
theorem dksX3_nextToken_11 : cX3_nextToken.data.toList.drop 253 = dktX3_nextToken_11 := dk_seg dksX3_nextToken_10 23 rfl rfl
theorem dksX3_nextToken_12 : cX3_nextToken.data.toList.drop 277 = dktX3_nextToken_12 := dk_seg dksX3_nextToken_11 24 rfl rfl
theorem dksX3_nextToken_13 : cX3_nextToken.data.toList.drop 300 = dktX3_nextToken_13 := dk_seg dksX3_nextToken_12 23 rfl rfl
theorem dksX3_nextToken_14 : cX3_nextToken.data.toList.drop 322 = dktX3_nextToken_14 := dk_seg dksX3_nextToken_13 22 rfl rfl
theorem dksX3_nextToken_15 : cX3_nextToken.data.toList.drop 345 = dktX3_nextToken_15 := dk_seg dksX3_nextToken_14 23 rfl rfl
theorem dksX3_nextToken_16 : cX3_nextToken.data.toList.drop 367 = dktX3_nextToken_16 := dk_seg dksX3_nextToken_15 22 rfl rfl
theorem dX3_nextToken_0 : decode cX3_nextToken 0 = .ok (.aload_n 0, 1) := dk_42 (dk_at dksX3_nextToken_0 0 rfl rfl)
theorem dX3_nextToken_1 : decode cX3_nextToken 1 = .ok (.getfield 79, 3) := dk_180 0 79 (dk_at dksX3_nextToken_0 1 rfl rfl)
theorem dX3_nextToken_4 : decode cX3_nextToken 4 = .ok (.aload_n 0, 1) := dk_42 (dk_at dksX3_nextToken_0 4 rfl rfl)
theorem dX3_nextToken_5 : decode cX3_nextToken 5 = .ok (.getfield 73, 3) := dk_180 0 73 (dk_at dksX3_nextToken_0 5 rfl rfl)
theorem dX3_nextToken_8 : decode cX3_nextToken 8 = .ok (.if_icmp .ge 30, 3) := dk_162 0 30 (dk_at dksX3_nextToken_0 8 rfl rfl)
theorem dX3_nextToken_11 : decode cX3_nextToken 11 = .ok (.aload_n 0, 1) := dk_42 (dk_at dksX3_nextToken_0 11 rfl rfl)
theorem dX3_nextToken_12 : decode cX3_nextToken 12 = .ok (.getfield 17, 3) := dk_180 0 17 (dk_at dksX3_nextToken_0 12 rfl rfl)
theorem dX3_nextToken_15 : decode cX3_nextToken 15 = .ok (.aload_n 0, 1) := dk_42 (dk_at dksX3_nextToken_0 15 rfl rfl)
theorem dX3_nextToken_16 : decode cX3_nextToken 16 = .ok (.getfield 79, 3) := dk_180 0 79 (dk_at dksX3_nextToken_0 16 rfl rfl)
theorem dX3_nextToken_19 : decode cX3_nextToken 19 = .ok (.iaload, 1) := dk_46 (dk_at dksX3_nextToken_0 19 rfl rfl)
theorem dX3_nextToken_20 : decode cX3_nextToken 20 = .ok (.bipush 32, 2) := dk_16 32 (dk_at dksX3_nextToken_0 20 rfl rfl)
theorem dX3_nextToken_22 : decode cX3_nextToken 22 = .ok (.if_icmp .ne 16, 3) := dk_160 0 16 (dk_at dksX3_nextToken_1 0 rfl rfl)
theorem dX3_nextToken_25 : decode cX3_nextToken 25 = .ok (.aload_n 0, 1) := dk_42 (dk_at dksX3_nextToken_1 3 rfl rfl)
theorem dX3_nextToken_26 : decode cX3_nextToken 26 = .ok (.dup, 1) := dk_89 (dk_at dksX3_nextToken_1 4 rfl rfl)
theorem dX3_nextToken_27 : decode cX3_nextToken 27 = .ok (.getfield 79, 3) := dk_180 0 79 (dk_at dksX3_nextToken_1 5 rfl rfl)
theorem dX3_nextToken_30 : decode cX3_nextToken 30 = .ok (.iconst 1, 1) := dk_4 (dk_at dksX3_nextToken_1 8 rfl rfl)
theorem dX3_nextToken_31 : decode cX3_nextToken 31 = .ok (.iadd, 1) := dk_96 (dk_at dksX3_nextToken_1 9 rfl rfl)
theorem dX3_nextToken_32 : decode cX3_nextToken 32 = .ok (.putfield 79, 3) := dk_181 0 79 (dk_at dksX3_nextToken_1 10 rfl rfl)
theorem dX3_nextToken_35 : decode cX3_nextToken 35 = .ok (.goto (-35), 3) := dk_167 255 221 (dk_at dksX3_nextToken_1 13 rfl rfl)
theorem dX3_nextToken_38 : decode cX3_nextToken 38 = .ok (.aload_n 0, 1) := dk_42 (dk_at dksX3_nextToken_1 16 rfl rfl)
theorem dX3_nextToken_39 : decode cX3_nextToken 39 = .ok (.aload_n 0, 1) := dk_42 (dk_at dksX3_nextToken_1 17 rfl rfl)
theorem dX3_nextToken_40 : decode cX3_nextToken 40 = .ok (.getfield 79, 3) := dk_180 0 79 (dk_at dksX3_nextToken_1 18 rfl rfl)
theorem dX3_nextToken_43 : decode cX3_nextToken 43 = .ok (.putfield 82, 3) := dk_181 0 82 (dk_at dksX3_nextToken_1 21 rfl rfl)
theorem dX3_nextToken_46 : decode cX3_nextToken 46 = .ok (.aload_n 0, 1) := dk_42 (dk_at dksX3_nextToken_2 0 rfl rfl)
theorem dX3_nextToken_47 : decode cX3_nextToken 47 = .ok (.iconst 0, 1) := dk_3 (dk_at dksX3_nextToken_2 1 rfl rfl)
theorem dX3_nextToken_48 : decode cX3_nextToken 48 = .ok (.putfield 85, 3) := dk_181 0 85 (dk_at dksX3_nextToken_2 2 rfl rfl)
theorem dX3_nextToken_51 : decode cX3_nextToken 51 = .ok (.aload_n 0, 1) := dk_42 (dk_at dksX3_nextToken_2 5 rfl rfl)
theorem dX3_nextToken_52 : decode cX3_nextToken 52 = .ok (.iconst 0, 1) := dk_3 (dk_at dksX3_nextToken_2 6 rfl rfl)
theorem dX3_nextToken_53 : decode cX3_nextToken 53 = .ok (.putfield 88, 3) := dk_181 0 88 (dk_at dksX3_nextToken_2 7 rfl rfl)
theorem dX3_nextToken_56 : decode cX3_nextToken 56 = .ok (.aload_n 0, 1) := dk_42 (dk_at dksX3_nextToken_2 10 rfl rfl)
theorem dX3_nextToken_57 : decode cX3_nextToken 57 = .ok (.getfield 79, 3) := dk_180 0 79 (dk_at dksX3_nextToken_2 11 rfl rfl)
theorem dX3_nextToken_60 : decode cX3_nextToken 60 = .ok (.aload_n 0, 1) := dk_42 (dk_at dksX3_nextToken_2 14 rfl rfl)
theorem dX3_nextToken_61 : decode cX3_nextToken 61 = .ok (.getfield 73, 3) := dk_180 0 73 (dk_at dksX3_nextToken_2 15 rfl rfl)
theorem dX3_nextToken_64 : decode cX3_nextToken 64 = .ok (.if_icmp .ne 13, 3) := dk_160 0 13 (dk_at dksX3_nextToken_2 18 rfl rfl)
theorem dX3_nextToken_67 : decode cX3_nextToken 67 = .ok (.aload_n 0, 1) := dk_42 (dk_at dksX3_nextToken_2 21 rfl rfl)
theorem dX3_nextToken_68 : decode cX3_nextToken 68 = .ok (.ldc2_w 91, 3) := dk_20 0 91 (dk_at dksX3_nextToken_3 0 rfl rfl)
theorem dX3_nextToken_71 : decode cX3_nextToken 71 = .ok (.putfield 93, 3) := dk_181 0 93 (dk_at dksX3_nextToken_3 3 rfl rfl)
theorem dX3_nextToken_74 : decode cX3_nextToken 74 = .ok (.goto 306, 3) := dk_167 1 50 (dk_at dksX3_nextToken_3 6 rfl rfl)
theorem dX3_nextToken_77 : decode cX3_nextToken 77 = .ok (.aload_n 0, 1) := dk_42 (dk_at dksX3_nextToken_3 9 rfl rfl)
theorem dX3_nextToken_78 : decode cX3_nextToken 78 = .ok (.getfield 17, 3) := dk_180 0 17 (dk_at dksX3_nextToken_3 10 rfl rfl)
theorem dX3_nextToken_81 : decode cX3_nextToken 81 = .ok (.aload_n 0, 1) := dk_42 (dk_at dksX3_nextToken_3 13 rfl rfl)
theorem dX3_nextToken_82 : decode cX3_nextToken 82 = .ok (.getfield 79, 3) := dk_180 0 79 (dk_at dksX3_nextToken_3 14 rfl rfl)
theorem dX3_nextToken_85 : decode cX3_nextToken 85 = .ok (.iaload, 1) := dk_46 (dk_at dksX3_nextToken_3 17 rfl rfl)
theorem dX3_nextToken_86 : decode cX3_nextToken 86 = .ok (.bipush 97, 2) := dk_16 97 (dk_at dksX3_nextToken_3 18 rfl rfl)
theorem dX3_nextToken_88 : decode cX3_nextToken 88 = .ok (.bipush 122, 2) := dk_16 122 (dk_at dksX3_nextToken_3 20 rfl rfl)
theorem dX3_nextToken_90 : decode cX3_nextToken 90 = .ok (.invokestatic 68, 3) := dk_184 0 68 (dk_at dksX3_nextToken_4 0 rfl rfl)
theorem dX3_nextToken_93 : decode cX3_nextToken 93 = .ok (.ifCond .eq 129, 3) := dk_153 0 129 (dk_at dksX3_nextToken_4 3 rfl rfl)
theorem dX3_nextToken_96 : decode cX3_nextToken 96 = .ok (.aload_n 0, 1) := dk_42 (dk_at dksX3_nextToken_4 6 rfl rfl)
theorem dX3_nextToken_97 : decode cX3_nextToken 97 = .ok (.lconst 0, 1) := dk_9 (dk_at dksX3_nextToken_4 7 rfl rfl)
theorem dX3_nextToken_98 : decode cX3_nextToken 98 = .ok (.putfield 93, 3) := dk_181 0 93 (dk_at dksX3_nextToken_4 8 rfl rfl)
theorem dX3_nextToken_101 : decode cX3_nextToken 101 = .ok (.aload_n 0, 1) := dk_42 (dk_at dksX3_nextToken_4 11 rfl rfl)
theorem dX3_nextToken_102 : decode cX3_nextToken 102 = .ok (.getfield 79, 3) := dk_180 0 79 (dk_at dksX3_nextToken_4 12 rfl rfl)
theorem dX3_nextToken_105 : decode cX3_nextToken 105 = .ok (.aload_n 0, 1) := dk_42 (dk_at dksX3_nextToken_4 15 rfl rfl)
theorem dX3_nextToken_106 : decode cX3_nextToken 106 = .ok (.getfield 73, 3) := dk_180 0 73 (dk_at dksX3_nextToken_4 16 rfl rfl)
theorem dX3_nextToken_109 : decode cX3_nextToken 109 = .ok (.if_icmp .ge 82, 3) := dk_162 0 82 (dk_at dksX3_nextToken_4 19 rfl rfl)
theorem dX3_nextToken_112 : decode cX3_nextToken 112 = .ok (.aload_n 0, 1) := dk_42 (dk_at dksX3_nextToken_4 22 rfl rfl)
theorem dX3_nextToken_113 : decode cX3_nextToken 113 = .ok (.getfield 17, 3) := dk_180 0 17 (dk_at dksX3_nextToken_5 0 rfl rfl)
theorem dX3_nextToken_116 : decode cX3_nextToken 116 = .ok (.aload_n 0, 1) := dk_42 (dk_at dksX3_nextToken_5 3 rfl rfl)
theorem dX3_nextToken_117 : decode cX3_nextToken 117 = .ok (.getfield 79, 3) := dk_180 0 79 (dk_at dksX3_nextToken_5 4 rfl rfl)
theorem dX3_nextToken_120 : decode cX3_nextToken 120 = .ok (.iaload, 1) := dk_46 (dk_at dksX3_nextToken_5 7 rfl rfl)
theorem dX3_nextToken_121 : decode cX3_nextToken 121 = .ok (.bipush 97, 2) := dk_16 97 (dk_at dksX3_nextToken_5 8 rfl rfl)
theorem dX3_nextToken_123 : decode cX3_nextToken 123 = .ok (.bipush 122, 2) := dk_16 122 (dk_at dksX3_nextToken_5 10 rfl rfl)
theorem dX3_nextToken_125 : decode cX3_nextToken 125 = .ok (.invokestatic 68, 3) := dk_184 0 68 (dk_at dksX3_nextToken_5 12 rfl rfl)
theorem dX3_nextToken_128 : decode cX3_nextToken 128 = .ok (.ifCond .eq 63, 3) := dk_153 0 63 (dk_at dksX3_nextToken_5 15 rfl rfl)
theorem dX3_nextToken_131 : decode cX3_nextToken 131 = .ok (.aload_n 0, 1) := dk_42 (dk_at dksX3_nextToken_5 18 rfl rfl)
theorem dX3_nextToken_132 : decode cX3_nextToken 132 = .ok (.aload_n 0, 1) := dk_42 (dk_at dksX3_nextToken_5 19 rfl rfl)
theorem dX3_nextToken_133 : decode cX3_nextToken 133 = .ok (.getfield 79, 3) := dk_180 0 79 (dk_at dksX3_nextToken_5 20 rfl rfl)
theorem dX3_nextToken_136 : decode cX3_nextToken 136 = .ok (.aload_n 0, 1) := dk_42 (dk_at dksX3_nextToken_5 23 rfl rfl)
theorem dX3_nextToken_137 : decode cX3_nextToken 137 = .ok (.getfield 82, 3) := dk_180 0 82 (dk_at dksX3_nextToken_6 0 rfl rfl)
theorem dX3_nextToken_140 : decode cX3_nextToken 140 = .ok (.isub, 1) := dk_100 (dk_at dksX3_nextToken_6 3 rfl rfl)
theorem dX3_nextToken_141 : decode cX3_nextToken 141 = .ok (.bipush 9, 2) := dk_16 9 (dk_at dksX3_nextToken_6 4 rfl rfl)
theorem dX3_nextToken_143 : decode cX3_nextToken 143 = .ok (.if_icmp .ge 29, 3) := dk_162 0 29 (dk_at dksX3_nextToken_6 6 rfl rfl)
theorem dX3_nextToken_146 : decode cX3_nextToken 146 = .ok (.ldc2_w 97, 3) := dk_20 0 97 (dk_at dksX3_nextToken_6 9 rfl rfl)
theorem dX3_nextToken_149 : decode cX3_nextToken 149 = .ok (.aload_n 0, 1) := dk_42 (dk_at dksX3_nextToken_6 12 rfl rfl)
theorem dX3_nextToken_150 : decode cX3_nextToken 150 = .ok (.getfield 93, 3) := dk_180 0 93 (dk_at dksX3_nextToken_6 13 rfl rfl)
theorem dX3_nextToken_153 : decode cX3_nextToken 153 = .ok (.lmul, 1) := dk_105 (dk_at dksX3_nextToken_6 16 rfl rfl)
theorem dX3_nextToken_154 : decode cX3_nextToken 154 = .ok (.aload_n 0, 1) := dk_42 (dk_at dksX3_nextToken_6 17 rfl rfl)
theorem dX3_nextToken_155 : decode cX3_nextToken 155 = .ok (.getfield 17, 3) := dk_180 0 17 (dk_at dksX3_nextToken_6 18 rfl rfl)
theorem dX3_nextToken_158 : decode cX3_nextToken 158 = .ok (.aload_n 0, 1) := dk_42 (dk_at dksX3_nextToken_6 21 rfl rfl)
theorem dX3_nextToken_159 : decode cX3_nextToken 159 = .ok (.getfield 79, 3) := dk_180 0 79 (dk_at dksX3_nextToken_7 0 rfl rfl)
theorem dX3_nextToken_162 : decode cX3_nextToken 162 = .ok (.iaload, 1) := dk_46 (dk_at dksX3_nextToken_7 3 rfl rfl)
theorem dX3_nextToken_163 : decode cX3_nextToken 163 = .ok (.i2l, 1) := dk_133 (dk_at dksX3_nextToken_7 4 rfl rfl)
theorem dX3_nextToken_164 : decode cX3_nextToken 164 = .ok (.ladd, 1) := dk_97 (dk_at dksX3_nextToken_7 5 rfl rfl)
theorem dX3_nextToken_165 : decode cX3_nextToken 165 = .ok (.ldc2_w 99, 3) := dk_20 0 99 (dk_at dksX3_nextToken_7 6 rfl rfl)
theorem dX3_nextToken_168 : decode cX3_nextToken 168 = .ok (.lsub, 1) := dk_101 (dk_at dksX3_nextToken_7 9 rfl rfl)
theorem dX3_nextToken_169 : decode cX3_nextToken 169 = .ok (.goto 6, 3) := dk_167 0 6 (dk_at dksX3_nextToken_7 10 rfl rfl)
theorem dX3_nextToken_172 : decode cX3_nextToken 172 = .ok (.ldc2_w 101, 3) := dk_20 0 101 (dk_at dksX3_nextToken_7 13 rfl rfl)
theorem dX3_nextToken_175 : decode cX3_nextToken 175 = .ok (.putfield 93, 3) := dk_181 0 93 (dk_at dksX3_nextToken_7 16 rfl rfl)
theorem dX3_nextToken_178 : decode cX3_nextToken 178 = .ok (.aload_n 0, 1) := dk_42 (dk_at dksX3_nextToken_7 19 rfl rfl)
theorem dX3_nextToken_179 : decode cX3_nextToken 179 = .ok (.dup, 1) := dk_89 (dk_at dksX3_nextToken_7 20 rfl rfl)
theorem dX3_nextToken_180 : decode cX3_nextToken 180 = .ok (.getfield 79, 3) := dk_180 0 79 (dk_at dksX3_nextToken_7 21 rfl rfl)
theorem dX3_nextToken_183 : decode cX3_nextToken 183 = .ok (.iconst 1, 1) := dk_4 (dk_at dksX3_nextToken_8 0 rfl rfl)
theorem dX3_nextToken_184 : decode cX3_nextToken 184 = .ok (.iadd, 1) := dk_96 (dk_at dksX3_nextToken_8 1 rfl rfl)
theorem dX3_nextToken_185 : decode cX3_nextToken 185 = .ok (.putfield 79, 3) := dk_181 0 79 (dk_at dksX3_nextToken_8 2 rfl rfl)
theorem dX3_nextToken_188 : decode cX3_nextToken 188 = .ok (.goto (-87), 3) := dk_167 255 169 (dk_at dksX3_nextToken_8 5 rfl rfl)
theorem dX3_nextToken_191 : decode cX3_nextToken 191 = .ok (.aload_n 0, 1) := dk_42 (dk_at dksX3_nextToken_8 8 rfl rfl)
theorem dX3_nextToken_192 : decode cX3_nextToken 192 = .ok (.aload_n 0, 1) := dk_42 (dk_at dksX3_nextToken_8 9 rfl rfl)
theorem dX3_nextToken_193 : decode cX3_nextToken 193 = .ok (.getfield 79, 3) := dk_180 0 79 (dk_at dksX3_nextToken_8 10 rfl rfl)
theorem dX3_nextToken_196 : decode cX3_nextToken 196 = .ok (.aload_n 0, 1) := dk_42 (dk_at dksX3_nextToken_8 13 rfl rfl)
theorem dX3_nextToken_197 : decode cX3_nextToken 197 = .ok (.getfield 82, 3) := dk_180 0 82 (dk_at dksX3_nextToken_8 14 rfl rfl)
theorem dX3_nextToken_200 : decode cX3_nextToken 200 = .ok (.isub, 1) := dk_100 (dk_at dksX3_nextToken_8 17 rfl rfl)
theorem dX3_nextToken_201 : decode cX3_nextToken 201 = .ok (.bipush 9, 2) := dk_16 9 (dk_at dksX3_nextToken_8 18 rfl rfl)
theorem dX3_nextToken_203 : decode cX3_nextToken 203 = .ok (.if_icmp .le 9, 3) := dk_164 0 9 (dk_at dksX3_nextToken_8 20 rfl rfl)
theorem dX3_nextToken_206 : decode cX3_nextToken 206 = .ok (.ldc2_w 101, 3) := dk_20 0 101 (dk_at dksX3_nextToken_9 0 rfl rfl)
theorem dX3_nextToken_209 : decode cX3_nextToken 209 = .ok (.goto 7, 3) := dk_167 0 7 (dk_at dksX3_nextToken_9 3 rfl rfl)
theorem dX3_nextToken_212 : decode cX3_nextToken 212 = .ok (.aload_n 0, 1) := dk_42 (dk_at dksX3_nextToken_9 6 rfl rfl)
theorem dX3_nextToken_213 : decode cX3_nextToken 213 = .ok (.getfield 93, 3) := dk_180 0 93 (dk_at dksX3_nextToken_9 7 rfl rfl)
theorem dX3_nextToken_216 : decode cX3_nextToken 216 = .ok (.putfield 93, 3) := dk_181 0 93 (dk_at dksX3_nextToken_9 10 rfl rfl)
theorem dX3_nextToken_219 : decode cX3_nextToken 219 = .ok (.goto 161, 3) := dk_167 0 161 (dk_at dksX3_nextToken_9 13 rfl rfl)
theorem dX3_nextToken_222 : decode cX3_nextToken 222 = .ok (.aload_n 0, 1) := dk_42 (dk_at dksX3_nextToken_9 16 rfl rfl)
theorem dX3_nextToken_223 : decode cX3_nextToken 223 = .ok (.getfield 17, 3) := dk_180 0 17 (dk_at dksX3_nextToken_9 17 rfl rfl)
theorem dX3_nextToken_226 : decode cX3_nextToken 226 = .ok (.aload_n 0, 1) := dk_42 (dk_at dksX3_nextToken_9 20 rfl rfl)
theorem dX3_nextToken_227 : decode cX3_nextToken 227 = .ok (.getfield 79, 3) := dk_180 0 79 (dk_at dksX3_nextToken_9 21 rfl rfl)
theorem dX3_nextToken_230 : decode cX3_nextToken 230 = .ok (.iaload, 1) := dk_46 (dk_at dksX3_nextToken_10 0 rfl rfl)
theorem dX3_nextToken_231 : decode cX3_nextToken 231 = .ok (.bipush 48, 2) := dk_16 48 (dk_at dksX3_nextToken_10 1 rfl rfl)
theorem dX3_nextToken_233 : decode cX3_nextToken 233 = .ok (.bipush 57, 2) := dk_16 57 (dk_at dksX3_nextToken_10 3 rfl rfl)
theorem dX3_nextToken_235 : decode cX3_nextToken 235 = .ok (.invokestatic 68, 3) := dk_184 0 68 (dk_at dksX3_nextToken_10 5 rfl rfl)
theorem dX3_nextToken_238 : decode cX3_nextToken 238 = .ok (.ifCond .eq 105, 3) := dk_153 0 105 (dk_at dksX3_nextToken_10 8 rfl rfl)
theorem dX3_nextToken_241 : decode cX3_nextToken 241 = .ok (.aload_n 0, 1) := dk_42 (dk_at dksX3_nextToken_10 11 rfl rfl)
theorem dX3_nextToken_242 : decode cX3_nextToken 242 = .ok (.getfield 79, 3) := dk_180 0 79 (dk_at dksX3_nextToken_10 12 rfl rfl)
theorem dX3_nextToken_245 : decode cX3_nextToken 245 = .ok (.aload_n 0, 1) := dk_42 (dk_at dksX3_nextToken_10 15 rfl rfl)
theorem dX3_nextToken_246 : decode cX3_nextToken 246 = .ok (.getfield 73, 3) := dk_180 0 73 (dk_at dksX3_nextToken_10 16 rfl rfl)
theorem dX3_nextToken_249 : decode cX3_nextToken 249 = .ok (.if_icmp .ge 84, 3) := dk_162 0 84 (dk_at dksX3_nextToken_10 19 rfl rfl)
theorem dX3_nextToken_252 : decode cX3_nextToken 252 = .ok (.aload_n 0, 1) := dk_42 (dk_at dksX3_nextToken_10 22 rfl rfl)
theorem dX3_nextToken_253 : decode cX3_nextToken 253 = .ok (.getfield 17, 3) := dk_180 0 17 (dk_at dksX3_nextToken_11 0 rfl rfl)
theorem dX3_nextToken_256 : decode cX3_nextToken 256 = .ok (.aload_n 0, 1) := dk_42 (dk_at dksX3_nextToken_11 3 rfl rfl)
theorem dX3_nextToken_257 : decode cX3_nextToken 257 = .ok (.getfield 79, 3) := dk_180 0 79 (dk_at dksX3_nextToken_11 4 rfl rfl)
theorem dX3_nextToken_260 : decode cX3_nextToken 260 = .ok (.iaload, 1) := dk_46 (dk_at dksX3_nextToken_11 7 rfl rfl)
theorem dX3_nextToken_261 : decode cX3_nextToken 261 = .ok (.bipush 48, 2) := dk_16 48 (dk_at dksX3_nextToken_11 8 rfl rfl)
theorem dX3_nextToken_263 : decode cX3_nextToken 263 = .ok (.bipush 57, 2) := dk_16 57 (dk_at dksX3_nextToken_11 10 rfl rfl)
theorem dX3_nextToken_265 : decode cX3_nextToken 265 = .ok (.invokestatic 68, 3) := dk_184 0 68 (dk_at dksX3_nextToken_11 12 rfl rfl)
theorem dX3_nextToken_268 : decode cX3_nextToken 268 = .ok (.ifCond .eq 65, 3) := dk_153 0 65 (dk_at dksX3_nextToken_11 15 rfl rfl)
theorem dX3_nextToken_271 : decode cX3_nextToken 271 = .ok (.aload_n 0, 1) := dk_42 (dk_at dksX3_nextToken_11 18 rfl rfl)
theorem dX3_nextToken_272 : decode cX3_nextToken 272 = .ok (.aload_n 0, 1) := dk_42 (dk_at dksX3_nextToken_11 19 rfl rfl)
theorem dX3_nextToken_273 : decode cX3_nextToken 273 = .ok (.getfield 85, 3) := dk_180 0 85 (dk_at dksX3_nextToken_11 20 rfl rfl)
theorem dX3_nextToken_276 : decode cX3_nextToken 276 = .ok (.iconst 3, 1) := dk_6 (dk_at dksX3_nextToken_11 23 rfl rfl)
theorem dX3_nextToken_277 : decode cX3_nextToken 277 = .ok (.if_icmp .ge 26, 3) := dk_162 0 26 (dk_at dksX3_nextToken_12 0 rfl rfl)
theorem dX3_nextToken_280 : decode cX3_nextToken 280 = .ok (.bipush 10, 2) := dk_16 10 (dk_at dksX3_nextToken_12 3 rfl rfl)
theorem dX3_nextToken_282 : decode cX3_nextToken 282 = .ok (.aload_n 0, 1) := dk_42 (dk_at dksX3_nextToken_12 5 rfl rfl)
theorem dX3_nextToken_283 : decode cX3_nextToken 283 = .ok (.getfield 88, 3) := dk_180 0 88 (dk_at dksX3_nextToken_12 6 rfl rfl)
theorem dX3_nextToken_286 : decode cX3_nextToken 286 = .ok (.imul, 1) := dk_104 (dk_at dksX3_nextToken_12 9 rfl rfl)
theorem dX3_nextToken_287 : decode cX3_nextToken 287 = .ok (.aload_n 0, 1) := dk_42 (dk_at dksX3_nextToken_12 10 rfl rfl)
theorem dX3_nextToken_288 : decode cX3_nextToken 288 = .ok (.getfield 17, 3) := dk_180 0 17 (dk_at dksX3_nextToken_12 11 rfl rfl)
theorem dX3_nextToken_291 : decode cX3_nextToken 291 = .ok (.aload_n 0, 1) := dk_42 (dk_at dksX3_nextToken_12 14 rfl rfl)
theorem dX3_nextToken_292 : decode cX3_nextToken 292 = .ok (.getfield 79, 3) := dk_180 0 79 (dk_at dksX3_nextToken_12 15 rfl rfl)
theorem dX3_nextToken_295 : decode cX3_nextToken 295 = .ok (.iaload, 1) := dk_46 (dk_at dksX3_nextToken_12 18 rfl rfl)
theorem dX3_nextToken_296 : decode cX3_nextToken 296 = .ok (.iadd, 1) := dk_96 (dk_at dksX3_nextToken_12 19 rfl rfl)
theorem dX3_nextToken_297 : decode cX3_nextToken 297 = .ok (.bipush 48, 2) := dk_16 48 (dk_at dksX3_nextToken_12 20 rfl rfl)
theorem dX3_nextToken_299 : decode cX3_nextToken 299 = .ok (.isub, 1) := dk_100 (dk_at dksX3_nextToken_12 22 rfl rfl)
theorem dX3_nextToken_300 : decode cX3_nextToken 300 = .ok (.goto 7, 3) := dk_167 0 7 (dk_at dksX3_nextToken_13 0 rfl rfl)
theorem dX3_nextToken_303 : decode cX3_nextToken 303 = .ok (.aload_n 0, 1) := dk_42 (dk_at dksX3_nextToken_13 3 rfl rfl)
theorem dX3_nextToken_304 : decode cX3_nextToken 304 = .ok (.getfield 88, 3) := dk_180 0 88 (dk_at dksX3_nextToken_13 4 rfl rfl)
theorem dX3_nextToken_307 : decode cX3_nextToken 307 = .ok (.putfield 88, 3) := dk_181 0 88 (dk_at dksX3_nextToken_13 7 rfl rfl)
theorem dX3_nextToken_310 : decode cX3_nextToken 310 = .ok (.aload_n 0, 1) := dk_42 (dk_at dksX3_nextToken_13 10 rfl rfl)
theorem dX3_nextToken_311 : decode cX3_nextToken 311 = .ok (.dup, 1) := dk_89 (dk_at dksX3_nextToken_13 11 rfl rfl)
theorem dX3_nextToken_312 : decode cX3_nextToken 312 = .ok (.getfield 85, 3) := dk_180 0 85 (dk_at dksX3_nextToken_13 12 rfl rfl)
theorem dX3_nextToken_315 : decode cX3_nextToken 315 = .ok (.iconst 1, 1) := dk_4 (dk_at dksX3_nextToken_13 15 rfl rfl)
theorem dX3_nextToken_316 : decode cX3_nextToken 316 = .ok (.iadd, 1) := dk_96 (dk_at dksX3_nextToken_13 16 rfl rfl)
theorem dX3_nextToken_317 : decode cX3_nextToken 317 = .ok (.putfield 85, 3) := dk_181 0 85 (dk_at dksX3_nextToken_13 17 rfl rfl)
theorem dX3_nextToken_320 : decode cX3_nextToken 320 = .ok (.aload_n 0, 1) := dk_42 (dk_at dksX3_nextToken_13 20 rfl rfl)
theorem dX3_nextToken_321 : decode cX3_nextToken 321 = .ok (.dup, 1) := dk_89 (dk_at dksX3_nextToken_13 21 rfl rfl)
theorem dX3_nextToken_322 : decode cX3_nextToken 322 = .ok (.getfield 79, 3) := dk_180 0 79 (dk_at dksX3_nextToken_14 0 rfl rfl)
theorem dX3_nextToken_325 : decode cX3_nextToken 325 = .ok (.iconst 1, 1) := dk_4 (dk_at dksX3_nextToken_14 3 rfl rfl)
theorem dX3_nextToken_326 : decode cX3_nextToken 326 = .ok (.iadd, 1) := dk_96 (dk_at dksX3_nextToken_14 4 rfl rfl)
theorem dX3_nextToken_327 : decode cX3_nextToken 327 = .ok (.putfield 79, 3) := dk_181 0 79 (dk_at dksX3_nextToken_14 5 rfl rfl)
theorem dX3_nextToken_330 : decode cX3_nextToken 330 = .ok (.goto (-89), 3) := dk_167 255 167 (dk_at dksX3_nextToken_14 8 rfl rfl)
theorem dX3_nextToken_333 : decode cX3_nextToken 333 = .ok (.aload_n 0, 1) := dk_42 (dk_at dksX3_nextToken_14 11 rfl rfl)
theorem dX3_nextToken_334 : decode cX3_nextToken 334 = .ok (.ldc2_w 103, 3) := dk_20 0 103 (dk_at dksX3_nextToken_14 12 rfl rfl)
theorem dX3_nextToken_337 : decode cX3_nextToken 337 = .ok (.putfield 93, 3) := dk_181 0 93 (dk_at dksX3_nextToken_14 15 rfl rfl)
theorem dX3_nextToken_340 : decode cX3_nextToken 340 = .ok (.goto 40, 3) := dk_167 0 40 (dk_at dksX3_nextToken_14 18 rfl rfl)
theorem dX3_nextToken_343 : decode cX3_nextToken 343 = .ok (.aload_n 0, 1) := dk_42 (dk_at dksX3_nextToken_14 21 rfl rfl)
theorem dX3_nextToken_344 : decode cX3_nextToken 344 = .ok (.aload_n 0, 1) := dk_42 (dk_at dksX3_nextToken_14 22 rfl rfl)
theorem dX3_nextToken_345 : decode cX3_nextToken 345 = .ok (.getfield 17, 3) := dk_180 0 17 (dk_at dksX3_nextToken_15 0 rfl rfl)
theorem dX3_nextToken_348 : decode cX3_nextToken 348 = .ok (.aload_n 0, 1) := dk_42 (dk_at dksX3_nextToken_15 3 rfl rfl)
theorem dX3_nextToken_349 : decode cX3_nextToken 349 = .ok (.getfield 79, 3) := dk_180 0 79 (dk_at dksX3_nextToken_15 4 rfl rfl)
theorem dX3_nextToken_352 : decode cX3_nextToken 352 = .ok (.iaload, 1) := dk_46 (dk_at dksX3_nextToken_15 7 rfl rfl)
theorem dX3_nextToken_353 : decode cX3_nextToken 353 = .ok (.bipush 59, 2) := dk_16 59 (dk_at dksX3_nextToken_15 8 rfl rfl)
theorem dX3_nextToken_355 : decode cX3_nextToken 355 = .ok (.if_icmp .ne 9, 3) := dk_160 0 9 (dk_at dksX3_nextToken_15 10 rfl rfl)
theorem dX3_nextToken_358 : decode cX3_nextToken 358 = .ok (.ldc2_w 105, 3) := dk_20 0 105 (dk_at dksX3_nextToken_15 13 rfl rfl)
theorem dX3_nextToken_361 : decode cX3_nextToken 361 = .ok (.goto 6, 3) := dk_167 0 6 (dk_at dksX3_nextToken_15 16 rfl rfl)
theorem dX3_nextToken_364 : decode cX3_nextToken 364 = .ok (.ldc2_w 101, 3) := dk_20 0 101 (dk_at dksX3_nextToken_15 19 rfl rfl)
theorem dX3_nextToken_367 : decode cX3_nextToken 367 = .ok (.putfield 93, 3) := dk_181 0 93 (dk_at dksX3_nextToken_16 0 rfl rfl)
theorem dX3_nextToken_370 : decode cX3_nextToken 370 = .ok (.aload_n 0, 1) := dk_42 (dk_at dksX3_nextToken_16 3 rfl rfl)
theorem dX3_nextToken_371 : decode cX3_nextToken 371 = .ok (.dup, 1) := dk_89 (dk_at dksX3_nextToken_16 4 rfl rfl)
theorem dX3_nextToken_372 : decode cX3_nextToken 372 = .ok (.getfield 79, 3) := dk_180 0 79 (dk_at dksX3_nextToken_16 5 rfl rfl)
theorem dX3_nextToken_375 : decode cX3_nextToken 375 = .ok (.iconst 1, 1) := dk_4 (dk_at dksX3_nextToken_16 8 rfl rfl)
theorem dX3_nextToken_376 : decode cX3_nextToken 376 = .ok (.iadd, 1) := dk_96 (dk_at dksX3_nextToken_16 9 rfl rfl)
theorem dX3_nextToken_377 : decode cX3_nextToken 377 = .ok (.putfield 79, 3) := dk_181 0 79 (dk_at dksX3_nextToken_16 10 rfl rfl)
theorem dX3_nextToken_380 : decode cX3_nextToken 380 = .ok (.return_, 1) := dk_177 (dk_at dksX3_nextToken_16 13 rfl rfl)
abbrev cX3_fails : ByteArray := prog_15_method_7_code
def yX3_fails : MethodName := ⟨RX3, "fails", "(I)Z"⟩
def dkwX3_fails_0 : List UInt8 := [42, 42, 180, 0, 82, 181, 0, 20, 42, 27, 181, 0, 107, 3, 172]
abbrev dktX3_fails_0 : List UInt8 := dkwX3_fails_0 ++ []
theorem dksX3_fails_0 : cX3_fails.data.toList.drop 0 = dktX3_fails_0 := by decide +kernel
theorem dX3_fails_0 : decode cX3_fails 0 = .ok (.aload_n 0, 1) := dk_42 (dk_at dksX3_fails_0 0 rfl rfl)
theorem dX3_fails_1 : decode cX3_fails 1 = .ok (.aload_n 0, 1) := dk_42 (dk_at dksX3_fails_0 1 rfl rfl)
theorem dX3_fails_2 : decode cX3_fails 2 = .ok (.getfield 82, 3) := dk_180 0 82 (dk_at dksX3_fails_0 2 rfl rfl)
theorem dX3_fails_5 : decode cX3_fails 5 = .ok (.putfield 20, 3) := dk_181 0 20 (dk_at dksX3_fails_0 5 rfl rfl)
theorem dX3_fails_8 : decode cX3_fails 8 = .ok (.aload_n 0, 1) := dk_42 (dk_at dksX3_fails_0 8 rfl rfl)
theorem dX3_fails_9 : decode cX3_fails 9 = .ok (.iload_n 1, 1) := dk_27 (dk_at dksX3_fails_0 9 rfl rfl)
theorem dX3_fails_10 : decode cX3_fails 10 = .ok (.putfield 107, 3) := dk_181 0 107 (dk_at dksX3_fails_0 10 rfl rfl)
theorem dX3_fails_13 : decode cX3_fails 13 = .ok (.iconst 0, 1) := dk_3 (dk_at dksX3_fails_0 13 rfl rfl)
theorem dX3_fails_14 : decode cX3_fails 14 = .ok (.ireturn, 1) := dk_172 (dk_at dksX3_fails_0 14 rfl rfl)
abbrev cX3_isDial : ByteArray := prog_15_method_10_code
def yX3_isDial : MethodName := ⟨RX3, "isDial", "()Z"⟩
def dkwX3_isDial_7 : List UInt8 := [182, 0, 136, 172]
abbrev dktX3_isDial_7 : List UInt8 := dkwX3_isDial_7 ++ []
def dkwX3_isDial_6 : List UInt8 := [132, 1, 1, 167, 255, 212, 42, 180, 0, 133, 16, 100, 164, 0, 11, 42, 5, 182, 0, 113, 167, 0, 7, 42]
abbrev dktX3_isDial_6 : List UInt8 := dkwX3_isDial_6 ++ dktX3_isDial_7
def dkwX3_isDial_5 : List UInt8 := [104, 16, 100, 164, 0, 9, 17, 3, 232, 167, 0, 12, 42, 180, 0, 133, 42, 180, 0, 127, 104, 181, 0, 133]
abbrev dktX3_isDial_5 : List UInt8 := dkwX3_isDial_5 ++ dktX3_isDial_6
def dkwX3_isDial_4 : List UInt8 := [42, 4, 181, 0, 133, 3, 60, 27, 42, 180, 0, 130, 162, 0, 42, 42, 42, 180, 0, 133, 42, 180, 0, 127]
abbrev dktX3_isDial_4 : List UInt8 := dkwX3_isDial_4 ++ dktX3_isDial_5
def dkwX3_isDial_3 : List UInt8 := [181, 0, 127, 42, 2, 4, 16, 6, 182, 0, 124, 154, 0, 5, 3, 172, 42, 42, 180, 0, 88, 181, 0, 130]
abbrev dktX3_isDial_3 : List UInt8 := dkwX3_isDial_3 ++ dktX3_isDial_4
def dkwX3_isDial_2 : List UInt8 := [4, 182, 0, 113, 172, 42, 2, 5, 16, 10, 182, 0, 124, 154, 0, 5, 3, 172, 42, 42, 180, 0, 88]
abbrev dktX3_isDial_2 : List UInt8 := dkwX3_isDial_2 ++ dktX3_isDial_3
def dkwX3_isDial_1 : List UInt8 := [20, 0, 119, 148, 154, 0, 7, 4, 167, 0, 4, 2, 181, 0, 121, 42, 180, 0, 121, 2, 160, 0, 9, 42]
abbrev dktX3_isDial_1 : List UInt8 := dkwX3_isDial_1 ++ dktX3_isDial_2
def dkwX3_isDial_0 : List UInt8 := [42, 182, 0, 110, 42, 42, 180, 0, 93, 20, 0, 117, 148, 154, 0, 7, 3, 167, 0, 19, 42, 180, 0, 93]
abbrev dktX3_isDial_0 : List UInt8 := dkwX3_isDial_0 ++ dktX3_isDial_1
theorem dksX3_isDial_0 : cX3_isDial.data.toList.drop 0 = dktX3_isDial_0 := by decide +kernel
theorem dksX3_isDial_1 : cX3_isDial.data.toList.drop 24 = dktX3_isDial_1 := dk_seg dksX3_isDial_0 24 rfl rfl
theorem dksX3_isDial_2 : cX3_isDial.data.toList.drop 48 = dktX3_isDial_2 := dk_seg dksX3_isDial_1 24 rfl rfl
theorem dksX3_isDial_3 : cX3_isDial.data.toList.drop 71 = dktX3_isDial_3 := dk_seg dksX3_isDial_2 23 rfl rfl
theorem dksX3_isDial_4 : cX3_isDial.data.toList.drop 95 = dktX3_isDial_4 := dk_seg dksX3_isDial_3 24 rfl rfl
theorem dksX3_isDial_5 : cX3_isDial.data.toList.drop 119 = dktX3_isDial_5 := dk_seg dksX3_isDial_4 24 rfl rfl
theorem dksX3_isDial_6 : cX3_isDial.data.toList.drop 143 = dktX3_isDial_6 := dk_seg dksX3_isDial_5 24 rfl rfl
theorem dksX3_isDial_7 : cX3_isDial.data.toList.drop 167 = dktX3_isDial_7 := dk_seg dksX3_isDial_6 24 rfl rfl
theorem dX3_isDial_0 : decode cX3_isDial 0 = .ok (.aload_n 0, 1) := dk_42 (dk_at dksX3_isDial_0 0 rfl rfl)
theorem dX3_isDial_1 : decode cX3_isDial 1 = .ok (.invokevirtual 110, 3) := dk_182 0 110 (dk_at dksX3_isDial_0 1 rfl rfl)
theorem dX3_isDial_4 : decode cX3_isDial 4 = .ok (.aload_n 0, 1) := dk_42 (dk_at dksX3_isDial_0 4 rfl rfl)
theorem dX3_isDial_5 : decode cX3_isDial 5 = .ok (.aload_n 0, 1) := dk_42 (dk_at dksX3_isDial_0 5 rfl rfl)
theorem dX3_isDial_6 : decode cX3_isDial 6 = .ok (.getfield 93, 3) := dk_180 0 93 (dk_at dksX3_isDial_0 6 rfl rfl)
theorem dX3_isDial_9 : decode cX3_isDial 9 = .ok (.ldc2_w 117, 3) := dk_20 0 117 (dk_at dksX3_isDial_0 9 rfl rfl)
theorem dX3_isDial_12 : decode cX3_isDial 12 = .ok (.lcmp, 1) := dk_148 (dk_at dksX3_isDial_0 12 rfl rfl)
theorem dX3_isDial_13 : decode cX3_isDial 13 = .ok (.ifCond .ne 7, 3) := dk_154 0 7 (dk_at dksX3_isDial_0 13 rfl rfl)
theorem dX3_isDial_16 : decode cX3_isDial 16 = .ok (.iconst 0, 1) := dk_3 (dk_at dksX3_isDial_0 16 rfl rfl)
theorem dX3_isDial_17 : decode cX3_isDial 17 = .ok (.goto 19, 3) := dk_167 0 19 (dk_at dksX3_isDial_0 17 rfl rfl)
theorem dX3_isDial_20 : decode cX3_isDial 20 = .ok (.aload_n 0, 1) := dk_42 (dk_at dksX3_isDial_0 20 rfl rfl)
theorem dX3_isDial_21 : decode cX3_isDial 21 = .ok (.getfield 93, 3) := dk_180 0 93 (dk_at dksX3_isDial_0 21 rfl rfl)
theorem dX3_isDial_24 : decode cX3_isDial 24 = .ok (.ldc2_w 119, 3) := dk_20 0 119 (dk_at dksX3_isDial_1 0 rfl rfl)
theorem dX3_isDial_27 : decode cX3_isDial 27 = .ok (.lcmp, 1) := dk_148 (dk_at dksX3_isDial_1 3 rfl rfl)
theorem dX3_isDial_28 : decode cX3_isDial 28 = .ok (.ifCond .ne 7, 3) := dk_154 0 7 (dk_at dksX3_isDial_1 4 rfl rfl)
theorem dX3_isDial_31 : decode cX3_isDial 31 = .ok (.iconst 1, 1) := dk_4 (dk_at dksX3_isDial_1 7 rfl rfl)
theorem dX3_isDial_32 : decode cX3_isDial 32 = .ok (.goto 4, 3) := dk_167 0 4 (dk_at dksX3_isDial_1 8 rfl rfl)
theorem dX3_isDial_35 : decode cX3_isDial 35 = .ok (.iconst (-1), 1) := dk_2 (dk_at dksX3_isDial_1 11 rfl rfl)
theorem dX3_isDial_36 : decode cX3_isDial 36 = .ok (.putfield 121, 3) := dk_181 0 121 (dk_at dksX3_isDial_1 12 rfl rfl)
theorem dX3_isDial_39 : decode cX3_isDial 39 = .ok (.aload_n 0, 1) := dk_42 (dk_at dksX3_isDial_1 15 rfl rfl)
theorem dX3_isDial_40 : decode cX3_isDial 40 = .ok (.getfield 121, 3) := dk_180 0 121 (dk_at dksX3_isDial_1 16 rfl rfl)
theorem dX3_isDial_43 : decode cX3_isDial 43 = .ok (.iconst (-1), 1) := dk_2 (dk_at dksX3_isDial_1 19 rfl rfl)
theorem dX3_isDial_44 : decode cX3_isDial 44 = .ok (.if_icmp .ne 9, 3) := dk_160 0 9 (dk_at dksX3_isDial_1 20 rfl rfl)
theorem dX3_isDial_47 : decode cX3_isDial 47 = .ok (.aload_n 0, 1) := dk_42 (dk_at dksX3_isDial_1 23 rfl rfl)
theorem dX3_isDial_48 : decode cX3_isDial 48 = .ok (.iconst 1, 1) := dk_4 (dk_at dksX3_isDial_2 0 rfl rfl)
theorem dX3_isDial_49 : decode cX3_isDial 49 = .ok (.invokevirtual 113, 3) := dk_182 0 113 (dk_at dksX3_isDial_2 1 rfl rfl)
theorem dX3_isDial_52 : decode cX3_isDial 52 = .ok (.ireturn, 1) := dk_172 (dk_at dksX3_isDial_2 4 rfl rfl)
theorem dX3_isDial_53 : decode cX3_isDial 53 = .ok (.aload_n 0, 1) := dk_42 (dk_at dksX3_isDial_2 5 rfl rfl)
theorem dX3_isDial_54 : decode cX3_isDial 54 = .ok (.iconst (-1), 1) := dk_2 (dk_at dksX3_isDial_2 6 rfl rfl)
theorem dX3_isDial_55 : decode cX3_isDial 55 = .ok (.iconst 2, 1) := dk_5 (dk_at dksX3_isDial_2 7 rfl rfl)
theorem dX3_isDial_56 : decode cX3_isDial 56 = .ok (.bipush 10, 2) := dk_16 10 (dk_at dksX3_isDial_2 8 rfl rfl)
theorem dX3_isDial_58 : decode cX3_isDial 58 = .ok (.invokevirtual 124, 3) := dk_182 0 124 (dk_at dksX3_isDial_2 10 rfl rfl)
theorem dX3_isDial_61 : decode cX3_isDial 61 = .ok (.ifCond .ne 5, 3) := dk_154 0 5 (dk_at dksX3_isDial_2 13 rfl rfl)
theorem dX3_isDial_64 : decode cX3_isDial 64 = .ok (.iconst 0, 1) := dk_3 (dk_at dksX3_isDial_2 16 rfl rfl)
theorem dX3_isDial_65 : decode cX3_isDial 65 = .ok (.ireturn, 1) := dk_172 (dk_at dksX3_isDial_2 17 rfl rfl)
theorem dX3_isDial_66 : decode cX3_isDial 66 = .ok (.aload_n 0, 1) := dk_42 (dk_at dksX3_isDial_2 18 rfl rfl)
theorem dX3_isDial_67 : decode cX3_isDial 67 = .ok (.aload_n 0, 1) := dk_42 (dk_at dksX3_isDial_2 19 rfl rfl)
theorem dX3_isDial_68 : decode cX3_isDial 68 = .ok (.getfield 88, 3) := dk_180 0 88 (dk_at dksX3_isDial_2 20 rfl rfl)
theorem dX3_isDial_71 : decode cX3_isDial 71 = .ok (.putfield 127, 3) := dk_181 0 127 (dk_at dksX3_isDial_3 0 rfl rfl)
theorem dX3_isDial_74 : decode cX3_isDial 74 = .ok (.aload_n 0, 1) := dk_42 (dk_at dksX3_isDial_3 3 rfl rfl)
theorem dX3_isDial_75 : decode cX3_isDial 75 = .ok (.iconst (-1), 1) := dk_2 (dk_at dksX3_isDial_3 4 rfl rfl)
theorem dX3_isDial_76 : decode cX3_isDial 76 = .ok (.iconst 1, 1) := dk_4 (dk_at dksX3_isDial_3 5 rfl rfl)
theorem dX3_isDial_77 : decode cX3_isDial 77 = .ok (.bipush 6, 2) := dk_16 6 (dk_at dksX3_isDial_3 6 rfl rfl)
theorem dX3_isDial_79 : decode cX3_isDial 79 = .ok (.invokevirtual 124, 3) := dk_182 0 124 (dk_at dksX3_isDial_3 8 rfl rfl)
theorem dX3_isDial_82 : decode cX3_isDial 82 = .ok (.ifCond .ne 5, 3) := dk_154 0 5 (dk_at dksX3_isDial_3 11 rfl rfl)
theorem dX3_isDial_85 : decode cX3_isDial 85 = .ok (.iconst 0, 1) := dk_3 (dk_at dksX3_isDial_3 14 rfl rfl)
theorem dX3_isDial_86 : decode cX3_isDial 86 = .ok (.ireturn, 1) := dk_172 (dk_at dksX3_isDial_3 15 rfl rfl)
theorem dX3_isDial_87 : decode cX3_isDial 87 = .ok (.aload_n 0, 1) := dk_42 (dk_at dksX3_isDial_3 16 rfl rfl)
theorem dX3_isDial_88 : decode cX3_isDial 88 = .ok (.aload_n 0, 1) := dk_42 (dk_at dksX3_isDial_3 17 rfl rfl)
theorem dX3_isDial_89 : decode cX3_isDial 89 = .ok (.getfield 88, 3) := dk_180 0 88 (dk_at dksX3_isDial_3 18 rfl rfl)
theorem dX3_isDial_92 : decode cX3_isDial 92 = .ok (.putfield 130, 3) := dk_181 0 130 (dk_at dksX3_isDial_3 21 rfl rfl)
theorem dX3_isDial_95 : decode cX3_isDial 95 = .ok (.aload_n 0, 1) := dk_42 (dk_at dksX3_isDial_4 0 rfl rfl)
theorem dX3_isDial_96 : decode cX3_isDial 96 = .ok (.iconst 1, 1) := dk_4 (dk_at dksX3_isDial_4 1 rfl rfl)
theorem dX3_isDial_97 : decode cX3_isDial 97 = .ok (.putfield 133, 3) := dk_181 0 133 (dk_at dksX3_isDial_4 2 rfl rfl)
theorem dX3_isDial_100 : decode cX3_isDial 100 = .ok (.iconst 0, 1) := dk_3 (dk_at dksX3_isDial_4 5 rfl rfl)
theorem dX3_isDial_101 : decode cX3_isDial 101 = .ok (.istore_n 1, 1) := dk_60 (dk_at dksX3_isDial_4 6 rfl rfl)
theorem dX3_isDial_102 : decode cX3_isDial 102 = .ok (.iload_n 1, 1) := dk_27 (dk_at dksX3_isDial_4 7 rfl rfl)
theorem dX3_isDial_103 : decode cX3_isDial 103 = .ok (.aload_n 0, 1) := dk_42 (dk_at dksX3_isDial_4 8 rfl rfl)
theorem dX3_isDial_104 : decode cX3_isDial 104 = .ok (.getfield 130, 3) := dk_180 0 130 (dk_at dksX3_isDial_4 9 rfl rfl)
theorem dX3_isDial_107 : decode cX3_isDial 107 = .ok (.if_icmp .ge 42, 3) := dk_162 0 42 (dk_at dksX3_isDial_4 12 rfl rfl)
theorem dX3_isDial_110 : decode cX3_isDial 110 = .ok (.aload_n 0, 1) := dk_42 (dk_at dksX3_isDial_4 15 rfl rfl)
theorem dX3_isDial_111 : decode cX3_isDial 111 = .ok (.aload_n 0, 1) := dk_42 (dk_at dksX3_isDial_4 16 rfl rfl)
theorem dX3_isDial_112 : decode cX3_isDial 112 = .ok (.getfield 133, 3) := dk_180 0 133 (dk_at dksX3_isDial_4 17 rfl rfl)
theorem dX3_isDial_115 : decode cX3_isDial 115 = .ok (.aload_n 0, 1) := dk_42 (dk_at dksX3_isDial_4 20 rfl rfl)
theorem dX3_isDial_116 : decode cX3_isDial 116 = .ok (.getfield 127, 3) := dk_180 0 127 (dk_at dksX3_isDial_4 21 rfl rfl)
theorem dX3_isDial_119 : decode cX3_isDial 119 = .ok (.imul, 1) := dk_104 (dk_at dksX3_isDial_5 0 rfl rfl)
theorem dX3_isDial_120 : decode cX3_isDial 120 = .ok (.bipush 100, 2) := dk_16 100 (dk_at dksX3_isDial_5 1 rfl rfl)
theorem dX3_isDial_122 : decode cX3_isDial 122 = .ok (.if_icmp .le 9, 3) := dk_164 0 9 (dk_at dksX3_isDial_5 3 rfl rfl)
theorem dX3_isDial_125 : decode cX3_isDial 125 = .ok (.sipush 1000, 3) := dk_17 3 232 (dk_at dksX3_isDial_5 6 rfl rfl)
theorem dX3_isDial_128 : decode cX3_isDial 128 = .ok (.goto 12, 3) := dk_167 0 12 (dk_at dksX3_isDial_5 9 rfl rfl)
theorem dX3_isDial_131 : decode cX3_isDial 131 = .ok (.aload_n 0, 1) := dk_42 (dk_at dksX3_isDial_5 12 rfl rfl)
theorem dX3_isDial_132 : decode cX3_isDial 132 = .ok (.getfield 133, 3) := dk_180 0 133 (dk_at dksX3_isDial_5 13 rfl rfl)
theorem dX3_isDial_135 : decode cX3_isDial 135 = .ok (.aload_n 0, 1) := dk_42 (dk_at dksX3_isDial_5 16 rfl rfl)
theorem dX3_isDial_136 : decode cX3_isDial 136 = .ok (.getfield 127, 3) := dk_180 0 127 (dk_at dksX3_isDial_5 17 rfl rfl)
theorem dX3_isDial_139 : decode cX3_isDial 139 = .ok (.imul, 1) := dk_104 (dk_at dksX3_isDial_5 20 rfl rfl)
theorem dX3_isDial_140 : decode cX3_isDial 140 = .ok (.putfield 133, 3) := dk_181 0 133 (dk_at dksX3_isDial_5 21 rfl rfl)
theorem dX3_isDial_143 : decode cX3_isDial 143 = .ok (.iinc 1 1, 3) := dk_132 1 1 (dk_at dksX3_isDial_6 0 rfl rfl)
theorem dX3_isDial_146 : decode cX3_isDial 146 = .ok (.goto (-44), 3) := dk_167 255 212 (dk_at dksX3_isDial_6 3 rfl rfl)
theorem dX3_isDial_149 : decode cX3_isDial 149 = .ok (.aload_n 0, 1) := dk_42 (dk_at dksX3_isDial_6 6 rfl rfl)
theorem dX3_isDial_150 : decode cX3_isDial 150 = .ok (.getfield 133, 3) := dk_180 0 133 (dk_at dksX3_isDial_6 7 rfl rfl)
theorem dX3_isDial_153 : decode cX3_isDial 153 = .ok (.bipush 100, 2) := dk_16 100 (dk_at dksX3_isDial_6 10 rfl rfl)
theorem dX3_isDial_155 : decode cX3_isDial 155 = .ok (.if_icmp .le 11, 3) := dk_164 0 11 (dk_at dksX3_isDial_6 12 rfl rfl)
theorem dX3_isDial_158 : decode cX3_isDial 158 = .ok (.aload_n 0, 1) := dk_42 (dk_at dksX3_isDial_6 15 rfl rfl)
theorem dX3_isDial_159 : decode cX3_isDial 159 = .ok (.iconst 2, 1) := dk_5 (dk_at dksX3_isDial_6 16 rfl rfl)
theorem dX3_isDial_160 : decode cX3_isDial 160 = .ok (.invokevirtual 113, 3) := dk_182 0 113 (dk_at dksX3_isDial_6 17 rfl rfl)
theorem dX3_isDial_163 : decode cX3_isDial 163 = .ok (.goto 7, 3) := dk_167 0 7 (dk_at dksX3_isDial_6 20 rfl rfl)
theorem dX3_isDial_166 : decode cX3_isDial 166 = .ok (.aload_n 0, 1) := dk_42 (dk_at dksX3_isDial_6 23 rfl rfl)
theorem dX3_isDial_167 : decode cX3_isDial 167 = .ok (.invokevirtual 136, 3) := dk_182 0 136 (dk_at dksX3_isDial_7 0 rfl rfl)
theorem dX3_isDial_170 : decode cX3_isDial 170 = .ok (.ireturn, 1) := dk_172 (dk_at dksX3_isDial_7 3 rfl rfl)
abbrev cX3_isNext : ByteArray := prog_15_method_8_code
def yX3_isNext : MethodName := ⟨RX3, "isNext", "(III)Z"⟩
def dkwX3_isNext_2 : List UInt8 := [172, 27, 155, 0, 13, 42, 180, 0, 23, 27, 42, 180, 0, 88, 79, 4, 172]
abbrev dktX3_isNext_2 : List UInt8 := dkwX3_isNext_2 ++ []
def dkwX3_isNext_1 : List UInt8 := [180, 0, 85, 6, 163, 0, 15, 42, 180, 0, 88, 28, 29, 184, 0, 68, 154, 0, 9, 42, 5, 182, 0, 113]
abbrev dktX3_isNext_1 : List UInt8 := dkwX3_isNext_1 ++ dktX3_isNext_2
def dkwX3_isNext_0 : List UInt8 := [42, 182, 0, 110, 42, 180, 0, 93, 20, 0, 103, 148, 153, 0, 9, 42, 4, 182, 0, 113, 172, 42]
abbrev dktX3_isNext_0 : List UInt8 := dkwX3_isNext_0 ++ dktX3_isNext_1
theorem dksX3_isNext_0 : cX3_isNext.data.toList.drop 0 = dktX3_isNext_0 := by decide +kernel
theorem dksX3_isNext_1 : cX3_isNext.data.toList.drop 22 = dktX3_isNext_1 := dk_seg dksX3_isNext_0 22 rfl rfl
theorem dksX3_isNext_2 : cX3_isNext.data.toList.drop 46 = dktX3_isNext_2 := dk_seg dksX3_isNext_1 24 rfl rfl
theorem dX3_isNext_0 : decode cX3_isNext 0 = .ok (.aload_n 0, 1) := dk_42 (dk_at dksX3_isNext_0 0 rfl rfl)
theorem dX3_isNext_1 : decode cX3_isNext 1 = .ok (.invokevirtual 110, 3) := dk_182 0 110 (dk_at dksX3_isNext_0 1 rfl rfl)
theorem dX3_isNext_4 : decode cX3_isNext 4 = .ok (.aload_n 0, 1) := dk_42 (dk_at dksX3_isNext_0 4 rfl rfl)
theorem dX3_isNext_5 : decode cX3_isNext 5 = .ok (.getfield 93, 3) := dk_180 0 93 (dk_at dksX3_isNext_0 5 rfl rfl)
theorem dX3_isNext_8 : decode cX3_isNext 8 = .ok (.ldc2_w 103, 3) := dk_20 0 103 (dk_at dksX3_isNext_0 8 rfl rfl)
theorem dX3_isNext_11 : decode cX3_isNext 11 = .ok (.lcmp, 1) := dk_148 (dk_at dksX3_isNext_0 11 rfl rfl)
theorem dX3_isNext_12 : decode cX3_isNext 12 = .ok (.ifCond .eq 9, 3) := dk_153 0 9 (dk_at dksX3_isNext_0 12 rfl rfl)
theorem dX3_isNext_15 : decode cX3_isNext 15 = .ok (.aload_n 0, 1) := dk_42 (dk_at dksX3_isNext_0 15 rfl rfl)
theorem dX3_isNext_16 : decode cX3_isNext 16 = .ok (.iconst 1, 1) := dk_4 (dk_at dksX3_isNext_0 16 rfl rfl)
theorem dX3_isNext_17 : decode cX3_isNext 17 = .ok (.invokevirtual 113, 3) := dk_182 0 113 (dk_at dksX3_isNext_0 17 rfl rfl)
theorem dX3_isNext_20 : decode cX3_isNext 20 = .ok (.ireturn, 1) := dk_172 (dk_at dksX3_isNext_0 20 rfl rfl)
theorem dX3_isNext_21 : decode cX3_isNext 21 = .ok (.aload_n 0, 1) := dk_42 (dk_at dksX3_isNext_0 21 rfl rfl)
theorem dX3_isNext_22 : decode cX3_isNext 22 = .ok (.getfield 85, 3) := dk_180 0 85 (dk_at dksX3_isNext_1 0 rfl rfl)
theorem dX3_isNext_25 : decode cX3_isNext 25 = .ok (.iconst 3, 1) := dk_6 (dk_at dksX3_isNext_1 3 rfl rfl)
theorem dX3_isNext_26 : decode cX3_isNext 26 = .ok (.if_icmp .gt 15, 3) := dk_163 0 15 (dk_at dksX3_isNext_1 4 rfl rfl)
theorem dX3_isNext_29 : decode cX3_isNext 29 = .ok (.aload_n 0, 1) := dk_42 (dk_at dksX3_isNext_1 7 rfl rfl)
theorem dX3_isNext_30 : decode cX3_isNext 30 = .ok (.getfield 88, 3) := dk_180 0 88 (dk_at dksX3_isNext_1 8 rfl rfl)
theorem dX3_isNext_33 : decode cX3_isNext 33 = .ok (.iload_n 2, 1) := dk_28 (dk_at dksX3_isNext_1 11 rfl rfl)
theorem dX3_isNext_34 : decode cX3_isNext 34 = .ok (.iload_n 3, 1) := dk_29 (dk_at dksX3_isNext_1 12 rfl rfl)
theorem dX3_isNext_35 : decode cX3_isNext 35 = .ok (.invokestatic 68, 3) := dk_184 0 68 (dk_at dksX3_isNext_1 13 rfl rfl)
theorem dX3_isNext_38 : decode cX3_isNext 38 = .ok (.ifCond .ne 9, 3) := dk_154 0 9 (dk_at dksX3_isNext_1 16 rfl rfl)
theorem dX3_isNext_41 : decode cX3_isNext 41 = .ok (.aload_n 0, 1) := dk_42 (dk_at dksX3_isNext_1 19 rfl rfl)
theorem dX3_isNext_42 : decode cX3_isNext 42 = .ok (.iconst 2, 1) := dk_5 (dk_at dksX3_isNext_1 20 rfl rfl)
theorem dX3_isNext_43 : decode cX3_isNext 43 = .ok (.invokevirtual 113, 3) := dk_182 0 113 (dk_at dksX3_isNext_1 21 rfl rfl)
theorem dX3_isNext_46 : decode cX3_isNext 46 = .ok (.ireturn, 1) := dk_172 (dk_at dksX3_isNext_2 0 rfl rfl)
theorem dX3_isNext_47 : decode cX3_isNext 47 = .ok (.iload_n 1, 1) := dk_27 (dk_at dksX3_isNext_2 1 rfl rfl)
theorem dX3_isNext_48 : decode cX3_isNext 48 = .ok (.ifCond .lt 13, 3) := dk_155 0 13 (dk_at dksX3_isNext_2 2 rfl rfl)
theorem dX3_isNext_51 : decode cX3_isNext 51 = .ok (.aload_n 0, 1) := dk_42 (dk_at dksX3_isNext_2 5 rfl rfl)
theorem dX3_isNext_52 : decode cX3_isNext 52 = .ok (.getfield 23, 3) := dk_180 0 23 (dk_at dksX3_isNext_2 6 rfl rfl)
theorem dX3_isNext_55 : decode cX3_isNext 55 = .ok (.iload_n 1, 1) := dk_27 (dk_at dksX3_isNext_2 9 rfl rfl)
theorem dX3_isNext_56 : decode cX3_isNext 56 = .ok (.aload_n 0, 1) := dk_42 (dk_at dksX3_isNext_2 10 rfl rfl)
theorem dX3_isNext_57 : decode cX3_isNext 57 = .ok (.getfield 88, 3) := dk_180 0 88 (dk_at dksX3_isNext_2 11 rfl rfl)
theorem dX3_isNext_60 : decode cX3_isNext 60 = .ok (.iastore, 1) := dk_79 (dk_at dksX3_isNext_2 14 rfl rfl)
theorem dX3_isNext_61 : decode cX3_isNext 61 = .ok (.iconst 1, 1) := dk_4 (dk_at dksX3_isNext_2 15 rfl rfl)
theorem dX3_isNext_62 : decode cX3_isNext 62 = .ok (.ireturn, 1) := dk_172 (dk_at dksX3_isNext_2 16 rfl rfl)
abbrev cX3_ends : ByteArray := prog_15_method_9_code
def yX3_ends : MethodName := ⟨RX3, "ends", "()Z"⟩
def dkwX3_ends_1 : List UInt8 := [167, 0, 4, 3, 172]
abbrev dktX3_ends_1 : List UInt8 := dkwX3_ends_1 ++ []
def dkwX3_ends_0 : List UInt8 := [42, 182, 0, 110, 42, 180, 0, 93, 20, 0, 105, 148, 153, 0, 11, 42, 4, 182, 0, 113, 153, 0, 7, 4]
abbrev dktX3_ends_0 : List UInt8 := dkwX3_ends_0 ++ dktX3_ends_1
theorem dksX3_ends_0 : cX3_ends.data.toList.drop 0 = dktX3_ends_0 := by decide +kernel
theorem dksX3_ends_1 : cX3_ends.data.toList.drop 24 = dktX3_ends_1 := dk_seg dksX3_ends_0 24 rfl rfl
theorem dX3_ends_0 : decode cX3_ends 0 = .ok (.aload_n 0, 1) := dk_42 (dk_at dksX3_ends_0 0 rfl rfl)
theorem dX3_ends_1 : decode cX3_ends 1 = .ok (.invokevirtual 110, 3) := dk_182 0 110 (dk_at dksX3_ends_0 1 rfl rfl)
theorem dX3_ends_4 : decode cX3_ends 4 = .ok (.aload_n 0, 1) := dk_42 (dk_at dksX3_ends_0 4 rfl rfl)
theorem dX3_ends_5 : decode cX3_ends 5 = .ok (.getfield 93, 3) := dk_180 0 93 (dk_at dksX3_ends_0 5 rfl rfl)
theorem dX3_ends_8 : decode cX3_ends 8 = .ok (.ldc2_w 105, 3) := dk_20 0 105 (dk_at dksX3_ends_0 8 rfl rfl)
theorem dX3_ends_11 : decode cX3_ends 11 = .ok (.lcmp, 1) := dk_148 (dk_at dksX3_ends_0 11 rfl rfl)
theorem dX3_ends_12 : decode cX3_ends 12 = .ok (.ifCond .eq 11, 3) := dk_153 0 11 (dk_at dksX3_ends_0 12 rfl rfl)
theorem dX3_ends_15 : decode cX3_ends 15 = .ok (.aload_n 0, 1) := dk_42 (dk_at dksX3_ends_0 15 rfl rfl)
theorem dX3_ends_16 : decode cX3_ends 16 = .ok (.iconst 1, 1) := dk_4 (dk_at dksX3_ends_0 16 rfl rfl)
theorem dX3_ends_17 : decode cX3_ends 17 = .ok (.invokevirtual 113, 3) := dk_182 0 113 (dk_at dksX3_ends_0 17 rfl rfl)
theorem dX3_ends_20 : decode cX3_ends 20 = .ok (.ifCond .eq 7, 3) := dk_153 0 7 (dk_at dksX3_ends_0 20 rfl rfl)
theorem dX3_ends_23 : decode cX3_ends 23 = .ok (.iconst 1, 1) := dk_4 (dk_at dksX3_ends_0 23 rfl rfl)
theorem dX3_ends_24 : decode cX3_ends 24 = .ok (.goto 4, 3) := dk_167 0 4 (dk_at dksX3_ends_1 0 rfl rfl)
theorem dX3_ends_27 : decode cX3_ends 27 = .ok (.iconst 0, 1) := dk_3 (dk_at dksX3_ends_1 3 rfl rfl)
theorem dX3_ends_28 : decode cX3_ends 28 = .ok (.ireturn, 1) := dk_172 (dk_at dksX3_ends_1 4 rfl rfl)
abbrev cX3_isKey : ByteArray := prog_15_method_13_code
def yX3_isKey : MethodName := ⟨RX3, "isKey", "()Z"⟩
def dkwX3_isKey_13 : List UInt8 := [167, 0, 4, 3, 172]
abbrev dktX3_isKey_13 : List UInt8 := dkwX3_isKey_13 ++ []
def dkwX3_isKey_12 : List UInt8 := [153, 0, 7, 4, 167, 0, 4, 3, 62, 29, 153, 0, 15, 42, 28, 182, 0, 146, 153, 0, 7, 4]
abbrev dktX3_isKey_12 : List UInt8 := dkwX3_isKey_12 ++ dktX3_isKey_13
def dkwX3_isKey_11 : List UInt8 := [153, 0, 30, 27, 16, 7, 160, 0, 20, 42, 28, 6, 96, 3, 42, 180, 0, 127, 4, 100, 182, 0, 124]
abbrev dktX3_isKey_11 : List UInt8 := dkwX3_isKey_11 ++ dktX3_isKey_12
def dkwX3_isKey_10 : List UInt8 := [5, 96, 3, 42, 180, 0, 127, 4, 100, 182, 0, 124, 153, 0, 7, 4, 167, 0, 4, 3, 62, 29]
abbrev dktX3_isKey_10 : List UInt8 := dkwX3_isKey_10 ++ dktX3_isKey_11
def dkwX3_isKey_9 : List UInt8 := [27, 16, 6, 160, 0, 9, 42, 28, 182, 0, 164, 172, 27, 153, 0, 9, 27, 16, 7, 160, 0, 20, 42, 28]
abbrev dktX3_isKey_9 : List UInt8 := dkwX3_isKey_9 ++ dktX3_isKey_10
def dkwX3_isKey_8 : List UInt8 := [180, 0, 23, 28, 27, 79, 42, 180, 0, 23, 28, 5, 96, 2, 79, 42, 180, 0, 23, 28, 6, 96, 2, 79]
abbrev dktX3_isKey_8 : List UInt8 := dkwX3_isKey_8 ++ dktX3_isKey_9
def dkwX3_isKey_7 : List UInt8 := [42, 6, 182, 0, 113, 172, 7, 42, 180, 0, 161, 104, 61, 42, 89, 180, 0, 161, 4, 96, 181, 0, 161, 42]
abbrev dktX3_isKey_7 : List UInt8 := dkwX3_isKey_7 ++ dktX3_isKey_8
def dkwX3_isKey_6 : List UInt8 := [182, 0, 113, 172, 27, 2, 160, 0, 9, 42, 4, 182, 0, 113, 172, 42, 180, 0, 161, 16, 8, 160, 0, 9]
abbrev dktX3_isKey_6 : List UInt8 := dkwX3_isKey_6 ++ dktX3_isKey_7
def dkwX3_isKey_5 : List UInt8 := [154, 0, 8, 16, 7, 167, 0, 4, 27, 60, 42, 180, 0, 93, 20, 0, 159, 148, 154, 0, 9, 42, 6]
abbrev dktX3_isKey_5 : List UInt8 := dkwX3_isKey_5 ++ dktX3_isKey_6
def dkwX3_isKey_4 : List UInt8 := [42, 180, 0, 93, 20, 0, 155, 148, 154, 0, 8, 16, 6, 167, 0, 20, 42, 180, 0, 93, 20, 0, 157, 148]
abbrev dktX3_isKey_4 : List UInt8 := dkwX3_isKey_4 ++ dktX3_isKey_5
def dkwX3_isKey_3 : List UInt8 := [154, 0, 7, 7, 167, 0, 4, 2, 60, 42, 180, 0, 93, 20, 0, 153, 148, 154, 0, 7, 8, 167, 0, 36]
abbrev dktX3_isKey_3 : List UInt8 := dkwX3_isKey_3 ++ dktX3_isKey_4
def dkwX3_isKey_2 : List UInt8 := [180, 0, 93, 20, 0, 144, 148, 154, 0, 7, 6, 167, 0, 19, 42, 180, 0, 93, 20, 0, 151, 148]
abbrev dktX3_isKey_2 : List UInt8 := dkwX3_isKey_2 ++ dktX3_isKey_3
def dkwX3_isKey_1 : List UInt8 := [154, 0, 7, 4, 167, 0, 49, 42, 180, 0, 93, 20, 0, 142, 148, 154, 0, 7, 5, 167, 0, 34, 42]
abbrev dktX3_isKey_1 : List UInt8 := dkwX3_isKey_1 ++ dktX3_isKey_2
def dkwX3_isKey_0 : List UInt8 := [42, 180, 0, 93, 20, 0, 149, 148, 154, 0, 7, 3, 167, 0, 64, 42, 180, 0, 93, 20, 0, 140, 148]
abbrev dktX3_isKey_0 : List UInt8 := dkwX3_isKey_0 ++ dktX3_isKey_1
theorem dksX3_isKey_0 : cX3_isKey.data.toList.drop 0 = dktX3_isKey_0 := by decide +kernel
theorem dksX3_isKey_1 : cX3_isKey.data.toList.drop 23 = dktX3_isKey_1 := dk_seg dksX3_isKey_0 23 rfl rfl
theorem dksX3_isKey_2 : cX3_isKey.data.toList.drop 46 = dktX3_isKey_2 := dk_seg dksX3_isKey_1 23 rfl rfl
theorem dksX3_isKey_3 : cX3_isKey.data.toList.drop 68 = dktX3_isKey_3 := dk_seg dksX3_isKey_2 22 rfl rfl
theorem dksX3_isKey_4 : cX3_isKey.data.toList.drop 92 = dktX3_isKey_4 := dk_seg dksX3_isKey_3 24 rfl rfl
theorem dksX3_isKey_5 : cX3_isKey.data.toList.drop 116 = dktX3_isKey_5 := dk_seg dksX3_isKey_4 24 rfl rfl
theorem dksX3_isKey_6 : cX3_isKey.data.toList.drop 139 = dktX3_isKey_6 := dk_seg dksX3_isKey_5 23 rfl rfl
theorem dksX3_isKey_7 : cX3_isKey.data.toList.drop 163 = dktX3_isKey_7 := dk_seg dksX3_isKey_6 24 rfl rfl
theorem dksX3_isKey_8 : cX3_isKey.data.toList.drop 187 = dktX3_isKey_8 := dk_seg dksX3_isKey_7 24 rfl rfl
theorem dksX3_isKey_9 : cX3_isKey.data.toList.drop 211 = dktX3_isKey_9 := dk_seg dksX3_isKey_8 24 rfl rfl
theorem dksX3_isKey_10 : cX3_isKey.data.toList.drop 235 = dktX3_isKey_10 := dk_seg dksX3_isKey_9 24 rfl rfl
theorem dksX3_isKey_11 : cX3_isKey.data.toList.drop 257 = dktX3_isKey_11 := dk_seg dksX3_isKey_10 22 rfl rfl
theorem dksX3_isKey_12 : cX3_isKey.data.toList.drop 280 = dktX3_isKey_12 := dk_seg dksX3_isKey_11 23 rfl rfl
theorem dksX3_isKey_13 : cX3_isKey.data.toList.drop 302 = dktX3_isKey_13 := dk_seg dksX3_isKey_12 22 rfl rfl
theorem dX3_isKey_0 : decode cX3_isKey 0 = .ok (.aload_n 0, 1) := dk_42 (dk_at dksX3_isKey_0 0 rfl rfl)
theorem dX3_isKey_1 : decode cX3_isKey 1 = .ok (.getfield 93, 3) := dk_180 0 93 (dk_at dksX3_isKey_0 1 rfl rfl)
theorem dX3_isKey_4 : decode cX3_isKey 4 = .ok (.ldc2_w 149, 3) := dk_20 0 149 (dk_at dksX3_isKey_0 4 rfl rfl)
theorem dX3_isKey_7 : decode cX3_isKey 7 = .ok (.lcmp, 1) := dk_148 (dk_at dksX3_isKey_0 7 rfl rfl)
theorem dX3_isKey_8 : decode cX3_isKey 8 = .ok (.ifCond .ne 7, 3) := dk_154 0 7 (dk_at dksX3_isKey_0 8 rfl rfl)
theorem dX3_isKey_11 : decode cX3_isKey 11 = .ok (.iconst 0, 1) := dk_3 (dk_at dksX3_isKey_0 11 rfl rfl)
theorem dX3_isKey_12 : decode cX3_isKey 12 = .ok (.goto 64, 3) := dk_167 0 64 (dk_at dksX3_isKey_0 12 rfl rfl)
theorem dX3_isKey_15 : decode cX3_isKey 15 = .ok (.aload_n 0, 1) := dk_42 (dk_at dksX3_isKey_0 15 rfl rfl)
theorem dX3_isKey_16 : decode cX3_isKey 16 = .ok (.getfield 93, 3) := dk_180 0 93 (dk_at dksX3_isKey_0 16 rfl rfl)
theorem dX3_isKey_19 : decode cX3_isKey 19 = .ok (.ldc2_w 140, 3) := dk_20 0 140 (dk_at dksX3_isKey_0 19 rfl rfl)
theorem dX3_isKey_22 : decode cX3_isKey 22 = .ok (.lcmp, 1) := dk_148 (dk_at dksX3_isKey_0 22 rfl rfl)
theorem dX3_isKey_23 : decode cX3_isKey 23 = .ok (.ifCond .ne 7, 3) := dk_154 0 7 (dk_at dksX3_isKey_1 0 rfl rfl)
theorem dX3_isKey_26 : decode cX3_isKey 26 = .ok (.iconst 1, 1) := dk_4 (dk_at dksX3_isKey_1 3 rfl rfl)
theorem dX3_isKey_27 : decode cX3_isKey 27 = .ok (.goto 49, 3) := dk_167 0 49 (dk_at dksX3_isKey_1 4 rfl rfl)
theorem dX3_isKey_30 : decode cX3_isKey 30 = .ok (.aload_n 0, 1) := dk_42 (dk_at dksX3_isKey_1 7 rfl rfl)
theorem dX3_isKey_31 : decode cX3_isKey 31 = .ok (.getfield 93, 3) := dk_180 0 93 (dk_at dksX3_isKey_1 8 rfl rfl)
theorem dX3_isKey_34 : decode cX3_isKey 34 = .ok (.ldc2_w 142, 3) := dk_20 0 142 (dk_at dksX3_isKey_1 11 rfl rfl)
theorem dX3_isKey_37 : decode cX3_isKey 37 = .ok (.lcmp, 1) := dk_148 (dk_at dksX3_isKey_1 14 rfl rfl)
theorem dX3_isKey_38 : decode cX3_isKey 38 = .ok (.ifCond .ne 7, 3) := dk_154 0 7 (dk_at dksX3_isKey_1 15 rfl rfl)
theorem dX3_isKey_41 : decode cX3_isKey 41 = .ok (.iconst 2, 1) := dk_5 (dk_at dksX3_isKey_1 18 rfl rfl)
theorem dX3_isKey_42 : decode cX3_isKey 42 = .ok (.goto 34, 3) := dk_167 0 34 (dk_at dksX3_isKey_1 19 rfl rfl)
theorem dX3_isKey_45 : decode cX3_isKey 45 = .ok (.aload_n 0, 1) := dk_42 (dk_at dksX3_isKey_1 22 rfl rfl)
theorem dX3_isKey_46 : decode cX3_isKey 46 = .ok (.getfield 93, 3) := dk_180 0 93 (dk_at dksX3_isKey_2 0 rfl rfl)
theorem dX3_isKey_49 : decode cX3_isKey 49 = .ok (.ldc2_w 144, 3) := dk_20 0 144 (dk_at dksX3_isKey_2 3 rfl rfl)
theorem dX3_isKey_52 : decode cX3_isKey 52 = .ok (.lcmp, 1) := dk_148 (dk_at dksX3_isKey_2 6 rfl rfl)
theorem dX3_isKey_53 : decode cX3_isKey 53 = .ok (.ifCond .ne 7, 3) := dk_154 0 7 (dk_at dksX3_isKey_2 7 rfl rfl)
theorem dX3_isKey_56 : decode cX3_isKey 56 = .ok (.iconst 3, 1) := dk_6 (dk_at dksX3_isKey_2 10 rfl rfl)
theorem dX3_isKey_57 : decode cX3_isKey 57 = .ok (.goto 19, 3) := dk_167 0 19 (dk_at dksX3_isKey_2 11 rfl rfl)
theorem dX3_isKey_60 : decode cX3_isKey 60 = .ok (.aload_n 0, 1) := dk_42 (dk_at dksX3_isKey_2 14 rfl rfl)
theorem dX3_isKey_61 : decode cX3_isKey 61 = .ok (.getfield 93, 3) := dk_180 0 93 (dk_at dksX3_isKey_2 15 rfl rfl)
theorem dX3_isKey_64 : decode cX3_isKey 64 = .ok (.ldc2_w 151, 3) := dk_20 0 151 (dk_at dksX3_isKey_2 18 rfl rfl)
theorem dX3_isKey_67 : decode cX3_isKey 67 = .ok (.lcmp, 1) := dk_148 (dk_at dksX3_isKey_2 21 rfl rfl)
theorem dX3_isKey_68 : decode cX3_isKey 68 = .ok (.ifCond .ne 7, 3) := dk_154 0 7 (dk_at dksX3_isKey_3 0 rfl rfl)
theorem dX3_isKey_71 : decode cX3_isKey 71 = .ok (.iconst 4, 1) := dk_7 (dk_at dksX3_isKey_3 3 rfl rfl)
theorem dX3_isKey_72 : decode cX3_isKey 72 = .ok (.goto 4, 3) := dk_167 0 4 (dk_at dksX3_isKey_3 4 rfl rfl)
theorem dX3_isKey_75 : decode cX3_isKey 75 = .ok (.iconst (-1), 1) := dk_2 (dk_at dksX3_isKey_3 7 rfl rfl)
theorem dX3_isKey_76 : decode cX3_isKey 76 = .ok (.istore_n 1, 1) := dk_60 (dk_at dksX3_isKey_3 8 rfl rfl)
theorem dX3_isKey_77 : decode cX3_isKey 77 = .ok (.aload_n 0, 1) := dk_42 (dk_at dksX3_isKey_3 9 rfl rfl)
theorem dX3_isKey_78 : decode cX3_isKey 78 = .ok (.getfield 93, 3) := dk_180 0 93 (dk_at dksX3_isKey_3 10 rfl rfl)
theorem dX3_isKey_81 : decode cX3_isKey 81 = .ok (.ldc2_w 153, 3) := dk_20 0 153 (dk_at dksX3_isKey_3 13 rfl rfl)
theorem dX3_isKey_84 : decode cX3_isKey 84 = .ok (.lcmp, 1) := dk_148 (dk_at dksX3_isKey_3 16 rfl rfl)
theorem dX3_isKey_85 : decode cX3_isKey 85 = .ok (.ifCond .ne 7, 3) := dk_154 0 7 (dk_at dksX3_isKey_3 17 rfl rfl)
theorem dX3_isKey_88 : decode cX3_isKey 88 = .ok (.iconst 5, 1) := dk_8 (dk_at dksX3_isKey_3 20 rfl rfl)
theorem dX3_isKey_89 : decode cX3_isKey 89 = .ok (.goto 36, 3) := dk_167 0 36 (dk_at dksX3_isKey_3 21 rfl rfl)
theorem dX3_isKey_92 : decode cX3_isKey 92 = .ok (.aload_n 0, 1) := dk_42 (dk_at dksX3_isKey_4 0 rfl rfl)
theorem dX3_isKey_93 : decode cX3_isKey 93 = .ok (.getfield 93, 3) := dk_180 0 93 (dk_at dksX3_isKey_4 1 rfl rfl)
theorem dX3_isKey_96 : decode cX3_isKey 96 = .ok (.ldc2_w 155, 3) := dk_20 0 155 (dk_at dksX3_isKey_4 4 rfl rfl)
theorem dX3_isKey_99 : decode cX3_isKey 99 = .ok (.lcmp, 1) := dk_148 (dk_at dksX3_isKey_4 7 rfl rfl)
theorem dX3_isKey_100 : decode cX3_isKey 100 = .ok (.ifCond .ne 8, 3) := dk_154 0 8 (dk_at dksX3_isKey_4 8 rfl rfl)
theorem dX3_isKey_103 : decode cX3_isKey 103 = .ok (.bipush 6, 2) := dk_16 6 (dk_at dksX3_isKey_4 11 rfl rfl)
theorem dX3_isKey_105 : decode cX3_isKey 105 = .ok (.goto 20, 3) := dk_167 0 20 (dk_at dksX3_isKey_4 13 rfl rfl)
theorem dX3_isKey_108 : decode cX3_isKey 108 = .ok (.aload_n 0, 1) := dk_42 (dk_at dksX3_isKey_4 16 rfl rfl)
theorem dX3_isKey_109 : decode cX3_isKey 109 = .ok (.getfield 93, 3) := dk_180 0 93 (dk_at dksX3_isKey_4 17 rfl rfl)
theorem dX3_isKey_112 : decode cX3_isKey 112 = .ok (.ldc2_w 157, 3) := dk_20 0 157 (dk_at dksX3_isKey_4 20 rfl rfl)
theorem dX3_isKey_115 : decode cX3_isKey 115 = .ok (.lcmp, 1) := dk_148 (dk_at dksX3_isKey_4 23 rfl rfl)
theorem dX3_isKey_116 : decode cX3_isKey 116 = .ok (.ifCond .ne 8, 3) := dk_154 0 8 (dk_at dksX3_isKey_5 0 rfl rfl)
theorem dX3_isKey_119 : decode cX3_isKey 119 = .ok (.bipush 7, 2) := dk_16 7 (dk_at dksX3_isKey_5 3 rfl rfl)
theorem dX3_isKey_121 : decode cX3_isKey 121 = .ok (.goto 4, 3) := dk_167 0 4 (dk_at dksX3_isKey_5 5 rfl rfl)
theorem dX3_isKey_124 : decode cX3_isKey 124 = .ok (.iload_n 1, 1) := dk_27 (dk_at dksX3_isKey_5 8 rfl rfl)
theorem dX3_isKey_125 : decode cX3_isKey 125 = .ok (.istore_n 1, 1) := dk_60 (dk_at dksX3_isKey_5 9 rfl rfl)
theorem dX3_isKey_126 : decode cX3_isKey 126 = .ok (.aload_n 0, 1) := dk_42 (dk_at dksX3_isKey_5 10 rfl rfl)
theorem dX3_isKey_127 : decode cX3_isKey 127 = .ok (.getfield 93, 3) := dk_180 0 93 (dk_at dksX3_isKey_5 11 rfl rfl)
theorem dX3_isKey_130 : decode cX3_isKey 130 = .ok (.ldc2_w 159, 3) := dk_20 0 159 (dk_at dksX3_isKey_5 14 rfl rfl)
theorem dX3_isKey_133 : decode cX3_isKey 133 = .ok (.lcmp, 1) := dk_148 (dk_at dksX3_isKey_5 17 rfl rfl)
theorem dX3_isKey_134 : decode cX3_isKey 134 = .ok (.ifCond .ne 9, 3) := dk_154 0 9 (dk_at dksX3_isKey_5 18 rfl rfl)
theorem dX3_isKey_137 : decode cX3_isKey 137 = .ok (.aload_n 0, 1) := dk_42 (dk_at dksX3_isKey_5 21 rfl rfl)
theorem dX3_isKey_138 : decode cX3_isKey 138 = .ok (.iconst 3, 1) := dk_6 (dk_at dksX3_isKey_5 22 rfl rfl)
theorem dX3_isKey_139 : decode cX3_isKey 139 = .ok (.invokevirtual 113, 3) := dk_182 0 113 (dk_at dksX3_isKey_6 0 rfl rfl)
theorem dX3_isKey_142 : decode cX3_isKey 142 = .ok (.ireturn, 1) := dk_172 (dk_at dksX3_isKey_6 3 rfl rfl)
theorem dX3_isKey_143 : decode cX3_isKey 143 = .ok (.iload_n 1, 1) := dk_27 (dk_at dksX3_isKey_6 4 rfl rfl)
theorem dX3_isKey_144 : decode cX3_isKey 144 = .ok (.iconst (-1), 1) := dk_2 (dk_at dksX3_isKey_6 5 rfl rfl)
theorem dX3_isKey_145 : decode cX3_isKey 145 = .ok (.if_icmp .ne 9, 3) := dk_160 0 9 (dk_at dksX3_isKey_6 6 rfl rfl)
theorem dX3_isKey_148 : decode cX3_isKey 148 = .ok (.aload_n 0, 1) := dk_42 (dk_at dksX3_isKey_6 9 rfl rfl)
theorem dX3_isKey_149 : decode cX3_isKey 149 = .ok (.iconst 1, 1) := dk_4 (dk_at dksX3_isKey_6 10 rfl rfl)
theorem dX3_isKey_150 : decode cX3_isKey 150 = .ok (.invokevirtual 113, 3) := dk_182 0 113 (dk_at dksX3_isKey_6 11 rfl rfl)
theorem dX3_isKey_153 : decode cX3_isKey 153 = .ok (.ireturn, 1) := dk_172 (dk_at dksX3_isKey_6 14 rfl rfl)
theorem dX3_isKey_154 : decode cX3_isKey 154 = .ok (.aload_n 0, 1) := dk_42 (dk_at dksX3_isKey_6 15 rfl rfl)
theorem dX3_isKey_155 : decode cX3_isKey 155 = .ok (.getfield 161, 3) := dk_180 0 161 (dk_at dksX3_isKey_6 16 rfl rfl)
theorem dX3_isKey_158 : decode cX3_isKey 158 = .ok (.bipush 8, 2) := dk_16 8 (dk_at dksX3_isKey_6 19 rfl rfl)
theorem dX3_isKey_160 : decode cX3_isKey 160 = .ok (.if_icmp .ne 9, 3) := dk_160 0 9 (dk_at dksX3_isKey_6 21 rfl rfl)
theorem dX3_isKey_163 : decode cX3_isKey 163 = .ok (.aload_n 0, 1) := dk_42 (dk_at dksX3_isKey_7 0 rfl rfl)
theorem dX3_isKey_164 : decode cX3_isKey 164 = .ok (.iconst 3, 1) := dk_6 (dk_at dksX3_isKey_7 1 rfl rfl)
theorem dX3_isKey_165 : decode cX3_isKey 165 = .ok (.invokevirtual 113, 3) := dk_182 0 113 (dk_at dksX3_isKey_7 2 rfl rfl)
theorem dX3_isKey_168 : decode cX3_isKey 168 = .ok (.ireturn, 1) := dk_172 (dk_at dksX3_isKey_7 5 rfl rfl)
theorem dX3_isKey_169 : decode cX3_isKey 169 = .ok (.iconst 4, 1) := dk_7 (dk_at dksX3_isKey_7 6 rfl rfl)
theorem dX3_isKey_170 : decode cX3_isKey 170 = .ok (.aload_n 0, 1) := dk_42 (dk_at dksX3_isKey_7 7 rfl rfl)
theorem dX3_isKey_171 : decode cX3_isKey 171 = .ok (.getfield 161, 3) := dk_180 0 161 (dk_at dksX3_isKey_7 8 rfl rfl)
theorem dX3_isKey_174 : decode cX3_isKey 174 = .ok (.imul, 1) := dk_104 (dk_at dksX3_isKey_7 11 rfl rfl)
theorem dX3_isKey_175 : decode cX3_isKey 175 = .ok (.istore_n 2, 1) := dk_61 (dk_at dksX3_isKey_7 12 rfl rfl)
theorem dX3_isKey_176 : decode cX3_isKey 176 = .ok (.aload_n 0, 1) := dk_42 (dk_at dksX3_isKey_7 13 rfl rfl)
theorem dX3_isKey_177 : decode cX3_isKey 177 = .ok (.dup, 1) := dk_89 (dk_at dksX3_isKey_7 14 rfl rfl)
theorem dX3_isKey_178 : decode cX3_isKey 178 = .ok (.getfield 161, 3) := dk_180 0 161 (dk_at dksX3_isKey_7 15 rfl rfl)
theorem dX3_isKey_181 : decode cX3_isKey 181 = .ok (.iconst 1, 1) := dk_4 (dk_at dksX3_isKey_7 18 rfl rfl)
theorem dX3_isKey_182 : decode cX3_isKey 182 = .ok (.iadd, 1) := dk_96 (dk_at dksX3_isKey_7 19 rfl rfl)
theorem dX3_isKey_183 : decode cX3_isKey 183 = .ok (.putfield 161, 3) := dk_181 0 161 (dk_at dksX3_isKey_7 20 rfl rfl)
theorem dX3_isKey_186 : decode cX3_isKey 186 = .ok (.aload_n 0, 1) := dk_42 (dk_at dksX3_isKey_7 23 rfl rfl)
theorem dX3_isKey_187 : decode cX3_isKey 187 = .ok (.getfield 23, 3) := dk_180 0 23 (dk_at dksX3_isKey_8 0 rfl rfl)
theorem dX3_isKey_190 : decode cX3_isKey 190 = .ok (.iload_n 2, 1) := dk_28 (dk_at dksX3_isKey_8 3 rfl rfl)
theorem dX3_isKey_191 : decode cX3_isKey 191 = .ok (.iload_n 1, 1) := dk_27 (dk_at dksX3_isKey_8 4 rfl rfl)
theorem dX3_isKey_192 : decode cX3_isKey 192 = .ok (.iastore, 1) := dk_79 (dk_at dksX3_isKey_8 5 rfl rfl)
theorem dX3_isKey_193 : decode cX3_isKey 193 = .ok (.aload_n 0, 1) := dk_42 (dk_at dksX3_isKey_8 6 rfl rfl)
theorem dX3_isKey_194 : decode cX3_isKey 194 = .ok (.getfield 23, 3) := dk_180 0 23 (dk_at dksX3_isKey_8 7 rfl rfl)
theorem dX3_isKey_197 : decode cX3_isKey 197 = .ok (.iload_n 2, 1) := dk_28 (dk_at dksX3_isKey_8 10 rfl rfl)
theorem dX3_isKey_198 : decode cX3_isKey 198 = .ok (.iconst 2, 1) := dk_5 (dk_at dksX3_isKey_8 11 rfl rfl)
theorem dX3_isKey_199 : decode cX3_isKey 199 = .ok (.iadd, 1) := dk_96 (dk_at dksX3_isKey_8 12 rfl rfl)
theorem dX3_isKey_200 : decode cX3_isKey 200 = .ok (.iconst (-1), 1) := dk_2 (dk_at dksX3_isKey_8 13 rfl rfl)
theorem dX3_isKey_201 : decode cX3_isKey 201 = .ok (.iastore, 1) := dk_79 (dk_at dksX3_isKey_8 14 rfl rfl)
theorem dX3_isKey_202 : decode cX3_isKey 202 = .ok (.aload_n 0, 1) := dk_42 (dk_at dksX3_isKey_8 15 rfl rfl)
theorem dX3_isKey_203 : decode cX3_isKey 203 = .ok (.getfield 23, 3) := dk_180 0 23 (dk_at dksX3_isKey_8 16 rfl rfl)
theorem dX3_isKey_206 : decode cX3_isKey 206 = .ok (.iload_n 2, 1) := dk_28 (dk_at dksX3_isKey_8 19 rfl rfl)
theorem dX3_isKey_207 : decode cX3_isKey 207 = .ok (.iconst 3, 1) := dk_6 (dk_at dksX3_isKey_8 20 rfl rfl)
theorem dX3_isKey_208 : decode cX3_isKey 208 = .ok (.iadd, 1) := dk_96 (dk_at dksX3_isKey_8 21 rfl rfl)
theorem dX3_isKey_209 : decode cX3_isKey 209 = .ok (.iconst (-1), 1) := dk_2 (dk_at dksX3_isKey_8 22 rfl rfl)
theorem dX3_isKey_210 : decode cX3_isKey 210 = .ok (.iastore, 1) := dk_79 (dk_at dksX3_isKey_8 23 rfl rfl)
theorem dX3_isKey_211 : decode cX3_isKey 211 = .ok (.iload_n 1, 1) := dk_27 (dk_at dksX3_isKey_9 0 rfl rfl)
theorem dX3_isKey_212 : decode cX3_isKey 212 = .ok (.bipush 6, 2) := dk_16 6 (dk_at dksX3_isKey_9 1 rfl rfl)
theorem dX3_isKey_214 : decode cX3_isKey 214 = .ok (.if_icmp .ne 9, 3) := dk_160 0 9 (dk_at dksX3_isKey_9 3 rfl rfl)
theorem dX3_isKey_217 : decode cX3_isKey 217 = .ok (.aload_n 0, 1) := dk_42 (dk_at dksX3_isKey_9 6 rfl rfl)
theorem dX3_isKey_218 : decode cX3_isKey 218 = .ok (.iload_n 2, 1) := dk_28 (dk_at dksX3_isKey_9 7 rfl rfl)
theorem dX3_isKey_219 : decode cX3_isKey 219 = .ok (.invokevirtual 164, 3) := dk_182 0 164 (dk_at dksX3_isKey_9 8 rfl rfl)
theorem dX3_isKey_222 : decode cX3_isKey 222 = .ok (.ireturn, 1) := dk_172 (dk_at dksX3_isKey_9 11 rfl rfl)
theorem dX3_isKey_223 : decode cX3_isKey 223 = .ok (.iload_n 1, 1) := dk_27 (dk_at dksX3_isKey_9 12 rfl rfl)
theorem dX3_isKey_224 : decode cX3_isKey 224 = .ok (.ifCond .eq 9, 3) := dk_153 0 9 (dk_at dksX3_isKey_9 13 rfl rfl)
theorem dX3_isKey_227 : decode cX3_isKey 227 = .ok (.iload_n 1, 1) := dk_27 (dk_at dksX3_isKey_9 16 rfl rfl)
theorem dX3_isKey_228 : decode cX3_isKey 228 = .ok (.bipush 7, 2) := dk_16 7 (dk_at dksX3_isKey_9 17 rfl rfl)
theorem dX3_isKey_230 : decode cX3_isKey 230 = .ok (.if_icmp .ne 20, 3) := dk_160 0 20 (dk_at dksX3_isKey_9 19 rfl rfl)
theorem dX3_isKey_233 : decode cX3_isKey 233 = .ok (.aload_n 0, 1) := dk_42 (dk_at dksX3_isKey_9 22 rfl rfl)
theorem dX3_isKey_234 : decode cX3_isKey 234 = .ok (.iload_n 2, 1) := dk_28 (dk_at dksX3_isKey_9 23 rfl rfl)
theorem dX3_isKey_235 : decode cX3_isKey 235 = .ok (.iconst 2, 1) := dk_5 (dk_at dksX3_isKey_10 0 rfl rfl)
theorem dX3_isKey_236 : decode cX3_isKey 236 = .ok (.iadd, 1) := dk_96 (dk_at dksX3_isKey_10 1 rfl rfl)
theorem dX3_isKey_237 : decode cX3_isKey 237 = .ok (.iconst 0, 1) := dk_3 (dk_at dksX3_isKey_10 2 rfl rfl)
theorem dX3_isKey_238 : decode cX3_isKey 238 = .ok (.aload_n 0, 1) := dk_42 (dk_at dksX3_isKey_10 3 rfl rfl)
theorem dX3_isKey_239 : decode cX3_isKey 239 = .ok (.getfield 127, 3) := dk_180 0 127 (dk_at dksX3_isKey_10 4 rfl rfl)
theorem dX3_isKey_242 : decode cX3_isKey 242 = .ok (.iconst 1, 1) := dk_4 (dk_at dksX3_isKey_10 7 rfl rfl)
theorem dX3_isKey_243 : decode cX3_isKey 243 = .ok (.isub, 1) := dk_100 (dk_at dksX3_isKey_10 8 rfl rfl)
theorem dX3_isKey_244 : decode cX3_isKey 244 = .ok (.invokevirtual 124, 3) := dk_182 0 124 (dk_at dksX3_isKey_10 9 rfl rfl)
theorem dX3_isKey_247 : decode cX3_isKey 247 = .ok (.ifCond .eq 7, 3) := dk_153 0 7 (dk_at dksX3_isKey_10 12 rfl rfl)
theorem dX3_isKey_250 : decode cX3_isKey 250 = .ok (.iconst 1, 1) := dk_4 (dk_at dksX3_isKey_10 15 rfl rfl)
theorem dX3_isKey_251 : decode cX3_isKey 251 = .ok (.goto 4, 3) := dk_167 0 4 (dk_at dksX3_isKey_10 16 rfl rfl)
theorem dX3_isKey_254 : decode cX3_isKey 254 = .ok (.iconst 0, 1) := dk_3 (dk_at dksX3_isKey_10 19 rfl rfl)
theorem dX3_isKey_255 : decode cX3_isKey 255 = .ok (.istore_n 3, 1) := dk_62 (dk_at dksX3_isKey_10 20 rfl rfl)
theorem dX3_isKey_256 : decode cX3_isKey 256 = .ok (.iload_n 3, 1) := dk_29 (dk_at dksX3_isKey_10 21 rfl rfl)
theorem dX3_isKey_257 : decode cX3_isKey 257 = .ok (.ifCond .eq 30, 3) := dk_153 0 30 (dk_at dksX3_isKey_11 0 rfl rfl)
theorem dX3_isKey_260 : decode cX3_isKey 260 = .ok (.iload_n 1, 1) := dk_27 (dk_at dksX3_isKey_11 3 rfl rfl)
theorem dX3_isKey_261 : decode cX3_isKey 261 = .ok (.bipush 7, 2) := dk_16 7 (dk_at dksX3_isKey_11 4 rfl rfl)
theorem dX3_isKey_263 : decode cX3_isKey 263 = .ok (.if_icmp .ne 20, 3) := dk_160 0 20 (dk_at dksX3_isKey_11 6 rfl rfl)
theorem dX3_isKey_266 : decode cX3_isKey 266 = .ok (.aload_n 0, 1) := dk_42 (dk_at dksX3_isKey_11 9 rfl rfl)
theorem dX3_isKey_267 : decode cX3_isKey 267 = .ok (.iload_n 2, 1) := dk_28 (dk_at dksX3_isKey_11 10 rfl rfl)
theorem dX3_isKey_268 : decode cX3_isKey 268 = .ok (.iconst 3, 1) := dk_6 (dk_at dksX3_isKey_11 11 rfl rfl)
theorem dX3_isKey_269 : decode cX3_isKey 269 = .ok (.iadd, 1) := dk_96 (dk_at dksX3_isKey_11 12 rfl rfl)
theorem dX3_isKey_270 : decode cX3_isKey 270 = .ok (.iconst 0, 1) := dk_3 (dk_at dksX3_isKey_11 13 rfl rfl)
theorem dX3_isKey_271 : decode cX3_isKey 271 = .ok (.aload_n 0, 1) := dk_42 (dk_at dksX3_isKey_11 14 rfl rfl)
theorem dX3_isKey_272 : decode cX3_isKey 272 = .ok (.getfield 127, 3) := dk_180 0 127 (dk_at dksX3_isKey_11 15 rfl rfl)
theorem dX3_isKey_275 : decode cX3_isKey 275 = .ok (.iconst 1, 1) := dk_4 (dk_at dksX3_isKey_11 18 rfl rfl)
theorem dX3_isKey_276 : decode cX3_isKey 276 = .ok (.isub, 1) := dk_100 (dk_at dksX3_isKey_11 19 rfl rfl)
theorem dX3_isKey_277 : decode cX3_isKey 277 = .ok (.invokevirtual 124, 3) := dk_182 0 124 (dk_at dksX3_isKey_11 20 rfl rfl)
theorem dX3_isKey_280 : decode cX3_isKey 280 = .ok (.ifCond .eq 7, 3) := dk_153 0 7 (dk_at dksX3_isKey_12 0 rfl rfl)
theorem dX3_isKey_283 : decode cX3_isKey 283 = .ok (.iconst 1, 1) := dk_4 (dk_at dksX3_isKey_12 3 rfl rfl)
theorem dX3_isKey_284 : decode cX3_isKey 284 = .ok (.goto 4, 3) := dk_167 0 4 (dk_at dksX3_isKey_12 4 rfl rfl)
theorem dX3_isKey_287 : decode cX3_isKey 287 = .ok (.iconst 0, 1) := dk_3 (dk_at dksX3_isKey_12 7 rfl rfl)
theorem dX3_isKey_288 : decode cX3_isKey 288 = .ok (.istore_n 3, 1) := dk_62 (dk_at dksX3_isKey_12 8 rfl rfl)
theorem dX3_isKey_289 : decode cX3_isKey 289 = .ok (.iload_n 3, 1) := dk_29 (dk_at dksX3_isKey_12 9 rfl rfl)
theorem dX3_isKey_290 : decode cX3_isKey 290 = .ok (.ifCond .eq 15, 3) := dk_153 0 15 (dk_at dksX3_isKey_12 10 rfl rfl)
theorem dX3_isKey_293 : decode cX3_isKey 293 = .ok (.aload_n 0, 1) := dk_42 (dk_at dksX3_isKey_12 13 rfl rfl)
theorem dX3_isKey_294 : decode cX3_isKey 294 = .ok (.iload_n 2, 1) := dk_28 (dk_at dksX3_isKey_12 14 rfl rfl)
theorem dX3_isKey_295 : decode cX3_isKey 295 = .ok (.invokevirtual 146, 3) := dk_182 0 146 (dk_at dksX3_isKey_12 15 rfl rfl)
theorem dX3_isKey_298 : decode cX3_isKey 298 = .ok (.ifCond .eq 7, 3) := dk_153 0 7 (dk_at dksX3_isKey_12 18 rfl rfl)
theorem dX3_isKey_301 : decode cX3_isKey 301 = .ok (.iconst 1, 1) := dk_4 (dk_at dksX3_isKey_12 21 rfl rfl)
theorem dX3_isKey_302 : decode cX3_isKey 302 = .ok (.goto 4, 3) := dk_167 0 4 (dk_at dksX3_isKey_13 0 rfl rfl)
theorem dX3_isKey_305 : decode cX3_isKey 305 = .ok (.iconst 0, 1) := dk_3 (dk_at dksX3_isKey_13 3 rfl rfl)
theorem dX3_isKey_306 : decode cX3_isKey 306 = .ok (.ireturn, 1) := dk_172 (dk_at dksX3_isKey_13 4 rfl rfl)
abbrev cX3_isNow : ByteArray := prog_15_method_12_code
def yX3_isNow : MethodName := ⟨RX3, "isNow", "(I)Z"⟩
def dkwX3_isNow_4 : List UInt8 := [153, 0, 15, 42, 27, 182, 0, 146, 153, 0, 7, 4, 167, 0, 4, 3, 172]
abbrev dktX3_isNow_4 : List UInt8 := dkwX3_isNow_4 ++ []
def dkwX3_isNow_3 : List UInt8 := [160, 0, 9, 42, 4, 182, 0, 113, 172, 42, 27, 5, 96, 3, 42, 180, 0, 133, 4, 100, 182, 0, 124]
abbrev dktX3_isNow_3 : List UInt8 := dkwX3_isNow_3 ++ dktX3_isNow_4
def dkwX3_isNow_2 : List UInt8 := [20, 0, 144, 148, 154, 0, 7, 6, 167, 0, 4, 2, 79, 42, 180, 0, 23, 27, 6, 96, 46, 2]
abbrev dktX3_isNow_2 : List UInt8 := dkwX3_isNow_2 ++ dktX3_isNow_3
def dkwX3_isNow_1 : List UInt8 := [167, 0, 34, 42, 180, 0, 93, 20, 0, 142, 148, 154, 0, 7, 5, 167, 0, 19, 42, 180, 0, 93]
abbrev dktX3_isNow_1 : List UInt8 := dkwX3_isNow_1 ++ dktX3_isNow_2
def dkwX3_isNow_0 : List UInt8 := [42, 182, 0, 110, 42, 180, 0, 23, 27, 6, 96, 42, 180, 0, 93, 20, 0, 140, 148, 154, 0, 7, 4]
abbrev dktX3_isNow_0 : List UInt8 := dkwX3_isNow_0 ++ dktX3_isNow_1
theorem dksX3_isNow_0 : cX3_isNow.data.toList.drop 0 = dktX3_isNow_0 := by decide +kernel
theorem dksX3_isNow_1 : cX3_isNow.data.toList.drop 23 = dktX3_isNow_1 := dk_seg dksX3_isNow_0 23 rfl rfl
theorem dksX3_isNow_2 : cX3_isNow.data.toList.drop 45 = dktX3_isNow_2 := dk_seg dksX3_isNow_1 22 rfl rfl
theorem dksX3_isNow_3 : cX3_isNow.data.toList.drop 67 = dktX3_isNow_3 := dk_seg dksX3_isNow_2 22 rfl rfl
theorem dksX3_isNow_4 : cX3_isNow.data.toList.drop 90 = dktX3_isNow_4 := dk_seg dksX3_isNow_3 23 rfl rfl
theorem dX3_isNow_0 : decode cX3_isNow 0 = .ok (.aload_n 0, 1) := dk_42 (dk_at dksX3_isNow_0 0 rfl rfl)
theorem dX3_isNow_1 : decode cX3_isNow 1 = .ok (.invokevirtual 110, 3) := dk_182 0 110 (dk_at dksX3_isNow_0 1 rfl rfl)
theorem dX3_isNow_4 : decode cX3_isNow 4 = .ok (.aload_n 0, 1) := dk_42 (dk_at dksX3_isNow_0 4 rfl rfl)
theorem dX3_isNow_5 : decode cX3_isNow 5 = .ok (.getfield 23, 3) := dk_180 0 23 (dk_at dksX3_isNow_0 5 rfl rfl)
theorem dX3_isNow_8 : decode cX3_isNow 8 = .ok (.iload_n 1, 1) := dk_27 (dk_at dksX3_isNow_0 8 rfl rfl)
theorem dX3_isNow_9 : decode cX3_isNow 9 = .ok (.iconst 3, 1) := dk_6 (dk_at dksX3_isNow_0 9 rfl rfl)
theorem dX3_isNow_10 : decode cX3_isNow 10 = .ok (.iadd, 1) := dk_96 (dk_at dksX3_isNow_0 10 rfl rfl)
theorem dX3_isNow_11 : decode cX3_isNow 11 = .ok (.aload_n 0, 1) := dk_42 (dk_at dksX3_isNow_0 11 rfl rfl)
theorem dX3_isNow_12 : decode cX3_isNow 12 = .ok (.getfield 93, 3) := dk_180 0 93 (dk_at dksX3_isNow_0 12 rfl rfl)
theorem dX3_isNow_15 : decode cX3_isNow 15 = .ok (.ldc2_w 140, 3) := dk_20 0 140 (dk_at dksX3_isNow_0 15 rfl rfl)
theorem dX3_isNow_18 : decode cX3_isNow 18 = .ok (.lcmp, 1) := dk_148 (dk_at dksX3_isNow_0 18 rfl rfl)
theorem dX3_isNow_19 : decode cX3_isNow 19 = .ok (.ifCond .ne 7, 3) := dk_154 0 7 (dk_at dksX3_isNow_0 19 rfl rfl)
theorem dX3_isNow_22 : decode cX3_isNow 22 = .ok (.iconst 1, 1) := dk_4 (dk_at dksX3_isNow_0 22 rfl rfl)
theorem dX3_isNow_23 : decode cX3_isNow 23 = .ok (.goto 34, 3) := dk_167 0 34 (dk_at dksX3_isNow_1 0 rfl rfl)
theorem dX3_isNow_26 : decode cX3_isNow 26 = .ok (.aload_n 0, 1) := dk_42 (dk_at dksX3_isNow_1 3 rfl rfl)
theorem dX3_isNow_27 : decode cX3_isNow 27 = .ok (.getfield 93, 3) := dk_180 0 93 (dk_at dksX3_isNow_1 4 rfl rfl)
theorem dX3_isNow_30 : decode cX3_isNow 30 = .ok (.ldc2_w 142, 3) := dk_20 0 142 (dk_at dksX3_isNow_1 7 rfl rfl)
theorem dX3_isNow_33 : decode cX3_isNow 33 = .ok (.lcmp, 1) := dk_148 (dk_at dksX3_isNow_1 10 rfl rfl)
theorem dX3_isNow_34 : decode cX3_isNow 34 = .ok (.ifCond .ne 7, 3) := dk_154 0 7 (dk_at dksX3_isNow_1 11 rfl rfl)
theorem dX3_isNow_37 : decode cX3_isNow 37 = .ok (.iconst 2, 1) := dk_5 (dk_at dksX3_isNow_1 14 rfl rfl)
theorem dX3_isNow_38 : decode cX3_isNow 38 = .ok (.goto 19, 3) := dk_167 0 19 (dk_at dksX3_isNow_1 15 rfl rfl)
theorem dX3_isNow_41 : decode cX3_isNow 41 = .ok (.aload_n 0, 1) := dk_42 (dk_at dksX3_isNow_1 18 rfl rfl)
theorem dX3_isNow_42 : decode cX3_isNow 42 = .ok (.getfield 93, 3) := dk_180 0 93 (dk_at dksX3_isNow_1 19 rfl rfl)
theorem dX3_isNow_45 : decode cX3_isNow 45 = .ok (.ldc2_w 144, 3) := dk_20 0 144 (dk_at dksX3_isNow_2 0 rfl rfl)
theorem dX3_isNow_48 : decode cX3_isNow 48 = .ok (.lcmp, 1) := dk_148 (dk_at dksX3_isNow_2 3 rfl rfl)
theorem dX3_isNow_49 : decode cX3_isNow 49 = .ok (.ifCond .ne 7, 3) := dk_154 0 7 (dk_at dksX3_isNow_2 4 rfl rfl)
theorem dX3_isNow_52 : decode cX3_isNow 52 = .ok (.iconst 3, 1) := dk_6 (dk_at dksX3_isNow_2 7 rfl rfl)
theorem dX3_isNow_53 : decode cX3_isNow 53 = .ok (.goto 4, 3) := dk_167 0 4 (dk_at dksX3_isNow_2 8 rfl rfl)
theorem dX3_isNow_56 : decode cX3_isNow 56 = .ok (.iconst (-1), 1) := dk_2 (dk_at dksX3_isNow_2 11 rfl rfl)
theorem dX3_isNow_57 : decode cX3_isNow 57 = .ok (.iastore, 1) := dk_79 (dk_at dksX3_isNow_2 12 rfl rfl)
theorem dX3_isNow_58 : decode cX3_isNow 58 = .ok (.aload_n 0, 1) := dk_42 (dk_at dksX3_isNow_2 13 rfl rfl)
theorem dX3_isNow_59 : decode cX3_isNow 59 = .ok (.getfield 23, 3) := dk_180 0 23 (dk_at dksX3_isNow_2 14 rfl rfl)
theorem dX3_isNow_62 : decode cX3_isNow 62 = .ok (.iload_n 1, 1) := dk_27 (dk_at dksX3_isNow_2 17 rfl rfl)
theorem dX3_isNow_63 : decode cX3_isNow 63 = .ok (.iconst 3, 1) := dk_6 (dk_at dksX3_isNow_2 18 rfl rfl)
theorem dX3_isNow_64 : decode cX3_isNow 64 = .ok (.iadd, 1) := dk_96 (dk_at dksX3_isNow_2 19 rfl rfl)
theorem dX3_isNow_65 : decode cX3_isNow 65 = .ok (.iaload, 1) := dk_46 (dk_at dksX3_isNow_2 20 rfl rfl)
theorem dX3_isNow_66 : decode cX3_isNow 66 = .ok (.iconst (-1), 1) := dk_2 (dk_at dksX3_isNow_2 21 rfl rfl)
theorem dX3_isNow_67 : decode cX3_isNow 67 = .ok (.if_icmp .ne 9, 3) := dk_160 0 9 (dk_at dksX3_isNow_3 0 rfl rfl)
theorem dX3_isNow_70 : decode cX3_isNow 70 = .ok (.aload_n 0, 1) := dk_42 (dk_at dksX3_isNow_3 3 rfl rfl)
theorem dX3_isNow_71 : decode cX3_isNow 71 = .ok (.iconst 1, 1) := dk_4 (dk_at dksX3_isNow_3 4 rfl rfl)
theorem dX3_isNow_72 : decode cX3_isNow 72 = .ok (.invokevirtual 113, 3) := dk_182 0 113 (dk_at dksX3_isNow_3 5 rfl rfl)
theorem dX3_isNow_75 : decode cX3_isNow 75 = .ok (.ireturn, 1) := dk_172 (dk_at dksX3_isNow_3 8 rfl rfl)
theorem dX3_isNow_76 : decode cX3_isNow 76 = .ok (.aload_n 0, 1) := dk_42 (dk_at dksX3_isNow_3 9 rfl rfl)
theorem dX3_isNow_77 : decode cX3_isNow 77 = .ok (.iload_n 1, 1) := dk_27 (dk_at dksX3_isNow_3 10 rfl rfl)
theorem dX3_isNow_78 : decode cX3_isNow 78 = .ok (.iconst 2, 1) := dk_5 (dk_at dksX3_isNow_3 11 rfl rfl)
theorem dX3_isNow_79 : decode cX3_isNow 79 = .ok (.iadd, 1) := dk_96 (dk_at dksX3_isNow_3 12 rfl rfl)
theorem dX3_isNow_80 : decode cX3_isNow 80 = .ok (.iconst 0, 1) := dk_3 (dk_at dksX3_isNow_3 13 rfl rfl)
theorem dX3_isNow_81 : decode cX3_isNow 81 = .ok (.aload_n 0, 1) := dk_42 (dk_at dksX3_isNow_3 14 rfl rfl)
theorem dX3_isNow_82 : decode cX3_isNow 82 = .ok (.getfield 133, 3) := dk_180 0 133 (dk_at dksX3_isNow_3 15 rfl rfl)
theorem dX3_isNow_85 : decode cX3_isNow 85 = .ok (.iconst 1, 1) := dk_4 (dk_at dksX3_isNow_3 18 rfl rfl)
theorem dX3_isNow_86 : decode cX3_isNow 86 = .ok (.isub, 1) := dk_100 (dk_at dksX3_isNow_3 19 rfl rfl)
theorem dX3_isNow_87 : decode cX3_isNow 87 = .ok (.invokevirtual 124, 3) := dk_182 0 124 (dk_at dksX3_isNow_3 20 rfl rfl)
theorem dX3_isNow_90 : decode cX3_isNow 90 = .ok (.ifCond .eq 15, 3) := dk_153 0 15 (dk_at dksX3_isNow_4 0 rfl rfl)
theorem dX3_isNow_93 : decode cX3_isNow 93 = .ok (.aload_n 0, 1) := dk_42 (dk_at dksX3_isNow_4 3 rfl rfl)
theorem dX3_isNow_94 : decode cX3_isNow 94 = .ok (.iload_n 1, 1) := dk_27 (dk_at dksX3_isNow_4 4 rfl rfl)
theorem dX3_isNow_95 : decode cX3_isNow 95 = .ok (.invokevirtual 146, 3) := dk_182 0 146 (dk_at dksX3_isNow_4 5 rfl rfl)
theorem dX3_isNow_98 : decode cX3_isNow 98 = .ok (.ifCond .eq 7, 3) := dk_153 0 7 (dk_at dksX3_isNow_4 8 rfl rfl)
theorem dX3_isNow_101 : decode cX3_isNow 101 = .ok (.iconst 1, 1) := dk_4 (dk_at dksX3_isNow_4 11 rfl rfl)
theorem dX3_isNow_102 : decode cX3_isNow 102 = .ok (.goto 4, 3) := dk_167 0 4 (dk_at dksX3_isNow_4 12 rfl rfl)
theorem dX3_isNow_105 : decode cX3_isNow 105 = .ok (.iconst 0, 1) := dk_3 (dk_at dksX3_isNow_4 15 rfl rfl)
theorem dX3_isNow_106 : decode cX3_isNow 106 = .ok (.ireturn, 1) := dk_172 (dk_at dksX3_isNow_4 16 rfl rfl)
abbrev cX3_isCost : ByteArray := prog_15_method_11_code
def yX3_isCost : MethodName := ⟨RX3, "isCost", "(I)Z"⟩
def dkwX3_isCost_1 : List UInt8 := [3, 172]
abbrev dktX3_isCost_1 : List UInt8 := dkwX3_isCost_1 ++ []
def dkwX3_isCost_0 : List UInt8 := [42, 27, 4, 96, 4, 16, 99, 182, 0, 124, 153, 0, 14, 42, 182, 0, 136, 153, 0, 7, 4, 167, 0, 4]
abbrev dktX3_isCost_0 : List UInt8 := dkwX3_isCost_0 ++ dktX3_isCost_1
theorem dksX3_isCost_0 : cX3_isCost.data.toList.drop 0 = dktX3_isCost_0 := by decide +kernel
theorem dksX3_isCost_1 : cX3_isCost.data.toList.drop 24 = dktX3_isCost_1 := dk_seg dksX3_isCost_0 24 rfl rfl
theorem dX3_isCost_0 : decode cX3_isCost 0 = .ok (.aload_n 0, 1) := dk_42 (dk_at dksX3_isCost_0 0 rfl rfl)
theorem dX3_isCost_1 : decode cX3_isCost 1 = .ok (.iload_n 1, 1) := dk_27 (dk_at dksX3_isCost_0 1 rfl rfl)
theorem dX3_isCost_2 : decode cX3_isCost 2 = .ok (.iconst 1, 1) := dk_4 (dk_at dksX3_isCost_0 2 rfl rfl)
theorem dX3_isCost_3 : decode cX3_isCost 3 = .ok (.iadd, 1) := dk_96 (dk_at dksX3_isCost_0 3 rfl rfl)
theorem dX3_isCost_4 : decode cX3_isCost 4 = .ok (.iconst 1, 1) := dk_4 (dk_at dksX3_isCost_0 4 rfl rfl)
theorem dX3_isCost_5 : decode cX3_isCost 5 = .ok (.bipush 99, 2) := dk_16 99 (dk_at dksX3_isCost_0 5 rfl rfl)
theorem dX3_isCost_7 : decode cX3_isCost 7 = .ok (.invokevirtual 124, 3) := dk_182 0 124 (dk_at dksX3_isCost_0 7 rfl rfl)
theorem dX3_isCost_10 : decode cX3_isCost 10 = .ok (.ifCond .eq 14, 3) := dk_153 0 14 (dk_at dksX3_isCost_0 10 rfl rfl)
theorem dX3_isCost_13 : decode cX3_isCost 13 = .ok (.aload_n 0, 1) := dk_42 (dk_at dksX3_isCost_0 13 rfl rfl)
theorem dX3_isCost_14 : decode cX3_isCost 14 = .ok (.invokevirtual 136, 3) := dk_182 0 136 (dk_at dksX3_isCost_0 14 rfl rfl)
theorem dX3_isCost_17 : decode cX3_isCost 17 = .ok (.ifCond .eq 7, 3) := dk_153 0 7 (dk_at dksX3_isCost_0 17 rfl rfl)
theorem dX3_isCost_20 : decode cX3_isCost 20 = .ok (.iconst 1, 1) := dk_4 (dk_at dksX3_isCost_0 20 rfl rfl)
theorem dX3_isCost_21 : decode cX3_isCost 21 = .ok (.goto 4, 3) := dk_167 0 4 (dk_at dksX3_isCost_0 21 rfl rfl)
theorem dX3_isCost_24 : decode cX3_isCost 24 = .ok (.iconst 0, 1) := dk_3 (dk_at dksX3_isCost_1 0 rfl rfl)
theorem dX3_isCost_25 : decode cX3_isCost 25 = .ok (.ireturn, 1) := dk_172 (dk_at dksX3_isCost_1 1 rfl rfl)
abbrev cX3_start : ByteArray := prog_15_method_19_code
def yX3_start : MethodName := ⟨RX3, "start", "()V"⟩
def dkwX3_start_0 : List UInt8 := [42, 3, 181, 0, 197, 42, 3, 181, 0, 200, 42, 3, 181, 0, 203, 42, 3, 181, 0, 206, 177]
abbrev dktX3_start_0 : List UInt8 := dkwX3_start_0 ++ []
theorem dksX3_start_0 : cX3_start.data.toList.drop 0 = dktX3_start_0 := by decide +kernel
theorem dX3_start_0 : decode cX3_start 0 = .ok (.aload_n 0, 1) := dk_42 (dk_at dksX3_start_0 0 rfl rfl)
theorem dX3_start_1 : decode cX3_start 1 = .ok (.iconst 0, 1) := dk_3 (dk_at dksX3_start_0 1 rfl rfl)
theorem dX3_start_2 : decode cX3_start 2 = .ok (.putfield 197, 3) := dk_181 0 197 (dk_at dksX3_start_0 2 rfl rfl)
theorem dX3_start_5 : decode cX3_start 5 = .ok (.aload_n 0, 1) := dk_42 (dk_at dksX3_start_0 5 rfl rfl)
theorem dX3_start_6 : decode cX3_start 6 = .ok (.iconst 0, 1) := dk_3 (dk_at dksX3_start_0 6 rfl rfl)
theorem dX3_start_7 : decode cX3_start 7 = .ok (.putfield 200, 3) := dk_181 0 200 (dk_at dksX3_start_0 7 rfl rfl)
theorem dX3_start_10 : decode cX3_start 10 = .ok (.aload_n 0, 1) := dk_42 (dk_at dksX3_start_0 10 rfl rfl)
theorem dX3_start_11 : decode cX3_start 11 = .ok (.iconst 0, 1) := dk_3 (dk_at dksX3_start_0 11 rfl rfl)
theorem dX3_start_12 : decode cX3_start 12 = .ok (.putfield 203, 3) := dk_181 0 203 (dk_at dksX3_start_0 12 rfl rfl)
theorem dX3_start_15 : decode cX3_start 15 = .ok (.aload_n 0, 1) := dk_42 (dk_at dksX3_start_0 15 rfl rfl)
theorem dX3_start_16 : decode cX3_start 16 = .ok (.iconst 0, 1) := dk_3 (dk_at dksX3_start_0 16 rfl rfl)
theorem dX3_start_17 : decode cX3_start 17 = .ok (.putfield 206, 3) := dk_181 0 206 (dk_at dksX3_start_0 17 rfl rfl)
theorem dX3_start_20 : decode cX3_start 20 = .ok (.return_, 1) := dk_177 (dk_at dksX3_start_0 20 rfl rfl)
abbrev cX3_fault : ByteArray := prog_15_method_16_code
def yX3_fault : MethodName := ⟨RX3, "fault", "()I"⟩
theorem dX3_fault_0 : decode cX3_fault 0 = .ok (.aload_n 0, 1) := by decide +kernel
theorem dX3_fault_1 : decode cX3_fault 1 = .ok (.getfield 20, 3) := by decide +kernel
theorem dX3_fault_4 : decode cX3_fault 4 = .ok (.ireturn, 1) := by decide +kernel
abbrev cX3_told : ByteArray := prog_15_method_17_code
def yX3_told : MethodName := ⟨RX3, "told", "(I)I"⟩
def dkwX3_told_5 : List UInt8 := [180, 0, 194, 172, 18, 72, 172]
abbrev dktX3_told_5 : List UInt8 := dkwX3_told_5 ++ []
def dkwX3_told_4 : List UInt8 := [180, 0, 206, 153, 0, 7, 4, 167, 0, 4, 3, 172, 42, 180, 0, 188, 172, 42, 180, 0, 191, 172, 42]
abbrev dktX3_told_4 : List UInt8 := dkwX3_told_4 ++ dktX3_told_5
def dkwX3_told_3 : List UInt8 := [172, 42, 180, 0, 73, 172, 42, 180, 0, 197, 172, 42, 180, 0, 200, 172, 42, 180, 0, 203, 172, 42]
abbrev dktX3_told_3 : List UInt8 := dkwX3_told_3 ++ dktX3_told_4
def dkwX3_told_2 : List UInt8 := [42, 180, 0, 7, 172, 42, 180, 0, 176, 172, 42, 180, 0, 179, 172, 42, 180, 0, 65, 172, 42, 180, 0, 182]
abbrev dktX3_told_2 : List UInt8 := dkwX3_told_2 ++ dktX3_told_3
def dkwX3_told_1 : List UInt8 := [170, 0, 0, 0, 0, 0, 140, 0, 0, 0, 0, 0, 0, 0, 12, 0, 0, 0, 67, 0, 0, 0, 72, 0, 0, 0, 77, 0, 0, 0, 82, 0, 0, 0, 87, 0, 0, 0, 92, 0, 0, 0, 97, 0, 0, 0, 102, 0, 0, 0, 107, 0, 0, 0, 112, 0, 0, 0, 125, 0, 0, 0, 130, 0, 0, 0, 135]
abbrev dktX3_told_1 : List UInt8 := dkwX3_told_1 ++ dktX3_told_2
def dkwX3_told_0 : List UInt8 := [27]
abbrev dktX3_told_0 : List UInt8 := dkwX3_told_0 ++ dktX3_told_1
theorem dksX3_told_0 : cX3_told.data.toList.drop 0 = dktX3_told_0 := by decide +kernel
theorem dksX3_told_1 : cX3_told.data.toList.drop 1 = dktX3_told_1 := dk_seg dksX3_told_0 1 rfl rfl
theorem dksX3_told_2 : cX3_told.data.toList.drop 68 = dktX3_told_2 := dk_seg dksX3_told_1 67 rfl rfl
theorem dksX3_told_3 : cX3_told.data.toList.drop 92 = dktX3_told_3 := dk_seg dksX3_told_2 24 rfl rfl
theorem dksX3_told_4 : cX3_told.data.toList.drop 114 = dktX3_told_4 := dk_seg dksX3_told_3 22 rfl rfl
theorem dksX3_told_5 : cX3_told.data.toList.drop 137 = dktX3_told_5 := dk_seg dksX3_told_4 23 rfl rfl
theorem dX3_told_0 : decode cX3_told 0 = .ok (.iload_n 1, 1) := dk_27 (dk_at dksX3_told_0 0 rfl rfl)
theorem dX3_told_1 : decode cX3_told 1 = .ok (.tableswitch 140 0 12 #[67, 72, 77, 82, 87, 92, 97, 102, 107, 112, 125, 130, 135], 67) := by decide +kernel
theorem dX3_told_68 : decode cX3_told 68 = .ok (.aload_n 0, 1) := dk_42 (dk_at dksX3_told_2 0 rfl rfl)
theorem dX3_told_69 : decode cX3_told 69 = .ok (.getfield 7, 3) := dk_180 0 7 (dk_at dksX3_told_2 1 rfl rfl)
theorem dX3_told_72 : decode cX3_told 72 = .ok (.ireturn, 1) := dk_172 (dk_at dksX3_told_2 4 rfl rfl)
theorem dX3_told_73 : decode cX3_told 73 = .ok (.aload_n 0, 1) := dk_42 (dk_at dksX3_told_2 5 rfl rfl)
theorem dX3_told_74 : decode cX3_told 74 = .ok (.getfield 176, 3) := dk_180 0 176 (dk_at dksX3_told_2 6 rfl rfl)
theorem dX3_told_77 : decode cX3_told 77 = .ok (.ireturn, 1) := dk_172 (dk_at dksX3_told_2 9 rfl rfl)
theorem dX3_told_78 : decode cX3_told 78 = .ok (.aload_n 0, 1) := dk_42 (dk_at dksX3_told_2 10 rfl rfl)
theorem dX3_told_79 : decode cX3_told 79 = .ok (.getfield 179, 3) := dk_180 0 179 (dk_at dksX3_told_2 11 rfl rfl)
theorem dX3_told_82 : decode cX3_told 82 = .ok (.ireturn, 1) := dk_172 (dk_at dksX3_told_2 14 rfl rfl)
theorem dX3_told_83 : decode cX3_told 83 = .ok (.aload_n 0, 1) := dk_42 (dk_at dksX3_told_2 15 rfl rfl)
theorem dX3_told_84 : decode cX3_told 84 = .ok (.getfield 65, 3) := dk_180 0 65 (dk_at dksX3_told_2 16 rfl rfl)
theorem dX3_told_87 : decode cX3_told 87 = .ok (.ireturn, 1) := dk_172 (dk_at dksX3_told_2 19 rfl rfl)
theorem dX3_told_88 : decode cX3_told 88 = .ok (.aload_n 0, 1) := dk_42 (dk_at dksX3_told_2 20 rfl rfl)
theorem dX3_told_89 : decode cX3_told 89 = .ok (.getfield 182, 3) := dk_180 0 182 (dk_at dksX3_told_2 21 rfl rfl)
theorem dX3_told_92 : decode cX3_told 92 = .ok (.ireturn, 1) := dk_172 (dk_at dksX3_told_3 0 rfl rfl)
theorem dX3_told_93 : decode cX3_told 93 = .ok (.aload_n 0, 1) := dk_42 (dk_at dksX3_told_3 1 rfl rfl)
theorem dX3_told_94 : decode cX3_told 94 = .ok (.getfield 73, 3) := dk_180 0 73 (dk_at dksX3_told_3 2 rfl rfl)
theorem dX3_told_97 : decode cX3_told 97 = .ok (.ireturn, 1) := dk_172 (dk_at dksX3_told_3 5 rfl rfl)
theorem dX3_told_98 : decode cX3_told 98 = .ok (.aload_n 0, 1) := dk_42 (dk_at dksX3_told_3 6 rfl rfl)
theorem dX3_told_99 : decode cX3_told 99 = .ok (.getfield 197, 3) := dk_180 0 197 (dk_at dksX3_told_3 7 rfl rfl)
theorem dX3_told_102 : decode cX3_told 102 = .ok (.ireturn, 1) := dk_172 (dk_at dksX3_told_3 10 rfl rfl)
theorem dX3_told_103 : decode cX3_told 103 = .ok (.aload_n 0, 1) := dk_42 (dk_at dksX3_told_3 11 rfl rfl)
theorem dX3_told_104 : decode cX3_told 104 = .ok (.getfield 200, 3) := dk_180 0 200 (dk_at dksX3_told_3 12 rfl rfl)
theorem dX3_told_107 : decode cX3_told 107 = .ok (.ireturn, 1) := dk_172 (dk_at dksX3_told_3 15 rfl rfl)
theorem dX3_told_108 : decode cX3_told 108 = .ok (.aload_n 0, 1) := dk_42 (dk_at dksX3_told_3 16 rfl rfl)
theorem dX3_told_109 : decode cX3_told 109 = .ok (.getfield 203, 3) := dk_180 0 203 (dk_at dksX3_told_3 17 rfl rfl)
theorem dX3_told_112 : decode cX3_told 112 = .ok (.ireturn, 1) := dk_172 (dk_at dksX3_told_3 20 rfl rfl)
theorem dX3_told_113 : decode cX3_told 113 = .ok (.aload_n 0, 1) := dk_42 (dk_at dksX3_told_3 21 rfl rfl)
theorem dX3_told_114 : decode cX3_told 114 = .ok (.getfield 206, 3) := dk_180 0 206 (dk_at dksX3_told_4 0 rfl rfl)
theorem dX3_told_117 : decode cX3_told 117 = .ok (.ifCond .eq 7, 3) := dk_153 0 7 (dk_at dksX3_told_4 3 rfl rfl)
theorem dX3_told_120 : decode cX3_told 120 = .ok (.iconst 1, 1) := dk_4 (dk_at dksX3_told_4 6 rfl rfl)
theorem dX3_told_121 : decode cX3_told 121 = .ok (.goto 4, 3) := dk_167 0 4 (dk_at dksX3_told_4 7 rfl rfl)
theorem dX3_told_124 : decode cX3_told 124 = .ok (.iconst 0, 1) := dk_3 (dk_at dksX3_told_4 10 rfl rfl)
theorem dX3_told_125 : decode cX3_told 125 = .ok (.ireturn, 1) := dk_172 (dk_at dksX3_told_4 11 rfl rfl)
theorem dX3_told_126 : decode cX3_told 126 = .ok (.aload_n 0, 1) := dk_42 (dk_at dksX3_told_4 12 rfl rfl)
theorem dX3_told_127 : decode cX3_told 127 = .ok (.getfield 188, 3) := dk_180 0 188 (dk_at dksX3_told_4 13 rfl rfl)
theorem dX3_told_130 : decode cX3_told 130 = .ok (.ireturn, 1) := dk_172 (dk_at dksX3_told_4 16 rfl rfl)
theorem dX3_told_131 : decode cX3_told 131 = .ok (.aload_n 0, 1) := dk_42 (dk_at dksX3_told_4 17 rfl rfl)
theorem dX3_told_132 : decode cX3_told 132 = .ok (.getfield 191, 3) := dk_180 0 191 (dk_at dksX3_told_4 18 rfl rfl)
theorem dX3_told_135 : decode cX3_told 135 = .ok (.ireturn, 1) := dk_172 (dk_at dksX3_told_4 21 rfl rfl)
theorem dX3_told_136 : decode cX3_told 136 = .ok (.aload_n 0, 1) := dk_42 (dk_at dksX3_told_4 22 rfl rfl)
theorem dX3_told_137 : decode cX3_told 137 = .ok (.getfield 194, 3) := dk_180 0 194 (dk_at dksX3_told_5 0 rfl rfl)
theorem dX3_told_140 : decode cX3_told 140 = .ok (.ireturn, 1) := dk_172 (dk_at dksX3_told_5 3 rfl rfl)
theorem dX3_told_141 : decode cX3_told 141 = .ok (.ldc 72, 2) := dk_18 72 (dk_at dksX3_told_5 4 rfl rfl)
theorem dX3_told_143 : decode cX3_told 143 = .ok (.ireturn, 1) := dk_172 (dk_at dksX3_told_5 6 rfl rfl)
abbrev cX3_key : ByteArray := prog_15_method_18_code
def yX3_key : MethodName := ⟨RX3, "key", "(II)I"⟩
def dkwX3_key_1 : List UInt8 := [153, 0, 16, 42, 180, 0, 13, 7, 27, 104, 28, 96, 46, 167, 0, 5, 18, 72, 172]
abbrev dktX3_key_1 : List UInt8 := dkwX3_key_1 ++ []
def dkwX3_key_0 : List UInt8 := [27, 3, 42, 180, 0, 182, 4, 100, 184, 0, 68, 154, 0, 6, 18, 210, 172, 28, 3, 6, 184, 0, 68]
abbrev dktX3_key_0 : List UInt8 := dkwX3_key_0 ++ dktX3_key_1
theorem dksX3_key_0 : cX3_key.data.toList.drop 0 = dktX3_key_0 := by decide +kernel
theorem dksX3_key_1 : cX3_key.data.toList.drop 23 = dktX3_key_1 := dk_seg dksX3_key_0 23 rfl rfl
theorem dX3_key_0 : decode cX3_key 0 = .ok (.iload_n 1, 1) := dk_27 (dk_at dksX3_key_0 0 rfl rfl)
theorem dX3_key_1 : decode cX3_key 1 = .ok (.iconst 0, 1) := dk_3 (dk_at dksX3_key_0 1 rfl rfl)
theorem dX3_key_2 : decode cX3_key 2 = .ok (.aload_n 0, 1) := dk_42 (dk_at dksX3_key_0 2 rfl rfl)
theorem dX3_key_3 : decode cX3_key 3 = .ok (.getfield 182, 3) := dk_180 0 182 (dk_at dksX3_key_0 3 rfl rfl)
theorem dX3_key_6 : decode cX3_key 6 = .ok (.iconst 1, 1) := dk_4 (dk_at dksX3_key_0 6 rfl rfl)
theorem dX3_key_7 : decode cX3_key 7 = .ok (.isub, 1) := dk_100 (dk_at dksX3_key_0 7 rfl rfl)
theorem dX3_key_8 : decode cX3_key 8 = .ok (.invokestatic 68, 3) := dk_184 0 68 (dk_at dksX3_key_0 8 rfl rfl)
theorem dX3_key_11 : decode cX3_key 11 = .ok (.ifCond .ne 6, 3) := dk_154 0 6 (dk_at dksX3_key_0 11 rfl rfl)
theorem dX3_key_14 : decode cX3_key 14 = .ok (.ldc 210, 2) := dk_18 210 (dk_at dksX3_key_0 14 rfl rfl)
theorem dX3_key_16 : decode cX3_key 16 = .ok (.ireturn, 1) := dk_172 (dk_at dksX3_key_0 16 rfl rfl)
theorem dX3_key_17 : decode cX3_key 17 = .ok (.iload_n 2, 1) := dk_28 (dk_at dksX3_key_0 17 rfl rfl)
theorem dX3_key_18 : decode cX3_key 18 = .ok (.iconst 0, 1) := dk_3 (dk_at dksX3_key_0 18 rfl rfl)
theorem dX3_key_19 : decode cX3_key 19 = .ok (.iconst 3, 1) := dk_6 (dk_at dksX3_key_0 19 rfl rfl)
theorem dX3_key_20 : decode cX3_key 20 = .ok (.invokestatic 68, 3) := dk_184 0 68 (dk_at dksX3_key_0 20 rfl rfl)
theorem dX3_key_23 : decode cX3_key 23 = .ok (.ifCond .eq 16, 3) := dk_153 0 16 (dk_at dksX3_key_1 0 rfl rfl)
theorem dX3_key_26 : decode cX3_key 26 = .ok (.aload_n 0, 1) := dk_42 (dk_at dksX3_key_1 3 rfl rfl)
theorem dX3_key_27 : decode cX3_key 27 = .ok (.getfield 13, 3) := dk_180 0 13 (dk_at dksX3_key_1 4 rfl rfl)
theorem dX3_key_30 : decode cX3_key 30 = .ok (.iconst 4, 1) := dk_7 (dk_at dksX3_key_1 7 rfl rfl)
theorem dX3_key_31 : decode cX3_key 31 = .ok (.iload_n 1, 1) := dk_27 (dk_at dksX3_key_1 8 rfl rfl)
theorem dX3_key_32 : decode cX3_key 32 = .ok (.imul, 1) := dk_104 (dk_at dksX3_key_1 9 rfl rfl)
theorem dX3_key_33 : decode cX3_key 33 = .ok (.iload_n 2, 1) := dk_28 (dk_at dksX3_key_1 10 rfl rfl)
theorem dX3_key_34 : decode cX3_key 34 = .ok (.iadd, 1) := dk_96 (dk_at dksX3_key_1 11 rfl rfl)
theorem dX3_key_35 : decode cX3_key 35 = .ok (.iaload, 1) := dk_46 (dk_at dksX3_key_1 12 rfl rfl)
theorem dX3_key_36 : decode cX3_key 36 = .ok (.goto 5, 3) := dk_167 0 5 (dk_at dksX3_key_1 13 rfl rfl)
theorem dX3_key_39 : decode cX3_key 39 = .ok (.ldc 72, 2) := dk_18 72 (dk_at dksX3_key_1 16 rfl rfl)
theorem dX3_key_41 : decode cX3_key 41 = .ok (.ireturn, 1) := dk_172 (dk_at dksX3_key_1 18 rfl rfl)
abbrev cX3_strike : ByteArray := prog_15_method_29_code
def yX3_strike : MethodName := ⟨RX3, "strike", "(I)I"⟩
def dkwX3_strike_1 : List UInt8 := [180, 0, 188, 42, 180, 0, 13, 7, 27, 104, 4, 96, 46, 96, 181, 0, 188, 42, 180, 0, 197, 172]
abbrev dktX3_strike_1 : List UInt8 := dkwX3_strike_1 ++ []
def dkwX3_strike_0 : List UInt8 := [27, 3, 42, 180, 0, 182, 4, 100, 184, 0, 68, 154, 0, 6, 18, 210, 172, 42, 27, 182, 0, 226, 42, 89]
abbrev dktX3_strike_0 : List UInt8 := dkwX3_strike_0 ++ dktX3_strike_1
theorem dksX3_strike_0 : cX3_strike.data.toList.drop 0 = dktX3_strike_0 := by decide +kernel
theorem dksX3_strike_1 : cX3_strike.data.toList.drop 24 = dktX3_strike_1 := dk_seg dksX3_strike_0 24 rfl rfl
theorem dX3_strike_0 : decode cX3_strike 0 = .ok (.iload_n 1, 1) := dk_27 (dk_at dksX3_strike_0 0 rfl rfl)
theorem dX3_strike_1 : decode cX3_strike 1 = .ok (.iconst 0, 1) := dk_3 (dk_at dksX3_strike_0 1 rfl rfl)
theorem dX3_strike_2 : decode cX3_strike 2 = .ok (.aload_n 0, 1) := dk_42 (dk_at dksX3_strike_0 2 rfl rfl)
theorem dX3_strike_3 : decode cX3_strike 3 = .ok (.getfield 182, 3) := dk_180 0 182 (dk_at dksX3_strike_0 3 rfl rfl)
theorem dX3_strike_6 : decode cX3_strike 6 = .ok (.iconst 1, 1) := dk_4 (dk_at dksX3_strike_0 6 rfl rfl)
theorem dX3_strike_7 : decode cX3_strike 7 = .ok (.isub, 1) := dk_100 (dk_at dksX3_strike_0 7 rfl rfl)
theorem dX3_strike_8 : decode cX3_strike 8 = .ok (.invokestatic 68, 3) := dk_184 0 68 (dk_at dksX3_strike_0 8 rfl rfl)
theorem dX3_strike_11 : decode cX3_strike 11 = .ok (.ifCond .ne 6, 3) := dk_154 0 6 (dk_at dksX3_strike_0 11 rfl rfl)
theorem dX3_strike_14 : decode cX3_strike 14 = .ok (.ldc 210, 2) := dk_18 210 (dk_at dksX3_strike_0 14 rfl rfl)
theorem dX3_strike_16 : decode cX3_strike 16 = .ok (.ireturn, 1) := dk_172 (dk_at dksX3_strike_0 16 rfl rfl)
theorem dX3_strike_17 : decode cX3_strike 17 = .ok (.aload_n 0, 1) := dk_42 (dk_at dksX3_strike_0 17 rfl rfl)
theorem dX3_strike_18 : decode cX3_strike 18 = .ok (.iload_n 1, 1) := dk_27 (dk_at dksX3_strike_0 18 rfl rfl)
theorem dX3_strike_19 : decode cX3_strike 19 = .ok (.invokevirtual 226, 3) := dk_182 0 226 (dk_at dksX3_strike_0 19 rfl rfl)
theorem dX3_strike_22 : decode cX3_strike 22 = .ok (.aload_n 0, 1) := dk_42 (dk_at dksX3_strike_0 22 rfl rfl)
theorem dX3_strike_23 : decode cX3_strike 23 = .ok (.dup, 1) := dk_89 (dk_at dksX3_strike_0 23 rfl rfl)
theorem dX3_strike_24 : decode cX3_strike 24 = .ok (.getfield 188, 3) := dk_180 0 188 (dk_at dksX3_strike_1 0 rfl rfl)
theorem dX3_strike_27 : decode cX3_strike 27 = .ok (.aload_n 0, 1) := dk_42 (dk_at dksX3_strike_1 3 rfl rfl)
theorem dX3_strike_28 : decode cX3_strike 28 = .ok (.getfield 13, 3) := dk_180 0 13 (dk_at dksX3_strike_1 4 rfl rfl)
theorem dX3_strike_31 : decode cX3_strike 31 = .ok (.iconst 4, 1) := dk_7 (dk_at dksX3_strike_1 7 rfl rfl)
theorem dX3_strike_32 : decode cX3_strike 32 = .ok (.iload_n 1, 1) := dk_27 (dk_at dksX3_strike_1 8 rfl rfl)
theorem dX3_strike_33 : decode cX3_strike 33 = .ok (.imul, 1) := dk_104 (dk_at dksX3_strike_1 9 rfl rfl)
theorem dX3_strike_34 : decode cX3_strike 34 = .ok (.iconst 1, 1) := dk_4 (dk_at dksX3_strike_1 10 rfl rfl)
theorem dX3_strike_35 : decode cX3_strike 35 = .ok (.iadd, 1) := dk_96 (dk_at dksX3_strike_1 11 rfl rfl)
theorem dX3_strike_36 : decode cX3_strike 36 = .ok (.iaload, 1) := dk_46 (dk_at dksX3_strike_1 12 rfl rfl)
theorem dX3_strike_37 : decode cX3_strike 37 = .ok (.iadd, 1) := dk_96 (dk_at dksX3_strike_1 13 rfl rfl)
theorem dX3_strike_38 : decode cX3_strike 38 = .ok (.putfield 188, 3) := dk_181 0 188 (dk_at dksX3_strike_1 14 rfl rfl)
theorem dX3_strike_41 : decode cX3_strike 41 = .ok (.aload_n 0, 1) := dk_42 (dk_at dksX3_strike_1 17 rfl rfl)
theorem dX3_strike_42 : decode cX3_strike 42 = .ok (.getfield 197, 3) := dk_180 0 197 (dk_at dksX3_strike_1 18 rfl rfl)
theorem dX3_strike_45 : decode cX3_strike 45 = .ok (.ireturn, 1) := dk_172 (dk_at dksX3_strike_1 21 rfl rfl)
abbrev cX3_doStroke : ByteArray := prog_15_method_23_code
def yX3_doStroke : MethodName := ⟨RX3, "doStroke", "(I)V"⟩
def dkwX3_doStroke_10 : List UInt8 := [96, 46, 182, 0, 215, 42, 42, 180, 0, 13, 7, 27, 104, 6, 96, 46, 182, 0, 215, 177]
abbrev dktX3_doStroke_10 : List UInt8 := dkwX3_doStroke_10 ++ []
def dkwX3_doStroke_9 : List UInt8 := [46, 182, 0, 219, 181, 0, 197, 42, 3, 181, 0, 206, 167, 0, 31, 42, 42, 180, 0, 13, 7, 27, 104, 5]
abbrev dktX3_doStroke_9 : List UInt8 := dkwX3_doStroke_9 ++ dktX3_doStroke_10
def dkwX3_doStroke_8 : List UInt8 := [42, 42, 180, 0, 13, 7, 27, 104, 6, 96, 46, 42, 180, 0, 197, 42, 180, 0, 13, 7, 27, 104, 5, 96]
abbrev dktX3_doStroke_8 : List UInt8 := dkwX3_doStroke_8 ++ dktX3_doStroke_9
def dkwX3_doStroke_7 : List UInt8 := [181, 0, 203, 42, 3, 181, 0, 200, 42, 3, 181, 0, 206, 167, 0, 78, 42, 182, 0, 185, 167, 0, 71, 42]
abbrev dktX3_doStroke_7 : List UInt8 := dkwX3_doStroke_7 ++ dktX3_doStroke_8
def dkwX3_doStroke_6 : List UInt8 := [42, 180, 0, 203, 42, 180, 0, 197, 182, 0, 219, 167, 0, 7, 42, 180, 0, 197, 181, 0, 197, 42, 3]
abbrev dktX3_doStroke_6 : List UInt8 := dkwX3_doStroke_6 ++ dktX3_doStroke_7
def dkwX3_doStroke_5 : List UInt8 := [181, 0, 200, 42, 3, 181, 0, 206, 167, 0, 130, 42, 42, 180, 0, 200, 158, 0, 22, 42, 42, 180, 0, 200]
abbrev dktX3_doStroke_5 : List UInt8 := dkwX3_doStroke_5 ++ dktX3_doStroke_6
def dkwX3_doStroke_4 : List UInt8 := [182, 0, 219, 167, 0, 7, 42, 180, 0, 197, 181, 0, 197, 42, 42, 180, 0, 197, 181, 0, 203, 42, 28]
abbrev dktX3_doStroke_4 : List UInt8 := dkwX3_doStroke_4 ++ dktX3_doStroke_5
def dkwX3_doStroke_3 : List UInt8 := [158, 0, 29, 42, 180, 0, 206, 153, 0, 22, 42, 42, 180, 0, 200, 42, 180, 0, 203, 42, 180, 0, 197]
abbrev dktX3_doStroke_3 : List UInt8 := dkwX3_doStroke_3 ++ dktX3_doStroke_4
def dkwX3_doStroke_2 : List UInt8 := [42, 42, 180, 0, 13, 7, 27, 104, 5, 96, 46, 182, 0, 215, 167, 0, 192, 42, 42, 180, 0, 200]
abbrev dktX3_doStroke_2 : List UInt8 := dkwX3_doStroke_2 ++ dktX3_doStroke_3
def dkwX3_doStroke_1 : List UInt8 := [170, 0, 0, 0, 0, 220, 0, 0, 0, 0, 0, 0, 0, 6, 0, 0, 0, 42, 0, 0, 0, 59, 0, 0, 0, 59, 0, 0, 0, 59, 0, 0, 0, 121, 0, 0, 0, 173, 0, 0, 0, 180]
abbrev dktX3_doStroke_1 : List UInt8 := dkwX3_doStroke_1 ++ dktX3_doStroke_2
def dkwX3_doStroke_0 : List UInt8 := [42, 180, 0, 13, 7, 27, 104, 46, 61, 28]
abbrev dktX3_doStroke_0 : List UInt8 := dkwX3_doStroke_0 ++ dktX3_doStroke_1
theorem dksX3_doStroke_0 : cX3_doStroke.data.toList.drop 0 = dktX3_doStroke_0 := by decide +kernel
theorem dksX3_doStroke_1 : cX3_doStroke.data.toList.drop 10 = dktX3_doStroke_1 := dk_seg dksX3_doStroke_0 10 rfl rfl
theorem dksX3_doStroke_2 : cX3_doStroke.data.toList.drop 52 = dktX3_doStroke_2 := dk_seg dksX3_doStroke_1 42 rfl rfl
theorem dksX3_doStroke_3 : cX3_doStroke.data.toList.drop 74 = dktX3_doStroke_3 := dk_seg dksX3_doStroke_2 22 rfl rfl
theorem dksX3_doStroke_4 : cX3_doStroke.data.toList.drop 97 = dktX3_doStroke_4 := dk_seg dksX3_doStroke_3 23 rfl rfl
theorem dksX3_doStroke_5 : cX3_doStroke.data.toList.drop 120 = dktX3_doStroke_5 := dk_seg dksX3_doStroke_4 23 rfl rfl
theorem dksX3_doStroke_6 : cX3_doStroke.data.toList.drop 144 = dktX3_doStroke_6 := dk_seg dksX3_doStroke_5 24 rfl rfl
theorem dksX3_doStroke_7 : cX3_doStroke.data.toList.drop 167 = dktX3_doStroke_7 := dk_seg dksX3_doStroke_6 23 rfl rfl
theorem dksX3_doStroke_8 : cX3_doStroke.data.toList.drop 191 = dktX3_doStroke_8 := dk_seg dksX3_doStroke_7 24 rfl rfl
theorem dksX3_doStroke_9 : cX3_doStroke.data.toList.drop 215 = dktX3_doStroke_9 := dk_seg dksX3_doStroke_8 24 rfl rfl
theorem dksX3_doStroke_10 : cX3_doStroke.data.toList.drop 239 = dktX3_doStroke_10 := dk_seg dksX3_doStroke_9 24 rfl rfl
theorem dX3_doStroke_0 : decode cX3_doStroke 0 = .ok (.aload_n 0, 1) := dk_42 (dk_at dksX3_doStroke_0 0 rfl rfl)
theorem dX3_doStroke_1 : decode cX3_doStroke 1 = .ok (.getfield 13, 3) := dk_180 0 13 (dk_at dksX3_doStroke_0 1 rfl rfl)
theorem dX3_doStroke_4 : decode cX3_doStroke 4 = .ok (.iconst 4, 1) := dk_7 (dk_at dksX3_doStroke_0 4 rfl rfl)
theorem dX3_doStroke_5 : decode cX3_doStroke 5 = .ok (.iload_n 1, 1) := dk_27 (dk_at dksX3_doStroke_0 5 rfl rfl)
theorem dX3_doStroke_6 : decode cX3_doStroke 6 = .ok (.imul, 1) := dk_104 (dk_at dksX3_doStroke_0 6 rfl rfl)
theorem dX3_doStroke_7 : decode cX3_doStroke 7 = .ok (.iaload, 1) := dk_46 (dk_at dksX3_doStroke_0 7 rfl rfl)
theorem dX3_doStroke_8 : decode cX3_doStroke 8 = .ok (.istore_n 2, 1) := dk_61 (dk_at dksX3_doStroke_0 8 rfl rfl)
theorem dX3_doStroke_9 : decode cX3_doStroke 9 = .ok (.iload_n 2, 1) := dk_28 (dk_at dksX3_doStroke_0 9 rfl rfl)
theorem dX3_doStroke_10 : decode cX3_doStroke 10 = .ok (.tableswitch 220 0 6 #[42, 59, 59, 59, 121, 173, 180], 42) := by decide +kernel
theorem dX3_doStroke_52 : decode cX3_doStroke 52 = .ok (.aload_n 0, 1) := dk_42 (dk_at dksX3_doStroke_2 0 rfl rfl)
theorem dX3_doStroke_53 : decode cX3_doStroke 53 = .ok (.aload_n 0, 1) := dk_42 (dk_at dksX3_doStroke_2 1 rfl rfl)
theorem dX3_doStroke_54 : decode cX3_doStroke 54 = .ok (.getfield 13, 3) := dk_180 0 13 (dk_at dksX3_doStroke_2 2 rfl rfl)
theorem dX3_doStroke_57 : decode cX3_doStroke 57 = .ok (.iconst 4, 1) := dk_7 (dk_at dksX3_doStroke_2 5 rfl rfl)
theorem dX3_doStroke_58 : decode cX3_doStroke 58 = .ok (.iload_n 1, 1) := dk_27 (dk_at dksX3_doStroke_2 6 rfl rfl)
theorem dX3_doStroke_59 : decode cX3_doStroke 59 = .ok (.imul, 1) := dk_104 (dk_at dksX3_doStroke_2 7 rfl rfl)
theorem dX3_doStroke_60 : decode cX3_doStroke 60 = .ok (.iconst 2, 1) := dk_5 (dk_at dksX3_doStroke_2 8 rfl rfl)
theorem dX3_doStroke_61 : decode cX3_doStroke 61 = .ok (.iadd, 1) := dk_96 (dk_at dksX3_doStroke_2 9 rfl rfl)
theorem dX3_doStroke_62 : decode cX3_doStroke 62 = .ok (.iaload, 1) := dk_46 (dk_at dksX3_doStroke_2 10 rfl rfl)
theorem dX3_doStroke_63 : decode cX3_doStroke 63 = .ok (.invokevirtual 215, 3) := dk_182 0 215 (dk_at dksX3_doStroke_2 11 rfl rfl)
theorem dX3_doStroke_66 : decode cX3_doStroke 66 = .ok (.goto 192, 3) := dk_167 0 192 (dk_at dksX3_doStroke_2 14 rfl rfl)
theorem dX3_doStroke_69 : decode cX3_doStroke 69 = .ok (.aload_n 0, 1) := dk_42 (dk_at dksX3_doStroke_2 17 rfl rfl)
theorem dX3_doStroke_70 : decode cX3_doStroke 70 = .ok (.aload_n 0, 1) := dk_42 (dk_at dksX3_doStroke_2 18 rfl rfl)
theorem dX3_doStroke_71 : decode cX3_doStroke 71 = .ok (.getfield 200, 3) := dk_180 0 200 (dk_at dksX3_doStroke_2 19 rfl rfl)
theorem dX3_doStroke_74 : decode cX3_doStroke 74 = .ok (.ifCond .le 29, 3) := dk_158 0 29 (dk_at dksX3_doStroke_3 0 rfl rfl)
theorem dX3_doStroke_77 : decode cX3_doStroke 77 = .ok (.aload_n 0, 1) := dk_42 (dk_at dksX3_doStroke_3 3 rfl rfl)
theorem dX3_doStroke_78 : decode cX3_doStroke 78 = .ok (.getfield 206, 3) := dk_180 0 206 (dk_at dksX3_doStroke_3 4 rfl rfl)
theorem dX3_doStroke_81 : decode cX3_doStroke 81 = .ok (.ifCond .eq 22, 3) := dk_153 0 22 (dk_at dksX3_doStroke_3 7 rfl rfl)
theorem dX3_doStroke_84 : decode cX3_doStroke 84 = .ok (.aload_n 0, 1) := dk_42 (dk_at dksX3_doStroke_3 10 rfl rfl)
theorem dX3_doStroke_85 : decode cX3_doStroke 85 = .ok (.aload_n 0, 1) := dk_42 (dk_at dksX3_doStroke_3 11 rfl rfl)
theorem dX3_doStroke_86 : decode cX3_doStroke 86 = .ok (.getfield 200, 3) := dk_180 0 200 (dk_at dksX3_doStroke_3 12 rfl rfl)
theorem dX3_doStroke_89 : decode cX3_doStroke 89 = .ok (.aload_n 0, 1) := dk_42 (dk_at dksX3_doStroke_3 15 rfl rfl)
theorem dX3_doStroke_90 : decode cX3_doStroke 90 = .ok (.getfield 203, 3) := dk_180 0 203 (dk_at dksX3_doStroke_3 16 rfl rfl)
theorem dX3_doStroke_93 : decode cX3_doStroke 93 = .ok (.aload_n 0, 1) := dk_42 (dk_at dksX3_doStroke_3 19 rfl rfl)
theorem dX3_doStroke_94 : decode cX3_doStroke 94 = .ok (.getfield 197, 3) := dk_180 0 197 (dk_at dksX3_doStroke_3 20 rfl rfl)
theorem dX3_doStroke_97 : decode cX3_doStroke 97 = .ok (.invokevirtual 219, 3) := dk_182 0 219 (dk_at dksX3_doStroke_4 0 rfl rfl)
theorem dX3_doStroke_100 : decode cX3_doStroke 100 = .ok (.goto 7, 3) := dk_167 0 7 (dk_at dksX3_doStroke_4 3 rfl rfl)
theorem dX3_doStroke_103 : decode cX3_doStroke 103 = .ok (.aload_n 0, 1) := dk_42 (dk_at dksX3_doStroke_4 6 rfl rfl)
theorem dX3_doStroke_104 : decode cX3_doStroke 104 = .ok (.getfield 197, 3) := dk_180 0 197 (dk_at dksX3_doStroke_4 7 rfl rfl)
theorem dX3_doStroke_107 : decode cX3_doStroke 107 = .ok (.putfield 197, 3) := dk_181 0 197 (dk_at dksX3_doStroke_4 10 rfl rfl)
theorem dX3_doStroke_110 : decode cX3_doStroke 110 = .ok (.aload_n 0, 1) := dk_42 (dk_at dksX3_doStroke_4 13 rfl rfl)
theorem dX3_doStroke_111 : decode cX3_doStroke 111 = .ok (.aload_n 0, 1) := dk_42 (dk_at dksX3_doStroke_4 14 rfl rfl)
theorem dX3_doStroke_112 : decode cX3_doStroke 112 = .ok (.getfield 197, 3) := dk_180 0 197 (dk_at dksX3_doStroke_4 15 rfl rfl)
theorem dX3_doStroke_115 : decode cX3_doStroke 115 = .ok (.putfield 203, 3) := dk_181 0 203 (dk_at dksX3_doStroke_4 18 rfl rfl)
theorem dX3_doStroke_118 : decode cX3_doStroke 118 = .ok (.aload_n 0, 1) := dk_42 (dk_at dksX3_doStroke_4 21 rfl rfl)
theorem dX3_doStroke_119 : decode cX3_doStroke 119 = .ok (.iload_n 2, 1) := dk_28 (dk_at dksX3_doStroke_4 22 rfl rfl)
theorem dX3_doStroke_120 : decode cX3_doStroke 120 = .ok (.putfield 200, 3) := dk_181 0 200 (dk_at dksX3_doStroke_5 0 rfl rfl)
theorem dX3_doStroke_123 : decode cX3_doStroke 123 = .ok (.aload_n 0, 1) := dk_42 (dk_at dksX3_doStroke_5 3 rfl rfl)
theorem dX3_doStroke_124 : decode cX3_doStroke 124 = .ok (.iconst 0, 1) := dk_3 (dk_at dksX3_doStroke_5 4 rfl rfl)
theorem dX3_doStroke_125 : decode cX3_doStroke 125 = .ok (.putfield 206, 3) := dk_181 0 206 (dk_at dksX3_doStroke_5 5 rfl rfl)
theorem dX3_doStroke_128 : decode cX3_doStroke 128 = .ok (.goto 130, 3) := dk_167 0 130 (dk_at dksX3_doStroke_5 8 rfl rfl)
theorem dX3_doStroke_131 : decode cX3_doStroke 131 = .ok (.aload_n 0, 1) := dk_42 (dk_at dksX3_doStroke_5 11 rfl rfl)
theorem dX3_doStroke_132 : decode cX3_doStroke 132 = .ok (.aload_n 0, 1) := dk_42 (dk_at dksX3_doStroke_5 12 rfl rfl)
theorem dX3_doStroke_133 : decode cX3_doStroke 133 = .ok (.getfield 200, 3) := dk_180 0 200 (dk_at dksX3_doStroke_5 13 rfl rfl)
theorem dX3_doStroke_136 : decode cX3_doStroke 136 = .ok (.ifCond .le 22, 3) := dk_158 0 22 (dk_at dksX3_doStroke_5 16 rfl rfl)
theorem dX3_doStroke_139 : decode cX3_doStroke 139 = .ok (.aload_n 0, 1) := dk_42 (dk_at dksX3_doStroke_5 19 rfl rfl)
theorem dX3_doStroke_140 : decode cX3_doStroke 140 = .ok (.aload_n 0, 1) := dk_42 (dk_at dksX3_doStroke_5 20 rfl rfl)
theorem dX3_doStroke_141 : decode cX3_doStroke 141 = .ok (.getfield 200, 3) := dk_180 0 200 (dk_at dksX3_doStroke_5 21 rfl rfl)
theorem dX3_doStroke_144 : decode cX3_doStroke 144 = .ok (.aload_n 0, 1) := dk_42 (dk_at dksX3_doStroke_6 0 rfl rfl)
theorem dX3_doStroke_145 : decode cX3_doStroke 145 = .ok (.getfield 203, 3) := dk_180 0 203 (dk_at dksX3_doStroke_6 1 rfl rfl)
theorem dX3_doStroke_148 : decode cX3_doStroke 148 = .ok (.aload_n 0, 1) := dk_42 (dk_at dksX3_doStroke_6 4 rfl rfl)
theorem dX3_doStroke_149 : decode cX3_doStroke 149 = .ok (.getfield 197, 3) := dk_180 0 197 (dk_at dksX3_doStroke_6 5 rfl rfl)
theorem dX3_doStroke_152 : decode cX3_doStroke 152 = .ok (.invokevirtual 219, 3) := dk_182 0 219 (dk_at dksX3_doStroke_6 8 rfl rfl)
theorem dX3_doStroke_155 : decode cX3_doStroke 155 = .ok (.goto 7, 3) := dk_167 0 7 (dk_at dksX3_doStroke_6 11 rfl rfl)
theorem dX3_doStroke_158 : decode cX3_doStroke 158 = .ok (.aload_n 0, 1) := dk_42 (dk_at dksX3_doStroke_6 14 rfl rfl)
theorem dX3_doStroke_159 : decode cX3_doStroke 159 = .ok (.getfield 197, 3) := dk_180 0 197 (dk_at dksX3_doStroke_6 15 rfl rfl)
theorem dX3_doStroke_162 : decode cX3_doStroke 162 = .ok (.putfield 197, 3) := dk_181 0 197 (dk_at dksX3_doStroke_6 18 rfl rfl)
theorem dX3_doStroke_165 : decode cX3_doStroke 165 = .ok (.aload_n 0, 1) := dk_42 (dk_at dksX3_doStroke_6 21 rfl rfl)
theorem dX3_doStroke_166 : decode cX3_doStroke 166 = .ok (.iconst 0, 1) := dk_3 (dk_at dksX3_doStroke_6 22 rfl rfl)
theorem dX3_doStroke_167 : decode cX3_doStroke 167 = .ok (.putfield 203, 3) := dk_181 0 203 (dk_at dksX3_doStroke_7 0 rfl rfl)
theorem dX3_doStroke_170 : decode cX3_doStroke 170 = .ok (.aload_n 0, 1) := dk_42 (dk_at dksX3_doStroke_7 3 rfl rfl)
theorem dX3_doStroke_171 : decode cX3_doStroke 171 = .ok (.iconst 0, 1) := dk_3 (dk_at dksX3_doStroke_7 4 rfl rfl)
theorem dX3_doStroke_172 : decode cX3_doStroke 172 = .ok (.putfield 200, 3) := dk_181 0 200 (dk_at dksX3_doStroke_7 5 rfl rfl)
theorem dX3_doStroke_175 : decode cX3_doStroke 175 = .ok (.aload_n 0, 1) := dk_42 (dk_at dksX3_doStroke_7 8 rfl rfl)
theorem dX3_doStroke_176 : decode cX3_doStroke 176 = .ok (.iconst 0, 1) := dk_3 (dk_at dksX3_doStroke_7 9 rfl rfl)
theorem dX3_doStroke_177 : decode cX3_doStroke 177 = .ok (.putfield 206, 3) := dk_181 0 206 (dk_at dksX3_doStroke_7 10 rfl rfl)
theorem dX3_doStroke_180 : decode cX3_doStroke 180 = .ok (.goto 78, 3) := dk_167 0 78 (dk_at dksX3_doStroke_7 13 rfl rfl)
theorem dX3_doStroke_183 : decode cX3_doStroke 183 = .ok (.aload_n 0, 1) := dk_42 (dk_at dksX3_doStroke_7 16 rfl rfl)
theorem dX3_doStroke_184 : decode cX3_doStroke 184 = .ok (.invokevirtual 185, 3) := dk_182 0 185 (dk_at dksX3_doStroke_7 17 rfl rfl)
theorem dX3_doStroke_187 : decode cX3_doStroke 187 = .ok (.goto 71, 3) := dk_167 0 71 (dk_at dksX3_doStroke_7 20 rfl rfl)
theorem dX3_doStroke_190 : decode cX3_doStroke 190 = .ok (.aload_n 0, 1) := dk_42 (dk_at dksX3_doStroke_7 23 rfl rfl)
theorem dX3_doStroke_191 : decode cX3_doStroke 191 = .ok (.aload_n 0, 1) := dk_42 (dk_at dksX3_doStroke_8 0 rfl rfl)
theorem dX3_doStroke_192 : decode cX3_doStroke 192 = .ok (.aload_n 0, 1) := dk_42 (dk_at dksX3_doStroke_8 1 rfl rfl)
theorem dX3_doStroke_193 : decode cX3_doStroke 193 = .ok (.getfield 13, 3) := dk_180 0 13 (dk_at dksX3_doStroke_8 2 rfl rfl)
theorem dX3_doStroke_196 : decode cX3_doStroke 196 = .ok (.iconst 4, 1) := dk_7 (dk_at dksX3_doStroke_8 5 rfl rfl)
theorem dX3_doStroke_197 : decode cX3_doStroke 197 = .ok (.iload_n 1, 1) := dk_27 (dk_at dksX3_doStroke_8 6 rfl rfl)
theorem dX3_doStroke_198 : decode cX3_doStroke 198 = .ok (.imul, 1) := dk_104 (dk_at dksX3_doStroke_8 7 rfl rfl)
theorem dX3_doStroke_199 : decode cX3_doStroke 199 = .ok (.iconst 3, 1) := dk_6 (dk_at dksX3_doStroke_8 8 rfl rfl)
theorem dX3_doStroke_200 : decode cX3_doStroke 200 = .ok (.iadd, 1) := dk_96 (dk_at dksX3_doStroke_8 9 rfl rfl)
theorem dX3_doStroke_201 : decode cX3_doStroke 201 = .ok (.iaload, 1) := dk_46 (dk_at dksX3_doStroke_8 10 rfl rfl)
theorem dX3_doStroke_202 : decode cX3_doStroke 202 = .ok (.aload_n 0, 1) := dk_42 (dk_at dksX3_doStroke_8 11 rfl rfl)
theorem dX3_doStroke_203 : decode cX3_doStroke 203 = .ok (.getfield 197, 3) := dk_180 0 197 (dk_at dksX3_doStroke_8 12 rfl rfl)
theorem dX3_doStroke_206 : decode cX3_doStroke 206 = .ok (.aload_n 0, 1) := dk_42 (dk_at dksX3_doStroke_8 15 rfl rfl)
theorem dX3_doStroke_207 : decode cX3_doStroke 207 = .ok (.getfield 13, 3) := dk_180 0 13 (dk_at dksX3_doStroke_8 16 rfl rfl)
theorem dX3_doStroke_210 : decode cX3_doStroke 210 = .ok (.iconst 4, 1) := dk_7 (dk_at dksX3_doStroke_8 19 rfl rfl)
theorem dX3_doStroke_211 : decode cX3_doStroke 211 = .ok (.iload_n 1, 1) := dk_27 (dk_at dksX3_doStroke_8 20 rfl rfl)
theorem dX3_doStroke_212 : decode cX3_doStroke 212 = .ok (.imul, 1) := dk_104 (dk_at dksX3_doStroke_8 21 rfl rfl)
theorem dX3_doStroke_213 : decode cX3_doStroke 213 = .ok (.iconst 2, 1) := dk_5 (dk_at dksX3_doStroke_8 22 rfl rfl)
theorem dX3_doStroke_214 : decode cX3_doStroke 214 = .ok (.iadd, 1) := dk_96 (dk_at dksX3_doStroke_8 23 rfl rfl)
theorem dX3_doStroke_215 : decode cX3_doStroke 215 = .ok (.iaload, 1) := dk_46 (dk_at dksX3_doStroke_9 0 rfl rfl)
theorem dX3_doStroke_216 : decode cX3_doStroke 216 = .ok (.invokevirtual 219, 3) := dk_182 0 219 (dk_at dksX3_doStroke_9 1 rfl rfl)
theorem dX3_doStroke_219 : decode cX3_doStroke 219 = .ok (.putfield 197, 3) := dk_181 0 197 (dk_at dksX3_doStroke_9 4 rfl rfl)
theorem dX3_doStroke_222 : decode cX3_doStroke 222 = .ok (.aload_n 0, 1) := dk_42 (dk_at dksX3_doStroke_9 7 rfl rfl)
theorem dX3_doStroke_223 : decode cX3_doStroke 223 = .ok (.iconst 0, 1) := dk_3 (dk_at dksX3_doStroke_9 8 rfl rfl)
theorem dX3_doStroke_224 : decode cX3_doStroke 224 = .ok (.putfield 206, 3) := dk_181 0 206 (dk_at dksX3_doStroke_9 9 rfl rfl)
theorem dX3_doStroke_227 : decode cX3_doStroke 227 = .ok (.goto 31, 3) := dk_167 0 31 (dk_at dksX3_doStroke_9 12 rfl rfl)
theorem dX3_doStroke_230 : decode cX3_doStroke 230 = .ok (.aload_n 0, 1) := dk_42 (dk_at dksX3_doStroke_9 15 rfl rfl)
theorem dX3_doStroke_231 : decode cX3_doStroke 231 = .ok (.aload_n 0, 1) := dk_42 (dk_at dksX3_doStroke_9 16 rfl rfl)
theorem dX3_doStroke_232 : decode cX3_doStroke 232 = .ok (.getfield 13, 3) := dk_180 0 13 (dk_at dksX3_doStroke_9 17 rfl rfl)
theorem dX3_doStroke_235 : decode cX3_doStroke 235 = .ok (.iconst 4, 1) := dk_7 (dk_at dksX3_doStroke_9 20 rfl rfl)
theorem dX3_doStroke_236 : decode cX3_doStroke 236 = .ok (.iload_n 1, 1) := dk_27 (dk_at dksX3_doStroke_9 21 rfl rfl)
theorem dX3_doStroke_237 : decode cX3_doStroke 237 = .ok (.imul, 1) := dk_104 (dk_at dksX3_doStroke_9 22 rfl rfl)
theorem dX3_doStroke_238 : decode cX3_doStroke 238 = .ok (.iconst 2, 1) := dk_5 (dk_at dksX3_doStroke_9 23 rfl rfl)
theorem dX3_doStroke_239 : decode cX3_doStroke 239 = .ok (.iadd, 1) := dk_96 (dk_at dksX3_doStroke_10 0 rfl rfl)
theorem dX3_doStroke_240 : decode cX3_doStroke 240 = .ok (.iaload, 1) := dk_46 (dk_at dksX3_doStroke_10 1 rfl rfl)
theorem dX3_doStroke_241 : decode cX3_doStroke 241 = .ok (.invokevirtual 215, 3) := dk_182 0 215 (dk_at dksX3_doStroke_10 2 rfl rfl)
theorem dX3_doStroke_244 : decode cX3_doStroke 244 = .ok (.aload_n 0, 1) := dk_42 (dk_at dksX3_doStroke_10 5 rfl rfl)
theorem dX3_doStroke_245 : decode cX3_doStroke 245 = .ok (.aload_n 0, 1) := dk_42 (dk_at dksX3_doStroke_10 6 rfl rfl)
theorem dX3_doStroke_246 : decode cX3_doStroke 246 = .ok (.getfield 13, 3) := dk_180 0 13 (dk_at dksX3_doStroke_10 7 rfl rfl)
theorem dX3_doStroke_249 : decode cX3_doStroke 249 = .ok (.iconst 4, 1) := dk_7 (dk_at dksX3_doStroke_10 10 rfl rfl)
theorem dX3_doStroke_250 : decode cX3_doStroke 250 = .ok (.iload_n 1, 1) := dk_27 (dk_at dksX3_doStroke_10 11 rfl rfl)
theorem dX3_doStroke_251 : decode cX3_doStroke 251 = .ok (.imul, 1) := dk_104 (dk_at dksX3_doStroke_10 12 rfl rfl)
theorem dX3_doStroke_252 : decode cX3_doStroke 252 = .ok (.iconst 3, 1) := dk_6 (dk_at dksX3_doStroke_10 13 rfl rfl)
theorem dX3_doStroke_253 : decode cX3_doStroke 253 = .ok (.iadd, 1) := dk_96 (dk_at dksX3_doStroke_10 14 rfl rfl)
theorem dX3_doStroke_254 : decode cX3_doStroke 254 = .ok (.iaload, 1) := dk_46 (dk_at dksX3_doStroke_10 15 rfl rfl)
theorem dX3_doStroke_255 : decode cX3_doStroke 255 = .ok (.invokevirtual 215, 3) := dk_182 0 215 (dk_at dksX3_doStroke_10 16 rfl rfl)
theorem dX3_doStroke_258 : decode cX3_doStroke 258 = .ok (.return_, 1) := dk_177 (dk_at dksX3_doStroke_10 19 rfl rfl)
abbrev cX3_figure : ByteArray := prog_15_method_22_code
def yX3_figure : MethodName := ⟨RX3, "figure", "(I)V"⟩
def dkwX3_figure_3 : List UInt8 := [177]
abbrev dktX3_figure_3 : List UInt8 := dkwX3_figure_3 ++ []
def dkwX3_figure_2 : List UInt8 := [28, 42, 180, 0, 65, 161, 0, 10, 42, 180, 0, 197, 167, 0, 4, 28, 181, 0, 197, 42, 4, 181, 0, 206]
abbrev dktX3_figure_2 : List UInt8 := dkwX3_figure_2 ++ dktX3_figure_3
def dkwX3_figure_1 : List UInt8 := [167, 0, 43, 42, 180, 0, 7, 154, 0, 16, 42, 28, 42, 180, 0, 65, 112, 181, 0, 197, 167, 0, 23, 42]
abbrev dktX3_figure_1 : List UInt8 := dkwX3_figure_1 ++ dktX3_figure_2
def dkwX3_figure_0 : List UInt8 := [42, 180, 0, 197, 42, 180, 0, 176, 104, 27, 96, 61, 42, 180, 0, 206, 154, 0, 11, 42, 27, 181, 0, 197]
abbrev dktX3_figure_0 : List UInt8 := dkwX3_figure_0 ++ dktX3_figure_1
theorem dksX3_figure_0 : cX3_figure.data.toList.drop 0 = dktX3_figure_0 := by decide +kernel
theorem dksX3_figure_1 : cX3_figure.data.toList.drop 24 = dktX3_figure_1 := dk_seg dksX3_figure_0 24 rfl rfl
theorem dksX3_figure_2 : cX3_figure.data.toList.drop 48 = dktX3_figure_2 := dk_seg dksX3_figure_1 24 rfl rfl
theorem dksX3_figure_3 : cX3_figure.data.toList.drop 72 = dktX3_figure_3 := dk_seg dksX3_figure_2 24 rfl rfl
theorem dX3_figure_0 : decode cX3_figure 0 = .ok (.aload_n 0, 1) := dk_42 (dk_at dksX3_figure_0 0 rfl rfl)
theorem dX3_figure_1 : decode cX3_figure 1 = .ok (.getfield 197, 3) := dk_180 0 197 (dk_at dksX3_figure_0 1 rfl rfl)
theorem dX3_figure_4 : decode cX3_figure 4 = .ok (.aload_n 0, 1) := dk_42 (dk_at dksX3_figure_0 4 rfl rfl)
theorem dX3_figure_5 : decode cX3_figure 5 = .ok (.getfield 176, 3) := dk_180 0 176 (dk_at dksX3_figure_0 5 rfl rfl)
theorem dX3_figure_8 : decode cX3_figure 8 = .ok (.imul, 1) := dk_104 (dk_at dksX3_figure_0 8 rfl rfl)
theorem dX3_figure_9 : decode cX3_figure 9 = .ok (.iload_n 1, 1) := dk_27 (dk_at dksX3_figure_0 9 rfl rfl)
theorem dX3_figure_10 : decode cX3_figure 10 = .ok (.iadd, 1) := dk_96 (dk_at dksX3_figure_0 10 rfl rfl)
theorem dX3_figure_11 : decode cX3_figure 11 = .ok (.istore_n 2, 1) := dk_61 (dk_at dksX3_figure_0 11 rfl rfl)
theorem dX3_figure_12 : decode cX3_figure 12 = .ok (.aload_n 0, 1) := dk_42 (dk_at dksX3_figure_0 12 rfl rfl)
theorem dX3_figure_13 : decode cX3_figure 13 = .ok (.getfield 206, 3) := dk_180 0 206 (dk_at dksX3_figure_0 13 rfl rfl)
theorem dX3_figure_16 : decode cX3_figure 16 = .ok (.ifCond .ne 11, 3) := dk_154 0 11 (dk_at dksX3_figure_0 16 rfl rfl)
theorem dX3_figure_19 : decode cX3_figure 19 = .ok (.aload_n 0, 1) := dk_42 (dk_at dksX3_figure_0 19 rfl rfl)
theorem dX3_figure_20 : decode cX3_figure 20 = .ok (.iload_n 1, 1) := dk_27 (dk_at dksX3_figure_0 20 rfl rfl)
theorem dX3_figure_21 : decode cX3_figure 21 = .ok (.putfield 197, 3) := dk_181 0 197 (dk_at dksX3_figure_0 21 rfl rfl)
theorem dX3_figure_24 : decode cX3_figure 24 = .ok (.goto 43, 3) := dk_167 0 43 (dk_at dksX3_figure_1 0 rfl rfl)
theorem dX3_figure_27 : decode cX3_figure 27 = .ok (.aload_n 0, 1) := dk_42 (dk_at dksX3_figure_1 3 rfl rfl)
theorem dX3_figure_28 : decode cX3_figure 28 = .ok (.getfield 7, 3) := dk_180 0 7 (dk_at dksX3_figure_1 4 rfl rfl)
theorem dX3_figure_31 : decode cX3_figure 31 = .ok (.ifCond .ne 16, 3) := dk_154 0 16 (dk_at dksX3_figure_1 7 rfl rfl)
theorem dX3_figure_34 : decode cX3_figure 34 = .ok (.aload_n 0, 1) := dk_42 (dk_at dksX3_figure_1 10 rfl rfl)
theorem dX3_figure_35 : decode cX3_figure 35 = .ok (.iload_n 2, 1) := dk_28 (dk_at dksX3_figure_1 11 rfl rfl)
theorem dX3_figure_36 : decode cX3_figure 36 = .ok (.aload_n 0, 1) := dk_42 (dk_at dksX3_figure_1 12 rfl rfl)
theorem dX3_figure_37 : decode cX3_figure 37 = .ok (.getfield 65, 3) := dk_180 0 65 (dk_at dksX3_figure_1 13 rfl rfl)
theorem dX3_figure_40 : decode cX3_figure 40 = .ok (.irem, 1) := dk_112 (dk_at dksX3_figure_1 16 rfl rfl)
theorem dX3_figure_41 : decode cX3_figure 41 = .ok (.putfield 197, 3) := dk_181 0 197 (dk_at dksX3_figure_1 17 rfl rfl)
theorem dX3_figure_44 : decode cX3_figure 44 = .ok (.goto 23, 3) := dk_167 0 23 (dk_at dksX3_figure_1 20 rfl rfl)
theorem dX3_figure_47 : decode cX3_figure 47 = .ok (.aload_n 0, 1) := dk_42 (dk_at dksX3_figure_1 23 rfl rfl)
theorem dX3_figure_48 : decode cX3_figure 48 = .ok (.iload_n 2, 1) := dk_28 (dk_at dksX3_figure_2 0 rfl rfl)
theorem dX3_figure_49 : decode cX3_figure 49 = .ok (.aload_n 0, 1) := dk_42 (dk_at dksX3_figure_2 1 rfl rfl)
theorem dX3_figure_50 : decode cX3_figure 50 = .ok (.getfield 65, 3) := dk_180 0 65 (dk_at dksX3_figure_2 2 rfl rfl)
theorem dX3_figure_53 : decode cX3_figure 53 = .ok (.if_icmp .lt 10, 3) := dk_161 0 10 (dk_at dksX3_figure_2 5 rfl rfl)
theorem dX3_figure_56 : decode cX3_figure 56 = .ok (.aload_n 0, 1) := dk_42 (dk_at dksX3_figure_2 8 rfl rfl)
theorem dX3_figure_57 : decode cX3_figure 57 = .ok (.getfield 197, 3) := dk_180 0 197 (dk_at dksX3_figure_2 9 rfl rfl)
theorem dX3_figure_60 : decode cX3_figure 60 = .ok (.goto 4, 3) := dk_167 0 4 (dk_at dksX3_figure_2 12 rfl rfl)
theorem dX3_figure_63 : decode cX3_figure 63 = .ok (.iload_n 2, 1) := dk_28 (dk_at dksX3_figure_2 15 rfl rfl)
theorem dX3_figure_64 : decode cX3_figure 64 = .ok (.putfield 197, 3) := dk_181 0 197 (dk_at dksX3_figure_2 16 rfl rfl)
theorem dX3_figure_67 : decode cX3_figure 67 = .ok (.aload_n 0, 1) := dk_42 (dk_at dksX3_figure_2 19 rfl rfl)
theorem dX3_figure_68 : decode cX3_figure 68 = .ok (.iconst 1, 1) := dk_4 (dk_at dksX3_figure_2 20 rfl rfl)
theorem dX3_figure_69 : decode cX3_figure 69 = .ok (.putfield 206, 3) := dk_181 0 206 (dk_at dksX3_figure_2 21 rfl rfl)
theorem dX3_figure_72 : decode cX3_figure 72 = .ok (.return_, 1) := dk_177 (dk_at dksX3_figure_3 0 rfl rfl)
abbrev cX3_reckon : ByteArray := prog_15_method_21_code
def yX3_reckon : MethodName := ⟨RX3, "reckon", "(III)I"⟩
def dkwX3_reckon_1 : List UInt8 := [29, 104, 182, 0, 211, 172]
abbrev dktX3_reckon_1 : List UInt8 := dkwX3_reckon_1 ++ []
def dkwX3_reckon_0 : List UInt8 := [42, 27, 4, 160, 0, 9, 28, 29, 96, 167, 0, 17, 27, 5, 160, 0, 9, 28, 29, 100, 167, 0, 6, 28]
abbrev dktX3_reckon_0 : List UInt8 := dkwX3_reckon_0 ++ dktX3_reckon_1
theorem dksX3_reckon_0 : cX3_reckon.data.toList.drop 0 = dktX3_reckon_0 := by decide +kernel
theorem dksX3_reckon_1 : cX3_reckon.data.toList.drop 24 = dktX3_reckon_1 := dk_seg dksX3_reckon_0 24 rfl rfl
theorem dX3_reckon_0 : decode cX3_reckon 0 = .ok (.aload_n 0, 1) := dk_42 (dk_at dksX3_reckon_0 0 rfl rfl)
theorem dX3_reckon_1 : decode cX3_reckon 1 = .ok (.iload_n 1, 1) := dk_27 (dk_at dksX3_reckon_0 1 rfl rfl)
theorem dX3_reckon_2 : decode cX3_reckon 2 = .ok (.iconst 1, 1) := dk_4 (dk_at dksX3_reckon_0 2 rfl rfl)
theorem dX3_reckon_3 : decode cX3_reckon 3 = .ok (.if_icmp .ne 9, 3) := dk_160 0 9 (dk_at dksX3_reckon_0 3 rfl rfl)
theorem dX3_reckon_6 : decode cX3_reckon 6 = .ok (.iload_n 2, 1) := dk_28 (dk_at dksX3_reckon_0 6 rfl rfl)
theorem dX3_reckon_7 : decode cX3_reckon 7 = .ok (.iload_n 3, 1) := dk_29 (dk_at dksX3_reckon_0 7 rfl rfl)
theorem dX3_reckon_8 : decode cX3_reckon 8 = .ok (.iadd, 1) := dk_96 (dk_at dksX3_reckon_0 8 rfl rfl)
theorem dX3_reckon_9 : decode cX3_reckon 9 = .ok (.goto 17, 3) := dk_167 0 17 (dk_at dksX3_reckon_0 9 rfl rfl)
theorem dX3_reckon_12 : decode cX3_reckon 12 = .ok (.iload_n 1, 1) := dk_27 (dk_at dksX3_reckon_0 12 rfl rfl)
theorem dX3_reckon_13 : decode cX3_reckon 13 = .ok (.iconst 2, 1) := dk_5 (dk_at dksX3_reckon_0 13 rfl rfl)
theorem dX3_reckon_14 : decode cX3_reckon 14 = .ok (.if_icmp .ne 9, 3) := dk_160 0 9 (dk_at dksX3_reckon_0 14 rfl rfl)
theorem dX3_reckon_17 : decode cX3_reckon 17 = .ok (.iload_n 2, 1) := dk_28 (dk_at dksX3_reckon_0 17 rfl rfl)
theorem dX3_reckon_18 : decode cX3_reckon 18 = .ok (.iload_n 3, 1) := dk_29 (dk_at dksX3_reckon_0 18 rfl rfl)
theorem dX3_reckon_19 : decode cX3_reckon 19 = .ok (.isub, 1) := dk_100 (dk_at dksX3_reckon_0 19 rfl rfl)
theorem dX3_reckon_20 : decode cX3_reckon 20 = .ok (.goto 6, 3) := dk_167 0 6 (dk_at dksX3_reckon_0 20 rfl rfl)
theorem dX3_reckon_23 : decode cX3_reckon 23 = .ok (.iload_n 2, 1) := dk_28 (dk_at dksX3_reckon_0 23 rfl rfl)
theorem dX3_reckon_24 : decode cX3_reckon 24 = .ok (.iload_n 3, 1) := dk_29 (dk_at dksX3_reckon_1 0 rfl rfl)
theorem dX3_reckon_25 : decode cX3_reckon 25 = .ok (.imul, 1) := dk_104 (dk_at dksX3_reckon_1 1 rfl rfl)
theorem dX3_reckon_26 : decode cX3_reckon 26 = .ok (.invokevirtual 211, 3) := dk_182 0 211 (dk_at dksX3_reckon_1 2 rfl rfl)
theorem dX3_reckon_29 : decode cX3_reckon 29 = .ok (.ireturn, 1) := dk_172 (dk_at dksX3_reckon_1 5 rfl rfl)
abbrev cX3_bound : ByteArray := prog_15_method_20_code
def yX3_bound : MethodName := ⟨RX3, "bound", "(I)I"⟩
def dkwX3_bound_2 : List UInt8 := [167, 0, 4, 27, 172]
abbrev dktX3_bound_2 : List UInt8 := dkwX3_bound_2 ++ []
def dkwX3_bound_1 : List UInt8 := [27, 156, 0, 7, 3, 167, 0, 21, 27, 42, 180, 0, 65, 161, 0, 12, 42, 180, 0, 65, 4, 100]
abbrev dktX3_bound_1 : List UInt8 := dkwX3_bound_1 ++ dktX3_bound_2
def dkwX3_bound_0 : List UInt8 := [42, 180, 0, 7, 154, 0, 20, 27, 42, 180, 0, 65, 112, 42, 180, 0, 65, 96, 42, 180, 0, 65, 112, 172]
abbrev dktX3_bound_0 : List UInt8 := dkwX3_bound_0 ++ dktX3_bound_1
theorem dksX3_bound_0 : cX3_bound.data.toList.drop 0 = dktX3_bound_0 := by decide +kernel
theorem dksX3_bound_1 : cX3_bound.data.toList.drop 24 = dktX3_bound_1 := dk_seg dksX3_bound_0 24 rfl rfl
theorem dksX3_bound_2 : cX3_bound.data.toList.drop 46 = dktX3_bound_2 := dk_seg dksX3_bound_1 22 rfl rfl
theorem dX3_bound_0 : decode cX3_bound 0 = .ok (.aload_n 0, 1) := dk_42 (dk_at dksX3_bound_0 0 rfl rfl)
theorem dX3_bound_1 : decode cX3_bound 1 = .ok (.getfield 7, 3) := dk_180 0 7 (dk_at dksX3_bound_0 1 rfl rfl)
theorem dX3_bound_4 : decode cX3_bound 4 = .ok (.ifCond .ne 20, 3) := dk_154 0 20 (dk_at dksX3_bound_0 4 rfl rfl)
theorem dX3_bound_7 : decode cX3_bound 7 = .ok (.iload_n 1, 1) := dk_27 (dk_at dksX3_bound_0 7 rfl rfl)
theorem dX3_bound_8 : decode cX3_bound 8 = .ok (.aload_n 0, 1) := dk_42 (dk_at dksX3_bound_0 8 rfl rfl)
theorem dX3_bound_9 : decode cX3_bound 9 = .ok (.getfield 65, 3) := dk_180 0 65 (dk_at dksX3_bound_0 9 rfl rfl)
theorem dX3_bound_12 : decode cX3_bound 12 = .ok (.irem, 1) := dk_112 (dk_at dksX3_bound_0 12 rfl rfl)
theorem dX3_bound_13 : decode cX3_bound 13 = .ok (.aload_n 0, 1) := dk_42 (dk_at dksX3_bound_0 13 rfl rfl)
theorem dX3_bound_14 : decode cX3_bound 14 = .ok (.getfield 65, 3) := dk_180 0 65 (dk_at dksX3_bound_0 14 rfl rfl)
theorem dX3_bound_17 : decode cX3_bound 17 = .ok (.iadd, 1) := dk_96 (dk_at dksX3_bound_0 17 rfl rfl)
theorem dX3_bound_18 : decode cX3_bound 18 = .ok (.aload_n 0, 1) := dk_42 (dk_at dksX3_bound_0 18 rfl rfl)
theorem dX3_bound_19 : decode cX3_bound 19 = .ok (.getfield 65, 3) := dk_180 0 65 (dk_at dksX3_bound_0 19 rfl rfl)
theorem dX3_bound_22 : decode cX3_bound 22 = .ok (.irem, 1) := dk_112 (dk_at dksX3_bound_0 22 rfl rfl)
theorem dX3_bound_23 : decode cX3_bound 23 = .ok (.ireturn, 1) := dk_172 (dk_at dksX3_bound_0 23 rfl rfl)
theorem dX3_bound_24 : decode cX3_bound 24 = .ok (.iload_n 1, 1) := dk_27 (dk_at dksX3_bound_1 0 rfl rfl)
theorem dX3_bound_25 : decode cX3_bound 25 = .ok (.ifCond .ge 7, 3) := dk_156 0 7 (dk_at dksX3_bound_1 1 rfl rfl)
theorem dX3_bound_28 : decode cX3_bound 28 = .ok (.iconst 0, 1) := dk_3 (dk_at dksX3_bound_1 4 rfl rfl)
theorem dX3_bound_29 : decode cX3_bound 29 = .ok (.goto 21, 3) := dk_167 0 21 (dk_at dksX3_bound_1 5 rfl rfl)
theorem dX3_bound_32 : decode cX3_bound 32 = .ok (.iload_n 1, 1) := dk_27 (dk_at dksX3_bound_1 8 rfl rfl)
theorem dX3_bound_33 : decode cX3_bound 33 = .ok (.aload_n 0, 1) := dk_42 (dk_at dksX3_bound_1 9 rfl rfl)
theorem dX3_bound_34 : decode cX3_bound 34 = .ok (.getfield 65, 3) := dk_180 0 65 (dk_at dksX3_bound_1 10 rfl rfl)
theorem dX3_bound_37 : decode cX3_bound 37 = .ok (.if_icmp .lt 12, 3) := dk_161 0 12 (dk_at dksX3_bound_1 13 rfl rfl)
theorem dX3_bound_40 : decode cX3_bound 40 = .ok (.aload_n 0, 1) := dk_42 (dk_at dksX3_bound_1 16 rfl rfl)
theorem dX3_bound_41 : decode cX3_bound 41 = .ok (.getfield 65, 3) := dk_180 0 65 (dk_at dksX3_bound_1 17 rfl rfl)
theorem dX3_bound_44 : decode cX3_bound 44 = .ok (.iconst 1, 1) := dk_4 (dk_at dksX3_bound_1 20 rfl rfl)
theorem dX3_bound_45 : decode cX3_bound 45 = .ok (.isub, 1) := dk_100 (dk_at dksX3_bound_1 21 rfl rfl)
theorem dX3_bound_46 : decode cX3_bound 46 = .ok (.goto 4, 3) := dk_167 0 4 (dk_at dksX3_bound_2 0 rfl rfl)
theorem dX3_bound_49 : decode cX3_bound 49 = .ok (.iload_n 1, 1) := dk_27 (dk_at dksX3_bound_2 3 rfl rfl)
theorem dX3_bound_50 : decode cX3_bound 50 = .ok (.ireturn, 1) := dk_172 (dk_at dksX3_bound_2 4 rfl rfl)
abbrev cX3_begin : ByteArray := prog_15_method_30_code
def yX3_begin : MethodName := ⟨RX3, "begin", "()I"⟩
def dkwX3_begin_0 : List UInt8 := [42, 180, 0, 197, 60, 42, 182, 0, 185, 27, 172]
abbrev dktX3_begin_0 : List UInt8 := dkwX3_begin_0 ++ []
theorem dksX3_begin_0 : cX3_begin.data.toList.drop 0 = dktX3_begin_0 := by decide +kernel
theorem dX3_begin_0 : decode cX3_begin 0 = .ok (.aload_n 0, 1) := dk_42 (dk_at dksX3_begin_0 0 rfl rfl)
theorem dX3_begin_1 : decode cX3_begin 1 = .ok (.getfield 197, 3) := dk_180 0 197 (dk_at dksX3_begin_0 1 rfl rfl)
theorem dX3_begin_4 : decode cX3_begin 4 = .ok (.istore_n 1, 1) := dk_60 (dk_at dksX3_begin_0 4 rfl rfl)
theorem dX3_begin_5 : decode cX3_begin 5 = .ok (.aload_n 0, 1) := dk_42 (dk_at dksX3_begin_0 5 rfl rfl)
theorem dX3_begin_6 : decode cX3_begin 6 = .ok (.invokevirtual 185, 3) := dk_182 0 185 (dk_at dksX3_begin_0 6 rfl rfl)
theorem dX3_begin_9 : decode cX3_begin 9 = .ok (.iload_n 1, 1) := dk_27 (dk_at dksX3_begin_0 9 rfl rfl)
theorem dX3_begin_10 : decode cX3_begin 10 = .ok (.ireturn, 1) := dk_172 (dk_at dksX3_begin_0 10 rfl rfl)
abbrev cX3_fewest : ByteArray := prog_15_method_32_code
def yX3_fewest : MethodName := ⟨RX3, "fewest", "(I)I"⟩
def dkwX3_fewest_1 : List UInt8 := [46, 172]
abbrev dktX3_fewest_1 : List UInt8 := dkwX3_fewest_1 ++ []
def dkwX3_fewest_0 : List UInt8 := [42, 27, 182, 0, 243, 154, 0, 6, 18, 72, 172, 42, 42, 180, 0, 182, 182, 0, 246, 42, 180, 0, 56, 27]
abbrev dktX3_fewest_0 : List UInt8 := dkwX3_fewest_0 ++ dktX3_fewest_1
theorem dksX3_fewest_0 : cX3_fewest.data.toList.drop 0 = dktX3_fewest_0 := by decide +kernel
theorem dksX3_fewest_1 : cX3_fewest.data.toList.drop 24 = dktX3_fewest_1 := dk_seg dksX3_fewest_0 24 rfl rfl
theorem dX3_fewest_0 : decode cX3_fewest 0 = .ok (.aload_n 0, 1) := dk_42 (dk_at dksX3_fewest_0 0 rfl rfl)
theorem dX3_fewest_1 : decode cX3_fewest 1 = .ok (.iload_n 1, 1) := dk_27 (dk_at dksX3_fewest_0 1 rfl rfl)
theorem dX3_fewest_2 : decode cX3_fewest 2 = .ok (.invokevirtual 243, 3) := dk_182 0 243 (dk_at dksX3_fewest_0 2 rfl rfl)
theorem dX3_fewest_5 : decode cX3_fewest 5 = .ok (.ifCond .ne 6, 3) := dk_154 0 6 (dk_at dksX3_fewest_0 5 rfl rfl)
theorem dX3_fewest_8 : decode cX3_fewest 8 = .ok (.ldc 72, 2) := dk_18 72 (dk_at dksX3_fewest_0 8 rfl rfl)
theorem dX3_fewest_10 : decode cX3_fewest 10 = .ok (.ireturn, 1) := dk_172 (dk_at dksX3_fewest_0 10 rfl rfl)
theorem dX3_fewest_11 : decode cX3_fewest 11 = .ok (.aload_n 0, 1) := dk_42 (dk_at dksX3_fewest_0 11 rfl rfl)
theorem dX3_fewest_12 : decode cX3_fewest 12 = .ok (.aload_n 0, 1) := dk_42 (dk_at dksX3_fewest_0 12 rfl rfl)
theorem dX3_fewest_13 : decode cX3_fewest 13 = .ok (.getfield 182, 3) := dk_180 0 182 (dk_at dksX3_fewest_0 13 rfl rfl)
theorem dX3_fewest_16 : decode cX3_fewest 16 = .ok (.invokevirtual 246, 3) := dk_182 0 246 (dk_at dksX3_fewest_0 16 rfl rfl)
theorem dX3_fewest_19 : decode cX3_fewest 19 = .ok (.aload_n 0, 1) := dk_42 (dk_at dksX3_fewest_0 19 rfl rfl)
theorem dX3_fewest_20 : decode cX3_fewest 20 = .ok (.getfield 56, 3) := dk_180 0 56 (dk_at dksX3_fewest_0 20 rfl rfl)
theorem dX3_fewest_23 : decode cX3_fewest 23 = .ok (.iload_n 1, 1) := dk_27 (dk_at dksX3_fewest_0 23 rfl rfl)
theorem dX3_fewest_24 : decode cX3_fewest 24 = .ok (.iaload, 1) := dk_46 (dk_at dksX3_fewest_1 0 rfl rfl)
theorem dX3_fewest_25 : decode cX3_fewest 25 = .ok (.ireturn, 1) := dk_172 (dk_at dksX3_fewest_1 1 rfl rfl)
abbrev cX3_isNumber : ByteArray := prog_15_method_4_code
def yX3_isNumber : MethodName := ⟨RX3, "isNumber", "(I)Z"⟩
def dkwX3_isNumber_0 : List UInt8 := [27, 3, 42, 180, 0, 65, 4, 100, 184, 0, 68, 172]
abbrev dktX3_isNumber_0 : List UInt8 := dkwX3_isNumber_0 ++ []
theorem dksX3_isNumber_0 : cX3_isNumber.data.toList.drop 0 = dktX3_isNumber_0 := by decide +kernel
theorem dX3_isNumber_0 : decode cX3_isNumber 0 = .ok (.iload_n 1, 1) := dk_27 (dk_at dksX3_isNumber_0 0 rfl rfl)
theorem dX3_isNumber_1 : decode cX3_isNumber 1 = .ok (.iconst 0, 1) := dk_3 (dk_at dksX3_isNumber_0 1 rfl rfl)
theorem dX3_isNumber_2 : decode cX3_isNumber 2 = .ok (.aload_n 0, 1) := dk_42 (dk_at dksX3_isNumber_0 2 rfl rfl)
theorem dX3_isNumber_3 : decode cX3_isNumber 3 = .ok (.getfield 65, 3) := dk_180 0 65 (dk_at dksX3_isNumber_0 3 rfl rfl)
theorem dX3_isNumber_6 : decode cX3_isNumber 6 = .ok (.iconst 1, 1) := dk_4 (dk_at dksX3_isNumber_0 6 rfl rfl)
theorem dX3_isNumber_7 : decode cX3_isNumber 7 = .ok (.isub, 1) := dk_100 (dk_at dksX3_isNumber_0 7 rfl rfl)
theorem dX3_isNumber_8 : decode cX3_isNumber 8 = .ok (.invokestatic 68, 3) := dk_184 0 68 (dk_at dksX3_isNumber_0 8 rfl rfl)
theorem dX3_isNumber_11 : decode cX3_isNumber 11 = .ok (.ireturn, 1) := dk_172 (dk_at dksX3_isNumber_0 11 rfl rfl)
abbrev cX3_layFewest : ByteArray := prog_15_method_31_code
def yX3_layFewest : MethodName := ⟨RX3, "layFewest", "(I)V"⟩
def dkwX3_layFewest_9 : List UInt8 := [79, 132, 3, 1, 132, 7, 1, 167, 255, 184, 132, 4, 1, 167, 255, 118, 42, 28, 182, 0, 223, 177]
abbrev dktX3_layFewest_9 : List UInt8 := dkwX3_layFewest_9 ++ []
def dkwX3_layFewest_8 : List UInt8 := [96, 79, 42, 180, 0, 50, 21, 8, 18, 43, 21, 7, 104, 21, 5, 96, 79, 42, 180, 0, 47, 29, 21, 8]
abbrev dktX3_layFewest_8 : List UInt8 := dkwX3_layFewest_8 ++ dktX3_layFewest_9
def dkwX3_layFewest_7 : List UInt8 := [180, 0, 44, 21, 8, 46, 2, 160, 0, 45, 42, 180, 0, 44, 21, 8, 42, 180, 0, 44, 21, 5, 46, 4]
abbrev dktX3_layFewest_7 : List UInt8 := dkwX3_layFewest_7 ++ dktX3_layFewest_8
def dkwX3_layFewest_6 : List UInt8 := [21, 5, 79, 3, 54, 7, 21, 7, 27, 162, 0, 72, 42, 21, 5, 21, 7, 182, 0, 239, 54, 8, 42]
abbrev dktX3_layFewest_6 : List UInt8 := dkwX3_layFewest_6 ++ dktX3_layFewest_7
def dkwX3_layFewest_5 : List UInt8 := [160, 0, 26, 42, 180, 0, 56, 21, 6, 42, 180, 0, 44, 21, 5, 46, 79, 42, 180, 0, 59, 21, 6]
abbrev dktX3_layFewest_5 : List UInt8 := dkwX3_layFewest_5 ++ dktX3_layFewest_6
def dkwX3_layFewest_4 : List UInt8 := [180, 0, 47, 21, 4, 46, 54, 5, 42, 21, 5, 182, 0, 236, 54, 6, 42, 180, 0, 56, 21, 6, 46, 2]
abbrev dktX3_layFewest_4 : List UInt8 := dkwX3_layFewest_4 ++ dktX3_layFewest_5
def dkwX3_layFewest_3 : List UInt8 := [180, 0, 44, 28, 3, 79, 42, 180, 0, 50, 28, 2, 79, 3, 54, 4, 21, 4, 29, 162, 0, 138, 42]
abbrev dktX3_layFewest_3 : List UInt8 := dkwX3_layFewest_3 ++ dktX3_layFewest_4
def dkwX3_layFewest_2 : List UInt8 := [180, 0, 44, 29, 2, 79, 132, 3, 1, 167, 255, 238, 4, 62, 42, 180, 0, 47, 3, 28, 79, 42]
abbrev dktX3_layFewest_2 : List UInt8 := dkwX3_layFewest_2 ++ dktX3_layFewest_3
def dkwX3_layFewest_1 : List UInt8 := [180, 0, 65, 154, 0, 4, 177, 42, 182, 0, 229, 61, 3, 62, 29, 42, 182, 0, 233, 162, 0, 16, 42]
abbrev dktX3_layFewest_1 : List UInt8 := dkwX3_layFewest_1 ++ dktX3_layFewest_2
def dkwX3_layFewest_0 : List UInt8 := [3, 61, 28, 16, 100, 162, 0, 16, 42, 180, 0, 56, 28, 2, 79, 132, 2, 1, 167, 255, 240, 42]
abbrev dktX3_layFewest_0 : List UInt8 := dkwX3_layFewest_0 ++ dktX3_layFewest_1
theorem dksX3_layFewest_0 : cX3_layFewest.data.toList.drop 0 = dktX3_layFewest_0 := by decide +kernel
theorem dksX3_layFewest_1 : cX3_layFewest.data.toList.drop 22 = dktX3_layFewest_1 := dk_seg dksX3_layFewest_0 22 rfl rfl
theorem dksX3_layFewest_2 : cX3_layFewest.data.toList.drop 45 = dktX3_layFewest_2 := dk_seg dksX3_layFewest_1 23 rfl rfl
theorem dksX3_layFewest_3 : cX3_layFewest.data.toList.drop 67 = dktX3_layFewest_3 := dk_seg dksX3_layFewest_2 22 rfl rfl
theorem dksX3_layFewest_4 : cX3_layFewest.data.toList.drop 90 = dktX3_layFewest_4 := dk_seg dksX3_layFewest_3 23 rfl rfl
theorem dksX3_layFewest_5 : cX3_layFewest.data.toList.drop 114 = dktX3_layFewest_5 := dk_seg dksX3_layFewest_4 24 rfl rfl
theorem dksX3_layFewest_6 : cX3_layFewest.data.toList.drop 137 = dktX3_layFewest_6 := dk_seg dksX3_layFewest_5 23 rfl rfl
theorem dksX3_layFewest_7 : cX3_layFewest.data.toList.drop 160 = dktX3_layFewest_7 := dk_seg dksX3_layFewest_6 23 rfl rfl
theorem dksX3_layFewest_8 : cX3_layFewest.data.toList.drop 184 = dktX3_layFewest_8 := dk_seg dksX3_layFewest_7 24 rfl rfl
theorem dksX3_layFewest_9 : cX3_layFewest.data.toList.drop 208 = dktX3_layFewest_9 := dk_seg dksX3_layFewest_8 24 rfl rfl
theorem dX3_layFewest_0 : decode cX3_layFewest 0 = .ok (.iconst 0, 1) := dk_3 (dk_at dksX3_layFewest_0 0 rfl rfl)
theorem dX3_layFewest_1 : decode cX3_layFewest 1 = .ok (.istore_n 2, 1) := dk_61 (dk_at dksX3_layFewest_0 1 rfl rfl)
theorem dX3_layFewest_2 : decode cX3_layFewest 2 = .ok (.iload_n 2, 1) := dk_28 (dk_at dksX3_layFewest_0 2 rfl rfl)
theorem dX3_layFewest_3 : decode cX3_layFewest 3 = .ok (.bipush 100, 2) := dk_16 100 (dk_at dksX3_layFewest_0 3 rfl rfl)
theorem dX3_layFewest_5 : decode cX3_layFewest 5 = .ok (.if_icmp .ge 16, 3) := dk_162 0 16 (dk_at dksX3_layFewest_0 5 rfl rfl)
theorem dX3_layFewest_8 : decode cX3_layFewest 8 = .ok (.aload_n 0, 1) := dk_42 (dk_at dksX3_layFewest_0 8 rfl rfl)
theorem dX3_layFewest_9 : decode cX3_layFewest 9 = .ok (.getfield 56, 3) := dk_180 0 56 (dk_at dksX3_layFewest_0 9 rfl rfl)
theorem dX3_layFewest_12 : decode cX3_layFewest 12 = .ok (.iload_n 2, 1) := dk_28 (dk_at dksX3_layFewest_0 12 rfl rfl)
theorem dX3_layFewest_13 : decode cX3_layFewest 13 = .ok (.iconst (-1), 1) := dk_2 (dk_at dksX3_layFewest_0 13 rfl rfl)
theorem dX3_layFewest_14 : decode cX3_layFewest 14 = .ok (.iastore, 1) := dk_79 (dk_at dksX3_layFewest_0 14 rfl rfl)
theorem dX3_layFewest_15 : decode cX3_layFewest 15 = .ok (.iinc 2 1, 3) := dk_132 2 1 (dk_at dksX3_layFewest_0 15 rfl rfl)
theorem dX3_layFewest_18 : decode cX3_layFewest 18 = .ok (.goto (-16), 3) := dk_167 255 240 (dk_at dksX3_layFewest_0 18 rfl rfl)
theorem dX3_layFewest_21 : decode cX3_layFewest 21 = .ok (.aload_n 0, 1) := dk_42 (dk_at dksX3_layFewest_0 21 rfl rfl)
theorem dX3_layFewest_22 : decode cX3_layFewest 22 = .ok (.getfield 65, 3) := dk_180 0 65 (dk_at dksX3_layFewest_1 0 rfl rfl)
theorem dX3_layFewest_25 : decode cX3_layFewest 25 = .ok (.ifCond .ne 4, 3) := dk_154 0 4 (dk_at dksX3_layFewest_1 3 rfl rfl)
theorem dX3_layFewest_28 : decode cX3_layFewest 28 = .ok (.return_, 1) := dk_177 (dk_at dksX3_layFewest_1 6 rfl rfl)
theorem dX3_layFewest_29 : decode cX3_layFewest 29 = .ok (.aload_n 0, 1) := dk_42 (dk_at dksX3_layFewest_1 7 rfl rfl)
theorem dX3_layFewest_30 : decode cX3_layFewest 30 = .ok (.invokevirtual 229, 3) := dk_182 0 229 (dk_at dksX3_layFewest_1 8 rfl rfl)
theorem dX3_layFewest_33 : decode cX3_layFewest 33 = .ok (.istore_n 2, 1) := dk_61 (dk_at dksX3_layFewest_1 11 rfl rfl)
theorem dX3_layFewest_34 : decode cX3_layFewest 34 = .ok (.iconst 0, 1) := dk_3 (dk_at dksX3_layFewest_1 12 rfl rfl)
theorem dX3_layFewest_35 : decode cX3_layFewest 35 = .ok (.istore_n 3, 1) := dk_62 (dk_at dksX3_layFewest_1 13 rfl rfl)
theorem dX3_layFewest_36 : decode cX3_layFewest 36 = .ok (.iload_n 3, 1) := dk_29 (dk_at dksX3_layFewest_1 14 rfl rfl)
theorem dX3_layFewest_37 : decode cX3_layFewest 37 = .ok (.aload_n 0, 1) := dk_42 (dk_at dksX3_layFewest_1 15 rfl rfl)
theorem dX3_layFewest_38 : decode cX3_layFewest 38 = .ok (.invokevirtual 233, 3) := dk_182 0 233 (dk_at dksX3_layFewest_1 16 rfl rfl)
theorem dX3_layFewest_41 : decode cX3_layFewest 41 = .ok (.if_icmp .ge 16, 3) := dk_162 0 16 (dk_at dksX3_layFewest_1 19 rfl rfl)
theorem dX3_layFewest_44 : decode cX3_layFewest 44 = .ok (.aload_n 0, 1) := dk_42 (dk_at dksX3_layFewest_1 22 rfl rfl)
theorem dX3_layFewest_45 : decode cX3_layFewest 45 = .ok (.getfield 44, 3) := dk_180 0 44 (dk_at dksX3_layFewest_2 0 rfl rfl)
theorem dX3_layFewest_48 : decode cX3_layFewest 48 = .ok (.iload_n 3, 1) := dk_29 (dk_at dksX3_layFewest_2 3 rfl rfl)
theorem dX3_layFewest_49 : decode cX3_layFewest 49 = .ok (.iconst (-1), 1) := dk_2 (dk_at dksX3_layFewest_2 4 rfl rfl)
theorem dX3_layFewest_50 : decode cX3_layFewest 50 = .ok (.iastore, 1) := dk_79 (dk_at dksX3_layFewest_2 5 rfl rfl)
theorem dX3_layFewest_51 : decode cX3_layFewest 51 = .ok (.iinc 3 1, 3) := dk_132 3 1 (dk_at dksX3_layFewest_2 6 rfl rfl)
theorem dX3_layFewest_54 : decode cX3_layFewest 54 = .ok (.goto (-18), 3) := dk_167 255 238 (dk_at dksX3_layFewest_2 9 rfl rfl)
theorem dX3_layFewest_57 : decode cX3_layFewest 57 = .ok (.iconst 1, 1) := dk_4 (dk_at dksX3_layFewest_2 12 rfl rfl)
theorem dX3_layFewest_58 : decode cX3_layFewest 58 = .ok (.istore_n 3, 1) := dk_62 (dk_at dksX3_layFewest_2 13 rfl rfl)
theorem dX3_layFewest_59 : decode cX3_layFewest 59 = .ok (.aload_n 0, 1) := dk_42 (dk_at dksX3_layFewest_2 14 rfl rfl)
theorem dX3_layFewest_60 : decode cX3_layFewest 60 = .ok (.getfield 47, 3) := dk_180 0 47 (dk_at dksX3_layFewest_2 15 rfl rfl)
theorem dX3_layFewest_63 : decode cX3_layFewest 63 = .ok (.iconst 0, 1) := dk_3 (dk_at dksX3_layFewest_2 18 rfl rfl)
theorem dX3_layFewest_64 : decode cX3_layFewest 64 = .ok (.iload_n 2, 1) := dk_28 (dk_at dksX3_layFewest_2 19 rfl rfl)
theorem dX3_layFewest_65 : decode cX3_layFewest 65 = .ok (.iastore, 1) := dk_79 (dk_at dksX3_layFewest_2 20 rfl rfl)
theorem dX3_layFewest_66 : decode cX3_layFewest 66 = .ok (.aload_n 0, 1) := dk_42 (dk_at dksX3_layFewest_2 21 rfl rfl)
theorem dX3_layFewest_67 : decode cX3_layFewest 67 = .ok (.getfield 44, 3) := dk_180 0 44 (dk_at dksX3_layFewest_3 0 rfl rfl)
theorem dX3_layFewest_70 : decode cX3_layFewest 70 = .ok (.iload_n 2, 1) := dk_28 (dk_at dksX3_layFewest_3 3 rfl rfl)
theorem dX3_layFewest_71 : decode cX3_layFewest 71 = .ok (.iconst 0, 1) := dk_3 (dk_at dksX3_layFewest_3 4 rfl rfl)
theorem dX3_layFewest_72 : decode cX3_layFewest 72 = .ok (.iastore, 1) := dk_79 (dk_at dksX3_layFewest_3 5 rfl rfl)
theorem dX3_layFewest_73 : decode cX3_layFewest 73 = .ok (.aload_n 0, 1) := dk_42 (dk_at dksX3_layFewest_3 6 rfl rfl)
theorem dX3_layFewest_74 : decode cX3_layFewest 74 = .ok (.getfield 50, 3) := dk_180 0 50 (dk_at dksX3_layFewest_3 7 rfl rfl)
theorem dX3_layFewest_77 : decode cX3_layFewest 77 = .ok (.iload_n 2, 1) := dk_28 (dk_at dksX3_layFewest_3 10 rfl rfl)
theorem dX3_layFewest_78 : decode cX3_layFewest 78 = .ok (.iconst (-1), 1) := dk_2 (dk_at dksX3_layFewest_3 11 rfl rfl)
theorem dX3_layFewest_79 : decode cX3_layFewest 79 = .ok (.iastore, 1) := dk_79 (dk_at dksX3_layFewest_3 12 rfl rfl)
theorem dX3_layFewest_80 : decode cX3_layFewest 80 = .ok (.iconst 0, 1) := dk_3 (dk_at dksX3_layFewest_3 13 rfl rfl)
theorem dX3_layFewest_81 : decode cX3_layFewest 81 = .ok (.istore 4, 2) := dk_54 4 (dk_at dksX3_layFewest_3 14 rfl rfl)
theorem dX3_layFewest_83 : decode cX3_layFewest 83 = .ok (.iload 4, 2) := dk_21 4 (dk_at dksX3_layFewest_3 16 rfl rfl)
theorem dX3_layFewest_85 : decode cX3_layFewest 85 = .ok (.iload_n 3, 1) := dk_29 (dk_at dksX3_layFewest_3 18 rfl rfl)
theorem dX3_layFewest_86 : decode cX3_layFewest 86 = .ok (.if_icmp .ge 138, 3) := dk_162 0 138 (dk_at dksX3_layFewest_3 19 rfl rfl)
theorem dX3_layFewest_89 : decode cX3_layFewest 89 = .ok (.aload_n 0, 1) := dk_42 (dk_at dksX3_layFewest_3 22 rfl rfl)
theorem dX3_layFewest_90 : decode cX3_layFewest 90 = .ok (.getfield 47, 3) := dk_180 0 47 (dk_at dksX3_layFewest_4 0 rfl rfl)
theorem dX3_layFewest_93 : decode cX3_layFewest 93 = .ok (.iload 4, 2) := dk_21 4 (dk_at dksX3_layFewest_4 3 rfl rfl)
theorem dX3_layFewest_95 : decode cX3_layFewest 95 = .ok (.iaload, 1) := dk_46 (dk_at dksX3_layFewest_4 5 rfl rfl)
theorem dX3_layFewest_96 : decode cX3_layFewest 96 = .ok (.istore 5, 2) := dk_54 5 (dk_at dksX3_layFewest_4 6 rfl rfl)
theorem dX3_layFewest_98 : decode cX3_layFewest 98 = .ok (.aload_n 0, 1) := dk_42 (dk_at dksX3_layFewest_4 8 rfl rfl)
theorem dX3_layFewest_99 : decode cX3_layFewest 99 = .ok (.iload 5, 2) := dk_21 5 (dk_at dksX3_layFewest_4 9 rfl rfl)
theorem dX3_layFewest_101 : decode cX3_layFewest 101 = .ok (.invokevirtual 236, 3) := dk_182 0 236 (dk_at dksX3_layFewest_4 11 rfl rfl)
theorem dX3_layFewest_104 : decode cX3_layFewest 104 = .ok (.istore 6, 2) := dk_54 6 (dk_at dksX3_layFewest_4 14 rfl rfl)
theorem dX3_layFewest_106 : decode cX3_layFewest 106 = .ok (.aload_n 0, 1) := dk_42 (dk_at dksX3_layFewest_4 16 rfl rfl)
theorem dX3_layFewest_107 : decode cX3_layFewest 107 = .ok (.getfield 56, 3) := dk_180 0 56 (dk_at dksX3_layFewest_4 17 rfl rfl)
theorem dX3_layFewest_110 : decode cX3_layFewest 110 = .ok (.iload 6, 2) := dk_21 6 (dk_at dksX3_layFewest_4 20 rfl rfl)
theorem dX3_layFewest_112 : decode cX3_layFewest 112 = .ok (.iaload, 1) := dk_46 (dk_at dksX3_layFewest_4 22 rfl rfl)
theorem dX3_layFewest_113 : decode cX3_layFewest 113 = .ok (.iconst (-1), 1) := dk_2 (dk_at dksX3_layFewest_4 23 rfl rfl)
theorem dX3_layFewest_114 : decode cX3_layFewest 114 = .ok (.if_icmp .ne 26, 3) := dk_160 0 26 (dk_at dksX3_layFewest_5 0 rfl rfl)
theorem dX3_layFewest_117 : decode cX3_layFewest 117 = .ok (.aload_n 0, 1) := dk_42 (dk_at dksX3_layFewest_5 3 rfl rfl)
theorem dX3_layFewest_118 : decode cX3_layFewest 118 = .ok (.getfield 56, 3) := dk_180 0 56 (dk_at dksX3_layFewest_5 4 rfl rfl)
theorem dX3_layFewest_121 : decode cX3_layFewest 121 = .ok (.iload 6, 2) := dk_21 6 (dk_at dksX3_layFewest_5 7 rfl rfl)
theorem dX3_layFewest_123 : decode cX3_layFewest 123 = .ok (.aload_n 0, 1) := dk_42 (dk_at dksX3_layFewest_5 9 rfl rfl)
theorem dX3_layFewest_124 : decode cX3_layFewest 124 = .ok (.getfield 44, 3) := dk_180 0 44 (dk_at dksX3_layFewest_5 10 rfl rfl)
theorem dX3_layFewest_127 : decode cX3_layFewest 127 = .ok (.iload 5, 2) := dk_21 5 (dk_at dksX3_layFewest_5 13 rfl rfl)
theorem dX3_layFewest_129 : decode cX3_layFewest 129 = .ok (.iaload, 1) := dk_46 (dk_at dksX3_layFewest_5 15 rfl rfl)
theorem dX3_layFewest_130 : decode cX3_layFewest 130 = .ok (.iastore, 1) := dk_79 (dk_at dksX3_layFewest_5 16 rfl rfl)
theorem dX3_layFewest_131 : decode cX3_layFewest 131 = .ok (.aload_n 0, 1) := dk_42 (dk_at dksX3_layFewest_5 17 rfl rfl)
theorem dX3_layFewest_132 : decode cX3_layFewest 132 = .ok (.getfield 59, 3) := dk_180 0 59 (dk_at dksX3_layFewest_5 18 rfl rfl)
theorem dX3_layFewest_135 : decode cX3_layFewest 135 = .ok (.iload 6, 2) := dk_21 6 (dk_at dksX3_layFewest_5 21 rfl rfl)
theorem dX3_layFewest_137 : decode cX3_layFewest 137 = .ok (.iload 5, 2) := dk_21 5 (dk_at dksX3_layFewest_6 0 rfl rfl)
theorem dX3_layFewest_139 : decode cX3_layFewest 139 = .ok (.iastore, 1) := dk_79 (dk_at dksX3_layFewest_6 2 rfl rfl)
theorem dX3_layFewest_140 : decode cX3_layFewest 140 = .ok (.iconst 0, 1) := dk_3 (dk_at dksX3_layFewest_6 3 rfl rfl)
theorem dX3_layFewest_141 : decode cX3_layFewest 141 = .ok (.istore 7, 2) := dk_54 7 (dk_at dksX3_layFewest_6 4 rfl rfl)
theorem dX3_layFewest_143 : decode cX3_layFewest 143 = .ok (.iload 7, 2) := dk_21 7 (dk_at dksX3_layFewest_6 6 rfl rfl)
theorem dX3_layFewest_145 : decode cX3_layFewest 145 = .ok (.iload_n 1, 1) := dk_27 (dk_at dksX3_layFewest_6 8 rfl rfl)
theorem dX3_layFewest_146 : decode cX3_layFewest 146 = .ok (.if_icmp .ge 72, 3) := dk_162 0 72 (dk_at dksX3_layFewest_6 9 rfl rfl)
theorem dX3_layFewest_149 : decode cX3_layFewest 149 = .ok (.aload_n 0, 1) := dk_42 (dk_at dksX3_layFewest_6 12 rfl rfl)
theorem dX3_layFewest_150 : decode cX3_layFewest 150 = .ok (.iload 5, 2) := dk_21 5 (dk_at dksX3_layFewest_6 13 rfl rfl)
theorem dX3_layFewest_152 : decode cX3_layFewest 152 = .ok (.iload 7, 2) := dk_21 7 (dk_at dksX3_layFewest_6 15 rfl rfl)
theorem dX3_layFewest_154 : decode cX3_layFewest 154 = .ok (.invokevirtual 239, 3) := dk_182 0 239 (dk_at dksX3_layFewest_6 17 rfl rfl)
theorem dX3_layFewest_157 : decode cX3_layFewest 157 = .ok (.istore 8, 2) := dk_54 8 (dk_at dksX3_layFewest_6 20 rfl rfl)
theorem dX3_layFewest_159 : decode cX3_layFewest 159 = .ok (.aload_n 0, 1) := dk_42 (dk_at dksX3_layFewest_6 22 rfl rfl)
theorem dX3_layFewest_160 : decode cX3_layFewest 160 = .ok (.getfield 44, 3) := dk_180 0 44 (dk_at dksX3_layFewest_7 0 rfl rfl)
theorem dX3_layFewest_163 : decode cX3_layFewest 163 = .ok (.iload 8, 2) := dk_21 8 (dk_at dksX3_layFewest_7 3 rfl rfl)
theorem dX3_layFewest_165 : decode cX3_layFewest 165 = .ok (.iaload, 1) := dk_46 (dk_at dksX3_layFewest_7 5 rfl rfl)
theorem dX3_layFewest_166 : decode cX3_layFewest 166 = .ok (.iconst (-1), 1) := dk_2 (dk_at dksX3_layFewest_7 6 rfl rfl)
theorem dX3_layFewest_167 : decode cX3_layFewest 167 = .ok (.if_icmp .ne 45, 3) := dk_160 0 45 (dk_at dksX3_layFewest_7 7 rfl rfl)
theorem dX3_layFewest_170 : decode cX3_layFewest 170 = .ok (.aload_n 0, 1) := dk_42 (dk_at dksX3_layFewest_7 10 rfl rfl)
theorem dX3_layFewest_171 : decode cX3_layFewest 171 = .ok (.getfield 44, 3) := dk_180 0 44 (dk_at dksX3_layFewest_7 11 rfl rfl)
theorem dX3_layFewest_174 : decode cX3_layFewest 174 = .ok (.iload 8, 2) := dk_21 8 (dk_at dksX3_layFewest_7 14 rfl rfl)
theorem dX3_layFewest_176 : decode cX3_layFewest 176 = .ok (.aload_n 0, 1) := dk_42 (dk_at dksX3_layFewest_7 16 rfl rfl)
theorem dX3_layFewest_177 : decode cX3_layFewest 177 = .ok (.getfield 44, 3) := dk_180 0 44 (dk_at dksX3_layFewest_7 17 rfl rfl)
theorem dX3_layFewest_180 : decode cX3_layFewest 180 = .ok (.iload 5, 2) := dk_21 5 (dk_at dksX3_layFewest_7 20 rfl rfl)
theorem dX3_layFewest_182 : decode cX3_layFewest 182 = .ok (.iaload, 1) := dk_46 (dk_at dksX3_layFewest_7 22 rfl rfl)
theorem dX3_layFewest_183 : decode cX3_layFewest 183 = .ok (.iconst 1, 1) := dk_4 (dk_at dksX3_layFewest_7 23 rfl rfl)
theorem dX3_layFewest_184 : decode cX3_layFewest 184 = .ok (.iadd, 1) := dk_96 (dk_at dksX3_layFewest_8 0 rfl rfl)
theorem dX3_layFewest_185 : decode cX3_layFewest 185 = .ok (.iastore, 1) := dk_79 (dk_at dksX3_layFewest_8 1 rfl rfl)
theorem dX3_layFewest_186 : decode cX3_layFewest 186 = .ok (.aload_n 0, 1) := dk_42 (dk_at dksX3_layFewest_8 2 rfl rfl)
theorem dX3_layFewest_187 : decode cX3_layFewest 187 = .ok (.getfield 50, 3) := dk_180 0 50 (dk_at dksX3_layFewest_8 3 rfl rfl)
theorem dX3_layFewest_190 : decode cX3_layFewest 190 = .ok (.iload 8, 2) := dk_21 8 (dk_at dksX3_layFewest_8 6 rfl rfl)
theorem dX3_layFewest_192 : decode cX3_layFewest 192 = .ok (.ldc 43, 2) := dk_18 43 (dk_at dksX3_layFewest_8 8 rfl rfl)
theorem dX3_layFewest_194 : decode cX3_layFewest 194 = .ok (.iload 7, 2) := dk_21 7 (dk_at dksX3_layFewest_8 10 rfl rfl)
theorem dX3_layFewest_196 : decode cX3_layFewest 196 = .ok (.imul, 1) := dk_104 (dk_at dksX3_layFewest_8 12 rfl rfl)
theorem dX3_layFewest_197 : decode cX3_layFewest 197 = .ok (.iload 5, 2) := dk_21 5 (dk_at dksX3_layFewest_8 13 rfl rfl)
theorem dX3_layFewest_199 : decode cX3_layFewest 199 = .ok (.iadd, 1) := dk_96 (dk_at dksX3_layFewest_8 15 rfl rfl)
theorem dX3_layFewest_200 : decode cX3_layFewest 200 = .ok (.iastore, 1) := dk_79 (dk_at dksX3_layFewest_8 16 rfl rfl)
theorem dX3_layFewest_201 : decode cX3_layFewest 201 = .ok (.aload_n 0, 1) := dk_42 (dk_at dksX3_layFewest_8 17 rfl rfl)
theorem dX3_layFewest_202 : decode cX3_layFewest 202 = .ok (.getfield 47, 3) := dk_180 0 47 (dk_at dksX3_layFewest_8 18 rfl rfl)
theorem dX3_layFewest_205 : decode cX3_layFewest 205 = .ok (.iload_n 3, 1) := dk_29 (dk_at dksX3_layFewest_8 21 rfl rfl)
theorem dX3_layFewest_206 : decode cX3_layFewest 206 = .ok (.iload 8, 2) := dk_21 8 (dk_at dksX3_layFewest_8 22 rfl rfl)
theorem dX3_layFewest_208 : decode cX3_layFewest 208 = .ok (.iastore, 1) := dk_79 (dk_at dksX3_layFewest_9 0 rfl rfl)
theorem dX3_layFewest_209 : decode cX3_layFewest 209 = .ok (.iinc 3 1, 3) := dk_132 3 1 (dk_at dksX3_layFewest_9 1 rfl rfl)
theorem dX3_layFewest_212 : decode cX3_layFewest 212 = .ok (.iinc 7 1, 3) := dk_132 7 1 (dk_at dksX3_layFewest_9 4 rfl rfl)
theorem dX3_layFewest_215 : decode cX3_layFewest 215 = .ok (.goto (-72), 3) := dk_167 255 184 (dk_at dksX3_layFewest_9 7 rfl rfl)
theorem dX3_layFewest_218 : decode cX3_layFewest 218 = .ok (.iinc 4 1, 3) := dk_132 4 1 (dk_at dksX3_layFewest_9 10 rfl rfl)
theorem dX3_layFewest_221 : decode cX3_layFewest 221 = .ok (.goto (-138), 3) := dk_167 255 118 (dk_at dksX3_layFewest_9 13 rfl rfl)
theorem dX3_layFewest_224 : decode cX3_layFewest 224 = .ok (.aload_n 0, 1) := dk_42 (dk_at dksX3_layFewest_9 16 rfl rfl)
theorem dX3_layFewest_225 : decode cX3_layFewest 225 = .ok (.iload_n 2, 1) := dk_28 (dk_at dksX3_layFewest_9 17 rfl rfl)
theorem dX3_layFewest_226 : decode cX3_layFewest 226 = .ok (.invokevirtual 223, 3) := dk_182 0 223 (dk_at dksX3_layFewest_9 18 rfl rfl)
theorem dX3_layFewest_229 : decode cX3_layFewest 229 = .ok (.return_, 1) := dk_177 (dk_at dksX3_layFewest_9 21 rfl rfl)
abbrev cX3_stateNow : ByteArray := prog_15_method_24_code
def yX3_stateNow : MethodName := ⟨RX3, "stateNow", "()I"⟩
def dkwX3_stateNow_1 : List UInt8 := [180, 0, 206, 153, 0, 7, 4, 167, 0, 4, 3, 96, 172]
abbrev dktX3_stateNow_1 : List UInt8 := dkwX3_stateNow_1 ++ []
def dkwX3_stateNow_0 : List UInt8 := [42, 180, 0, 197, 7, 104, 42, 180, 0, 200, 96, 42, 180, 0, 65, 104, 42, 180, 0, 203, 96, 5, 104, 42]
abbrev dktX3_stateNow_0 : List UInt8 := dkwX3_stateNow_0 ++ dktX3_stateNow_1
theorem dksX3_stateNow_0 : cX3_stateNow.data.toList.drop 0 = dktX3_stateNow_0 := by decide +kernel
theorem dksX3_stateNow_1 : cX3_stateNow.data.toList.drop 24 = dktX3_stateNow_1 := dk_seg dksX3_stateNow_0 24 rfl rfl
theorem dX3_stateNow_0 : decode cX3_stateNow 0 = .ok (.aload_n 0, 1) := dk_42 (dk_at dksX3_stateNow_0 0 rfl rfl)
theorem dX3_stateNow_1 : decode cX3_stateNow 1 = .ok (.getfield 197, 3) := dk_180 0 197 (dk_at dksX3_stateNow_0 1 rfl rfl)
theorem dX3_stateNow_4 : decode cX3_stateNow 4 = .ok (.iconst 4, 1) := dk_7 (dk_at dksX3_stateNow_0 4 rfl rfl)
theorem dX3_stateNow_5 : decode cX3_stateNow 5 = .ok (.imul, 1) := dk_104 (dk_at dksX3_stateNow_0 5 rfl rfl)
theorem dX3_stateNow_6 : decode cX3_stateNow 6 = .ok (.aload_n 0, 1) := dk_42 (dk_at dksX3_stateNow_0 6 rfl rfl)
theorem dX3_stateNow_7 : decode cX3_stateNow 7 = .ok (.getfield 200, 3) := dk_180 0 200 (dk_at dksX3_stateNow_0 7 rfl rfl)
theorem dX3_stateNow_10 : decode cX3_stateNow 10 = .ok (.iadd, 1) := dk_96 (dk_at dksX3_stateNow_0 10 rfl rfl)
theorem dX3_stateNow_11 : decode cX3_stateNow 11 = .ok (.aload_n 0, 1) := dk_42 (dk_at dksX3_stateNow_0 11 rfl rfl)
theorem dX3_stateNow_12 : decode cX3_stateNow 12 = .ok (.getfield 65, 3) := dk_180 0 65 (dk_at dksX3_stateNow_0 12 rfl rfl)
theorem dX3_stateNow_15 : decode cX3_stateNow 15 = .ok (.imul, 1) := dk_104 (dk_at dksX3_stateNow_0 15 rfl rfl)
theorem dX3_stateNow_16 : decode cX3_stateNow 16 = .ok (.aload_n 0, 1) := dk_42 (dk_at dksX3_stateNow_0 16 rfl rfl)
theorem dX3_stateNow_17 : decode cX3_stateNow 17 = .ok (.getfield 203, 3) := dk_180 0 203 (dk_at dksX3_stateNow_0 17 rfl rfl)
theorem dX3_stateNow_20 : decode cX3_stateNow 20 = .ok (.iadd, 1) := dk_96 (dk_at dksX3_stateNow_0 20 rfl rfl)
theorem dX3_stateNow_21 : decode cX3_stateNow 21 = .ok (.iconst 2, 1) := dk_5 (dk_at dksX3_stateNow_0 21 rfl rfl)
theorem dX3_stateNow_22 : decode cX3_stateNow 22 = .ok (.imul, 1) := dk_104 (dk_at dksX3_stateNow_0 22 rfl rfl)
theorem dX3_stateNow_23 : decode cX3_stateNow 23 = .ok (.aload_n 0, 1) := dk_42 (dk_at dksX3_stateNow_0 23 rfl rfl)
theorem dX3_stateNow_24 : decode cX3_stateNow 24 = .ok (.getfield 206, 3) := dk_180 0 206 (dk_at dksX3_stateNow_1 0 rfl rfl)
theorem dX3_stateNow_27 : decode cX3_stateNow 27 = .ok (.ifCond .eq 7, 3) := dk_153 0 7 (dk_at dksX3_stateNow_1 3 rfl rfl)
theorem dX3_stateNow_30 : decode cX3_stateNow 30 = .ok (.iconst 1, 1) := dk_4 (dk_at dksX3_stateNow_1 6 rfl rfl)
theorem dX3_stateNow_31 : decode cX3_stateNow 31 = .ok (.goto 4, 3) := dk_167 0 4 (dk_at dksX3_stateNow_1 7 rfl rfl)
theorem dX3_stateNow_34 : decode cX3_stateNow 34 = .ok (.iconst 0, 1) := dk_3 (dk_at dksX3_stateNow_1 10 rfl rfl)
theorem dX3_stateNow_35 : decode cX3_stateNow 35 = .ok (.iadd, 1) := dk_96 (dk_at dksX3_stateNow_1 11 rfl rfl)
theorem dX3_stateNow_36 : decode cX3_stateNow 36 = .ok (.ireturn, 1) := dk_172 (dk_at dksX3_stateNow_1 12 rfl rfl)
abbrev cX3_states : ByteArray := prog_15_method_27_code
def yX3_states : MethodName := ⟨RX3, "states", "()I"⟩
def dkwX3_states_0 : List UInt8 := [16, 8, 42, 180, 0, 65, 104, 42, 180, 0, 65, 104, 172]
abbrev dktX3_states_0 : List UInt8 := dkwX3_states_0 ++ []
theorem dksX3_states_0 : cX3_states.data.toList.drop 0 = dktX3_states_0 := by decide +kernel
theorem dX3_states_0 : decode cX3_states 0 = .ok (.bipush 8, 2) := dk_16 8 (dk_at dksX3_states_0 0 rfl rfl)
theorem dX3_states_2 : decode cX3_states 2 = .ok (.aload_n 0, 1) := dk_42 (dk_at dksX3_states_0 2 rfl rfl)
theorem dX3_states_3 : decode cX3_states 3 = .ok (.getfield 65, 3) := dk_180 0 65 (dk_at dksX3_states_0 3 rfl rfl)
theorem dX3_states_6 : decode cX3_states 6 = .ok (.imul, 1) := dk_104 (dk_at dksX3_states_0 6 rfl rfl)
theorem dX3_states_7 : decode cX3_states 7 = .ok (.aload_n 0, 1) := dk_42 (dk_at dksX3_states_0 7 rfl rfl)
theorem dX3_states_8 : decode cX3_states 8 = .ok (.getfield 65, 3) := dk_180 0 65 (dk_at dksX3_states_0 8 rfl rfl)
theorem dX3_states_11 : decode cX3_states 11 = .ok (.imul, 1) := dk_104 (dk_at dksX3_states_0 11 rfl rfl)
theorem dX3_states_12 : decode cX3_states 12 = .ok (.ireturn, 1) := dk_172 (dk_at dksX3_states_0 12 rfl rfl)
abbrev cX3_shownIn : ByteArray := prog_15_method_26_code
def yX3_shownIn : MethodName := ⟨RX3, "shownIn", "(I)I"⟩
def dkwX3_shownIn_0 : List UInt8 := [27, 16, 8, 108, 42, 180, 0, 65, 108, 172]
abbrev dktX3_shownIn_0 : List UInt8 := dkwX3_shownIn_0 ++ []
theorem dksX3_shownIn_0 : cX3_shownIn.data.toList.drop 0 = dktX3_shownIn_0 := by decide +kernel
theorem dX3_shownIn_0 : decode cX3_shownIn 0 = .ok (.iload_n 1, 1) := dk_27 (dk_at dksX3_shownIn_0 0 rfl rfl)
theorem dX3_shownIn_1 : decode cX3_shownIn 1 = .ok (.bipush 8, 2) := dk_16 8 (dk_at dksX3_shownIn_0 1 rfl rfl)
theorem dX3_shownIn_3 : decode cX3_shownIn 3 = .ok (.idiv, 1) := dk_108 (dk_at dksX3_shownIn_0 3 rfl rfl)
theorem dX3_shownIn_4 : decode cX3_shownIn 4 = .ok (.aload_n 0, 1) := dk_42 (dk_at dksX3_shownIn_0 4 rfl rfl)
theorem dX3_shownIn_5 : decode cX3_shownIn 5 = .ok (.getfield 65, 3) := dk_180 0 65 (dk_at dksX3_shownIn_0 5 rfl rfl)
theorem dX3_shownIn_8 : decode cX3_shownIn 8 = .ok (.idiv, 1) := dk_108 (dk_at dksX3_shownIn_0 8 rfl rfl)
theorem dX3_shownIn_9 : decode cX3_shownIn 9 = .ok (.ireturn, 1) := dk_172 (dk_at dksX3_shownIn_0 9 rfl rfl)
abbrev cX3_behind : ByteArray := prog_15_method_28_code
def yX3_behind : MethodName := ⟨RX3, "behind", "(II)I"⟩
def dkwX3_behind_0 : List UInt8 := [42, 27, 182, 0, 223, 42, 28, 182, 0, 226, 42, 182, 0, 229, 172]
abbrev dktX3_behind_0 : List UInt8 := dkwX3_behind_0 ++ []
theorem dksX3_behind_0 : cX3_behind.data.toList.drop 0 = dktX3_behind_0 := by decide +kernel
theorem dX3_behind_0 : decode cX3_behind 0 = .ok (.aload_n 0, 1) := dk_42 (dk_at dksX3_behind_0 0 rfl rfl)
theorem dX3_behind_1 : decode cX3_behind 1 = .ok (.iload_n 1, 1) := dk_27 (dk_at dksX3_behind_0 1 rfl rfl)
theorem dX3_behind_2 : decode cX3_behind 2 = .ok (.invokevirtual 223, 3) := dk_182 0 223 (dk_at dksX3_behind_0 2 rfl rfl)
theorem dX3_behind_5 : decode cX3_behind 5 = .ok (.aload_n 0, 1) := dk_42 (dk_at dksX3_behind_0 5 rfl rfl)
theorem dX3_behind_6 : decode cX3_behind 6 = .ok (.iload_n 2, 1) := dk_28 (dk_at dksX3_behind_0 6 rfl rfl)
theorem dX3_behind_7 : decode cX3_behind 7 = .ok (.invokevirtual 226, 3) := dk_182 0 226 (dk_at dksX3_behind_0 7 rfl rfl)
theorem dX3_behind_10 : decode cX3_behind 10 = .ok (.aload_n 0, 1) := dk_42 (dk_at dksX3_behind_0 10 rfl rfl)
theorem dX3_behind_11 : decode cX3_behind 11 = .ok (.invokevirtual 229, 3) := dk_182 0 229 (dk_at dksX3_behind_0 11 rfl rfl)
theorem dX3_behind_14 : decode cX3_behind 14 = .ok (.ireturn, 1) := dk_172 (dk_at dksX3_behind_0 14 rfl rfl)
abbrev cX3_setState : ByteArray := prog_15_method_25_code
def yX3_setState : MethodName := ⟨RX3, "setState", "(I)V"⟩
def dkwX3_setState_3 : List UInt8 := [3, 167, 0, 12, 27, 16, 8, 108, 42, 180, 0, 65, 108, 181, 0, 197, 177]
abbrev dktX3_setState_3 : List UInt8 := dkwX3_setState_3 ++ []
def dkwX3_setState_2 : List UInt8 := [167, 0, 13, 27, 5, 108, 42, 180, 0, 65, 108, 7, 112, 181, 0, 200, 42, 42, 180, 0, 65, 154, 0, 7]
abbrev dktX3_setState_2 : List UInt8 := dkwX3_setState_2 ++ dktX3_setState_3
def dkwX3_setState_1 : List UInt8 := [3, 167, 0, 11, 27, 5, 108, 42, 180, 0, 65, 112, 181, 0, 203, 42, 42, 180, 0, 65, 154, 0, 7, 3]
abbrev dktX3_setState_1 : List UInt8 := dkwX3_setState_1 ++ dktX3_setState_2
def dkwX3_setState_0 : List UInt8 := [42, 27, 5, 112, 4, 160, 0, 7, 4, 167, 0, 4, 3, 181, 0, 206, 42, 42, 180, 0, 65, 154, 0, 7]
abbrev dktX3_setState_0 : List UInt8 := dkwX3_setState_0 ++ dktX3_setState_1
theorem dksX3_setState_0 : cX3_setState.data.toList.drop 0 = dktX3_setState_0 := by decide +kernel
theorem dksX3_setState_1 : cX3_setState.data.toList.drop 24 = dktX3_setState_1 := dk_seg dksX3_setState_0 24 rfl rfl
theorem dksX3_setState_2 : cX3_setState.data.toList.drop 48 = dktX3_setState_2 := dk_seg dksX3_setState_1 24 rfl rfl
theorem dksX3_setState_3 : cX3_setState.data.toList.drop 72 = dktX3_setState_3 := dk_seg dksX3_setState_2 24 rfl rfl
theorem dX3_setState_0 : decode cX3_setState 0 = .ok (.aload_n 0, 1) := dk_42 (dk_at dksX3_setState_0 0 rfl rfl)
theorem dX3_setState_1 : decode cX3_setState 1 = .ok (.iload_n 1, 1) := dk_27 (dk_at dksX3_setState_0 1 rfl rfl)
theorem dX3_setState_2 : decode cX3_setState 2 = .ok (.iconst 2, 1) := dk_5 (dk_at dksX3_setState_0 2 rfl rfl)
theorem dX3_setState_3 : decode cX3_setState 3 = .ok (.irem, 1) := dk_112 (dk_at dksX3_setState_0 3 rfl rfl)
theorem dX3_setState_4 : decode cX3_setState 4 = .ok (.iconst 1, 1) := dk_4 (dk_at dksX3_setState_0 4 rfl rfl)
theorem dX3_setState_5 : decode cX3_setState 5 = .ok (.if_icmp .ne 7, 3) := dk_160 0 7 (dk_at dksX3_setState_0 5 rfl rfl)
theorem dX3_setState_8 : decode cX3_setState 8 = .ok (.iconst 1, 1) := dk_4 (dk_at dksX3_setState_0 8 rfl rfl)
theorem dX3_setState_9 : decode cX3_setState 9 = .ok (.goto 4, 3) := dk_167 0 4 (dk_at dksX3_setState_0 9 rfl rfl)
theorem dX3_setState_12 : decode cX3_setState 12 = .ok (.iconst 0, 1) := dk_3 (dk_at dksX3_setState_0 12 rfl rfl)
theorem dX3_setState_13 : decode cX3_setState 13 = .ok (.putfield 206, 3) := dk_181 0 206 (dk_at dksX3_setState_0 13 rfl rfl)
theorem dX3_setState_16 : decode cX3_setState 16 = .ok (.aload_n 0, 1) := dk_42 (dk_at dksX3_setState_0 16 rfl rfl)
theorem dX3_setState_17 : decode cX3_setState 17 = .ok (.aload_n 0, 1) := dk_42 (dk_at dksX3_setState_0 17 rfl rfl)
theorem dX3_setState_18 : decode cX3_setState 18 = .ok (.getfield 65, 3) := dk_180 0 65 (dk_at dksX3_setState_0 18 rfl rfl)
theorem dX3_setState_21 : decode cX3_setState 21 = .ok (.ifCond .ne 7, 3) := dk_154 0 7 (dk_at dksX3_setState_0 21 rfl rfl)
theorem dX3_setState_24 : decode cX3_setState 24 = .ok (.iconst 0, 1) := dk_3 (dk_at dksX3_setState_1 0 rfl rfl)
theorem dX3_setState_25 : decode cX3_setState 25 = .ok (.goto 11, 3) := dk_167 0 11 (dk_at dksX3_setState_1 1 rfl rfl)
theorem dX3_setState_28 : decode cX3_setState 28 = .ok (.iload_n 1, 1) := dk_27 (dk_at dksX3_setState_1 4 rfl rfl)
theorem dX3_setState_29 : decode cX3_setState 29 = .ok (.iconst 2, 1) := dk_5 (dk_at dksX3_setState_1 5 rfl rfl)
theorem dX3_setState_30 : decode cX3_setState 30 = .ok (.idiv, 1) := dk_108 (dk_at dksX3_setState_1 6 rfl rfl)
theorem dX3_setState_31 : decode cX3_setState 31 = .ok (.aload_n 0, 1) := dk_42 (dk_at dksX3_setState_1 7 rfl rfl)
theorem dX3_setState_32 : decode cX3_setState 32 = .ok (.getfield 65, 3) := dk_180 0 65 (dk_at dksX3_setState_1 8 rfl rfl)
theorem dX3_setState_35 : decode cX3_setState 35 = .ok (.irem, 1) := dk_112 (dk_at dksX3_setState_1 11 rfl rfl)
theorem dX3_setState_36 : decode cX3_setState 36 = .ok (.putfield 203, 3) := dk_181 0 203 (dk_at dksX3_setState_1 12 rfl rfl)
theorem dX3_setState_39 : decode cX3_setState 39 = .ok (.aload_n 0, 1) := dk_42 (dk_at dksX3_setState_1 15 rfl rfl)
theorem dX3_setState_40 : decode cX3_setState 40 = .ok (.aload_n 0, 1) := dk_42 (dk_at dksX3_setState_1 16 rfl rfl)
theorem dX3_setState_41 : decode cX3_setState 41 = .ok (.getfield 65, 3) := dk_180 0 65 (dk_at dksX3_setState_1 17 rfl rfl)
theorem dX3_setState_44 : decode cX3_setState 44 = .ok (.ifCond .ne 7, 3) := dk_154 0 7 (dk_at dksX3_setState_1 20 rfl rfl)
theorem dX3_setState_47 : decode cX3_setState 47 = .ok (.iconst 0, 1) := dk_3 (dk_at dksX3_setState_1 23 rfl rfl)
theorem dX3_setState_48 : decode cX3_setState 48 = .ok (.goto 13, 3) := dk_167 0 13 (dk_at dksX3_setState_2 0 rfl rfl)
theorem dX3_setState_51 : decode cX3_setState 51 = .ok (.iload_n 1, 1) := dk_27 (dk_at dksX3_setState_2 3 rfl rfl)
theorem dX3_setState_52 : decode cX3_setState 52 = .ok (.iconst 2, 1) := dk_5 (dk_at dksX3_setState_2 4 rfl rfl)
theorem dX3_setState_53 : decode cX3_setState 53 = .ok (.idiv, 1) := dk_108 (dk_at dksX3_setState_2 5 rfl rfl)
theorem dX3_setState_54 : decode cX3_setState 54 = .ok (.aload_n 0, 1) := dk_42 (dk_at dksX3_setState_2 6 rfl rfl)
theorem dX3_setState_55 : decode cX3_setState 55 = .ok (.getfield 65, 3) := dk_180 0 65 (dk_at dksX3_setState_2 7 rfl rfl)
theorem dX3_setState_58 : decode cX3_setState 58 = .ok (.idiv, 1) := dk_108 (dk_at dksX3_setState_2 10 rfl rfl)
theorem dX3_setState_59 : decode cX3_setState 59 = .ok (.iconst 4, 1) := dk_7 (dk_at dksX3_setState_2 11 rfl rfl)
theorem dX3_setState_60 : decode cX3_setState 60 = .ok (.irem, 1) := dk_112 (dk_at dksX3_setState_2 12 rfl rfl)
theorem dX3_setState_61 : decode cX3_setState 61 = .ok (.putfield 200, 3) := dk_181 0 200 (dk_at dksX3_setState_2 13 rfl rfl)
theorem dX3_setState_64 : decode cX3_setState 64 = .ok (.aload_n 0, 1) := dk_42 (dk_at dksX3_setState_2 16 rfl rfl)
theorem dX3_setState_65 : decode cX3_setState 65 = .ok (.aload_n 0, 1) := dk_42 (dk_at dksX3_setState_2 17 rfl rfl)
theorem dX3_setState_66 : decode cX3_setState 66 = .ok (.getfield 65, 3) := dk_180 0 65 (dk_at dksX3_setState_2 18 rfl rfl)
theorem dX3_setState_69 : decode cX3_setState 69 = .ok (.ifCond .ne 7, 3) := dk_154 0 7 (dk_at dksX3_setState_2 21 rfl rfl)
theorem dX3_setState_72 : decode cX3_setState 72 = .ok (.iconst 0, 1) := dk_3 (dk_at dksX3_setState_3 0 rfl rfl)
theorem dX3_setState_73 : decode cX3_setState 73 = .ok (.goto 12, 3) := dk_167 0 12 (dk_at dksX3_setState_3 1 rfl rfl)
theorem dX3_setState_76 : decode cX3_setState 76 = .ok (.iload_n 1, 1) := dk_27 (dk_at dksX3_setState_3 4 rfl rfl)
theorem dX3_setState_77 : decode cX3_setState 77 = .ok (.bipush 8, 2) := dk_16 8 (dk_at dksX3_setState_3 5 rfl rfl)
theorem dX3_setState_79 : decode cX3_setState 79 = .ok (.idiv, 1) := dk_108 (dk_at dksX3_setState_3 7 rfl rfl)
theorem dX3_setState_80 : decode cX3_setState 80 = .ok (.aload_n 0, 1) := dk_42 (dk_at dksX3_setState_3 8 rfl rfl)
theorem dX3_setState_81 : decode cX3_setState 81 = .ok (.getfield 65, 3) := dk_180 0 65 (dk_at dksX3_setState_3 9 rfl rfl)
theorem dX3_setState_84 : decode cX3_setState 84 = .ok (.idiv, 1) := dk_108 (dk_at dksX3_setState_3 12 rfl rfl)
theorem dX3_setState_85 : decode cX3_setState 85 = .ok (.putfield 197, 3) := dk_181 0 197 (dk_at dksX3_setState_3 13 rfl rfl)
theorem dX3_setState_88 : decode cX3_setState 88 = .ok (.return_, 1) := dk_177 (dk_at dksX3_setState_3 16 rfl rfl)
abbrev cX3_way : ByteArray := prog_15_method_33_code
def yX3_way : MethodName := ⟨RX3, "way", "(II)I"⟩
def dkwX3_way_3 : List UInt8 := [46, 18, 43, 108, 172]
abbrev dktX3_way_3 : List UInt8 := dkwX3_way_3 ++ []
def dkwX3_way_2 : List UInt8 := [28, 4, 96, 164, 0, 16, 42, 180, 0, 50, 29, 46, 18, 43, 112, 62, 167, 255, 234, 42, 180, 0, 50, 29]
abbrev dktX3_way_2 : List UInt8 := dkwX3_way_2 ++ dktX3_way_3
def dkwX3_way_1 : List UInt8 := [42, 180, 0, 56, 27, 46, 161, 0, 5, 2, 172, 42, 180, 0, 59, 27, 46, 62, 42, 180, 0, 44, 29, 46]
abbrev dktX3_way_1 : List UInt8 := dkwX3_way_1 ++ dktX3_way_2
def dkwX3_way_0 : List UInt8 := [42, 27, 182, 0, 243, 154, 0, 6, 18, 72, 172, 42, 42, 180, 0, 182, 182, 0, 246, 28, 155, 0, 13, 28]
abbrev dktX3_way_0 : List UInt8 := dkwX3_way_0 ++ dktX3_way_1
theorem dksX3_way_0 : cX3_way.data.toList.drop 0 = dktX3_way_0 := by decide +kernel
theorem dksX3_way_1 : cX3_way.data.toList.drop 24 = dktX3_way_1 := dk_seg dksX3_way_0 24 rfl rfl
theorem dksX3_way_2 : cX3_way.data.toList.drop 48 = dktX3_way_2 := dk_seg dksX3_way_1 24 rfl rfl
theorem dksX3_way_3 : cX3_way.data.toList.drop 72 = dktX3_way_3 := dk_seg dksX3_way_2 24 rfl rfl
theorem dX3_way_0 : decode cX3_way 0 = .ok (.aload_n 0, 1) := dk_42 (dk_at dksX3_way_0 0 rfl rfl)
theorem dX3_way_1 : decode cX3_way 1 = .ok (.iload_n 1, 1) := dk_27 (dk_at dksX3_way_0 1 rfl rfl)
theorem dX3_way_2 : decode cX3_way 2 = .ok (.invokevirtual 243, 3) := dk_182 0 243 (dk_at dksX3_way_0 2 rfl rfl)
theorem dX3_way_5 : decode cX3_way 5 = .ok (.ifCond .ne 6, 3) := dk_154 0 6 (dk_at dksX3_way_0 5 rfl rfl)
theorem dX3_way_8 : decode cX3_way 8 = .ok (.ldc 72, 2) := dk_18 72 (dk_at dksX3_way_0 8 rfl rfl)
theorem dX3_way_10 : decode cX3_way 10 = .ok (.ireturn, 1) := dk_172 (dk_at dksX3_way_0 10 rfl rfl)
theorem dX3_way_11 : decode cX3_way 11 = .ok (.aload_n 0, 1) := dk_42 (dk_at dksX3_way_0 11 rfl rfl)
theorem dX3_way_12 : decode cX3_way 12 = .ok (.aload_n 0, 1) := dk_42 (dk_at dksX3_way_0 12 rfl rfl)
theorem dX3_way_13 : decode cX3_way 13 = .ok (.getfield 182, 3) := dk_180 0 182 (dk_at dksX3_way_0 13 rfl rfl)
theorem dX3_way_16 : decode cX3_way 16 = .ok (.invokevirtual 246, 3) := dk_182 0 246 (dk_at dksX3_way_0 16 rfl rfl)
theorem dX3_way_19 : decode cX3_way 19 = .ok (.iload_n 2, 1) := dk_28 (dk_at dksX3_way_0 19 rfl rfl)
theorem dX3_way_20 : decode cX3_way 20 = .ok (.ifCond .lt 13, 3) := dk_155 0 13 (dk_at dksX3_way_0 20 rfl rfl)
theorem dX3_way_23 : decode cX3_way 23 = .ok (.iload_n 2, 1) := dk_28 (dk_at dksX3_way_0 23 rfl rfl)
theorem dX3_way_24 : decode cX3_way 24 = .ok (.aload_n 0, 1) := dk_42 (dk_at dksX3_way_1 0 rfl rfl)
theorem dX3_way_25 : decode cX3_way 25 = .ok (.getfield 56, 3) := dk_180 0 56 (dk_at dksX3_way_1 1 rfl rfl)
theorem dX3_way_28 : decode cX3_way 28 = .ok (.iload_n 1, 1) := dk_27 (dk_at dksX3_way_1 4 rfl rfl)
theorem dX3_way_29 : decode cX3_way 29 = .ok (.iaload, 1) := dk_46 (dk_at dksX3_way_1 5 rfl rfl)
theorem dX3_way_30 : decode cX3_way 30 = .ok (.if_icmp .lt 5, 3) := dk_161 0 5 (dk_at dksX3_way_1 6 rfl rfl)
theorem dX3_way_33 : decode cX3_way 33 = .ok (.iconst (-1), 1) := dk_2 (dk_at dksX3_way_1 9 rfl rfl)
theorem dX3_way_34 : decode cX3_way 34 = .ok (.ireturn, 1) := dk_172 (dk_at dksX3_way_1 10 rfl rfl)
theorem dX3_way_35 : decode cX3_way 35 = .ok (.aload_n 0, 1) := dk_42 (dk_at dksX3_way_1 11 rfl rfl)
theorem dX3_way_36 : decode cX3_way 36 = .ok (.getfield 59, 3) := dk_180 0 59 (dk_at dksX3_way_1 12 rfl rfl)
theorem dX3_way_39 : decode cX3_way 39 = .ok (.iload_n 1, 1) := dk_27 (dk_at dksX3_way_1 15 rfl rfl)
theorem dX3_way_40 : decode cX3_way 40 = .ok (.iaload, 1) := dk_46 (dk_at dksX3_way_1 16 rfl rfl)
theorem dX3_way_41 : decode cX3_way 41 = .ok (.istore_n 3, 1) := dk_62 (dk_at dksX3_way_1 17 rfl rfl)
theorem dX3_way_42 : decode cX3_way 42 = .ok (.aload_n 0, 1) := dk_42 (dk_at dksX3_way_1 18 rfl rfl)
theorem dX3_way_43 : decode cX3_way 43 = .ok (.getfield 44, 3) := dk_180 0 44 (dk_at dksX3_way_1 19 rfl rfl)
theorem dX3_way_46 : decode cX3_way 46 = .ok (.iload_n 3, 1) := dk_29 (dk_at dksX3_way_1 22 rfl rfl)
theorem dX3_way_47 : decode cX3_way 47 = .ok (.iaload, 1) := dk_46 (dk_at dksX3_way_1 23 rfl rfl)
theorem dX3_way_48 : decode cX3_way 48 = .ok (.iload_n 2, 1) := dk_28 (dk_at dksX3_way_2 0 rfl rfl)
theorem dX3_way_49 : decode cX3_way 49 = .ok (.iconst 1, 1) := dk_4 (dk_at dksX3_way_2 1 rfl rfl)
theorem dX3_way_50 : decode cX3_way 50 = .ok (.iadd, 1) := dk_96 (dk_at dksX3_way_2 2 rfl rfl)
theorem dX3_way_51 : decode cX3_way 51 = .ok (.if_icmp .le 16, 3) := dk_164 0 16 (dk_at dksX3_way_2 3 rfl rfl)
theorem dX3_way_54 : decode cX3_way 54 = .ok (.aload_n 0, 1) := dk_42 (dk_at dksX3_way_2 6 rfl rfl)
theorem dX3_way_55 : decode cX3_way 55 = .ok (.getfield 50, 3) := dk_180 0 50 (dk_at dksX3_way_2 7 rfl rfl)
theorem dX3_way_58 : decode cX3_way 58 = .ok (.iload_n 3, 1) := dk_29 (dk_at dksX3_way_2 10 rfl rfl)
theorem dX3_way_59 : decode cX3_way 59 = .ok (.iaload, 1) := dk_46 (dk_at dksX3_way_2 11 rfl rfl)
theorem dX3_way_60 : decode cX3_way 60 = .ok (.ldc 43, 2) := dk_18 43 (dk_at dksX3_way_2 12 rfl rfl)
theorem dX3_way_62 : decode cX3_way 62 = .ok (.irem, 1) := dk_112 (dk_at dksX3_way_2 14 rfl rfl)
theorem dX3_way_63 : decode cX3_way 63 = .ok (.istore_n 3, 1) := dk_62 (dk_at dksX3_way_2 15 rfl rfl)
theorem dX3_way_64 : decode cX3_way 64 = .ok (.goto (-22), 3) := dk_167 255 234 (dk_at dksX3_way_2 16 rfl rfl)
theorem dX3_way_67 : decode cX3_way 67 = .ok (.aload_n 0, 1) := dk_42 (dk_at dksX3_way_2 19 rfl rfl)
theorem dX3_way_68 : decode cX3_way 68 = .ok (.getfield 50, 3) := dk_180 0 50 (dk_at dksX3_way_2 20 rfl rfl)
theorem dX3_way_71 : decode cX3_way 71 = .ok (.iload_n 3, 1) := dk_29 (dk_at dksX3_way_2 23 rfl rfl)
theorem dX3_way_72 : decode cX3_way 72 = .ok (.iaload, 1) := dk_46 (dk_at dksX3_way_3 0 rfl rfl)
theorem dX3_way_73 : decode cX3_way 73 = .ok (.ldc 43, 2) := dk_18 43 (dk_at dksX3_way_3 1 rfl rfl)
theorem dX3_way_75 : decode cX3_way 75 = .ok (.idiv, 1) := dk_108 (dk_at dksX3_way_3 3 rfl rfl)
theorem dX3_way_76 : decode cX3_way 76 = .ok (.ireturn, 1) := dk_172 (dk_at dksX3_way_3 4 rfl rfl)
abbrev cX3_least : ByteArray := prog_15_method_37_code
def yX3_least : MethodName := ⟨RX3, "least", "(I)I"⟩
def dkwX3_least_0 : List UInt8 := [42, 27, 182, 0, 243, 153, 0, 11, 42, 27, 182, 0, 255, 167, 0, 5, 18, 72, 172]
abbrev dktX3_least_0 : List UInt8 := dkwX3_least_0 ++ []
theorem dksX3_least_0 : cX3_least.data.toList.drop 0 = dktX3_least_0 := by decide +kernel
theorem dX3_least_0 : decode cX3_least 0 = .ok (.aload_n 0, 1) := dk_42 (dk_at dksX3_least_0 0 rfl rfl)
theorem dX3_least_1 : decode cX3_least 1 = .ok (.iload_n 1, 1) := dk_27 (dk_at dksX3_least_0 1 rfl rfl)
theorem dX3_least_2 : decode cX3_least 2 = .ok (.invokevirtual 243, 3) := dk_182 0 243 (dk_at dksX3_least_0 2 rfl rfl)
theorem dX3_least_5 : decode cX3_least 5 = .ok (.ifCond .eq 11, 3) := dk_153 0 11 (dk_at dksX3_least_0 5 rfl rfl)
theorem dX3_least_8 : decode cX3_least 8 = .ok (.aload_n 0, 1) := dk_42 (dk_at dksX3_least_0 8 rfl rfl)
theorem dX3_least_9 : decode cX3_least 9 = .ok (.iload_n 1, 1) := dk_27 (dk_at dksX3_least_0 9 rfl rfl)
theorem dX3_least_10 : decode cX3_least 10 = .ok (.invokevirtual 255, 3) := dk_182 0 255 (dk_at dksX3_least_0 10 rfl rfl)
theorem dX3_least_13 : decode cX3_least 13 = .ok (.goto 5, 3) := dk_167 0 5 (dk_at dksX3_least_0 13 rfl rfl)
theorem dX3_least_16 : decode cX3_least 16 = .ok (.ldc 72, 2) := dk_18 72 (dk_at dksX3_least_0 16 rfl rfl)
theorem dX3_least_18 : decode cX3_least 18 = .ok (.ireturn, 1) := dk_172 (dk_at dksX3_least_0 18 rfl rfl)
abbrev cX3_leastOf : ByteArray := prog_15_method_36_code
def yX3_leastOf : MethodName := ⟨RX3, "leastOf", "(I)I"⟩
def dkwX3_leastOf_10 : List UInt8 := [132, 7, 1, 167, 255, 163, 167, 255, 99, 132, 5, 1, 167, 255, 78, 42, 28, 182, 0, 223, 21, 4, 172]
abbrev dktX3_leastOf_10 : List UInt8 := dkwX3_leastOf_10 ++ []
def dkwX3_leastOf_9 : List UInt8 := [159, 0, 9, 42, 21, 8, 182, 0, 252, 42, 180, 0, 44, 21, 8, 21, 9, 79, 42, 21, 8, 182, 0, 249]
abbrev dktX3_leastOf_9 : List UInt8 := dkwX3_leastOf_9 ++ dktX3_leastOf_10
def dkwX3_leastOf_8 : List UInt8 := [159, 0, 15, 21, 9, 42, 180, 0, 44, 21, 8, 46, 162, 0, 35, 42, 180, 0, 44, 21, 8, 46, 2]
abbrev dktX3_leastOf_8 : List UInt8 := dkwX3_leastOf_8 ++ dktX3_leastOf_9
def dkwX3_leastOf_7 : List UInt8 := [21, 5, 42, 180, 0, 13, 7, 21, 7, 104, 4, 96, 46, 96, 54, 9, 42, 180, 0, 44, 21, 8, 46, 2]
abbrev dktX3_leastOf_7 : List UInt8 := dkwX3_leastOf_7 ++ dktX3_leastOf_8
def dkwX3_leastOf_6 : List UInt8 := [54, 4, 3, 54, 7, 21, 7, 42, 180, 0, 182, 162, 0, 90, 42, 21, 6, 21, 7, 182, 0, 239, 54, 8]
abbrev dktX3_leastOf_6 : List UInt8 := dkwX3_leastOf_6 ++ dktX3_leastOf_7
def dkwX3_leastOf_5 : List UInt8 := [21, 6, 182, 0, 252, 3, 62, 42, 21, 6, 182, 0, 236, 27, 160, 0, 8, 21, 5, 167, 0, 4, 2]
abbrev dktX3_leastOf_5 : List UInt8 := dkwX3_leastOf_5 ++ dktX3_leastOf_6
def dkwX3_leastOf_4 : List UInt8 := [2, 159, 0, 149, 21, 4, 2, 160, 0, 143, 42, 180, 0, 62, 21, 5, 16, 100, 112, 46, 54, 6, 42]
abbrev dktX3_leastOf_4 : List UInt8 := dkwX3_leastOf_4 ++ dktX3_leastOf_5
def dkwX3_leastOf_3 : List UInt8 := [16, 100, 162, 0, 178, 21, 4, 2, 160, 0, 172, 132, 3, 1, 42, 180, 0, 62, 21, 5, 16, 100, 112, 46]
abbrev dktX3_leastOf_3 : List UInt8 := dkwX3_leastOf_3 ++ dktX3_leastOf_4
def dkwX3_leastOf_2 : List UInt8 := [167, 255, 240, 42, 180, 0, 44, 28, 3, 79, 42, 28, 182, 0, 249, 3, 62, 2, 54, 4, 3, 54, 5, 29]
abbrev dktX3_leastOf_2 : List UInt8 := dkwX3_leastOf_2 ++ dktX3_leastOf_3
def dkwX3_leastOf_1 : List UInt8 := [132, 3, 1, 167, 255, 238, 3, 62, 29, 16, 100, 162, 0, 16, 42, 180, 0, 62, 29, 2, 79, 132, 3, 1]
abbrev dktX3_leastOf_1 : List UInt8 := dkwX3_leastOf_1 ++ dktX3_leastOf_2
def dkwX3_leastOf_0 : List UInt8 := [42, 182, 0, 229, 61, 3, 62, 29, 42, 182, 0, 233, 162, 0, 16, 42, 180, 0, 44, 29, 2, 79]
abbrev dktX3_leastOf_0 : List UInt8 := dkwX3_leastOf_0 ++ dktX3_leastOf_1
theorem dksX3_leastOf_0 : cX3_leastOf.data.toList.drop 0 = dktX3_leastOf_0 := by decide +kernel
theorem dksX3_leastOf_1 : cX3_leastOf.data.toList.drop 22 = dktX3_leastOf_1 := dk_seg dksX3_leastOf_0 22 rfl rfl
theorem dksX3_leastOf_2 : cX3_leastOf.data.toList.drop 46 = dktX3_leastOf_2 := dk_seg dksX3_leastOf_1 24 rfl rfl
theorem dksX3_leastOf_3 : cX3_leastOf.data.toList.drop 70 = dktX3_leastOf_3 := dk_seg dksX3_leastOf_2 24 rfl rfl
theorem dksX3_leastOf_4 : cX3_leastOf.data.toList.drop 94 = dktX3_leastOf_4 := dk_seg dksX3_leastOf_3 24 rfl rfl
theorem dksX3_leastOf_5 : cX3_leastOf.data.toList.drop 117 = dktX3_leastOf_5 := dk_seg dksX3_leastOf_4 23 rfl rfl
theorem dksX3_leastOf_6 : cX3_leastOf.data.toList.drop 140 = dktX3_leastOf_6 := dk_seg dksX3_leastOf_5 23 rfl rfl
theorem dksX3_leastOf_7 : cX3_leastOf.data.toList.drop 164 = dktX3_leastOf_7 := dk_seg dksX3_leastOf_6 24 rfl rfl
theorem dksX3_leastOf_8 : cX3_leastOf.data.toList.drop 188 = dktX3_leastOf_8 := dk_seg dksX3_leastOf_7 24 rfl rfl
theorem dksX3_leastOf_9 : cX3_leastOf.data.toList.drop 211 = dktX3_leastOf_9 := dk_seg dksX3_leastOf_8 23 rfl rfl
theorem dksX3_leastOf_10 : cX3_leastOf.data.toList.drop 235 = dktX3_leastOf_10 := dk_seg dksX3_leastOf_9 24 rfl rfl
theorem dX3_leastOf_0 : decode cX3_leastOf 0 = .ok (.aload_n 0, 1) := dk_42 (dk_at dksX3_leastOf_0 0 rfl rfl)
theorem dX3_leastOf_1 : decode cX3_leastOf 1 = .ok (.invokevirtual 229, 3) := dk_182 0 229 (dk_at dksX3_leastOf_0 1 rfl rfl)
theorem dX3_leastOf_4 : decode cX3_leastOf 4 = .ok (.istore_n 2, 1) := dk_61 (dk_at dksX3_leastOf_0 4 rfl rfl)
theorem dX3_leastOf_5 : decode cX3_leastOf 5 = .ok (.iconst 0, 1) := dk_3 (dk_at dksX3_leastOf_0 5 rfl rfl)
theorem dX3_leastOf_6 : decode cX3_leastOf 6 = .ok (.istore_n 3, 1) := dk_62 (dk_at dksX3_leastOf_0 6 rfl rfl)
theorem dX3_leastOf_7 : decode cX3_leastOf 7 = .ok (.iload_n 3, 1) := dk_29 (dk_at dksX3_leastOf_0 7 rfl rfl)
theorem dX3_leastOf_8 : decode cX3_leastOf 8 = .ok (.aload_n 0, 1) := dk_42 (dk_at dksX3_leastOf_0 8 rfl rfl)
theorem dX3_leastOf_9 : decode cX3_leastOf 9 = .ok (.invokevirtual 233, 3) := dk_182 0 233 (dk_at dksX3_leastOf_0 9 rfl rfl)
theorem dX3_leastOf_12 : decode cX3_leastOf 12 = .ok (.if_icmp .ge 16, 3) := dk_162 0 16 (dk_at dksX3_leastOf_0 12 rfl rfl)
theorem dX3_leastOf_15 : decode cX3_leastOf 15 = .ok (.aload_n 0, 1) := dk_42 (dk_at dksX3_leastOf_0 15 rfl rfl)
theorem dX3_leastOf_16 : decode cX3_leastOf 16 = .ok (.getfield 44, 3) := dk_180 0 44 (dk_at dksX3_leastOf_0 16 rfl rfl)
theorem dX3_leastOf_19 : decode cX3_leastOf 19 = .ok (.iload_n 3, 1) := dk_29 (dk_at dksX3_leastOf_0 19 rfl rfl)
theorem dX3_leastOf_20 : decode cX3_leastOf 20 = .ok (.iconst (-1), 1) := dk_2 (dk_at dksX3_leastOf_0 20 rfl rfl)
theorem dX3_leastOf_21 : decode cX3_leastOf 21 = .ok (.iastore, 1) := dk_79 (dk_at dksX3_leastOf_0 21 rfl rfl)
theorem dX3_leastOf_22 : decode cX3_leastOf 22 = .ok (.iinc 3 1, 3) := dk_132 3 1 (dk_at dksX3_leastOf_1 0 rfl rfl)
theorem dX3_leastOf_25 : decode cX3_leastOf 25 = .ok (.goto (-18), 3) := dk_167 255 238 (dk_at dksX3_leastOf_1 3 rfl rfl)
theorem dX3_leastOf_28 : decode cX3_leastOf 28 = .ok (.iconst 0, 1) := dk_3 (dk_at dksX3_leastOf_1 6 rfl rfl)
theorem dX3_leastOf_29 : decode cX3_leastOf 29 = .ok (.istore_n 3, 1) := dk_62 (dk_at dksX3_leastOf_1 7 rfl rfl)
theorem dX3_leastOf_30 : decode cX3_leastOf 30 = .ok (.iload_n 3, 1) := dk_29 (dk_at dksX3_leastOf_1 8 rfl rfl)
theorem dX3_leastOf_31 : decode cX3_leastOf 31 = .ok (.bipush 100, 2) := dk_16 100 (dk_at dksX3_leastOf_1 9 rfl rfl)
theorem dX3_leastOf_33 : decode cX3_leastOf 33 = .ok (.if_icmp .ge 16, 3) := dk_162 0 16 (dk_at dksX3_leastOf_1 11 rfl rfl)
theorem dX3_leastOf_36 : decode cX3_leastOf 36 = .ok (.aload_n 0, 1) := dk_42 (dk_at dksX3_leastOf_1 14 rfl rfl)
theorem dX3_leastOf_37 : decode cX3_leastOf 37 = .ok (.getfield 62, 3) := dk_180 0 62 (dk_at dksX3_leastOf_1 15 rfl rfl)
theorem dX3_leastOf_40 : decode cX3_leastOf 40 = .ok (.iload_n 3, 1) := dk_29 (dk_at dksX3_leastOf_1 18 rfl rfl)
theorem dX3_leastOf_41 : decode cX3_leastOf 41 = .ok (.iconst (-1), 1) := dk_2 (dk_at dksX3_leastOf_1 19 rfl rfl)
theorem dX3_leastOf_42 : decode cX3_leastOf 42 = .ok (.iastore, 1) := dk_79 (dk_at dksX3_leastOf_1 20 rfl rfl)
theorem dX3_leastOf_43 : decode cX3_leastOf 43 = .ok (.iinc 3 1, 3) := dk_132 3 1 (dk_at dksX3_leastOf_1 21 rfl rfl)
theorem dX3_leastOf_46 : decode cX3_leastOf 46 = .ok (.goto (-16), 3) := dk_167 255 240 (dk_at dksX3_leastOf_2 0 rfl rfl)
theorem dX3_leastOf_49 : decode cX3_leastOf 49 = .ok (.aload_n 0, 1) := dk_42 (dk_at dksX3_leastOf_2 3 rfl rfl)
theorem dX3_leastOf_50 : decode cX3_leastOf 50 = .ok (.getfield 44, 3) := dk_180 0 44 (dk_at dksX3_leastOf_2 4 rfl rfl)
theorem dX3_leastOf_53 : decode cX3_leastOf 53 = .ok (.iload_n 2, 1) := dk_28 (dk_at dksX3_leastOf_2 7 rfl rfl)
theorem dX3_leastOf_54 : decode cX3_leastOf 54 = .ok (.iconst 0, 1) := dk_3 (dk_at dksX3_leastOf_2 8 rfl rfl)
theorem dX3_leastOf_55 : decode cX3_leastOf 55 = .ok (.iastore, 1) := dk_79 (dk_at dksX3_leastOf_2 9 rfl rfl)
theorem dX3_leastOf_56 : decode cX3_leastOf 56 = .ok (.aload_n 0, 1) := dk_42 (dk_at dksX3_leastOf_2 10 rfl rfl)
theorem dX3_leastOf_57 : decode cX3_leastOf 57 = .ok (.iload_n 2, 1) := dk_28 (dk_at dksX3_leastOf_2 11 rfl rfl)
theorem dX3_leastOf_58 : decode cX3_leastOf 58 = .ok (.invokevirtual 249, 3) := dk_182 0 249 (dk_at dksX3_leastOf_2 12 rfl rfl)
theorem dX3_leastOf_61 : decode cX3_leastOf 61 = .ok (.iconst 0, 1) := dk_3 (dk_at dksX3_leastOf_2 15 rfl rfl)
theorem dX3_leastOf_62 : decode cX3_leastOf 62 = .ok (.istore_n 3, 1) := dk_62 (dk_at dksX3_leastOf_2 16 rfl rfl)
theorem dX3_leastOf_63 : decode cX3_leastOf 63 = .ok (.iconst (-1), 1) := dk_2 (dk_at dksX3_leastOf_2 17 rfl rfl)
theorem dX3_leastOf_64 : decode cX3_leastOf 64 = .ok (.istore 4, 2) := dk_54 4 (dk_at dksX3_leastOf_2 18 rfl rfl)
theorem dX3_leastOf_66 : decode cX3_leastOf 66 = .ok (.iconst 0, 1) := dk_3 (dk_at dksX3_leastOf_2 20 rfl rfl)
theorem dX3_leastOf_67 : decode cX3_leastOf 67 = .ok (.istore 5, 2) := dk_54 5 (dk_at dksX3_leastOf_2 21 rfl rfl)
theorem dX3_leastOf_69 : decode cX3_leastOf 69 = .ok (.iload_n 3, 1) := dk_29 (dk_at dksX3_leastOf_2 23 rfl rfl)
theorem dX3_leastOf_70 : decode cX3_leastOf 70 = .ok (.bipush 100, 2) := dk_16 100 (dk_at dksX3_leastOf_3 0 rfl rfl)
theorem dX3_leastOf_72 : decode cX3_leastOf 72 = .ok (.if_icmp .ge 178, 3) := dk_162 0 178 (dk_at dksX3_leastOf_3 2 rfl rfl)
theorem dX3_leastOf_75 : decode cX3_leastOf 75 = .ok (.iload 4, 2) := dk_21 4 (dk_at dksX3_leastOf_3 5 rfl rfl)
theorem dX3_leastOf_77 : decode cX3_leastOf 77 = .ok (.iconst (-1), 1) := dk_2 (dk_at dksX3_leastOf_3 7 rfl rfl)
theorem dX3_leastOf_78 : decode cX3_leastOf 78 = .ok (.if_icmp .ne 172, 3) := dk_160 0 172 (dk_at dksX3_leastOf_3 8 rfl rfl)
theorem dX3_leastOf_81 : decode cX3_leastOf 81 = .ok (.iinc 3 1, 3) := dk_132 3 1 (dk_at dksX3_leastOf_3 11 rfl rfl)
theorem dX3_leastOf_84 : decode cX3_leastOf 84 = .ok (.aload_n 0, 1) := dk_42 (dk_at dksX3_leastOf_3 14 rfl rfl)
theorem dX3_leastOf_85 : decode cX3_leastOf 85 = .ok (.getfield 62, 3) := dk_180 0 62 (dk_at dksX3_leastOf_3 15 rfl rfl)
theorem dX3_leastOf_88 : decode cX3_leastOf 88 = .ok (.iload 5, 2) := dk_21 5 (dk_at dksX3_leastOf_3 18 rfl rfl)
theorem dX3_leastOf_90 : decode cX3_leastOf 90 = .ok (.bipush 100, 2) := dk_16 100 (dk_at dksX3_leastOf_3 20 rfl rfl)
theorem dX3_leastOf_92 : decode cX3_leastOf 92 = .ok (.irem, 1) := dk_112 (dk_at dksX3_leastOf_3 22 rfl rfl)
theorem dX3_leastOf_93 : decode cX3_leastOf 93 = .ok (.iaload, 1) := dk_46 (dk_at dksX3_leastOf_3 23 rfl rfl)
theorem dX3_leastOf_94 : decode cX3_leastOf 94 = .ok (.iconst (-1), 1) := dk_2 (dk_at dksX3_leastOf_4 0 rfl rfl)
theorem dX3_leastOf_95 : decode cX3_leastOf 95 = .ok (.if_icmp .eq 149, 3) := dk_159 0 149 (dk_at dksX3_leastOf_4 1 rfl rfl)
theorem dX3_leastOf_98 : decode cX3_leastOf 98 = .ok (.iload 4, 2) := dk_21 4 (dk_at dksX3_leastOf_4 4 rfl rfl)
theorem dX3_leastOf_100 : decode cX3_leastOf 100 = .ok (.iconst (-1), 1) := dk_2 (dk_at dksX3_leastOf_4 6 rfl rfl)
theorem dX3_leastOf_101 : decode cX3_leastOf 101 = .ok (.if_icmp .ne 143, 3) := dk_160 0 143 (dk_at dksX3_leastOf_4 7 rfl rfl)
theorem dX3_leastOf_104 : decode cX3_leastOf 104 = .ok (.aload_n 0, 1) := dk_42 (dk_at dksX3_leastOf_4 10 rfl rfl)
theorem dX3_leastOf_105 : decode cX3_leastOf 105 = .ok (.getfield 62, 3) := dk_180 0 62 (dk_at dksX3_leastOf_4 11 rfl rfl)
theorem dX3_leastOf_108 : decode cX3_leastOf 108 = .ok (.iload 5, 2) := dk_21 5 (dk_at dksX3_leastOf_4 14 rfl rfl)
theorem dX3_leastOf_110 : decode cX3_leastOf 110 = .ok (.bipush 100, 2) := dk_16 100 (dk_at dksX3_leastOf_4 16 rfl rfl)
theorem dX3_leastOf_112 : decode cX3_leastOf 112 = .ok (.irem, 1) := dk_112 (dk_at dksX3_leastOf_4 18 rfl rfl)
theorem dX3_leastOf_113 : decode cX3_leastOf 113 = .ok (.iaload, 1) := dk_46 (dk_at dksX3_leastOf_4 19 rfl rfl)
theorem dX3_leastOf_114 : decode cX3_leastOf 114 = .ok (.istore 6, 2) := dk_54 6 (dk_at dksX3_leastOf_4 20 rfl rfl)
theorem dX3_leastOf_116 : decode cX3_leastOf 116 = .ok (.aload_n 0, 1) := dk_42 (dk_at dksX3_leastOf_4 22 rfl rfl)
theorem dX3_leastOf_117 : decode cX3_leastOf 117 = .ok (.iload 6, 2) := dk_21 6 (dk_at dksX3_leastOf_5 0 rfl rfl)
theorem dX3_leastOf_119 : decode cX3_leastOf 119 = .ok (.invokevirtual 252, 3) := dk_182 0 252 (dk_at dksX3_leastOf_5 2 rfl rfl)
theorem dX3_leastOf_122 : decode cX3_leastOf 122 = .ok (.iconst 0, 1) := dk_3 (dk_at dksX3_leastOf_5 5 rfl rfl)
theorem dX3_leastOf_123 : decode cX3_leastOf 123 = .ok (.istore_n 3, 1) := dk_62 (dk_at dksX3_leastOf_5 6 rfl rfl)
theorem dX3_leastOf_124 : decode cX3_leastOf 124 = .ok (.aload_n 0, 1) := dk_42 (dk_at dksX3_leastOf_5 7 rfl rfl)
theorem dX3_leastOf_125 : decode cX3_leastOf 125 = .ok (.iload 6, 2) := dk_21 6 (dk_at dksX3_leastOf_5 8 rfl rfl)
theorem dX3_leastOf_127 : decode cX3_leastOf 127 = .ok (.invokevirtual 236, 3) := dk_182 0 236 (dk_at dksX3_leastOf_5 10 rfl rfl)
theorem dX3_leastOf_130 : decode cX3_leastOf 130 = .ok (.iload_n 1, 1) := dk_27 (dk_at dksX3_leastOf_5 13 rfl rfl)
theorem dX3_leastOf_131 : decode cX3_leastOf 131 = .ok (.if_icmp .ne 8, 3) := dk_160 0 8 (dk_at dksX3_leastOf_5 14 rfl rfl)
theorem dX3_leastOf_134 : decode cX3_leastOf 134 = .ok (.iload 5, 2) := dk_21 5 (dk_at dksX3_leastOf_5 17 rfl rfl)
theorem dX3_leastOf_136 : decode cX3_leastOf 136 = .ok (.goto 4, 3) := dk_167 0 4 (dk_at dksX3_leastOf_5 19 rfl rfl)
theorem dX3_leastOf_139 : decode cX3_leastOf 139 = .ok (.iconst (-1), 1) := dk_2 (dk_at dksX3_leastOf_5 22 rfl rfl)
theorem dX3_leastOf_140 : decode cX3_leastOf 140 = .ok (.istore 4, 2) := dk_54 4 (dk_at dksX3_leastOf_6 0 rfl rfl)
theorem dX3_leastOf_142 : decode cX3_leastOf 142 = .ok (.iconst 0, 1) := dk_3 (dk_at dksX3_leastOf_6 2 rfl rfl)
theorem dX3_leastOf_143 : decode cX3_leastOf 143 = .ok (.istore 7, 2) := dk_54 7 (dk_at dksX3_leastOf_6 3 rfl rfl)
theorem dX3_leastOf_145 : decode cX3_leastOf 145 = .ok (.iload 7, 2) := dk_21 7 (dk_at dksX3_leastOf_6 5 rfl rfl)
theorem dX3_leastOf_147 : decode cX3_leastOf 147 = .ok (.aload_n 0, 1) := dk_42 (dk_at dksX3_leastOf_6 7 rfl rfl)
theorem dX3_leastOf_148 : decode cX3_leastOf 148 = .ok (.getfield 182, 3) := dk_180 0 182 (dk_at dksX3_leastOf_6 8 rfl rfl)
theorem dX3_leastOf_151 : decode cX3_leastOf 151 = .ok (.if_icmp .ge 90, 3) := dk_162 0 90 (dk_at dksX3_leastOf_6 11 rfl rfl)
theorem dX3_leastOf_154 : decode cX3_leastOf 154 = .ok (.aload_n 0, 1) := dk_42 (dk_at dksX3_leastOf_6 14 rfl rfl)
theorem dX3_leastOf_155 : decode cX3_leastOf 155 = .ok (.iload 6, 2) := dk_21 6 (dk_at dksX3_leastOf_6 15 rfl rfl)
theorem dX3_leastOf_157 : decode cX3_leastOf 157 = .ok (.iload 7, 2) := dk_21 7 (dk_at dksX3_leastOf_6 17 rfl rfl)
theorem dX3_leastOf_159 : decode cX3_leastOf 159 = .ok (.invokevirtual 239, 3) := dk_182 0 239 (dk_at dksX3_leastOf_6 19 rfl rfl)
theorem dX3_leastOf_162 : decode cX3_leastOf 162 = .ok (.istore 8, 2) := dk_54 8 (dk_at dksX3_leastOf_6 22 rfl rfl)
theorem dX3_leastOf_164 : decode cX3_leastOf 164 = .ok (.iload 5, 2) := dk_21 5 (dk_at dksX3_leastOf_7 0 rfl rfl)
theorem dX3_leastOf_166 : decode cX3_leastOf 166 = .ok (.aload_n 0, 1) := dk_42 (dk_at dksX3_leastOf_7 2 rfl rfl)
theorem dX3_leastOf_167 : decode cX3_leastOf 167 = .ok (.getfield 13, 3) := dk_180 0 13 (dk_at dksX3_leastOf_7 3 rfl rfl)
theorem dX3_leastOf_170 : decode cX3_leastOf 170 = .ok (.iconst 4, 1) := dk_7 (dk_at dksX3_leastOf_7 6 rfl rfl)
theorem dX3_leastOf_171 : decode cX3_leastOf 171 = .ok (.iload 7, 2) := dk_21 7 (dk_at dksX3_leastOf_7 7 rfl rfl)
theorem dX3_leastOf_173 : decode cX3_leastOf 173 = .ok (.imul, 1) := dk_104 (dk_at dksX3_leastOf_7 9 rfl rfl)
theorem dX3_leastOf_174 : decode cX3_leastOf 174 = .ok (.iconst 1, 1) := dk_4 (dk_at dksX3_leastOf_7 10 rfl rfl)
theorem dX3_leastOf_175 : decode cX3_leastOf 175 = .ok (.iadd, 1) := dk_96 (dk_at dksX3_leastOf_7 11 rfl rfl)
theorem dX3_leastOf_176 : decode cX3_leastOf 176 = .ok (.iaload, 1) := dk_46 (dk_at dksX3_leastOf_7 12 rfl rfl)
theorem dX3_leastOf_177 : decode cX3_leastOf 177 = .ok (.iadd, 1) := dk_96 (dk_at dksX3_leastOf_7 13 rfl rfl)
theorem dX3_leastOf_178 : decode cX3_leastOf 178 = .ok (.istore 9, 2) := dk_54 9 (dk_at dksX3_leastOf_7 14 rfl rfl)
theorem dX3_leastOf_180 : decode cX3_leastOf 180 = .ok (.aload_n 0, 1) := dk_42 (dk_at dksX3_leastOf_7 16 rfl rfl)
theorem dX3_leastOf_181 : decode cX3_leastOf 181 = .ok (.getfield 44, 3) := dk_180 0 44 (dk_at dksX3_leastOf_7 17 rfl rfl)
theorem dX3_leastOf_184 : decode cX3_leastOf 184 = .ok (.iload 8, 2) := dk_21 8 (dk_at dksX3_leastOf_7 20 rfl rfl)
theorem dX3_leastOf_186 : decode cX3_leastOf 186 = .ok (.iaload, 1) := dk_46 (dk_at dksX3_leastOf_7 22 rfl rfl)
theorem dX3_leastOf_187 : decode cX3_leastOf 187 = .ok (.iconst (-1), 1) := dk_2 (dk_at dksX3_leastOf_7 23 rfl rfl)
theorem dX3_leastOf_188 : decode cX3_leastOf 188 = .ok (.if_icmp .eq 15, 3) := dk_159 0 15 (dk_at dksX3_leastOf_8 0 rfl rfl)
theorem dX3_leastOf_191 : decode cX3_leastOf 191 = .ok (.iload 9, 2) := dk_21 9 (dk_at dksX3_leastOf_8 3 rfl rfl)
theorem dX3_leastOf_193 : decode cX3_leastOf 193 = .ok (.aload_n 0, 1) := dk_42 (dk_at dksX3_leastOf_8 5 rfl rfl)
theorem dX3_leastOf_194 : decode cX3_leastOf 194 = .ok (.getfield 44, 3) := dk_180 0 44 (dk_at dksX3_leastOf_8 6 rfl rfl)
theorem dX3_leastOf_197 : decode cX3_leastOf 197 = .ok (.iload 8, 2) := dk_21 8 (dk_at dksX3_leastOf_8 9 rfl rfl)
theorem dX3_leastOf_199 : decode cX3_leastOf 199 = .ok (.iaload, 1) := dk_46 (dk_at dksX3_leastOf_8 11 rfl rfl)
theorem dX3_leastOf_200 : decode cX3_leastOf 200 = .ok (.if_icmp .ge 35, 3) := dk_162 0 35 (dk_at dksX3_leastOf_8 12 rfl rfl)
theorem dX3_leastOf_203 : decode cX3_leastOf 203 = .ok (.aload_n 0, 1) := dk_42 (dk_at dksX3_leastOf_8 15 rfl rfl)
theorem dX3_leastOf_204 : decode cX3_leastOf 204 = .ok (.getfield 44, 3) := dk_180 0 44 (dk_at dksX3_leastOf_8 16 rfl rfl)
theorem dX3_leastOf_207 : decode cX3_leastOf 207 = .ok (.iload 8, 2) := dk_21 8 (dk_at dksX3_leastOf_8 19 rfl rfl)
theorem dX3_leastOf_209 : decode cX3_leastOf 209 = .ok (.iaload, 1) := dk_46 (dk_at dksX3_leastOf_8 21 rfl rfl)
theorem dX3_leastOf_210 : decode cX3_leastOf 210 = .ok (.iconst (-1), 1) := dk_2 (dk_at dksX3_leastOf_8 22 rfl rfl)
theorem dX3_leastOf_211 : decode cX3_leastOf 211 = .ok (.if_icmp .eq 9, 3) := dk_159 0 9 (dk_at dksX3_leastOf_9 0 rfl rfl)
theorem dX3_leastOf_214 : decode cX3_leastOf 214 = .ok (.aload_n 0, 1) := dk_42 (dk_at dksX3_leastOf_9 3 rfl rfl)
theorem dX3_leastOf_215 : decode cX3_leastOf 215 = .ok (.iload 8, 2) := dk_21 8 (dk_at dksX3_leastOf_9 4 rfl rfl)
theorem dX3_leastOf_217 : decode cX3_leastOf 217 = .ok (.invokevirtual 252, 3) := dk_182 0 252 (dk_at dksX3_leastOf_9 6 rfl rfl)
theorem dX3_leastOf_220 : decode cX3_leastOf 220 = .ok (.aload_n 0, 1) := dk_42 (dk_at dksX3_leastOf_9 9 rfl rfl)
theorem dX3_leastOf_221 : decode cX3_leastOf 221 = .ok (.getfield 44, 3) := dk_180 0 44 (dk_at dksX3_leastOf_9 10 rfl rfl)
theorem dX3_leastOf_224 : decode cX3_leastOf 224 = .ok (.iload 8, 2) := dk_21 8 (dk_at dksX3_leastOf_9 13 rfl rfl)
theorem dX3_leastOf_226 : decode cX3_leastOf 226 = .ok (.iload 9, 2) := dk_21 9 (dk_at dksX3_leastOf_9 15 rfl rfl)
theorem dX3_leastOf_228 : decode cX3_leastOf 228 = .ok (.iastore, 1) := dk_79 (dk_at dksX3_leastOf_9 17 rfl rfl)
theorem dX3_leastOf_229 : decode cX3_leastOf 229 = .ok (.aload_n 0, 1) := dk_42 (dk_at dksX3_leastOf_9 18 rfl rfl)
theorem dX3_leastOf_230 : decode cX3_leastOf 230 = .ok (.iload 8, 2) := dk_21 8 (dk_at dksX3_leastOf_9 19 rfl rfl)
theorem dX3_leastOf_232 : decode cX3_leastOf 232 = .ok (.invokevirtual 249, 3) := dk_182 0 249 (dk_at dksX3_leastOf_9 21 rfl rfl)
theorem dX3_leastOf_235 : decode cX3_leastOf 235 = .ok (.iinc 7 1, 3) := dk_132 7 1 (dk_at dksX3_leastOf_10 0 rfl rfl)
theorem dX3_leastOf_238 : decode cX3_leastOf 238 = .ok (.goto (-93), 3) := dk_167 255 163 (dk_at dksX3_leastOf_10 3 rfl rfl)
theorem dX3_leastOf_241 : decode cX3_leastOf 241 = .ok (.goto (-157), 3) := dk_167 255 99 (dk_at dksX3_leastOf_10 6 rfl rfl)
theorem dX3_leastOf_244 : decode cX3_leastOf 244 = .ok (.iinc 5 1, 3) := dk_132 5 1 (dk_at dksX3_leastOf_10 9 rfl rfl)
theorem dX3_leastOf_247 : decode cX3_leastOf 247 = .ok (.goto (-178), 3) := dk_167 255 78 (dk_at dksX3_leastOf_10 12 rfl rfl)
theorem dX3_leastOf_250 : decode cX3_leastOf 250 = .ok (.aload_n 0, 1) := dk_42 (dk_at dksX3_leastOf_10 15 rfl rfl)
theorem dX3_leastOf_251 : decode cX3_leastOf 251 = .ok (.iload_n 2, 1) := dk_28 (dk_at dksX3_leastOf_10 16 rfl rfl)
theorem dX3_leastOf_252 : decode cX3_leastOf 252 = .ok (.invokevirtual 223, 3) := dk_182 0 223 (dk_at dksX3_leastOf_10 17 rfl rfl)
theorem dX3_leastOf_255 : decode cX3_leastOf 255 = .ok (.iload 4, 2) := dk_21 4 (dk_at dksX3_leastOf_10 20 rfl rfl)
theorem dX3_leastOf_257 : decode cX3_leastOf 257 = .ok (.ireturn, 1) := dk_172 (dk_at dksX3_leastOf_10 22 rfl rfl)
abbrev cX3_putIn : ByteArray := prog_15_method_34_code
def yX3_putIn : MethodName := ⟨RX3, "putIn", "(I)V"⟩
def dkwX3_putIn_2 : List UInt8 := [28, 46, 27, 79, 42, 180, 0, 62, 28, 27, 79, 177]
abbrev dktX3_putIn_2 : List UInt8 := dkwX3_putIn_2 ++ []
def dkwX3_putIn_1 : List UInt8 := [180, 0, 53, 27, 2, 79, 42, 180, 0, 62, 28, 46, 2, 159, 0, 15, 42, 180, 0, 53, 42, 180, 0, 62]
abbrev dktX3_putIn_1 : List UInt8 := dkwX3_putIn_1 ++ dktX3_putIn_2
def dkwX3_putIn_0 : List UInt8 := [42, 180, 0, 44, 27, 46, 16, 100, 112, 61, 42, 180, 0, 47, 27, 42, 180, 0, 62, 28, 46, 79, 42]
abbrev dktX3_putIn_0 : List UInt8 := dkwX3_putIn_0 ++ dktX3_putIn_1
theorem dksX3_putIn_0 : cX3_putIn.data.toList.drop 0 = dktX3_putIn_0 := by decide +kernel
theorem dksX3_putIn_1 : cX3_putIn.data.toList.drop 23 = dktX3_putIn_1 := dk_seg dksX3_putIn_0 23 rfl rfl
theorem dksX3_putIn_2 : cX3_putIn.data.toList.drop 47 = dktX3_putIn_2 := dk_seg dksX3_putIn_1 24 rfl rfl
theorem dX3_putIn_0 : decode cX3_putIn 0 = .ok (.aload_n 0, 1) := dk_42 (dk_at dksX3_putIn_0 0 rfl rfl)
theorem dX3_putIn_1 : decode cX3_putIn 1 = .ok (.getfield 44, 3) := dk_180 0 44 (dk_at dksX3_putIn_0 1 rfl rfl)
theorem dX3_putIn_4 : decode cX3_putIn 4 = .ok (.iload_n 1, 1) := dk_27 (dk_at dksX3_putIn_0 4 rfl rfl)
theorem dX3_putIn_5 : decode cX3_putIn 5 = .ok (.iaload, 1) := dk_46 (dk_at dksX3_putIn_0 5 rfl rfl)
theorem dX3_putIn_6 : decode cX3_putIn 6 = .ok (.bipush 100, 2) := dk_16 100 (dk_at dksX3_putIn_0 6 rfl rfl)
theorem dX3_putIn_8 : decode cX3_putIn 8 = .ok (.irem, 1) := dk_112 (dk_at dksX3_putIn_0 8 rfl rfl)
theorem dX3_putIn_9 : decode cX3_putIn 9 = .ok (.istore_n 2, 1) := dk_61 (dk_at dksX3_putIn_0 9 rfl rfl)
theorem dX3_putIn_10 : decode cX3_putIn 10 = .ok (.aload_n 0, 1) := dk_42 (dk_at dksX3_putIn_0 10 rfl rfl)
theorem dX3_putIn_11 : decode cX3_putIn 11 = .ok (.getfield 47, 3) := dk_180 0 47 (dk_at dksX3_putIn_0 11 rfl rfl)
theorem dX3_putIn_14 : decode cX3_putIn 14 = .ok (.iload_n 1, 1) := dk_27 (dk_at dksX3_putIn_0 14 rfl rfl)
theorem dX3_putIn_15 : decode cX3_putIn 15 = .ok (.aload_n 0, 1) := dk_42 (dk_at dksX3_putIn_0 15 rfl rfl)
theorem dX3_putIn_16 : decode cX3_putIn 16 = .ok (.getfield 62, 3) := dk_180 0 62 (dk_at dksX3_putIn_0 16 rfl rfl)
theorem dX3_putIn_19 : decode cX3_putIn 19 = .ok (.iload_n 2, 1) := dk_28 (dk_at dksX3_putIn_0 19 rfl rfl)
theorem dX3_putIn_20 : decode cX3_putIn 20 = .ok (.iaload, 1) := dk_46 (dk_at dksX3_putIn_0 20 rfl rfl)
theorem dX3_putIn_21 : decode cX3_putIn 21 = .ok (.iastore, 1) := dk_79 (dk_at dksX3_putIn_0 21 rfl rfl)
theorem dX3_putIn_22 : decode cX3_putIn 22 = .ok (.aload_n 0, 1) := dk_42 (dk_at dksX3_putIn_0 22 rfl rfl)
theorem dX3_putIn_23 : decode cX3_putIn 23 = .ok (.getfield 53, 3) := dk_180 0 53 (dk_at dksX3_putIn_1 0 rfl rfl)
theorem dX3_putIn_26 : decode cX3_putIn 26 = .ok (.iload_n 1, 1) := dk_27 (dk_at dksX3_putIn_1 3 rfl rfl)
theorem dX3_putIn_27 : decode cX3_putIn 27 = .ok (.iconst (-1), 1) := dk_2 (dk_at dksX3_putIn_1 4 rfl rfl)
theorem dX3_putIn_28 : decode cX3_putIn 28 = .ok (.iastore, 1) := dk_79 (dk_at dksX3_putIn_1 5 rfl rfl)
theorem dX3_putIn_29 : decode cX3_putIn 29 = .ok (.aload_n 0, 1) := dk_42 (dk_at dksX3_putIn_1 6 rfl rfl)
theorem dX3_putIn_30 : decode cX3_putIn 30 = .ok (.getfield 62, 3) := dk_180 0 62 (dk_at dksX3_putIn_1 7 rfl rfl)
theorem dX3_putIn_33 : decode cX3_putIn 33 = .ok (.iload_n 2, 1) := dk_28 (dk_at dksX3_putIn_1 10 rfl rfl)
theorem dX3_putIn_34 : decode cX3_putIn 34 = .ok (.iaload, 1) := dk_46 (dk_at dksX3_putIn_1 11 rfl rfl)
theorem dX3_putIn_35 : decode cX3_putIn 35 = .ok (.iconst (-1), 1) := dk_2 (dk_at dksX3_putIn_1 12 rfl rfl)
theorem dX3_putIn_36 : decode cX3_putIn 36 = .ok (.if_icmp .eq 15, 3) := dk_159 0 15 (dk_at dksX3_putIn_1 13 rfl rfl)
theorem dX3_putIn_39 : decode cX3_putIn 39 = .ok (.aload_n 0, 1) := dk_42 (dk_at dksX3_putIn_1 16 rfl rfl)
theorem dX3_putIn_40 : decode cX3_putIn 40 = .ok (.getfield 53, 3) := dk_180 0 53 (dk_at dksX3_putIn_1 17 rfl rfl)
theorem dX3_putIn_43 : decode cX3_putIn 43 = .ok (.aload_n 0, 1) := dk_42 (dk_at dksX3_putIn_1 20 rfl rfl)
theorem dX3_putIn_44 : decode cX3_putIn 44 = .ok (.getfield 62, 3) := dk_180 0 62 (dk_at dksX3_putIn_1 21 rfl rfl)
theorem dX3_putIn_47 : decode cX3_putIn 47 = .ok (.iload_n 2, 1) := dk_28 (dk_at dksX3_putIn_2 0 rfl rfl)
theorem dX3_putIn_48 : decode cX3_putIn 48 = .ok (.iaload, 1) := dk_46 (dk_at dksX3_putIn_2 1 rfl rfl)
theorem dX3_putIn_49 : decode cX3_putIn 49 = .ok (.iload_n 1, 1) := dk_27 (dk_at dksX3_putIn_2 2 rfl rfl)
theorem dX3_putIn_50 : decode cX3_putIn 50 = .ok (.iastore, 1) := dk_79 (dk_at dksX3_putIn_2 3 rfl rfl)
theorem dX3_putIn_51 : decode cX3_putIn 51 = .ok (.aload_n 0, 1) := dk_42 (dk_at dksX3_putIn_2 4 rfl rfl)
theorem dX3_putIn_52 : decode cX3_putIn 52 = .ok (.getfield 62, 3) := dk_180 0 62 (dk_at dksX3_putIn_2 5 rfl rfl)
theorem dX3_putIn_55 : decode cX3_putIn 55 = .ok (.iload_n 2, 1) := dk_28 (dk_at dksX3_putIn_2 8 rfl rfl)
theorem dX3_putIn_56 : decode cX3_putIn 56 = .ok (.iload_n 1, 1) := dk_27 (dk_at dksX3_putIn_2 9 rfl rfl)
theorem dX3_putIn_57 : decode cX3_putIn 57 = .ok (.iastore, 1) := dk_79 (dk_at dksX3_putIn_2 10 rfl rfl)
theorem dX3_putIn_58 : decode cX3_putIn 58 = .ok (.return_, 1) := dk_177 (dk_at dksX3_putIn_2 11 rfl rfl)
abbrev cX3_takeOut : ByteArray := prog_15_method_35_code
def yX3_takeOut : MethodName := ⟨RX3, "takeOut", "(I)V"⟩
def dkwX3_takeOut_3 : List UInt8 := [180, 0, 53, 27, 46, 79, 177]
abbrev dktX3_takeOut_3 : List UInt8 := dkwX3_takeOut_3 ++ []
def dkwX3_takeOut_2 : List UInt8 := [46, 79, 42, 180, 0, 47, 27, 46, 2, 159, 0, 20, 42, 180, 0, 53, 42, 180, 0, 47, 27, 46, 42]
abbrev dktX3_takeOut_2 : List UInt8 := dkwX3_takeOut_2 ++ dktX3_takeOut_3
def dkwX3_takeOut_1 : List UInt8 := [180, 0, 47, 27, 46, 79, 167, 0, 20, 42, 180, 0, 47, 42, 180, 0, 53, 27, 46, 42, 180, 0, 47, 27]
abbrev dktX3_takeOut_1 : List UInt8 := dkwX3_takeOut_1 ++ dktX3_takeOut_2
def dkwX3_takeOut_0 : List UInt8 := [42, 180, 0, 53, 27, 46, 2, 160, 0, 26, 42, 180, 0, 62, 42, 180, 0, 44, 27, 46, 16, 100, 112, 42]
abbrev dktX3_takeOut_0 : List UInt8 := dkwX3_takeOut_0 ++ dktX3_takeOut_1
theorem dksX3_takeOut_0 : cX3_takeOut.data.toList.drop 0 = dktX3_takeOut_0 := by decide +kernel
theorem dksX3_takeOut_1 : cX3_takeOut.data.toList.drop 24 = dktX3_takeOut_1 := dk_seg dksX3_takeOut_0 24 rfl rfl
theorem dksX3_takeOut_2 : cX3_takeOut.data.toList.drop 48 = dktX3_takeOut_2 := dk_seg dksX3_takeOut_1 24 rfl rfl
theorem dksX3_takeOut_3 : cX3_takeOut.data.toList.drop 71 = dktX3_takeOut_3 := dk_seg dksX3_takeOut_2 23 rfl rfl
theorem dX3_takeOut_0 : decode cX3_takeOut 0 = .ok (.aload_n 0, 1) := dk_42 (dk_at dksX3_takeOut_0 0 rfl rfl)
theorem dX3_takeOut_1 : decode cX3_takeOut 1 = .ok (.getfield 53, 3) := dk_180 0 53 (dk_at dksX3_takeOut_0 1 rfl rfl)
theorem dX3_takeOut_4 : decode cX3_takeOut 4 = .ok (.iload_n 1, 1) := dk_27 (dk_at dksX3_takeOut_0 4 rfl rfl)
theorem dX3_takeOut_5 : decode cX3_takeOut 5 = .ok (.iaload, 1) := dk_46 (dk_at dksX3_takeOut_0 5 rfl rfl)
theorem dX3_takeOut_6 : decode cX3_takeOut 6 = .ok (.iconst (-1), 1) := dk_2 (dk_at dksX3_takeOut_0 6 rfl rfl)
theorem dX3_takeOut_7 : decode cX3_takeOut 7 = .ok (.if_icmp .ne 26, 3) := dk_160 0 26 (dk_at dksX3_takeOut_0 7 rfl rfl)
theorem dX3_takeOut_10 : decode cX3_takeOut 10 = .ok (.aload_n 0, 1) := dk_42 (dk_at dksX3_takeOut_0 10 rfl rfl)
theorem dX3_takeOut_11 : decode cX3_takeOut 11 = .ok (.getfield 62, 3) := dk_180 0 62 (dk_at dksX3_takeOut_0 11 rfl rfl)
theorem dX3_takeOut_14 : decode cX3_takeOut 14 = .ok (.aload_n 0, 1) := dk_42 (dk_at dksX3_takeOut_0 14 rfl rfl)
theorem dX3_takeOut_15 : decode cX3_takeOut 15 = .ok (.getfield 44, 3) := dk_180 0 44 (dk_at dksX3_takeOut_0 15 rfl rfl)
theorem dX3_takeOut_18 : decode cX3_takeOut 18 = .ok (.iload_n 1, 1) := dk_27 (dk_at dksX3_takeOut_0 18 rfl rfl)
theorem dX3_takeOut_19 : decode cX3_takeOut 19 = .ok (.iaload, 1) := dk_46 (dk_at dksX3_takeOut_0 19 rfl rfl)
theorem dX3_takeOut_20 : decode cX3_takeOut 20 = .ok (.bipush 100, 2) := dk_16 100 (dk_at dksX3_takeOut_0 20 rfl rfl)
theorem dX3_takeOut_22 : decode cX3_takeOut 22 = .ok (.irem, 1) := dk_112 (dk_at dksX3_takeOut_0 22 rfl rfl)
theorem dX3_takeOut_23 : decode cX3_takeOut 23 = .ok (.aload_n 0, 1) := dk_42 (dk_at dksX3_takeOut_0 23 rfl rfl)
theorem dX3_takeOut_24 : decode cX3_takeOut 24 = .ok (.getfield 47, 3) := dk_180 0 47 (dk_at dksX3_takeOut_1 0 rfl rfl)
theorem dX3_takeOut_27 : decode cX3_takeOut 27 = .ok (.iload_n 1, 1) := dk_27 (dk_at dksX3_takeOut_1 3 rfl rfl)
theorem dX3_takeOut_28 : decode cX3_takeOut 28 = .ok (.iaload, 1) := dk_46 (dk_at dksX3_takeOut_1 4 rfl rfl)
theorem dX3_takeOut_29 : decode cX3_takeOut 29 = .ok (.iastore, 1) := dk_79 (dk_at dksX3_takeOut_1 5 rfl rfl)
theorem dX3_takeOut_30 : decode cX3_takeOut 30 = .ok (.goto 20, 3) := dk_167 0 20 (dk_at dksX3_takeOut_1 6 rfl rfl)
theorem dX3_takeOut_33 : decode cX3_takeOut 33 = .ok (.aload_n 0, 1) := dk_42 (dk_at dksX3_takeOut_1 9 rfl rfl)
theorem dX3_takeOut_34 : decode cX3_takeOut 34 = .ok (.getfield 47, 3) := dk_180 0 47 (dk_at dksX3_takeOut_1 10 rfl rfl)
theorem dX3_takeOut_37 : decode cX3_takeOut 37 = .ok (.aload_n 0, 1) := dk_42 (dk_at dksX3_takeOut_1 13 rfl rfl)
theorem dX3_takeOut_38 : decode cX3_takeOut 38 = .ok (.getfield 53, 3) := dk_180 0 53 (dk_at dksX3_takeOut_1 14 rfl rfl)
theorem dX3_takeOut_41 : decode cX3_takeOut 41 = .ok (.iload_n 1, 1) := dk_27 (dk_at dksX3_takeOut_1 17 rfl rfl)
theorem dX3_takeOut_42 : decode cX3_takeOut 42 = .ok (.iaload, 1) := dk_46 (dk_at dksX3_takeOut_1 18 rfl rfl)
theorem dX3_takeOut_43 : decode cX3_takeOut 43 = .ok (.aload_n 0, 1) := dk_42 (dk_at dksX3_takeOut_1 19 rfl rfl)
theorem dX3_takeOut_44 : decode cX3_takeOut 44 = .ok (.getfield 47, 3) := dk_180 0 47 (dk_at dksX3_takeOut_1 20 rfl rfl)
theorem dX3_takeOut_47 : decode cX3_takeOut 47 = .ok (.iload_n 1, 1) := dk_27 (dk_at dksX3_takeOut_1 23 rfl rfl)
theorem dX3_takeOut_48 : decode cX3_takeOut 48 = .ok (.iaload, 1) := dk_46 (dk_at dksX3_takeOut_2 0 rfl rfl)
theorem dX3_takeOut_49 : decode cX3_takeOut 49 = .ok (.iastore, 1) := dk_79 (dk_at dksX3_takeOut_2 1 rfl rfl)
theorem dX3_takeOut_50 : decode cX3_takeOut 50 = .ok (.aload_n 0, 1) := dk_42 (dk_at dksX3_takeOut_2 2 rfl rfl)
theorem dX3_takeOut_51 : decode cX3_takeOut 51 = .ok (.getfield 47, 3) := dk_180 0 47 (dk_at dksX3_takeOut_2 3 rfl rfl)
theorem dX3_takeOut_54 : decode cX3_takeOut 54 = .ok (.iload_n 1, 1) := dk_27 (dk_at dksX3_takeOut_2 6 rfl rfl)
theorem dX3_takeOut_55 : decode cX3_takeOut 55 = .ok (.iaload, 1) := dk_46 (dk_at dksX3_takeOut_2 7 rfl rfl)
theorem dX3_takeOut_56 : decode cX3_takeOut 56 = .ok (.iconst (-1), 1) := dk_2 (dk_at dksX3_takeOut_2 8 rfl rfl)
theorem dX3_takeOut_57 : decode cX3_takeOut 57 = .ok (.if_icmp .eq 20, 3) := dk_159 0 20 (dk_at dksX3_takeOut_2 9 rfl rfl)
theorem dX3_takeOut_60 : decode cX3_takeOut 60 = .ok (.aload_n 0, 1) := dk_42 (dk_at dksX3_takeOut_2 12 rfl rfl)
theorem dX3_takeOut_61 : decode cX3_takeOut 61 = .ok (.getfield 53, 3) := dk_180 0 53 (dk_at dksX3_takeOut_2 13 rfl rfl)
theorem dX3_takeOut_64 : decode cX3_takeOut 64 = .ok (.aload_n 0, 1) := dk_42 (dk_at dksX3_takeOut_2 16 rfl rfl)
theorem dX3_takeOut_65 : decode cX3_takeOut 65 = .ok (.getfield 47, 3) := dk_180 0 47 (dk_at dksX3_takeOut_2 17 rfl rfl)
theorem dX3_takeOut_68 : decode cX3_takeOut 68 = .ok (.iload_n 1, 1) := dk_27 (dk_at dksX3_takeOut_2 20 rfl rfl)
theorem dX3_takeOut_69 : decode cX3_takeOut 69 = .ok (.iaload, 1) := dk_46 (dk_at dksX3_takeOut_2 21 rfl rfl)
theorem dX3_takeOut_70 : decode cX3_takeOut 70 = .ok (.aload_n 0, 1) := dk_42 (dk_at dksX3_takeOut_2 22 rfl rfl)
theorem dX3_takeOut_71 : decode cX3_takeOut 71 = .ok (.getfield 53, 3) := dk_180 0 53 (dk_at dksX3_takeOut_3 0 rfl rfl)
theorem dX3_takeOut_74 : decode cX3_takeOut 74 = .ok (.iload_n 1, 1) := dk_27 (dk_at dksX3_takeOut_3 3 rfl rfl)
theorem dX3_takeOut_75 : decode cX3_takeOut 75 = .ok (.iaload, 1) := dk_46 (dk_at dksX3_takeOut_3 4 rfl rfl)
theorem dX3_takeOut_76 : decode cX3_takeOut 76 = .ok (.iastore, 1) := dk_79 (dk_at dksX3_takeOut_3 5 rfl rfl)
theorem dX3_takeOut_77 : decode cX3_takeOut 77 = .ok (.return_, 1) := dk_177 (dk_at dksX3_takeOut_3 6 rfl rfl)
abbrev cX3_never : ByteArray := prog_15_method_38_code
def yX3_never : MethodName := ⟨RX3, "never", "(I)I"⟩
def dkwX3_never_2 : List UInt8 := [160, 0, 7, 28, 167, 0, 4, 2, 172]
abbrev dktX3_never_2 : List UInt8 := dkwX3_never_2 ++ []
def dkwX3_never_1 : List UInt8 := [29, 46, 2, 160, 0, 13, 28, 27, 160, 0, 5, 29, 172, 132, 2, 1, 132, 3, 1, 167, 255, 225, 27, 2]
abbrev dktX3_never_1 : List UInt8 := dkwX3_never_1 ++ dktX3_never_2
def dkwX3_never_0 : List UInt8 := [42, 42, 180, 0, 182, 182, 0, 246, 3, 61, 3, 62, 29, 42, 180, 0, 65, 162, 0, 29, 42, 180, 0, 56]
abbrev dktX3_never_0 : List UInt8 := dkwX3_never_0 ++ dktX3_never_1
theorem dksX3_never_0 : cX3_never.data.toList.drop 0 = dktX3_never_0 := by decide +kernel
theorem dksX3_never_1 : cX3_never.data.toList.drop 24 = dktX3_never_1 := dk_seg dksX3_never_0 24 rfl rfl
theorem dksX3_never_2 : cX3_never.data.toList.drop 48 = dktX3_never_2 := dk_seg dksX3_never_1 24 rfl rfl
theorem dX3_never_0 : decode cX3_never 0 = .ok (.aload_n 0, 1) := dk_42 (dk_at dksX3_never_0 0 rfl rfl)
theorem dX3_never_1 : decode cX3_never 1 = .ok (.aload_n 0, 1) := dk_42 (dk_at dksX3_never_0 1 rfl rfl)
theorem dX3_never_2 : decode cX3_never 2 = .ok (.getfield 182, 3) := dk_180 0 182 (dk_at dksX3_never_0 2 rfl rfl)
theorem dX3_never_5 : decode cX3_never 5 = .ok (.invokevirtual 246, 3) := dk_182 0 246 (dk_at dksX3_never_0 5 rfl rfl)
theorem dX3_never_8 : decode cX3_never 8 = .ok (.iconst 0, 1) := dk_3 (dk_at dksX3_never_0 8 rfl rfl)
theorem dX3_never_9 : decode cX3_never 9 = .ok (.istore_n 2, 1) := dk_61 (dk_at dksX3_never_0 9 rfl rfl)
theorem dX3_never_10 : decode cX3_never 10 = .ok (.iconst 0, 1) := dk_3 (dk_at dksX3_never_0 10 rfl rfl)
theorem dX3_never_11 : decode cX3_never 11 = .ok (.istore_n 3, 1) := dk_62 (dk_at dksX3_never_0 11 rfl rfl)
theorem dX3_never_12 : decode cX3_never 12 = .ok (.iload_n 3, 1) := dk_29 (dk_at dksX3_never_0 12 rfl rfl)
theorem dX3_never_13 : decode cX3_never 13 = .ok (.aload_n 0, 1) := dk_42 (dk_at dksX3_never_0 13 rfl rfl)
theorem dX3_never_14 : decode cX3_never 14 = .ok (.getfield 65, 3) := dk_180 0 65 (dk_at dksX3_never_0 14 rfl rfl)
theorem dX3_never_17 : decode cX3_never 17 = .ok (.if_icmp .ge 29, 3) := dk_162 0 29 (dk_at dksX3_never_0 17 rfl rfl)
theorem dX3_never_20 : decode cX3_never 20 = .ok (.aload_n 0, 1) := dk_42 (dk_at dksX3_never_0 20 rfl rfl)
theorem dX3_never_21 : decode cX3_never 21 = .ok (.getfield 56, 3) := dk_180 0 56 (dk_at dksX3_never_0 21 rfl rfl)
theorem dX3_never_24 : decode cX3_never 24 = .ok (.iload_n 3, 1) := dk_29 (dk_at dksX3_never_1 0 rfl rfl)
theorem dX3_never_25 : decode cX3_never 25 = .ok (.iaload, 1) := dk_46 (dk_at dksX3_never_1 1 rfl rfl)
theorem dX3_never_26 : decode cX3_never 26 = .ok (.iconst (-1), 1) := dk_2 (dk_at dksX3_never_1 2 rfl rfl)
theorem dX3_never_27 : decode cX3_never 27 = .ok (.if_icmp .ne 13, 3) := dk_160 0 13 (dk_at dksX3_never_1 3 rfl rfl)
theorem dX3_never_30 : decode cX3_never 30 = .ok (.iload_n 2, 1) := dk_28 (dk_at dksX3_never_1 6 rfl rfl)
theorem dX3_never_31 : decode cX3_never 31 = .ok (.iload_n 1, 1) := dk_27 (dk_at dksX3_never_1 7 rfl rfl)
theorem dX3_never_32 : decode cX3_never 32 = .ok (.if_icmp .ne 5, 3) := dk_160 0 5 (dk_at dksX3_never_1 8 rfl rfl)
theorem dX3_never_35 : decode cX3_never 35 = .ok (.iload_n 3, 1) := dk_29 (dk_at dksX3_never_1 11 rfl rfl)
theorem dX3_never_36 : decode cX3_never 36 = .ok (.ireturn, 1) := dk_172 (dk_at dksX3_never_1 12 rfl rfl)
theorem dX3_never_37 : decode cX3_never 37 = .ok (.iinc 2 1, 3) := dk_132 2 1 (dk_at dksX3_never_1 13 rfl rfl)
theorem dX3_never_40 : decode cX3_never 40 = .ok (.iinc 3 1, 3) := dk_132 3 1 (dk_at dksX3_never_1 16 rfl rfl)
theorem dX3_never_43 : decode cX3_never 43 = .ok (.goto (-31), 3) := dk_167 255 225 (dk_at dksX3_never_1 19 rfl rfl)
theorem dX3_never_46 : decode cX3_never 46 = .ok (.iload_n 1, 1) := dk_27 (dk_at dksX3_never_1 22 rfl rfl)
theorem dX3_never_47 : decode cX3_never 47 = .ok (.iconst (-1), 1) := dk_2 (dk_at dksX3_never_1 23 rfl rfl)
theorem dX3_never_48 : decode cX3_never 48 = .ok (.if_icmp .ne 7, 3) := dk_160 0 7 (dk_at dksX3_never_2 0 rfl rfl)
theorem dX3_never_51 : decode cX3_never 51 = .ok (.iload_n 2, 1) := dk_28 (dk_at dksX3_never_2 3 rfl rfl)
theorem dX3_never_52 : decode cX3_never 52 = .ok (.goto 4, 3) := dk_167 0 4 (dk_at dksX3_never_2 4 rfl rfl)
theorem dX3_never_55 : decode cX3_never 55 = .ok (.iconst (-1), 1) := dk_2 (dk_at dksX3_never_2 7 rfl rfl)
theorem dX3_never_56 : decode cX3_never 56 = .ok (.ireturn, 1) := dk_172 (dk_at dksX3_never_2 8 rfl rfl)
abbrev cX3_farthest : ByteArray := prog_15_method_39_code
def yX3_farthest : MethodName := ⟨RX3, "farthest", "(I)I"⟩
def dkwX3_farthest_3 : List UInt8 := [167, 255, 228, 27, 154, 0, 7, 28, 167, 0, 9, 42, 180, 0, 56, 28, 46, 172]
abbrev dktX3_farthest_3 : List UInt8 := dkwX3_farthest_3 ++ []
def dkwX3_farthest_2 : List UInt8 := [180, 0, 56, 29, 46, 42, 180, 0, 56, 28, 46, 161, 0, 7, 29, 167, 0, 4, 28, 61, 132, 3, 255]
abbrev dktX3_farthest_2 : List UInt8 := dkwX3_farthest_2 ++ dktX3_farthest_3
def dkwX3_farthest_1 : List UInt8 := [42, 180, 0, 182, 182, 0, 246, 42, 180, 0, 197, 61, 42, 180, 0, 65, 4, 100, 62, 29, 155, 0, 30, 42]
abbrev dktX3_farthest_1 : List UInt8 := dkwX3_farthest_1 ++ dktX3_farthest_2
def dkwX3_farthest_0 : List UInt8 := [27, 3, 4, 184, 0, 68, 154, 0, 6, 18, 72, 172, 42, 180, 0, 65, 154, 0, 7, 19, 1, 2, 172, 42]
abbrev dktX3_farthest_0 : List UInt8 := dkwX3_farthest_0 ++ dktX3_farthest_1
theorem dksX3_farthest_0 : cX3_farthest.data.toList.drop 0 = dktX3_farthest_0 := by decide +kernel
theorem dksX3_farthest_1 : cX3_farthest.data.toList.drop 24 = dktX3_farthest_1 := dk_seg dksX3_farthest_0 24 rfl rfl
theorem dksX3_farthest_2 : cX3_farthest.data.toList.drop 48 = dktX3_farthest_2 := dk_seg dksX3_farthest_1 24 rfl rfl
theorem dksX3_farthest_3 : cX3_farthest.data.toList.drop 71 = dktX3_farthest_3 := dk_seg dksX3_farthest_2 23 rfl rfl
theorem dX3_farthest_0 : decode cX3_farthest 0 = .ok (.iload_n 1, 1) := dk_27 (dk_at dksX3_farthest_0 0 rfl rfl)
theorem dX3_farthest_1 : decode cX3_farthest 1 = .ok (.iconst 0, 1) := dk_3 (dk_at dksX3_farthest_0 1 rfl rfl)
theorem dX3_farthest_2 : decode cX3_farthest 2 = .ok (.iconst 1, 1) := dk_4 (dk_at dksX3_farthest_0 2 rfl rfl)
theorem dX3_farthest_3 : decode cX3_farthest 3 = .ok (.invokestatic 68, 3) := dk_184 0 68 (dk_at dksX3_farthest_0 3 rfl rfl)
theorem dX3_farthest_6 : decode cX3_farthest 6 = .ok (.ifCond .ne 6, 3) := dk_154 0 6 (dk_at dksX3_farthest_0 6 rfl rfl)
theorem dX3_farthest_9 : decode cX3_farthest 9 = .ok (.ldc 72, 2) := dk_18 72 (dk_at dksX3_farthest_0 9 rfl rfl)
theorem dX3_farthest_11 : decode cX3_farthest 11 = .ok (.ireturn, 1) := dk_172 (dk_at dksX3_farthest_0 11 rfl rfl)
theorem dX3_farthest_12 : decode cX3_farthest 12 = .ok (.aload_n 0, 1) := dk_42 (dk_at dksX3_farthest_0 12 rfl rfl)
theorem dX3_farthest_13 : decode cX3_farthest 13 = .ok (.getfield 65, 3) := dk_180 0 65 (dk_at dksX3_farthest_0 13 rfl rfl)
theorem dX3_farthest_16 : decode cX3_farthest 16 = .ok (.ifCond .ne 7, 3) := dk_154 0 7 (dk_at dksX3_farthest_0 16 rfl rfl)
theorem dX3_farthest_19 : decode cX3_farthest 19 = .ok (.ldc_w 258, 3) := dk_19 1 2 (dk_at dksX3_farthest_0 19 rfl rfl)
theorem dX3_farthest_22 : decode cX3_farthest 22 = .ok (.ireturn, 1) := dk_172 (dk_at dksX3_farthest_0 22 rfl rfl)
theorem dX3_farthest_23 : decode cX3_farthest 23 = .ok (.aload_n 0, 1) := dk_42 (dk_at dksX3_farthest_0 23 rfl rfl)
theorem dX3_farthest_24 : decode cX3_farthest 24 = .ok (.aload_n 0, 1) := dk_42 (dk_at dksX3_farthest_1 0 rfl rfl)
theorem dX3_farthest_25 : decode cX3_farthest 25 = .ok (.getfield 182, 3) := dk_180 0 182 (dk_at dksX3_farthest_1 1 rfl rfl)
theorem dX3_farthest_28 : decode cX3_farthest 28 = .ok (.invokevirtual 246, 3) := dk_182 0 246 (dk_at dksX3_farthest_1 4 rfl rfl)
theorem dX3_farthest_31 : decode cX3_farthest 31 = .ok (.aload_n 0, 1) := dk_42 (dk_at dksX3_farthest_1 7 rfl rfl)
theorem dX3_farthest_32 : decode cX3_farthest 32 = .ok (.getfield 197, 3) := dk_180 0 197 (dk_at dksX3_farthest_1 8 rfl rfl)
theorem dX3_farthest_35 : decode cX3_farthest 35 = .ok (.istore_n 2, 1) := dk_61 (dk_at dksX3_farthest_1 11 rfl rfl)
theorem dX3_farthest_36 : decode cX3_farthest 36 = .ok (.aload_n 0, 1) := dk_42 (dk_at dksX3_farthest_1 12 rfl rfl)
theorem dX3_farthest_37 : decode cX3_farthest 37 = .ok (.getfield 65, 3) := dk_180 0 65 (dk_at dksX3_farthest_1 13 rfl rfl)
theorem dX3_farthest_40 : decode cX3_farthest 40 = .ok (.iconst 1, 1) := dk_4 (dk_at dksX3_farthest_1 16 rfl rfl)
theorem dX3_farthest_41 : decode cX3_farthest 41 = .ok (.isub, 1) := dk_100 (dk_at dksX3_farthest_1 17 rfl rfl)
theorem dX3_farthest_42 : decode cX3_farthest 42 = .ok (.istore_n 3, 1) := dk_62 (dk_at dksX3_farthest_1 18 rfl rfl)
theorem dX3_farthest_43 : decode cX3_farthest 43 = .ok (.iload_n 3, 1) := dk_29 (dk_at dksX3_farthest_1 19 rfl rfl)
theorem dX3_farthest_44 : decode cX3_farthest 44 = .ok (.ifCond .lt 30, 3) := dk_155 0 30 (dk_at dksX3_farthest_1 20 rfl rfl)
theorem dX3_farthest_47 : decode cX3_farthest 47 = .ok (.aload_n 0, 1) := dk_42 (dk_at dksX3_farthest_1 23 rfl rfl)
theorem dX3_farthest_48 : decode cX3_farthest 48 = .ok (.getfield 56, 3) := dk_180 0 56 (dk_at dksX3_farthest_2 0 rfl rfl)
theorem dX3_farthest_51 : decode cX3_farthest 51 = .ok (.iload_n 3, 1) := dk_29 (dk_at dksX3_farthest_2 3 rfl rfl)
theorem dX3_farthest_52 : decode cX3_farthest 52 = .ok (.iaload, 1) := dk_46 (dk_at dksX3_farthest_2 4 rfl rfl)
theorem dX3_farthest_53 : decode cX3_farthest 53 = .ok (.aload_n 0, 1) := dk_42 (dk_at dksX3_farthest_2 5 rfl rfl)
theorem dX3_farthest_54 : decode cX3_farthest 54 = .ok (.getfield 56, 3) := dk_180 0 56 (dk_at dksX3_farthest_2 6 rfl rfl)
theorem dX3_farthest_57 : decode cX3_farthest 57 = .ok (.iload_n 2, 1) := dk_28 (dk_at dksX3_farthest_2 9 rfl rfl)
theorem dX3_farthest_58 : decode cX3_farthest 58 = .ok (.iaload, 1) := dk_46 (dk_at dksX3_farthest_2 10 rfl rfl)
theorem dX3_farthest_59 : decode cX3_farthest 59 = .ok (.if_icmp .lt 7, 3) := dk_161 0 7 (dk_at dksX3_farthest_2 11 rfl rfl)
theorem dX3_farthest_62 : decode cX3_farthest 62 = .ok (.iload_n 3, 1) := dk_29 (dk_at dksX3_farthest_2 14 rfl rfl)
theorem dX3_farthest_63 : decode cX3_farthest 63 = .ok (.goto 4, 3) := dk_167 0 4 (dk_at dksX3_farthest_2 15 rfl rfl)
theorem dX3_farthest_66 : decode cX3_farthest 66 = .ok (.iload_n 2, 1) := dk_28 (dk_at dksX3_farthest_2 18 rfl rfl)
theorem dX3_farthest_67 : decode cX3_farthest 67 = .ok (.istore_n 2, 1) := dk_61 (dk_at dksX3_farthest_2 19 rfl rfl)
theorem dX3_farthest_68 : decode cX3_farthest 68 = .ok (.iinc 3 (-1), 3) := dk_132 3 255 (dk_at dksX3_farthest_2 20 rfl rfl)
theorem dX3_farthest_71 : decode cX3_farthest 71 = .ok (.goto (-28), 3) := dk_167 255 228 (dk_at dksX3_farthest_3 0 rfl rfl)
theorem dX3_farthest_74 : decode cX3_farthest 74 = .ok (.iload_n 1, 1) := dk_27 (dk_at dksX3_farthest_3 3 rfl rfl)
theorem dX3_farthest_75 : decode cX3_farthest 75 = .ok (.ifCond .ne 7, 3) := dk_154 0 7 (dk_at dksX3_farthest_3 4 rfl rfl)
theorem dX3_farthest_78 : decode cX3_farthest 78 = .ok (.iload_n 2, 1) := dk_28 (dk_at dksX3_farthest_3 7 rfl rfl)
theorem dX3_farthest_79 : decode cX3_farthest 79 = .ok (.goto 9, 3) := dk_167 0 9 (dk_at dksX3_farthest_3 8 rfl rfl)
theorem dX3_farthest_82 : decode cX3_farthest 82 = .ok (.aload_n 0, 1) := dk_42 (dk_at dksX3_farthest_3 11 rfl rfl)
theorem dX3_farthest_83 : decode cX3_farthest 83 = .ok (.getfield 56, 3) := dk_180 0 56 (dk_at dksX3_farthest_3 12 rfl rfl)
theorem dX3_farthest_86 : decode cX3_farthest 86 = .ok (.iload_n 2, 1) := dk_28 (dk_at dksX3_farthest_3 15 rfl rfl)
theorem dX3_farthest_87 : decode cX3_farthest 87 = .ok (.iaload, 1) := dk_46 (dk_at dksX3_farthest_3 16 rfl rfl)
theorem dX3_farthest_88 : decode cX3_farthest 88 = .ok (.ireturn, 1) := dk_172 (dk_at dksX3_farthest_3 17 rfl rfl)
abbrev cX3_target : ByteArray := prog_15_method_40_code
def yX3_target : MethodName := ⟨RX3, "target", "(I)I"⟩
def dkwX3_target_1 : List UInt8 := [180, 0, 26, 42, 180, 0, 191, 27, 79, 42, 89, 180, 0, 191, 4, 96, 181, 0, 191, 42, 180, 0, 191, 172]
abbrev dktX3_target_1 : List UInt8 := dkwX3_target_1 ++ []
def dkwX3_target_0 : List UInt8 := [42, 27, 182, 0, 243, 154, 0, 6, 18, 72, 172, 42, 180, 0, 191, 16, 6, 160, 0, 6, 18, 76, 172, 42]
abbrev dktX3_target_0 : List UInt8 := dkwX3_target_0 ++ dktX3_target_1
theorem dksX3_target_0 : cX3_target.data.toList.drop 0 = dktX3_target_0 := by decide +kernel
theorem dksX3_target_1 : cX3_target.data.toList.drop 24 = dktX3_target_1 := dk_seg dksX3_target_0 24 rfl rfl
theorem dX3_target_0 : decode cX3_target 0 = .ok (.aload_n 0, 1) := dk_42 (dk_at dksX3_target_0 0 rfl rfl)
theorem dX3_target_1 : decode cX3_target 1 = .ok (.iload_n 1, 1) := dk_27 (dk_at dksX3_target_0 1 rfl rfl)
theorem dX3_target_2 : decode cX3_target 2 = .ok (.invokevirtual 243, 3) := dk_182 0 243 (dk_at dksX3_target_0 2 rfl rfl)
theorem dX3_target_5 : decode cX3_target 5 = .ok (.ifCond .ne 6, 3) := dk_154 0 6 (dk_at dksX3_target_0 5 rfl rfl)
theorem dX3_target_8 : decode cX3_target 8 = .ok (.ldc 72, 2) := dk_18 72 (dk_at dksX3_target_0 8 rfl rfl)
theorem dX3_target_10 : decode cX3_target 10 = .ok (.ireturn, 1) := dk_172 (dk_at dksX3_target_0 10 rfl rfl)
theorem dX3_target_11 : decode cX3_target 11 = .ok (.aload_n 0, 1) := dk_42 (dk_at dksX3_target_0 11 rfl rfl)
theorem dX3_target_12 : decode cX3_target 12 = .ok (.getfield 191, 3) := dk_180 0 191 (dk_at dksX3_target_0 12 rfl rfl)
theorem dX3_target_15 : decode cX3_target 15 = .ok (.bipush 6, 2) := dk_16 6 (dk_at dksX3_target_0 15 rfl rfl)
theorem dX3_target_17 : decode cX3_target 17 = .ok (.if_icmp .ne 6, 3) := dk_160 0 6 (dk_at dksX3_target_0 17 rfl rfl)
theorem dX3_target_20 : decode cX3_target 20 = .ok (.ldc 76, 2) := dk_18 76 (dk_at dksX3_target_0 20 rfl rfl)
theorem dX3_target_22 : decode cX3_target 22 = .ok (.ireturn, 1) := dk_172 (dk_at dksX3_target_0 22 rfl rfl)
theorem dX3_target_23 : decode cX3_target 23 = .ok (.aload_n 0, 1) := dk_42 (dk_at dksX3_target_0 23 rfl rfl)
theorem dX3_target_24 : decode cX3_target 24 = .ok (.getfield 26, 3) := dk_180 0 26 (dk_at dksX3_target_1 0 rfl rfl)
theorem dX3_target_27 : decode cX3_target 27 = .ok (.aload_n 0, 1) := dk_42 (dk_at dksX3_target_1 3 rfl rfl)
theorem dX3_target_28 : decode cX3_target 28 = .ok (.getfield 191, 3) := dk_180 0 191 (dk_at dksX3_target_1 4 rfl rfl)
theorem dX3_target_31 : decode cX3_target 31 = .ok (.iload_n 1, 1) := dk_27 (dk_at dksX3_target_1 7 rfl rfl)
theorem dX3_target_32 : decode cX3_target 32 = .ok (.iastore, 1) := dk_79 (dk_at dksX3_target_1 8 rfl rfl)
theorem dX3_target_33 : decode cX3_target 33 = .ok (.aload_n 0, 1) := dk_42 (dk_at dksX3_target_1 9 rfl rfl)
theorem dX3_target_34 : decode cX3_target 34 = .ok (.dup, 1) := dk_89 (dk_at dksX3_target_1 10 rfl rfl)
theorem dX3_target_35 : decode cX3_target 35 = .ok (.getfield 191, 3) := dk_180 0 191 (dk_at dksX3_target_1 11 rfl rfl)
theorem dX3_target_38 : decode cX3_target 38 = .ok (.iconst 1, 1) := dk_4 (dk_at dksX3_target_1 14 rfl rfl)
theorem dX3_target_39 : decode cX3_target 39 = .ok (.iadd, 1) := dk_96 (dk_at dksX3_target_1 15 rfl rfl)
theorem dX3_target_40 : decode cX3_target 40 = .ok (.putfield 191, 3) := dk_181 0 191 (dk_at dksX3_target_1 16 rfl rfl)
theorem dX3_target_43 : decode cX3_target 43 = .ok (.aload_n 0, 1) := dk_42 (dk_at dksX3_target_1 19 rfl rfl)
theorem dX3_target_44 : decode cX3_target 44 = .ok (.getfield 191, 3) := dk_180 0 191 (dk_at dksX3_target_1 20 rfl rfl)
theorem dX3_target_47 : decode cX3_target 47 = .ok (.ireturn, 1) := dk_172 (dk_at dksX3_target_1 23 rfl rfl)
abbrev cX3_targetAt : ByteArray := prog_15_method_41_code
def yX3_targetAt : MethodName := ⟨RX3, "targetAt", "(I)I"⟩
def dkwX3_targetAt_1 : List UInt8 := [18, 210, 172]
abbrev dktX3_targetAt_1 : List UInt8 := dkwX3_targetAt_1 ++ []
def dkwX3_targetAt_0 : List UInt8 := [27, 3, 42, 180, 0, 191, 4, 100, 184, 0, 68, 153, 0, 12, 42, 180, 0, 26, 27, 46, 167, 0, 5]
abbrev dktX3_targetAt_0 : List UInt8 := dkwX3_targetAt_0 ++ dktX3_targetAt_1
theorem dksX3_targetAt_0 : cX3_targetAt.data.toList.drop 0 = dktX3_targetAt_0 := by decide +kernel
theorem dksX3_targetAt_1 : cX3_targetAt.data.toList.drop 23 = dktX3_targetAt_1 := dk_seg dksX3_targetAt_0 23 rfl rfl
theorem dX3_targetAt_0 : decode cX3_targetAt 0 = .ok (.iload_n 1, 1) := dk_27 (dk_at dksX3_targetAt_0 0 rfl rfl)
theorem dX3_targetAt_1 : decode cX3_targetAt 1 = .ok (.iconst 0, 1) := dk_3 (dk_at dksX3_targetAt_0 1 rfl rfl)
theorem dX3_targetAt_2 : decode cX3_targetAt 2 = .ok (.aload_n 0, 1) := dk_42 (dk_at dksX3_targetAt_0 2 rfl rfl)
theorem dX3_targetAt_3 : decode cX3_targetAt 3 = .ok (.getfield 191, 3) := dk_180 0 191 (dk_at dksX3_targetAt_0 3 rfl rfl)
theorem dX3_targetAt_6 : decode cX3_targetAt 6 = .ok (.iconst 1, 1) := dk_4 (dk_at dksX3_targetAt_0 6 rfl rfl)
theorem dX3_targetAt_7 : decode cX3_targetAt 7 = .ok (.isub, 1) := dk_100 (dk_at dksX3_targetAt_0 7 rfl rfl)
theorem dX3_targetAt_8 : decode cX3_targetAt 8 = .ok (.invokestatic 68, 3) := dk_184 0 68 (dk_at dksX3_targetAt_0 8 rfl rfl)
theorem dX3_targetAt_11 : decode cX3_targetAt 11 = .ok (.ifCond .eq 12, 3) := dk_153 0 12 (dk_at dksX3_targetAt_0 11 rfl rfl)
theorem dX3_targetAt_14 : decode cX3_targetAt 14 = .ok (.aload_n 0, 1) := dk_42 (dk_at dksX3_targetAt_0 14 rfl rfl)
theorem dX3_targetAt_15 : decode cX3_targetAt 15 = .ok (.getfield 26, 3) := dk_180 0 26 (dk_at dksX3_targetAt_0 15 rfl rfl)
theorem dX3_targetAt_18 : decode cX3_targetAt 18 = .ok (.iload_n 1, 1) := dk_27 (dk_at dksX3_targetAt_0 18 rfl rfl)
theorem dX3_targetAt_19 : decode cX3_targetAt 19 = .ok (.iaload, 1) := dk_46 (dk_at dksX3_targetAt_0 19 rfl rfl)
theorem dX3_targetAt_20 : decode cX3_targetAt 20 = .ok (.goto 5, 3) := dk_167 0 5 (dk_at dksX3_targetAt_0 20 rfl rfl)
theorem dX3_targetAt_23 : decode cX3_targetAt 23 = .ok (.ldc 210, 2) := dk_18 210 (dk_at dksX3_targetAt_1 0 rfl rfl)
theorem dX3_targetAt_25 : decode cX3_targetAt 25 = .ok (.ireturn, 1) := dk_172 (dk_at dksX3_targetAt_1 2 rfl rfl)
abbrev cX3_forget : ByteArray := prog_15_method_42_code
def yX3_forget : MethodName := ⟨RX3, "forget", "()I"⟩
def dkwX3_forget_0 : List UInt8 := [42, 180, 0, 191, 60, 42, 3, 181, 0, 191, 27, 172]
abbrev dktX3_forget_0 : List UInt8 := dkwX3_forget_0 ++ []
theorem dksX3_forget_0 : cX3_forget.data.toList.drop 0 = dktX3_forget_0 := by decide +kernel
theorem dX3_forget_0 : decode cX3_forget 0 = .ok (.aload_n 0, 1) := dk_42 (dk_at dksX3_forget_0 0 rfl rfl)
theorem dX3_forget_1 : decode cX3_forget 1 = .ok (.getfield 191, 3) := dk_180 0 191 (dk_at dksX3_forget_0 1 rfl rfl)
theorem dX3_forget_4 : decode cX3_forget 4 = .ok (.istore_n 1, 1) := dk_60 (dk_at dksX3_forget_0 4 rfl rfl)
theorem dX3_forget_5 : decode cX3_forget 5 = .ok (.aload_n 0, 1) := dk_42 (dk_at dksX3_forget_0 5 rfl rfl)
theorem dX3_forget_6 : decode cX3_forget 6 = .ok (.iconst 0, 1) := dk_3 (dk_at dksX3_forget_0 6 rfl rfl)
theorem dX3_forget_7 : decode cX3_forget 7 = .ok (.putfield 191, 3) := dk_181 0 191 (dk_at dksX3_forget_0 7 rfl rfl)
theorem dX3_forget_10 : decode cX3_forget 10 = .ok (.iload_n 1, 1) := dk_27 (dk_at dksX3_forget_0 10 rfl rfl)
theorem dX3_forget_11 : decode cX3_forget 11 = .ok (.ireturn, 1) := dk_172 (dk_at dksX3_forget_0 11 rfl rfl)
abbrev cX3_more : ByteArray := prog_15_method_44_code
def yX3_more : MethodName := ⟨RX3, "more", "(I)I"⟩
def dkwX3_more_8 : List UInt8 := [180, 0, 176, 100, 4, 96, 167, 0, 16, 28, 42, 180, 0, 176, 162, 0, 7, 28, 167, 0, 4, 2, 172]
abbrev dktX3_more_8 : List UInt8 := dkwX3_more_8 ++ []
def dkwX3_more_7 : List UInt8 := [29, 167, 0, 43, 27, 154, 0, 26, 28, 42, 180, 0, 176, 162, 0, 7, 3, 167, 0, 27, 28, 42]
abbrev dktX3_more_7 : List UInt8 := dkwX3_more_7 ++ dktX3_more_8
def dkwX3_more_6 : List UInt8 := [61, 21, 6, 153, 0, 8, 21, 5, 167, 0, 4, 29, 62, 132, 4, 1, 167, 255, 127, 27, 5, 160, 0, 7]
abbrev dktX3_more_6 : List UInt8 := dkwX3_more_6 ++ dktX3_more_7
def dkwX3_more_5 : List UInt8 := [21, 5, 29, 162, 0, 7, 4, 167, 0, 4, 3, 54, 6, 21, 6, 153, 0, 8, 21, 4, 167, 0, 4, 28]
abbrev dktX3_more_5 : List UInt8 := dkwX3_more_5 ++ dktX3_more_6
def dkwX3_more_4 : List UInt8 := [21, 4, 167, 0, 4, 2, 79, 42, 42, 180, 0, 182, 4, 96, 182, 1, 3, 54, 5, 28, 2, 159, 0, 9]
abbrev dktX3_more_4 : List UInt8 := dkwX3_more_4 ++ dktX3_more_5
def dkwX3_more_3 : List UInt8 := [4, 96, 79, 42, 180, 0, 13, 7, 42, 180, 0, 182, 104, 5, 96, 21, 4, 42, 180, 0, 176, 162, 0, 8]
abbrev dktX3_more_3 : List UInt8 := dkwX3_more_3 ++ dktX3_more_4
def dkwX3_more_2 : List UInt8 := [180, 0, 182, 104, 21, 4, 42, 180, 0, 176, 162, 0, 7, 3, 167, 0, 12, 21, 4, 42, 180, 0, 176, 100]
abbrev dktX3_more_2 : List UInt8 := dkwX3_more_2 ++ dktX3_more_3
def dkwX3_more_1 : List UInt8 := [61, 3, 62, 3, 54, 4, 21, 4, 42, 180, 0, 176, 7, 96, 162, 0, 124, 42, 180, 0, 13, 7, 42]
abbrev dktX3_more_1 : List UInt8 := dkwX3_more_1 ++ dktX3_more_2
def dkwX3_more_0 : List UInt8 := [27, 3, 5, 184, 0, 68, 154, 0, 6, 18, 72, 172, 42, 180, 0, 65, 154, 0, 7, 19, 1, 2, 172, 2]
abbrev dktX3_more_0 : List UInt8 := dkwX3_more_0 ++ dktX3_more_1
theorem dksX3_more_0 : cX3_more.data.toList.drop 0 = dktX3_more_0 := by decide +kernel
theorem dksX3_more_1 : cX3_more.data.toList.drop 24 = dktX3_more_1 := dk_seg dksX3_more_0 24 rfl rfl
theorem dksX3_more_2 : cX3_more.data.toList.drop 47 = dktX3_more_2 := dk_seg dksX3_more_1 23 rfl rfl
theorem dksX3_more_3 : cX3_more.data.toList.drop 71 = dktX3_more_3 := dk_seg dksX3_more_2 24 rfl rfl
theorem dksX3_more_4 : cX3_more.data.toList.drop 95 = dktX3_more_4 := dk_seg dksX3_more_3 24 rfl rfl
theorem dksX3_more_5 : cX3_more.data.toList.drop 119 = dktX3_more_5 := dk_seg dksX3_more_4 24 rfl rfl
theorem dksX3_more_6 : cX3_more.data.toList.drop 143 = dktX3_more_6 := dk_seg dksX3_more_5 24 rfl rfl
theorem dksX3_more_7 : cX3_more.data.toList.drop 167 = dktX3_more_7 := dk_seg dksX3_more_6 24 rfl rfl
theorem dksX3_more_8 : cX3_more.data.toList.drop 189 = dktX3_more_8 := dk_seg dksX3_more_7 22 rfl rfl
theorem dX3_more_0 : decode cX3_more 0 = .ok (.iload_n 1, 1) := dk_27 (dk_at dksX3_more_0 0 rfl rfl)
theorem dX3_more_1 : decode cX3_more 1 = .ok (.iconst 0, 1) := dk_3 (dk_at dksX3_more_0 1 rfl rfl)
theorem dX3_more_2 : decode cX3_more 2 = .ok (.iconst 2, 1) := dk_5 (dk_at dksX3_more_0 2 rfl rfl)
theorem dX3_more_3 : decode cX3_more 3 = .ok (.invokestatic 68, 3) := dk_184 0 68 (dk_at dksX3_more_0 3 rfl rfl)
theorem dX3_more_6 : decode cX3_more 6 = .ok (.ifCond .ne 6, 3) := dk_154 0 6 (dk_at dksX3_more_0 6 rfl rfl)
theorem dX3_more_9 : decode cX3_more 9 = .ok (.ldc 72, 2) := dk_18 72 (dk_at dksX3_more_0 9 rfl rfl)
theorem dX3_more_11 : decode cX3_more 11 = .ok (.ireturn, 1) := dk_172 (dk_at dksX3_more_0 11 rfl rfl)
theorem dX3_more_12 : decode cX3_more 12 = .ok (.aload_n 0, 1) := dk_42 (dk_at dksX3_more_0 12 rfl rfl)
theorem dX3_more_13 : decode cX3_more 13 = .ok (.getfield 65, 3) := dk_180 0 65 (dk_at dksX3_more_0 13 rfl rfl)
theorem dX3_more_16 : decode cX3_more 16 = .ok (.ifCond .ne 7, 3) := dk_154 0 7 (dk_at dksX3_more_0 16 rfl rfl)
theorem dX3_more_19 : decode cX3_more 19 = .ok (.ldc_w 258, 3) := dk_19 1 2 (dk_at dksX3_more_0 19 rfl rfl)
theorem dX3_more_22 : decode cX3_more 22 = .ok (.ireturn, 1) := dk_172 (dk_at dksX3_more_0 22 rfl rfl)
theorem dX3_more_23 : decode cX3_more 23 = .ok (.iconst (-1), 1) := dk_2 (dk_at dksX3_more_0 23 rfl rfl)
theorem dX3_more_24 : decode cX3_more 24 = .ok (.istore_n 2, 1) := dk_61 (dk_at dksX3_more_1 0 rfl rfl)
theorem dX3_more_25 : decode cX3_more 25 = .ok (.iconst 0, 1) := dk_3 (dk_at dksX3_more_1 1 rfl rfl)
theorem dX3_more_26 : decode cX3_more 26 = .ok (.istore_n 3, 1) := dk_62 (dk_at dksX3_more_1 2 rfl rfl)
theorem dX3_more_27 : decode cX3_more 27 = .ok (.iconst 0, 1) := dk_3 (dk_at dksX3_more_1 3 rfl rfl)
theorem dX3_more_28 : decode cX3_more 28 = .ok (.istore 4, 2) := dk_54 4 (dk_at dksX3_more_1 4 rfl rfl)
theorem dX3_more_30 : decode cX3_more 30 = .ok (.iload 4, 2) := dk_21 4 (dk_at dksX3_more_1 6 rfl rfl)
theorem dX3_more_32 : decode cX3_more 32 = .ok (.aload_n 0, 1) := dk_42 (dk_at dksX3_more_1 8 rfl rfl)
theorem dX3_more_33 : decode cX3_more 33 = .ok (.getfield 176, 3) := dk_180 0 176 (dk_at dksX3_more_1 9 rfl rfl)
theorem dX3_more_36 : decode cX3_more 36 = .ok (.iconst 4, 1) := dk_7 (dk_at dksX3_more_1 12 rfl rfl)
theorem dX3_more_37 : decode cX3_more 37 = .ok (.iadd, 1) := dk_96 (dk_at dksX3_more_1 13 rfl rfl)
theorem dX3_more_38 : decode cX3_more 38 = .ok (.if_icmp .ge 124, 3) := dk_162 0 124 (dk_at dksX3_more_1 14 rfl rfl)
theorem dX3_more_41 : decode cX3_more 41 = .ok (.aload_n 0, 1) := dk_42 (dk_at dksX3_more_1 17 rfl rfl)
theorem dX3_more_42 : decode cX3_more 42 = .ok (.getfield 13, 3) := dk_180 0 13 (dk_at dksX3_more_1 18 rfl rfl)
theorem dX3_more_45 : decode cX3_more 45 = .ok (.iconst 4, 1) := dk_7 (dk_at dksX3_more_1 21 rfl rfl)
theorem dX3_more_46 : decode cX3_more 46 = .ok (.aload_n 0, 1) := dk_42 (dk_at dksX3_more_1 22 rfl rfl)
theorem dX3_more_47 : decode cX3_more 47 = .ok (.getfield 182, 3) := dk_180 0 182 (dk_at dksX3_more_2 0 rfl rfl)
theorem dX3_more_50 : decode cX3_more 50 = .ok (.imul, 1) := dk_104 (dk_at dksX3_more_2 3 rfl rfl)
theorem dX3_more_51 : decode cX3_more 51 = .ok (.iload 4, 2) := dk_21 4 (dk_at dksX3_more_2 4 rfl rfl)
theorem dX3_more_53 : decode cX3_more 53 = .ok (.aload_n 0, 1) := dk_42 (dk_at dksX3_more_2 6 rfl rfl)
theorem dX3_more_54 : decode cX3_more 54 = .ok (.getfield 176, 3) := dk_180 0 176 (dk_at dksX3_more_2 7 rfl rfl)
theorem dX3_more_57 : decode cX3_more 57 = .ok (.if_icmp .ge 7, 3) := dk_162 0 7 (dk_at dksX3_more_2 10 rfl rfl)
theorem dX3_more_60 : decode cX3_more 60 = .ok (.iconst 0, 1) := dk_3 (dk_at dksX3_more_2 13 rfl rfl)
theorem dX3_more_61 : decode cX3_more 61 = .ok (.goto 12, 3) := dk_167 0 12 (dk_at dksX3_more_2 14 rfl rfl)
theorem dX3_more_64 : decode cX3_more 64 = .ok (.iload 4, 2) := dk_21 4 (dk_at dksX3_more_2 17 rfl rfl)
theorem dX3_more_66 : decode cX3_more 66 = .ok (.aload_n 0, 1) := dk_42 (dk_at dksX3_more_2 19 rfl rfl)
theorem dX3_more_67 : decode cX3_more 67 = .ok (.getfield 176, 3) := dk_180 0 176 (dk_at dksX3_more_2 20 rfl rfl)
theorem dX3_more_70 : decode cX3_more 70 = .ok (.isub, 1) := dk_100 (dk_at dksX3_more_2 23 rfl rfl)
theorem dX3_more_71 : decode cX3_more 71 = .ok (.iconst 1, 1) := dk_4 (dk_at dksX3_more_3 0 rfl rfl)
theorem dX3_more_72 : decode cX3_more 72 = .ok (.iadd, 1) := dk_96 (dk_at dksX3_more_3 1 rfl rfl)
theorem dX3_more_73 : decode cX3_more 73 = .ok (.iastore, 1) := dk_79 (dk_at dksX3_more_3 2 rfl rfl)
theorem dX3_more_74 : decode cX3_more 74 = .ok (.aload_n 0, 1) := dk_42 (dk_at dksX3_more_3 3 rfl rfl)
theorem dX3_more_75 : decode cX3_more 75 = .ok (.getfield 13, 3) := dk_180 0 13 (dk_at dksX3_more_3 4 rfl rfl)
theorem dX3_more_78 : decode cX3_more 78 = .ok (.iconst 4, 1) := dk_7 (dk_at dksX3_more_3 7 rfl rfl)
theorem dX3_more_79 : decode cX3_more 79 = .ok (.aload_n 0, 1) := dk_42 (dk_at dksX3_more_3 8 rfl rfl)
theorem dX3_more_80 : decode cX3_more 80 = .ok (.getfield 182, 3) := dk_180 0 182 (dk_at dksX3_more_3 9 rfl rfl)
theorem dX3_more_83 : decode cX3_more 83 = .ok (.imul, 1) := dk_104 (dk_at dksX3_more_3 12 rfl rfl)
theorem dX3_more_84 : decode cX3_more 84 = .ok (.iconst 2, 1) := dk_5 (dk_at dksX3_more_3 13 rfl rfl)
theorem dX3_more_85 : decode cX3_more 85 = .ok (.iadd, 1) := dk_96 (dk_at dksX3_more_3 14 rfl rfl)
theorem dX3_more_86 : decode cX3_more 86 = .ok (.iload 4, 2) := dk_21 4 (dk_at dksX3_more_3 15 rfl rfl)
theorem dX3_more_88 : decode cX3_more 88 = .ok (.aload_n 0, 1) := dk_42 (dk_at dksX3_more_3 17 rfl rfl)
theorem dX3_more_89 : decode cX3_more 89 = .ok (.getfield 176, 3) := dk_180 0 176 (dk_at dksX3_more_3 18 rfl rfl)
theorem dX3_more_92 : decode cX3_more 92 = .ok (.if_icmp .ge 8, 3) := dk_162 0 8 (dk_at dksX3_more_3 21 rfl rfl)
theorem dX3_more_95 : decode cX3_more 95 = .ok (.iload 4, 2) := dk_21 4 (dk_at dksX3_more_4 0 rfl rfl)
theorem dX3_more_97 : decode cX3_more 97 = .ok (.goto 4, 3) := dk_167 0 4 (dk_at dksX3_more_4 2 rfl rfl)
theorem dX3_more_100 : decode cX3_more 100 = .ok (.iconst (-1), 1) := dk_2 (dk_at dksX3_more_4 5 rfl rfl)
theorem dX3_more_101 : decode cX3_more 101 = .ok (.iastore, 1) := dk_79 (dk_at dksX3_more_4 6 rfl rfl)
theorem dX3_more_102 : decode cX3_more 102 = .ok (.aload_n 0, 1) := dk_42 (dk_at dksX3_more_4 7 rfl rfl)
theorem dX3_more_103 : decode cX3_more 103 = .ok (.aload_n 0, 1) := dk_42 (dk_at dksX3_more_4 8 rfl rfl)
theorem dX3_more_104 : decode cX3_more 104 = .ok (.getfield 182, 3) := dk_180 0 182 (dk_at dksX3_more_4 9 rfl rfl)
theorem dX3_more_107 : decode cX3_more 107 = .ok (.iconst 1, 1) := dk_4 (dk_at dksX3_more_4 12 rfl rfl)
theorem dX3_more_108 : decode cX3_more 108 = .ok (.iadd, 1) := dk_96 (dk_at dksX3_more_4 13 rfl rfl)
theorem dX3_more_109 : decode cX3_more 109 = .ok (.invokevirtual 259, 3) := dk_182 1 3 (dk_at dksX3_more_4 14 rfl rfl)
theorem dX3_more_112 : decode cX3_more 112 = .ok (.istore 5, 2) := dk_54 5 (dk_at dksX3_more_4 17 rfl rfl)
theorem dX3_more_114 : decode cX3_more 114 = .ok (.iload_n 2, 1) := dk_28 (dk_at dksX3_more_4 19 rfl rfl)
theorem dX3_more_115 : decode cX3_more 115 = .ok (.iconst (-1), 1) := dk_2 (dk_at dksX3_more_4 20 rfl rfl)
theorem dX3_more_116 : decode cX3_more 116 = .ok (.if_icmp .eq 9, 3) := dk_159 0 9 (dk_at dksX3_more_4 21 rfl rfl)
theorem dX3_more_119 : decode cX3_more 119 = .ok (.iload 5, 2) := dk_21 5 (dk_at dksX3_more_5 0 rfl rfl)
theorem dX3_more_121 : decode cX3_more 121 = .ok (.iload_n 3, 1) := dk_29 (dk_at dksX3_more_5 2 rfl rfl)
theorem dX3_more_122 : decode cX3_more 122 = .ok (.if_icmp .ge 7, 3) := dk_162 0 7 (dk_at dksX3_more_5 3 rfl rfl)
theorem dX3_more_125 : decode cX3_more 125 = .ok (.iconst 1, 1) := dk_4 (dk_at dksX3_more_5 6 rfl rfl)
theorem dX3_more_126 : decode cX3_more 126 = .ok (.goto 4, 3) := dk_167 0 4 (dk_at dksX3_more_5 7 rfl rfl)
theorem dX3_more_129 : decode cX3_more 129 = .ok (.iconst 0, 1) := dk_3 (dk_at dksX3_more_5 10 rfl rfl)
theorem dX3_more_130 : decode cX3_more 130 = .ok (.istore 6, 2) := dk_54 6 (dk_at dksX3_more_5 11 rfl rfl)
theorem dX3_more_132 : decode cX3_more 132 = .ok (.iload 6, 2) := dk_21 6 (dk_at dksX3_more_5 13 rfl rfl)
theorem dX3_more_134 : decode cX3_more 134 = .ok (.ifCond .eq 8, 3) := dk_153 0 8 (dk_at dksX3_more_5 15 rfl rfl)
theorem dX3_more_137 : decode cX3_more 137 = .ok (.iload 4, 2) := dk_21 4 (dk_at dksX3_more_5 18 rfl rfl)
theorem dX3_more_139 : decode cX3_more 139 = .ok (.goto 4, 3) := dk_167 0 4 (dk_at dksX3_more_5 20 rfl rfl)
theorem dX3_more_142 : decode cX3_more 142 = .ok (.iload_n 2, 1) := dk_28 (dk_at dksX3_more_5 23 rfl rfl)
theorem dX3_more_143 : decode cX3_more 143 = .ok (.istore_n 2, 1) := dk_61 (dk_at dksX3_more_6 0 rfl rfl)
theorem dX3_more_144 : decode cX3_more 144 = .ok (.iload 6, 2) := dk_21 6 (dk_at dksX3_more_6 1 rfl rfl)
theorem dX3_more_146 : decode cX3_more 146 = .ok (.ifCond .eq 8, 3) := dk_153 0 8 (dk_at dksX3_more_6 3 rfl rfl)
theorem dX3_more_149 : decode cX3_more 149 = .ok (.iload 5, 2) := dk_21 5 (dk_at dksX3_more_6 6 rfl rfl)
theorem dX3_more_151 : decode cX3_more 151 = .ok (.goto 4, 3) := dk_167 0 4 (dk_at dksX3_more_6 8 rfl rfl)
theorem dX3_more_154 : decode cX3_more 154 = .ok (.iload_n 3, 1) := dk_29 (dk_at dksX3_more_6 11 rfl rfl)
theorem dX3_more_155 : decode cX3_more 155 = .ok (.istore_n 3, 1) := dk_62 (dk_at dksX3_more_6 12 rfl rfl)
theorem dX3_more_156 : decode cX3_more 156 = .ok (.iinc 4 1, 3) := dk_132 4 1 (dk_at dksX3_more_6 13 rfl rfl)
theorem dX3_more_159 : decode cX3_more 159 = .ok (.goto (-129), 3) := dk_167 255 127 (dk_at dksX3_more_6 16 rfl rfl)
theorem dX3_more_162 : decode cX3_more 162 = .ok (.iload_n 1, 1) := dk_27 (dk_at dksX3_more_6 19 rfl rfl)
theorem dX3_more_163 : decode cX3_more 163 = .ok (.iconst 2, 1) := dk_5 (dk_at dksX3_more_6 20 rfl rfl)
theorem dX3_more_164 : decode cX3_more 164 = .ok (.if_icmp .ne 7, 3) := dk_160 0 7 (dk_at dksX3_more_6 21 rfl rfl)
theorem dX3_more_167 : decode cX3_more 167 = .ok (.iload_n 3, 1) := dk_29 (dk_at dksX3_more_7 0 rfl rfl)
theorem dX3_more_168 : decode cX3_more 168 = .ok (.goto 43, 3) := dk_167 0 43 (dk_at dksX3_more_7 1 rfl rfl)
theorem dX3_more_171 : decode cX3_more 171 = .ok (.iload_n 1, 1) := dk_27 (dk_at dksX3_more_7 4 rfl rfl)
theorem dX3_more_172 : decode cX3_more 172 = .ok (.ifCond .ne 26, 3) := dk_154 0 26 (dk_at dksX3_more_7 5 rfl rfl)
theorem dX3_more_175 : decode cX3_more 175 = .ok (.iload_n 2, 1) := dk_28 (dk_at dksX3_more_7 8 rfl rfl)
theorem dX3_more_176 : decode cX3_more 176 = .ok (.aload_n 0, 1) := dk_42 (dk_at dksX3_more_7 9 rfl rfl)
theorem dX3_more_177 : decode cX3_more 177 = .ok (.getfield 176, 3) := dk_180 0 176 (dk_at dksX3_more_7 10 rfl rfl)
theorem dX3_more_180 : decode cX3_more 180 = .ok (.if_icmp .ge 7, 3) := dk_162 0 7 (dk_at dksX3_more_7 13 rfl rfl)
theorem dX3_more_183 : decode cX3_more 183 = .ok (.iconst 0, 1) := dk_3 (dk_at dksX3_more_7 16 rfl rfl)
theorem dX3_more_184 : decode cX3_more 184 = .ok (.goto 27, 3) := dk_167 0 27 (dk_at dksX3_more_7 17 rfl rfl)
theorem dX3_more_187 : decode cX3_more 187 = .ok (.iload_n 2, 1) := dk_28 (dk_at dksX3_more_7 20 rfl rfl)
theorem dX3_more_188 : decode cX3_more 188 = .ok (.aload_n 0, 1) := dk_42 (dk_at dksX3_more_7 21 rfl rfl)
theorem dX3_more_189 : decode cX3_more 189 = .ok (.getfield 176, 3) := dk_180 0 176 (dk_at dksX3_more_8 0 rfl rfl)
theorem dX3_more_192 : decode cX3_more 192 = .ok (.isub, 1) := dk_100 (dk_at dksX3_more_8 3 rfl rfl)
theorem dX3_more_193 : decode cX3_more 193 = .ok (.iconst 1, 1) := dk_4 (dk_at dksX3_more_8 4 rfl rfl)
theorem dX3_more_194 : decode cX3_more 194 = .ok (.iadd, 1) := dk_96 (dk_at dksX3_more_8 5 rfl rfl)
theorem dX3_more_195 : decode cX3_more 195 = .ok (.goto 16, 3) := dk_167 0 16 (dk_at dksX3_more_8 6 rfl rfl)
theorem dX3_more_198 : decode cX3_more 198 = .ok (.iload_n 2, 1) := dk_28 (dk_at dksX3_more_8 9 rfl rfl)
theorem dX3_more_199 : decode cX3_more 199 = .ok (.aload_n 0, 1) := dk_42 (dk_at dksX3_more_8 10 rfl rfl)
theorem dX3_more_200 : decode cX3_more 200 = .ok (.getfield 176, 3) := dk_180 0 176 (dk_at dksX3_more_8 11 rfl rfl)
theorem dX3_more_203 : decode cX3_more 203 = .ok (.if_icmp .ge 7, 3) := dk_162 0 7 (dk_at dksX3_more_8 14 rfl rfl)
theorem dX3_more_206 : decode cX3_more 206 = .ok (.iload_n 2, 1) := dk_28 (dk_at dksX3_more_8 17 rfl rfl)
theorem dX3_more_207 : decode cX3_more 207 = .ok (.goto 4, 3) := dk_167 0 4 (dk_at dksX3_more_8 18 rfl rfl)
theorem dX3_more_210 : decode cX3_more 210 = .ok (.iconst (-1), 1) := dk_2 (dk_at dksX3_more_8 21 rfl rfl)
theorem dX3_more_211 : decode cX3_more 211 = .ok (.ireturn, 1) := dk_172 (dk_at dksX3_more_8 22 rfl rfl)
abbrev cX3_allFewest : ByteArray := prog_15_method_43_code
def yX3_allFewest : MethodName := ⟨RX3, "allFewest", "(I)I"⟩
def dkwX3_allFewest_2 : List UInt8 := [46, 46, 96, 61, 132, 3, 1, 167, 255, 211, 28, 172]
abbrev dktX3_allFewest_2 : List UInt8 := dkwX3_allFewest_2 ++ []
def dkwX3_allFewest_1 : List UInt8 := [180, 0, 26, 29, 46, 46, 2, 160, 0, 8, 16, 99, 167, 0, 14, 42, 180, 0, 56, 42, 180, 0, 26, 29]
abbrev dktX3_allFewest_1 : List UInt8 := dkwX3_allFewest_1 ++ dktX3_allFewest_2
def dkwX3_allFewest_0 : List UInt8 := [42, 27, 182, 0, 246, 3, 61, 3, 62, 29, 42, 180, 0, 191, 162, 0, 43, 28, 42, 180, 0, 56, 42]
abbrev dktX3_allFewest_0 : List UInt8 := dkwX3_allFewest_0 ++ dktX3_allFewest_1
theorem dksX3_allFewest_0 : cX3_allFewest.data.toList.drop 0 = dktX3_allFewest_0 := by decide +kernel
theorem dksX3_allFewest_1 : cX3_allFewest.data.toList.drop 23 = dktX3_allFewest_1 := dk_seg dksX3_allFewest_0 23 rfl rfl
theorem dksX3_allFewest_2 : cX3_allFewest.data.toList.drop 47 = dktX3_allFewest_2 := dk_seg dksX3_allFewest_1 24 rfl rfl
theorem dX3_allFewest_0 : decode cX3_allFewest 0 = .ok (.aload_n 0, 1) := dk_42 (dk_at dksX3_allFewest_0 0 rfl rfl)
theorem dX3_allFewest_1 : decode cX3_allFewest 1 = .ok (.iload_n 1, 1) := dk_27 (dk_at dksX3_allFewest_0 1 rfl rfl)
theorem dX3_allFewest_2 : decode cX3_allFewest 2 = .ok (.invokevirtual 246, 3) := dk_182 0 246 (dk_at dksX3_allFewest_0 2 rfl rfl)
theorem dX3_allFewest_5 : decode cX3_allFewest 5 = .ok (.iconst 0, 1) := dk_3 (dk_at dksX3_allFewest_0 5 rfl rfl)
theorem dX3_allFewest_6 : decode cX3_allFewest 6 = .ok (.istore_n 2, 1) := dk_61 (dk_at dksX3_allFewest_0 6 rfl rfl)
theorem dX3_allFewest_7 : decode cX3_allFewest 7 = .ok (.iconst 0, 1) := dk_3 (dk_at dksX3_allFewest_0 7 rfl rfl)
theorem dX3_allFewest_8 : decode cX3_allFewest 8 = .ok (.istore_n 3, 1) := dk_62 (dk_at dksX3_allFewest_0 8 rfl rfl)
theorem dX3_allFewest_9 : decode cX3_allFewest 9 = .ok (.iload_n 3, 1) := dk_29 (dk_at dksX3_allFewest_0 9 rfl rfl)
theorem dX3_allFewest_10 : decode cX3_allFewest 10 = .ok (.aload_n 0, 1) := dk_42 (dk_at dksX3_allFewest_0 10 rfl rfl)
theorem dX3_allFewest_11 : decode cX3_allFewest 11 = .ok (.getfield 191, 3) := dk_180 0 191 (dk_at dksX3_allFewest_0 11 rfl rfl)
theorem dX3_allFewest_14 : decode cX3_allFewest 14 = .ok (.if_icmp .ge 43, 3) := dk_162 0 43 (dk_at dksX3_allFewest_0 14 rfl rfl)
theorem dX3_allFewest_17 : decode cX3_allFewest 17 = .ok (.iload_n 2, 1) := dk_28 (dk_at dksX3_allFewest_0 17 rfl rfl)
theorem dX3_allFewest_18 : decode cX3_allFewest 18 = .ok (.aload_n 0, 1) := dk_42 (dk_at dksX3_allFewest_0 18 rfl rfl)
theorem dX3_allFewest_19 : decode cX3_allFewest 19 = .ok (.getfield 56, 3) := dk_180 0 56 (dk_at dksX3_allFewest_0 19 rfl rfl)
theorem dX3_allFewest_22 : decode cX3_allFewest 22 = .ok (.aload_n 0, 1) := dk_42 (dk_at dksX3_allFewest_0 22 rfl rfl)
theorem dX3_allFewest_23 : decode cX3_allFewest 23 = .ok (.getfield 26, 3) := dk_180 0 26 (dk_at dksX3_allFewest_1 0 rfl rfl)
theorem dX3_allFewest_26 : decode cX3_allFewest 26 = .ok (.iload_n 3, 1) := dk_29 (dk_at dksX3_allFewest_1 3 rfl rfl)
theorem dX3_allFewest_27 : decode cX3_allFewest 27 = .ok (.iaload, 1) := dk_46 (dk_at dksX3_allFewest_1 4 rfl rfl)
theorem dX3_allFewest_28 : decode cX3_allFewest 28 = .ok (.iaload, 1) := dk_46 (dk_at dksX3_allFewest_1 5 rfl rfl)
theorem dX3_allFewest_29 : decode cX3_allFewest 29 = .ok (.iconst (-1), 1) := dk_2 (dk_at dksX3_allFewest_1 6 rfl rfl)
theorem dX3_allFewest_30 : decode cX3_allFewest 30 = .ok (.if_icmp .ne 8, 3) := dk_160 0 8 (dk_at dksX3_allFewest_1 7 rfl rfl)
theorem dX3_allFewest_33 : decode cX3_allFewest 33 = .ok (.bipush 99, 2) := dk_16 99 (dk_at dksX3_allFewest_1 10 rfl rfl)
theorem dX3_allFewest_35 : decode cX3_allFewest 35 = .ok (.goto 14, 3) := dk_167 0 14 (dk_at dksX3_allFewest_1 12 rfl rfl)
theorem dX3_allFewest_38 : decode cX3_allFewest 38 = .ok (.aload_n 0, 1) := dk_42 (dk_at dksX3_allFewest_1 15 rfl rfl)
theorem dX3_allFewest_39 : decode cX3_allFewest 39 = .ok (.getfield 56, 3) := dk_180 0 56 (dk_at dksX3_allFewest_1 16 rfl rfl)
theorem dX3_allFewest_42 : decode cX3_allFewest 42 = .ok (.aload_n 0, 1) := dk_42 (dk_at dksX3_allFewest_1 19 rfl rfl)
theorem dX3_allFewest_43 : decode cX3_allFewest 43 = .ok (.getfield 26, 3) := dk_180 0 26 (dk_at dksX3_allFewest_1 20 rfl rfl)
theorem dX3_allFewest_46 : decode cX3_allFewest 46 = .ok (.iload_n 3, 1) := dk_29 (dk_at dksX3_allFewest_1 23 rfl rfl)
theorem dX3_allFewest_47 : decode cX3_allFewest 47 = .ok (.iaload, 1) := dk_46 (dk_at dksX3_allFewest_2 0 rfl rfl)
theorem dX3_allFewest_48 : decode cX3_allFewest 48 = .ok (.iaload, 1) := dk_46 (dk_at dksX3_allFewest_2 1 rfl rfl)
theorem dX3_allFewest_49 : decode cX3_allFewest 49 = .ok (.iadd, 1) := dk_96 (dk_at dksX3_allFewest_2 2 rfl rfl)
theorem dX3_allFewest_50 : decode cX3_allFewest 50 = .ok (.istore_n 2, 1) := dk_61 (dk_at dksX3_allFewest_2 3 rfl rfl)
theorem dX3_allFewest_51 : decode cX3_allFewest 51 = .ok (.iinc 3 1, 3) := dk_132 3 1 (dk_at dksX3_allFewest_2 4 rfl rfl)
theorem dX3_allFewest_54 : decode cX3_allFewest 54 = .ok (.goto (-45), 3) := dk_167 255 211 (dk_at dksX3_allFewest_2 7 rfl rfl)
theorem dX3_allFewest_57 : decode cX3_allFewest 57 = .ok (.iload_n 2, 1) := dk_28 (dk_at dksX3_allFewest_2 10 rfl rfl)
theorem dX3_allFewest_58 : decode cX3_allFewest 58 = .ok (.ireturn, 1) := dk_172 (dk_at dksX3_allFewest_2 11 rfl rfl)
abbrev cX3_list : ByteArray := prog_15_method_48_code
def yX3_list : MethodName := ⟨RX3, "list", "()I"⟩
def dkwX3_list_0 : List UInt8 := [42, 180, 0, 191, 154, 0, 5, 3, 172, 42, 182, 1, 13, 172]
abbrev dktX3_list_0 : List UInt8 := dkwX3_list_0 ++ []
theorem dksX3_list_0 : cX3_list.data.toList.drop 0 = dktX3_list_0 := by decide +kernel
theorem dX3_list_0 : decode cX3_list 0 = .ok (.aload_n 0, 1) := dk_42 (dk_at dksX3_list_0 0 rfl rfl)
theorem dX3_list_1 : decode cX3_list 1 = .ok (.getfield 191, 3) := dk_180 0 191 (dk_at dksX3_list_0 1 rfl rfl)
theorem dX3_list_4 : decode cX3_list 4 = .ok (.ifCond .ne 5, 3) := dk_154 0 5 (dk_at dksX3_list_0 4 rfl rfl)
theorem dX3_list_7 : decode cX3_list 7 = .ok (.iconst 0, 1) := dk_3 (dk_at dksX3_list_0 7 rfl rfl)
theorem dX3_list_8 : decode cX3_list 8 = .ok (.ireturn, 1) := dk_172 (dk_at dksX3_list_0 8 rfl rfl)
theorem dX3_list_9 : decode cX3_list 9 = .ok (.aload_n 0, 1) := dk_42 (dk_at dksX3_list_0 9 rfl rfl)
theorem dX3_list_10 : decode cX3_list 10 = .ok (.invokevirtual 269, 3) := dk_182 1 13 (dk_at dksX3_list_0 10 rfl rfl)
theorem dX3_list_13 : decode cX3_list 13 = .ok (.ireturn, 1) := dk_172 (dk_at dksX3_list_0 13 rfl rfl)
abbrev cX3_listOf : ByteArray := prog_15_method_46_code
def yX3_listOf : MethodName := ⟨RX3, "listOf", "()I"⟩
def dkwX3_listOf_19 : List UInt8 := [182, 0, 223, 21, 4, 172]
abbrev dktX3_listOf_19 : List UInt8 := dkwX3_listOf_19 ++ []
def dkwX3_listOf_18 : List UInt8 := [158, 0, 15, 28, 42, 180, 0, 191, 162, 0, 7, 4, 167, 0, 4, 3, 54, 5, 167, 254, 138, 42, 27]
abbrev dktX3_listOf_18 : List UInt8 := dkwX3_listOf_18 ++ dktX3_listOf_19
def dkwX3_listOf_17 : List UInt8 := [160, 0, 17, 21, 9, 158, 0, 12, 42, 180, 0, 50, 3, 46, 167, 0, 4, 2, 54, 4, 21, 9]
abbrev dktX3_listOf_17 : List UInt8 := dkwX3_listOf_17 ++ dktX3_listOf_18
def dkwX3_listOf_16 : List UInt8 := [132, 11, 1, 167, 255, 227, 21, 9, 62, 42, 28, 21, 10, 182, 1, 6, 61, 28, 42, 180, 0, 191]
abbrev dktX3_listOf_16 : List UInt8 := dkwX3_listOf_16 ++ dktX3_listOf_17
def dkwX3_listOf_15 : List UInt8 := [162, 0, 28, 42, 180, 0, 50, 21, 11, 42, 180, 0, 44, 42, 180, 0, 53, 21, 11, 46, 46, 79]
abbrev dktX3_listOf_15 : List UInt8 := dkwX3_listOf_15 ++ dktX3_listOf_16
def dkwX3_listOf_14 : List UInt8 := [180, 0, 47, 21, 11, 46, 79, 132, 9, 1, 132, 11, 1, 167, 255, 213, 3, 54, 11, 21, 11, 21, 9]
abbrev dktX3_listOf_14 : List UInt8 := dkwX3_listOf_14 ++ dktX3_listOf_15
def dkwX3_listOf_13 : List UInt8 := [42, 42, 180, 0, 47, 21, 11, 46, 182, 0, 236, 21, 10, 160, 0, 20, 42, 180, 0, 53, 21, 9, 42]
abbrev dktX3_listOf_13 : List UInt8 := dkwX3_listOf_13 ++ dktX3_listOf_14
def dkwX3_listOf_12 : List UInt8 := [167, 255, 195, 167, 255, 76, 42, 180, 0, 26, 28, 46, 54, 10, 3, 54, 11, 21, 11, 21, 6, 162, 0, 42]
abbrev dktX3_listOf_12 : List UInt8 := dkwX3_listOf_12 ++ dktX3_listOf_13
def dkwX3_listOf_11 : List UInt8 := [180, 0, 44, 21, 10, 46, 4, 96, 79, 42, 180, 0, 47, 21, 6, 21, 12, 79, 132, 6, 1, 132, 11, 1]
abbrev dktX3_listOf_11 : List UInt8 := dkwX3_listOf_11 ++ dktX3_listOf_12
def dkwX3_listOf_10 : List UInt8 := [182, 0, 239, 54, 12, 42, 180, 0, 44, 21, 12, 46, 2, 160, 0, 31, 42, 180, 0, 44, 21, 12, 42]
abbrev dktX3_listOf_10 : List UInt8 := dkwX3_listOf_10 ++ dktX3_listOf_11
def dkwX3_listOf_9 : List UInt8 := [54, 10, 132, 8, 1, 3, 54, 11, 21, 11, 42, 180, 0, 182, 162, 0, 58, 42, 21, 10, 21, 11]
abbrev dktX3_listOf_9 : List UInt8 := dkwX3_listOf_9 ++ dktX3_listOf_10
def dkwX3_listOf_8 : List UInt8 := [21, 6, 21, 10, 182, 1, 9, 132, 6, 1, 132, 7, 1, 167, 255, 158, 42, 180, 0, 47, 21, 8, 46]
abbrev dktX3_listOf_8 : List UInt8 := dkwX3_listOf_8 ++ dktX3_listOf_9
def dkwX3_listOf_7 : List UInt8 := [21, 10, 46, 2, 160, 0, 30, 42, 180, 0, 44, 21, 10, 42, 180, 0, 50, 21, 7, 46, 79, 42, 21, 8]
abbrev dktX3_listOf_7 : List UInt8 := dkwX3_listOf_7 ++ dktX3_listOf_8
def dkwX3_listOf_6 : List UInt8 := [180, 0, 47, 21, 8, 46, 46, 163, 0, 56, 42, 180, 0, 53, 21, 7, 46, 54, 10, 42, 180, 0, 44]
abbrev dktX3_listOf_6 : List UInt8 := dkwX3_listOf_6 ++ dktX3_listOf_7
def dkwX3_listOf_5 : List UInt8 := [162, 0, 85, 21, 8, 21, 6, 159, 0, 25, 42, 180, 0, 50, 21, 7, 46, 42, 180, 0, 44, 42]
abbrev dktX3_listOf_5 : List UInt8 := dkwX3_listOf_5 ++ dktX3_listOf_6
def dkwX3_listOf_4 : List UInt8 := [54, 7, 3, 54, 8, 3, 54, 9, 21, 8, 21, 6, 161, 0, 9, 21, 7, 29, 162, 0, 173, 21, 7, 29]
abbrev dktX3_listOf_4 : List UInt8 := dkwX3_listOf_4 ++ dktX3_listOf_5
def dkwX3_listOf_3 : List UInt8 := [182, 0, 233, 162, 0, 17, 42, 180, 0, 44, 21, 6, 2, 79, 132, 6, 1, 167, 255, 236, 3, 54, 6, 3]
abbrev dktX3_listOf_3 : List UInt8 := dkwX3_listOf_3 ++ dktX3_listOf_4
def dkwX3_listOf_2 : List UInt8 := [2, 160, 0, 7, 4, 167, 0, 4, 3, 54, 5, 21, 5, 153, 1, 119, 3, 54, 6, 21, 6, 42]
abbrev dktX3_listOf_2 : List UInt8 := dkwX3_listOf_2 ++ dktX3_listOf_3
def dkwX3_listOf_1 : List UInt8 := [42, 180, 0, 50, 3, 3, 79, 28, 42, 180, 0, 191, 160, 0, 7, 3, 167, 0, 4, 2, 54, 4, 21, 4]
abbrev dktX3_listOf_1 : List UInt8 := dkwX3_listOf_1 ++ dktX3_listOf_2
def dkwX3_listOf_0 : List UInt8 := [42, 182, 0, 229, 60, 42, 3, 42, 180, 0, 197, 182, 1, 6, 61, 4, 62, 42, 180, 0, 53, 3, 27, 79]
abbrev dktX3_listOf_0 : List UInt8 := dkwX3_listOf_0 ++ dktX3_listOf_1
theorem dksX3_listOf_0 : cX3_listOf.data.toList.drop 0 = dktX3_listOf_0 := by decide +kernel
theorem dksX3_listOf_1 : cX3_listOf.data.toList.drop 24 = dktX3_listOf_1 := dk_seg dksX3_listOf_0 24 rfl rfl
theorem dksX3_listOf_2 : cX3_listOf.data.toList.drop 48 = dktX3_listOf_2 := dk_seg dksX3_listOf_1 24 rfl rfl
theorem dksX3_listOf_3 : cX3_listOf.data.toList.drop 70 = dktX3_listOf_3 := dk_seg dksX3_listOf_2 22 rfl rfl
theorem dksX3_listOf_4 : cX3_listOf.data.toList.drop 94 = dktX3_listOf_4 := dk_seg dksX3_listOf_3 24 rfl rfl
theorem dksX3_listOf_5 : cX3_listOf.data.toList.drop 118 = dktX3_listOf_5 := dk_seg dksX3_listOf_4 24 rfl rfl
theorem dksX3_listOf_6 : cX3_listOf.data.toList.drop 140 = dktX3_listOf_6 := dk_seg dksX3_listOf_5 22 rfl rfl
theorem dksX3_listOf_7 : cX3_listOf.data.toList.drop 163 = dktX3_listOf_7 := dk_seg dksX3_listOf_6 23 rfl rfl
theorem dksX3_listOf_8 : cX3_listOf.data.toList.drop 187 = dktX3_listOf_8 := dk_seg dksX3_listOf_7 24 rfl rfl
theorem dksX3_listOf_9 : cX3_listOf.data.toList.drop 210 = dktX3_listOf_9 := dk_seg dksX3_listOf_8 23 rfl rfl
theorem dksX3_listOf_10 : cX3_listOf.data.toList.drop 232 = dktX3_listOf_10 := dk_seg dksX3_listOf_9 22 rfl rfl
theorem dksX3_listOf_11 : cX3_listOf.data.toList.drop 255 = dktX3_listOf_11 := dk_seg dksX3_listOf_10 23 rfl rfl
theorem dksX3_listOf_12 : cX3_listOf.data.toList.drop 279 = dktX3_listOf_12 := dk_seg dksX3_listOf_11 24 rfl rfl
theorem dksX3_listOf_13 : cX3_listOf.data.toList.drop 303 = dktX3_listOf_13 := dk_seg dksX3_listOf_12 24 rfl rfl
theorem dksX3_listOf_14 : cX3_listOf.data.toList.drop 326 = dktX3_listOf_14 := dk_seg dksX3_listOf_13 23 rfl rfl
theorem dksX3_listOf_15 : cX3_listOf.data.toList.drop 349 = dktX3_listOf_15 := dk_seg dksX3_listOf_14 23 rfl rfl
theorem dksX3_listOf_16 : cX3_listOf.data.toList.drop 371 = dktX3_listOf_16 := dk_seg dksX3_listOf_15 22 rfl rfl
theorem dksX3_listOf_17 : cX3_listOf.data.toList.drop 393 = dktX3_listOf_17 := dk_seg dksX3_listOf_16 22 rfl rfl
theorem dksX3_listOf_18 : cX3_listOf.data.toList.drop 415 = dktX3_listOf_18 := dk_seg dksX3_listOf_17 22 rfl rfl
theorem dksX3_listOf_19 : cX3_listOf.data.toList.drop 438 = dktX3_listOf_19 := dk_seg dksX3_listOf_18 23 rfl rfl
theorem dX3_listOf_0 : decode cX3_listOf 0 = .ok (.aload_n 0, 1) := dk_42 (dk_at dksX3_listOf_0 0 rfl rfl)
theorem dX3_listOf_1 : decode cX3_listOf 1 = .ok (.invokevirtual 229, 3) := dk_182 0 229 (dk_at dksX3_listOf_0 1 rfl rfl)
theorem dX3_listOf_4 : decode cX3_listOf 4 = .ok (.istore_n 1, 1) := dk_60 (dk_at dksX3_listOf_0 4 rfl rfl)
theorem dX3_listOf_5 : decode cX3_listOf 5 = .ok (.aload_n 0, 1) := dk_42 (dk_at dksX3_listOf_0 5 rfl rfl)
theorem dX3_listOf_6 : decode cX3_listOf 6 = .ok (.iconst 0, 1) := dk_3 (dk_at dksX3_listOf_0 6 rfl rfl)
theorem dX3_listOf_7 : decode cX3_listOf 7 = .ok (.aload_n 0, 1) := dk_42 (dk_at dksX3_listOf_0 7 rfl rfl)
theorem dX3_listOf_8 : decode cX3_listOf 8 = .ok (.getfield 197, 3) := dk_180 0 197 (dk_at dksX3_listOf_0 8 rfl rfl)
theorem dX3_listOf_11 : decode cX3_listOf 11 = .ok (.invokevirtual 262, 3) := dk_182 1 6 (dk_at dksX3_listOf_0 11 rfl rfl)
theorem dX3_listOf_14 : decode cX3_listOf 14 = .ok (.istore_n 2, 1) := dk_61 (dk_at dksX3_listOf_0 14 rfl rfl)
theorem dX3_listOf_15 : decode cX3_listOf 15 = .ok (.iconst 1, 1) := dk_4 (dk_at dksX3_listOf_0 15 rfl rfl)
theorem dX3_listOf_16 : decode cX3_listOf 16 = .ok (.istore_n 3, 1) := dk_62 (dk_at dksX3_listOf_0 16 rfl rfl)
theorem dX3_listOf_17 : decode cX3_listOf 17 = .ok (.aload_n 0, 1) := dk_42 (dk_at dksX3_listOf_0 17 rfl rfl)
theorem dX3_listOf_18 : decode cX3_listOf 18 = .ok (.getfield 53, 3) := dk_180 0 53 (dk_at dksX3_listOf_0 18 rfl rfl)
theorem dX3_listOf_21 : decode cX3_listOf 21 = .ok (.iconst 0, 1) := dk_3 (dk_at dksX3_listOf_0 21 rfl rfl)
theorem dX3_listOf_22 : decode cX3_listOf 22 = .ok (.iload_n 1, 1) := dk_27 (dk_at dksX3_listOf_0 22 rfl rfl)
theorem dX3_listOf_23 : decode cX3_listOf 23 = .ok (.iastore, 1) := dk_79 (dk_at dksX3_listOf_0 23 rfl rfl)
theorem dX3_listOf_24 : decode cX3_listOf 24 = .ok (.aload_n 0, 1) := dk_42 (dk_at dksX3_listOf_1 0 rfl rfl)
theorem dX3_listOf_25 : decode cX3_listOf 25 = .ok (.getfield 50, 3) := dk_180 0 50 (dk_at dksX3_listOf_1 1 rfl rfl)
theorem dX3_listOf_28 : decode cX3_listOf 28 = .ok (.iconst 0, 1) := dk_3 (dk_at dksX3_listOf_1 4 rfl rfl)
theorem dX3_listOf_29 : decode cX3_listOf 29 = .ok (.iconst 0, 1) := dk_3 (dk_at dksX3_listOf_1 5 rfl rfl)
theorem dX3_listOf_30 : decode cX3_listOf 30 = .ok (.iastore, 1) := dk_79 (dk_at dksX3_listOf_1 6 rfl rfl)
theorem dX3_listOf_31 : decode cX3_listOf 31 = .ok (.iload_n 2, 1) := dk_28 (dk_at dksX3_listOf_1 7 rfl rfl)
theorem dX3_listOf_32 : decode cX3_listOf 32 = .ok (.aload_n 0, 1) := dk_42 (dk_at dksX3_listOf_1 8 rfl rfl)
theorem dX3_listOf_33 : decode cX3_listOf 33 = .ok (.getfield 191, 3) := dk_180 0 191 (dk_at dksX3_listOf_1 9 rfl rfl)
theorem dX3_listOf_36 : decode cX3_listOf 36 = .ok (.if_icmp .ne 7, 3) := dk_160 0 7 (dk_at dksX3_listOf_1 12 rfl rfl)
theorem dX3_listOf_39 : decode cX3_listOf 39 = .ok (.iconst 0, 1) := dk_3 (dk_at dksX3_listOf_1 15 rfl rfl)
theorem dX3_listOf_40 : decode cX3_listOf 40 = .ok (.goto 4, 3) := dk_167 0 4 (dk_at dksX3_listOf_1 16 rfl rfl)
theorem dX3_listOf_43 : decode cX3_listOf 43 = .ok (.iconst (-1), 1) := dk_2 (dk_at dksX3_listOf_1 19 rfl rfl)
theorem dX3_listOf_44 : decode cX3_listOf 44 = .ok (.istore 4, 2) := dk_54 4 (dk_at dksX3_listOf_1 20 rfl rfl)
theorem dX3_listOf_46 : decode cX3_listOf 46 = .ok (.iload 4, 2) := dk_21 4 (dk_at dksX3_listOf_1 22 rfl rfl)
theorem dX3_listOf_48 : decode cX3_listOf 48 = .ok (.iconst (-1), 1) := dk_2 (dk_at dksX3_listOf_2 0 rfl rfl)
theorem dX3_listOf_49 : decode cX3_listOf 49 = .ok (.if_icmp .ne 7, 3) := dk_160 0 7 (dk_at dksX3_listOf_2 1 rfl rfl)
theorem dX3_listOf_52 : decode cX3_listOf 52 = .ok (.iconst 1, 1) := dk_4 (dk_at dksX3_listOf_2 4 rfl rfl)
theorem dX3_listOf_53 : decode cX3_listOf 53 = .ok (.goto 4, 3) := dk_167 0 4 (dk_at dksX3_listOf_2 5 rfl rfl)
theorem dX3_listOf_56 : decode cX3_listOf 56 = .ok (.iconst 0, 1) := dk_3 (dk_at dksX3_listOf_2 8 rfl rfl)
theorem dX3_listOf_57 : decode cX3_listOf 57 = .ok (.istore 5, 2) := dk_54 5 (dk_at dksX3_listOf_2 9 rfl rfl)
theorem dX3_listOf_59 : decode cX3_listOf 59 = .ok (.iload 5, 2) := dk_21 5 (dk_at dksX3_listOf_2 11 rfl rfl)
theorem dX3_listOf_61 : decode cX3_listOf 61 = .ok (.ifCond .eq 375, 3) := dk_153 1 119 (dk_at dksX3_listOf_2 13 rfl rfl)
theorem dX3_listOf_64 : decode cX3_listOf 64 = .ok (.iconst 0, 1) := dk_3 (dk_at dksX3_listOf_2 16 rfl rfl)
theorem dX3_listOf_65 : decode cX3_listOf 65 = .ok (.istore 6, 2) := dk_54 6 (dk_at dksX3_listOf_2 17 rfl rfl)
theorem dX3_listOf_67 : decode cX3_listOf 67 = .ok (.iload 6, 2) := dk_21 6 (dk_at dksX3_listOf_2 19 rfl rfl)
theorem dX3_listOf_69 : decode cX3_listOf 69 = .ok (.aload_n 0, 1) := dk_42 (dk_at dksX3_listOf_2 21 rfl rfl)
theorem dX3_listOf_70 : decode cX3_listOf 70 = .ok (.invokevirtual 233, 3) := dk_182 0 233 (dk_at dksX3_listOf_3 0 rfl rfl)
theorem dX3_listOf_73 : decode cX3_listOf 73 = .ok (.if_icmp .ge 17, 3) := dk_162 0 17 (dk_at dksX3_listOf_3 3 rfl rfl)
theorem dX3_listOf_76 : decode cX3_listOf 76 = .ok (.aload_n 0, 1) := dk_42 (dk_at dksX3_listOf_3 6 rfl rfl)
theorem dX3_listOf_77 : decode cX3_listOf 77 = .ok (.getfield 44, 3) := dk_180 0 44 (dk_at dksX3_listOf_3 7 rfl rfl)
theorem dX3_listOf_80 : decode cX3_listOf 80 = .ok (.iload 6, 2) := dk_21 6 (dk_at dksX3_listOf_3 10 rfl rfl)
theorem dX3_listOf_82 : decode cX3_listOf 82 = .ok (.iconst (-1), 1) := dk_2 (dk_at dksX3_listOf_3 12 rfl rfl)
theorem dX3_listOf_83 : decode cX3_listOf 83 = .ok (.iastore, 1) := dk_79 (dk_at dksX3_listOf_3 13 rfl rfl)
theorem dX3_listOf_84 : decode cX3_listOf 84 = .ok (.iinc 6 1, 3) := dk_132 6 1 (dk_at dksX3_listOf_3 14 rfl rfl)
theorem dX3_listOf_87 : decode cX3_listOf 87 = .ok (.goto (-20), 3) := dk_167 255 236 (dk_at dksX3_listOf_3 17 rfl rfl)
theorem dX3_listOf_90 : decode cX3_listOf 90 = .ok (.iconst 0, 1) := dk_3 (dk_at dksX3_listOf_3 20 rfl rfl)
theorem dX3_listOf_91 : decode cX3_listOf 91 = .ok (.istore 6, 2) := dk_54 6 (dk_at dksX3_listOf_3 21 rfl rfl)
theorem dX3_listOf_93 : decode cX3_listOf 93 = .ok (.iconst 0, 1) := dk_3 (dk_at dksX3_listOf_3 23 rfl rfl)
theorem dX3_listOf_94 : decode cX3_listOf 94 = .ok (.istore 7, 2) := dk_54 7 (dk_at dksX3_listOf_4 0 rfl rfl)
theorem dX3_listOf_96 : decode cX3_listOf 96 = .ok (.iconst 0, 1) := dk_3 (dk_at dksX3_listOf_4 2 rfl rfl)
theorem dX3_listOf_97 : decode cX3_listOf 97 = .ok (.istore 8, 2) := dk_54 8 (dk_at dksX3_listOf_4 3 rfl rfl)
theorem dX3_listOf_99 : decode cX3_listOf 99 = .ok (.iconst 0, 1) := dk_3 (dk_at dksX3_listOf_4 5 rfl rfl)
theorem dX3_listOf_100 : decode cX3_listOf 100 = .ok (.istore 9, 2) := dk_54 9 (dk_at dksX3_listOf_4 6 rfl rfl)
theorem dX3_listOf_102 : decode cX3_listOf 102 = .ok (.iload 8, 2) := dk_21 8 (dk_at dksX3_listOf_4 8 rfl rfl)
theorem dX3_listOf_104 : decode cX3_listOf 104 = .ok (.iload 6, 2) := dk_21 6 (dk_at dksX3_listOf_4 10 rfl rfl)
theorem dX3_listOf_106 : decode cX3_listOf 106 = .ok (.if_icmp .lt 9, 3) := dk_161 0 9 (dk_at dksX3_listOf_4 12 rfl rfl)
theorem dX3_listOf_109 : decode cX3_listOf 109 = .ok (.iload 7, 2) := dk_21 7 (dk_at dksX3_listOf_4 15 rfl rfl)
theorem dX3_listOf_111 : decode cX3_listOf 111 = .ok (.iload_n 3, 1) := dk_29 (dk_at dksX3_listOf_4 17 rfl rfl)
theorem dX3_listOf_112 : decode cX3_listOf 112 = .ok (.if_icmp .ge 173, 3) := dk_162 0 173 (dk_at dksX3_listOf_4 18 rfl rfl)
theorem dX3_listOf_115 : decode cX3_listOf 115 = .ok (.iload 7, 2) := dk_21 7 (dk_at dksX3_listOf_4 21 rfl rfl)
theorem dX3_listOf_117 : decode cX3_listOf 117 = .ok (.iload_n 3, 1) := dk_29 (dk_at dksX3_listOf_4 23 rfl rfl)
theorem dX3_listOf_118 : decode cX3_listOf 118 = .ok (.if_icmp .ge 85, 3) := dk_162 0 85 (dk_at dksX3_listOf_5 0 rfl rfl)
theorem dX3_listOf_121 : decode cX3_listOf 121 = .ok (.iload 8, 2) := dk_21 8 (dk_at dksX3_listOf_5 3 rfl rfl)
theorem dX3_listOf_123 : decode cX3_listOf 123 = .ok (.iload 6, 2) := dk_21 6 (dk_at dksX3_listOf_5 5 rfl rfl)
theorem dX3_listOf_125 : decode cX3_listOf 125 = .ok (.if_icmp .eq 25, 3) := dk_159 0 25 (dk_at dksX3_listOf_5 7 rfl rfl)
theorem dX3_listOf_128 : decode cX3_listOf 128 = .ok (.aload_n 0, 1) := dk_42 (dk_at dksX3_listOf_5 10 rfl rfl)
theorem dX3_listOf_129 : decode cX3_listOf 129 = .ok (.getfield 50, 3) := dk_180 0 50 (dk_at dksX3_listOf_5 11 rfl rfl)
theorem dX3_listOf_132 : decode cX3_listOf 132 = .ok (.iload 7, 2) := dk_21 7 (dk_at dksX3_listOf_5 14 rfl rfl)
theorem dX3_listOf_134 : decode cX3_listOf 134 = .ok (.iaload, 1) := dk_46 (dk_at dksX3_listOf_5 16 rfl rfl)
theorem dX3_listOf_135 : decode cX3_listOf 135 = .ok (.aload_n 0, 1) := dk_42 (dk_at dksX3_listOf_5 17 rfl rfl)
theorem dX3_listOf_136 : decode cX3_listOf 136 = .ok (.getfield 44, 3) := dk_180 0 44 (dk_at dksX3_listOf_5 18 rfl rfl)
theorem dX3_listOf_139 : decode cX3_listOf 139 = .ok (.aload_n 0, 1) := dk_42 (dk_at dksX3_listOf_5 21 rfl rfl)
theorem dX3_listOf_140 : decode cX3_listOf 140 = .ok (.getfield 47, 3) := dk_180 0 47 (dk_at dksX3_listOf_6 0 rfl rfl)
theorem dX3_listOf_143 : decode cX3_listOf 143 = .ok (.iload 8, 2) := dk_21 8 (dk_at dksX3_listOf_6 3 rfl rfl)
theorem dX3_listOf_145 : decode cX3_listOf 145 = .ok (.iaload, 1) := dk_46 (dk_at dksX3_listOf_6 5 rfl rfl)
theorem dX3_listOf_146 : decode cX3_listOf 146 = .ok (.iaload, 1) := dk_46 (dk_at dksX3_listOf_6 6 rfl rfl)
theorem dX3_listOf_147 : decode cX3_listOf 147 = .ok (.if_icmp .gt 56, 3) := dk_163 0 56 (dk_at dksX3_listOf_6 7 rfl rfl)
theorem dX3_listOf_150 : decode cX3_listOf 150 = .ok (.aload_n 0, 1) := dk_42 (dk_at dksX3_listOf_6 10 rfl rfl)
theorem dX3_listOf_151 : decode cX3_listOf 151 = .ok (.getfield 53, 3) := dk_180 0 53 (dk_at dksX3_listOf_6 11 rfl rfl)
theorem dX3_listOf_154 : decode cX3_listOf 154 = .ok (.iload 7, 2) := dk_21 7 (dk_at dksX3_listOf_6 14 rfl rfl)
theorem dX3_listOf_156 : decode cX3_listOf 156 = .ok (.iaload, 1) := dk_46 (dk_at dksX3_listOf_6 16 rfl rfl)
theorem dX3_listOf_157 : decode cX3_listOf 157 = .ok (.istore 10, 2) := dk_54 10 (dk_at dksX3_listOf_6 17 rfl rfl)
theorem dX3_listOf_159 : decode cX3_listOf 159 = .ok (.aload_n 0, 1) := dk_42 (dk_at dksX3_listOf_6 19 rfl rfl)
theorem dX3_listOf_160 : decode cX3_listOf 160 = .ok (.getfield 44, 3) := dk_180 0 44 (dk_at dksX3_listOf_6 20 rfl rfl)
theorem dX3_listOf_163 : decode cX3_listOf 163 = .ok (.iload 10, 2) := dk_21 10 (dk_at dksX3_listOf_7 0 rfl rfl)
theorem dX3_listOf_165 : decode cX3_listOf 165 = .ok (.iaload, 1) := dk_46 (dk_at dksX3_listOf_7 2 rfl rfl)
theorem dX3_listOf_166 : decode cX3_listOf 166 = .ok (.iconst (-1), 1) := dk_2 (dk_at dksX3_listOf_7 3 rfl rfl)
theorem dX3_listOf_167 : decode cX3_listOf 167 = .ok (.if_icmp .ne 30, 3) := dk_160 0 30 (dk_at dksX3_listOf_7 4 rfl rfl)
theorem dX3_listOf_170 : decode cX3_listOf 170 = .ok (.aload_n 0, 1) := dk_42 (dk_at dksX3_listOf_7 7 rfl rfl)
theorem dX3_listOf_171 : decode cX3_listOf 171 = .ok (.getfield 44, 3) := dk_180 0 44 (dk_at dksX3_listOf_7 8 rfl rfl)
theorem dX3_listOf_174 : decode cX3_listOf 174 = .ok (.iload 10, 2) := dk_21 10 (dk_at dksX3_listOf_7 11 rfl rfl)
theorem dX3_listOf_176 : decode cX3_listOf 176 = .ok (.aload_n 0, 1) := dk_42 (dk_at dksX3_listOf_7 13 rfl rfl)
theorem dX3_listOf_177 : decode cX3_listOf 177 = .ok (.getfield 50, 3) := dk_180 0 50 (dk_at dksX3_listOf_7 14 rfl rfl)
theorem dX3_listOf_180 : decode cX3_listOf 180 = .ok (.iload 7, 2) := dk_21 7 (dk_at dksX3_listOf_7 17 rfl rfl)
theorem dX3_listOf_182 : decode cX3_listOf 182 = .ok (.iaload, 1) := dk_46 (dk_at dksX3_listOf_7 19 rfl rfl)
theorem dX3_listOf_183 : decode cX3_listOf 183 = .ok (.iastore, 1) := dk_79 (dk_at dksX3_listOf_7 20 rfl rfl)
theorem dX3_listOf_184 : decode cX3_listOf 184 = .ok (.aload_n 0, 1) := dk_42 (dk_at dksX3_listOf_7 21 rfl rfl)
theorem dX3_listOf_185 : decode cX3_listOf 185 = .ok (.iload 8, 2) := dk_21 8 (dk_at dksX3_listOf_7 22 rfl rfl)
theorem dX3_listOf_187 : decode cX3_listOf 187 = .ok (.iload 6, 2) := dk_21 6 (dk_at dksX3_listOf_8 0 rfl rfl)
theorem dX3_listOf_189 : decode cX3_listOf 189 = .ok (.iload 10, 2) := dk_21 10 (dk_at dksX3_listOf_8 2 rfl rfl)
theorem dX3_listOf_191 : decode cX3_listOf 191 = .ok (.invokevirtual 265, 3) := dk_182 1 9 (dk_at dksX3_listOf_8 4 rfl rfl)
theorem dX3_listOf_194 : decode cX3_listOf 194 = .ok (.iinc 6 1, 3) := dk_132 6 1 (dk_at dksX3_listOf_8 7 rfl rfl)
theorem dX3_listOf_197 : decode cX3_listOf 197 = .ok (.iinc 7 1, 3) := dk_132 7 1 (dk_at dksX3_listOf_8 10 rfl rfl)
theorem dX3_listOf_200 : decode cX3_listOf 200 = .ok (.goto (-98), 3) := dk_167 255 158 (dk_at dksX3_listOf_8 13 rfl rfl)
theorem dX3_listOf_203 : decode cX3_listOf 203 = .ok (.aload_n 0, 1) := dk_42 (dk_at dksX3_listOf_8 16 rfl rfl)
theorem dX3_listOf_204 : decode cX3_listOf 204 = .ok (.getfield 47, 3) := dk_180 0 47 (dk_at dksX3_listOf_8 17 rfl rfl)
theorem dX3_listOf_207 : decode cX3_listOf 207 = .ok (.iload 8, 2) := dk_21 8 (dk_at dksX3_listOf_8 20 rfl rfl)
theorem dX3_listOf_209 : decode cX3_listOf 209 = .ok (.iaload, 1) := dk_46 (dk_at dksX3_listOf_8 22 rfl rfl)
theorem dX3_listOf_210 : decode cX3_listOf 210 = .ok (.istore 10, 2) := dk_54 10 (dk_at dksX3_listOf_9 0 rfl rfl)
theorem dX3_listOf_212 : decode cX3_listOf 212 = .ok (.iinc 8 1, 3) := dk_132 8 1 (dk_at dksX3_listOf_9 2 rfl rfl)
theorem dX3_listOf_215 : decode cX3_listOf 215 = .ok (.iconst 0, 1) := dk_3 (dk_at dksX3_listOf_9 5 rfl rfl)
theorem dX3_listOf_216 : decode cX3_listOf 216 = .ok (.istore 11, 2) := dk_54 11 (dk_at dksX3_listOf_9 6 rfl rfl)
theorem dX3_listOf_218 : decode cX3_listOf 218 = .ok (.iload 11, 2) := dk_21 11 (dk_at dksX3_listOf_9 8 rfl rfl)
theorem dX3_listOf_220 : decode cX3_listOf 220 = .ok (.aload_n 0, 1) := dk_42 (dk_at dksX3_listOf_9 10 rfl rfl)
theorem dX3_listOf_221 : decode cX3_listOf 221 = .ok (.getfield 182, 3) := dk_180 0 182 (dk_at dksX3_listOf_9 11 rfl rfl)
theorem dX3_listOf_224 : decode cX3_listOf 224 = .ok (.if_icmp .ge 58, 3) := dk_162 0 58 (dk_at dksX3_listOf_9 14 rfl rfl)
theorem dX3_listOf_227 : decode cX3_listOf 227 = .ok (.aload_n 0, 1) := dk_42 (dk_at dksX3_listOf_9 17 rfl rfl)
theorem dX3_listOf_228 : decode cX3_listOf 228 = .ok (.iload 10, 2) := dk_21 10 (dk_at dksX3_listOf_9 18 rfl rfl)
theorem dX3_listOf_230 : decode cX3_listOf 230 = .ok (.iload 11, 2) := dk_21 11 (dk_at dksX3_listOf_9 20 rfl rfl)
theorem dX3_listOf_232 : decode cX3_listOf 232 = .ok (.invokevirtual 239, 3) := dk_182 0 239 (dk_at dksX3_listOf_10 0 rfl rfl)
theorem dX3_listOf_235 : decode cX3_listOf 235 = .ok (.istore 12, 2) := dk_54 12 (dk_at dksX3_listOf_10 3 rfl rfl)
theorem dX3_listOf_237 : decode cX3_listOf 237 = .ok (.aload_n 0, 1) := dk_42 (dk_at dksX3_listOf_10 5 rfl rfl)
theorem dX3_listOf_238 : decode cX3_listOf 238 = .ok (.getfield 44, 3) := dk_180 0 44 (dk_at dksX3_listOf_10 6 rfl rfl)
theorem dX3_listOf_241 : decode cX3_listOf 241 = .ok (.iload 12, 2) := dk_21 12 (dk_at dksX3_listOf_10 9 rfl rfl)
theorem dX3_listOf_243 : decode cX3_listOf 243 = .ok (.iaload, 1) := dk_46 (dk_at dksX3_listOf_10 11 rfl rfl)
theorem dX3_listOf_244 : decode cX3_listOf 244 = .ok (.iconst (-1), 1) := dk_2 (dk_at dksX3_listOf_10 12 rfl rfl)
theorem dX3_listOf_245 : decode cX3_listOf 245 = .ok (.if_icmp .ne 31, 3) := dk_160 0 31 (dk_at dksX3_listOf_10 13 rfl rfl)
theorem dX3_listOf_248 : decode cX3_listOf 248 = .ok (.aload_n 0, 1) := dk_42 (dk_at dksX3_listOf_10 16 rfl rfl)
theorem dX3_listOf_249 : decode cX3_listOf 249 = .ok (.getfield 44, 3) := dk_180 0 44 (dk_at dksX3_listOf_10 17 rfl rfl)
theorem dX3_listOf_252 : decode cX3_listOf 252 = .ok (.iload 12, 2) := dk_21 12 (dk_at dksX3_listOf_10 20 rfl rfl)
theorem dX3_listOf_254 : decode cX3_listOf 254 = .ok (.aload_n 0, 1) := dk_42 (dk_at dksX3_listOf_10 22 rfl rfl)
theorem dX3_listOf_255 : decode cX3_listOf 255 = .ok (.getfield 44, 3) := dk_180 0 44 (dk_at dksX3_listOf_11 0 rfl rfl)
theorem dX3_listOf_258 : decode cX3_listOf 258 = .ok (.iload 10, 2) := dk_21 10 (dk_at dksX3_listOf_11 3 rfl rfl)
theorem dX3_listOf_260 : decode cX3_listOf 260 = .ok (.iaload, 1) := dk_46 (dk_at dksX3_listOf_11 5 rfl rfl)
theorem dX3_listOf_261 : decode cX3_listOf 261 = .ok (.iconst 1, 1) := dk_4 (dk_at dksX3_listOf_11 6 rfl rfl)
theorem dX3_listOf_262 : decode cX3_listOf 262 = .ok (.iadd, 1) := dk_96 (dk_at dksX3_listOf_11 7 rfl rfl)
theorem dX3_listOf_263 : decode cX3_listOf 263 = .ok (.iastore, 1) := dk_79 (dk_at dksX3_listOf_11 8 rfl rfl)
theorem dX3_listOf_264 : decode cX3_listOf 264 = .ok (.aload_n 0, 1) := dk_42 (dk_at dksX3_listOf_11 9 rfl rfl)
theorem dX3_listOf_265 : decode cX3_listOf 265 = .ok (.getfield 47, 3) := dk_180 0 47 (dk_at dksX3_listOf_11 10 rfl rfl)
theorem dX3_listOf_268 : decode cX3_listOf 268 = .ok (.iload 6, 2) := dk_21 6 (dk_at dksX3_listOf_11 13 rfl rfl)
theorem dX3_listOf_270 : decode cX3_listOf 270 = .ok (.iload 12, 2) := dk_21 12 (dk_at dksX3_listOf_11 15 rfl rfl)
theorem dX3_listOf_272 : decode cX3_listOf 272 = .ok (.iastore, 1) := dk_79 (dk_at dksX3_listOf_11 17 rfl rfl)
theorem dX3_listOf_273 : decode cX3_listOf 273 = .ok (.iinc 6 1, 3) := dk_132 6 1 (dk_at dksX3_listOf_11 18 rfl rfl)
theorem dX3_listOf_276 : decode cX3_listOf 276 = .ok (.iinc 11 1, 3) := dk_132 11 1 (dk_at dksX3_listOf_11 21 rfl rfl)
theorem dX3_listOf_279 : decode cX3_listOf 279 = .ok (.goto (-61), 3) := dk_167 255 195 (dk_at dksX3_listOf_12 0 rfl rfl)
theorem dX3_listOf_282 : decode cX3_listOf 282 = .ok (.goto (-180), 3) := dk_167 255 76 (dk_at dksX3_listOf_12 3 rfl rfl)
theorem dX3_listOf_285 : decode cX3_listOf 285 = .ok (.aload_n 0, 1) := dk_42 (dk_at dksX3_listOf_12 6 rfl rfl)
theorem dX3_listOf_286 : decode cX3_listOf 286 = .ok (.getfield 26, 3) := dk_180 0 26 (dk_at dksX3_listOf_12 7 rfl rfl)
theorem dX3_listOf_289 : decode cX3_listOf 289 = .ok (.iload_n 2, 1) := dk_28 (dk_at dksX3_listOf_12 10 rfl rfl)
theorem dX3_listOf_290 : decode cX3_listOf 290 = .ok (.iaload, 1) := dk_46 (dk_at dksX3_listOf_12 11 rfl rfl)
theorem dX3_listOf_291 : decode cX3_listOf 291 = .ok (.istore 10, 2) := dk_54 10 (dk_at dksX3_listOf_12 12 rfl rfl)
theorem dX3_listOf_293 : decode cX3_listOf 293 = .ok (.iconst 0, 1) := dk_3 (dk_at dksX3_listOf_12 14 rfl rfl)
theorem dX3_listOf_294 : decode cX3_listOf 294 = .ok (.istore 11, 2) := dk_54 11 (dk_at dksX3_listOf_12 15 rfl rfl)
theorem dX3_listOf_296 : decode cX3_listOf 296 = .ok (.iload 11, 2) := dk_21 11 (dk_at dksX3_listOf_12 17 rfl rfl)
theorem dX3_listOf_298 : decode cX3_listOf 298 = .ok (.iload 6, 2) := dk_21 6 (dk_at dksX3_listOf_12 19 rfl rfl)
theorem dX3_listOf_300 : decode cX3_listOf 300 = .ok (.if_icmp .ge 42, 3) := dk_162 0 42 (dk_at dksX3_listOf_12 21 rfl rfl)
theorem dX3_listOf_303 : decode cX3_listOf 303 = .ok (.aload_n 0, 1) := dk_42 (dk_at dksX3_listOf_13 0 rfl rfl)
theorem dX3_listOf_304 : decode cX3_listOf 304 = .ok (.aload_n 0, 1) := dk_42 (dk_at dksX3_listOf_13 1 rfl rfl)
theorem dX3_listOf_305 : decode cX3_listOf 305 = .ok (.getfield 47, 3) := dk_180 0 47 (dk_at dksX3_listOf_13 2 rfl rfl)
theorem dX3_listOf_308 : decode cX3_listOf 308 = .ok (.iload 11, 2) := dk_21 11 (dk_at dksX3_listOf_13 5 rfl rfl)
theorem dX3_listOf_310 : decode cX3_listOf 310 = .ok (.iaload, 1) := dk_46 (dk_at dksX3_listOf_13 7 rfl rfl)
theorem dX3_listOf_311 : decode cX3_listOf 311 = .ok (.invokevirtual 236, 3) := dk_182 0 236 (dk_at dksX3_listOf_13 8 rfl rfl)
theorem dX3_listOf_314 : decode cX3_listOf 314 = .ok (.iload 10, 2) := dk_21 10 (dk_at dksX3_listOf_13 11 rfl rfl)
theorem dX3_listOf_316 : decode cX3_listOf 316 = .ok (.if_icmp .ne 20, 3) := dk_160 0 20 (dk_at dksX3_listOf_13 13 rfl rfl)
theorem dX3_listOf_319 : decode cX3_listOf 319 = .ok (.aload_n 0, 1) := dk_42 (dk_at dksX3_listOf_13 16 rfl rfl)
theorem dX3_listOf_320 : decode cX3_listOf 320 = .ok (.getfield 53, 3) := dk_180 0 53 (dk_at dksX3_listOf_13 17 rfl rfl)
theorem dX3_listOf_323 : decode cX3_listOf 323 = .ok (.iload 9, 2) := dk_21 9 (dk_at dksX3_listOf_13 20 rfl rfl)
theorem dX3_listOf_325 : decode cX3_listOf 325 = .ok (.aload_n 0, 1) := dk_42 (dk_at dksX3_listOf_13 22 rfl rfl)
theorem dX3_listOf_326 : decode cX3_listOf 326 = .ok (.getfield 47, 3) := dk_180 0 47 (dk_at dksX3_listOf_14 0 rfl rfl)
theorem dX3_listOf_329 : decode cX3_listOf 329 = .ok (.iload 11, 2) := dk_21 11 (dk_at dksX3_listOf_14 3 rfl rfl)
theorem dX3_listOf_331 : decode cX3_listOf 331 = .ok (.iaload, 1) := dk_46 (dk_at dksX3_listOf_14 5 rfl rfl)
theorem dX3_listOf_332 : decode cX3_listOf 332 = .ok (.iastore, 1) := dk_79 (dk_at dksX3_listOf_14 6 rfl rfl)
theorem dX3_listOf_333 : decode cX3_listOf 333 = .ok (.iinc 9 1, 3) := dk_132 9 1 (dk_at dksX3_listOf_14 7 rfl rfl)
theorem dX3_listOf_336 : decode cX3_listOf 336 = .ok (.iinc 11 1, 3) := dk_132 11 1 (dk_at dksX3_listOf_14 10 rfl rfl)
theorem dX3_listOf_339 : decode cX3_listOf 339 = .ok (.goto (-43), 3) := dk_167 255 213 (dk_at dksX3_listOf_14 13 rfl rfl)
theorem dX3_listOf_342 : decode cX3_listOf 342 = .ok (.iconst 0, 1) := dk_3 (dk_at dksX3_listOf_14 16 rfl rfl)
theorem dX3_listOf_343 : decode cX3_listOf 343 = .ok (.istore 11, 2) := dk_54 11 (dk_at dksX3_listOf_14 17 rfl rfl)
theorem dX3_listOf_345 : decode cX3_listOf 345 = .ok (.iload 11, 2) := dk_21 11 (dk_at dksX3_listOf_14 19 rfl rfl)
theorem dX3_listOf_347 : decode cX3_listOf 347 = .ok (.iload 9, 2) := dk_21 9 (dk_at dksX3_listOf_14 21 rfl rfl)
theorem dX3_listOf_349 : decode cX3_listOf 349 = .ok (.if_icmp .ge 28, 3) := dk_162 0 28 (dk_at dksX3_listOf_15 0 rfl rfl)
theorem dX3_listOf_352 : decode cX3_listOf 352 = .ok (.aload_n 0, 1) := dk_42 (dk_at dksX3_listOf_15 3 rfl rfl)
theorem dX3_listOf_353 : decode cX3_listOf 353 = .ok (.getfield 50, 3) := dk_180 0 50 (dk_at dksX3_listOf_15 4 rfl rfl)
theorem dX3_listOf_356 : decode cX3_listOf 356 = .ok (.iload 11, 2) := dk_21 11 (dk_at dksX3_listOf_15 7 rfl rfl)
theorem dX3_listOf_358 : decode cX3_listOf 358 = .ok (.aload_n 0, 1) := dk_42 (dk_at dksX3_listOf_15 9 rfl rfl)
theorem dX3_listOf_359 : decode cX3_listOf 359 = .ok (.getfield 44, 3) := dk_180 0 44 (dk_at dksX3_listOf_15 10 rfl rfl)
theorem dX3_listOf_362 : decode cX3_listOf 362 = .ok (.aload_n 0, 1) := dk_42 (dk_at dksX3_listOf_15 13 rfl rfl)
theorem dX3_listOf_363 : decode cX3_listOf 363 = .ok (.getfield 53, 3) := dk_180 0 53 (dk_at dksX3_listOf_15 14 rfl rfl)
theorem dX3_listOf_366 : decode cX3_listOf 366 = .ok (.iload 11, 2) := dk_21 11 (dk_at dksX3_listOf_15 17 rfl rfl)
theorem dX3_listOf_368 : decode cX3_listOf 368 = .ok (.iaload, 1) := dk_46 (dk_at dksX3_listOf_15 19 rfl rfl)
theorem dX3_listOf_369 : decode cX3_listOf 369 = .ok (.iaload, 1) := dk_46 (dk_at dksX3_listOf_15 20 rfl rfl)
theorem dX3_listOf_370 : decode cX3_listOf 370 = .ok (.iastore, 1) := dk_79 (dk_at dksX3_listOf_15 21 rfl rfl)
theorem dX3_listOf_371 : decode cX3_listOf 371 = .ok (.iinc 11 1, 3) := dk_132 11 1 (dk_at dksX3_listOf_16 0 rfl rfl)
theorem dX3_listOf_374 : decode cX3_listOf 374 = .ok (.goto (-29), 3) := dk_167 255 227 (dk_at dksX3_listOf_16 3 rfl rfl)
theorem dX3_listOf_377 : decode cX3_listOf 377 = .ok (.iload 9, 2) := dk_21 9 (dk_at dksX3_listOf_16 6 rfl rfl)
theorem dX3_listOf_379 : decode cX3_listOf 379 = .ok (.istore_n 3, 1) := dk_62 (dk_at dksX3_listOf_16 8 rfl rfl)
theorem dX3_listOf_380 : decode cX3_listOf 380 = .ok (.aload_n 0, 1) := dk_42 (dk_at dksX3_listOf_16 9 rfl rfl)
theorem dX3_listOf_381 : decode cX3_listOf 381 = .ok (.iload_n 2, 1) := dk_28 (dk_at dksX3_listOf_16 10 rfl rfl)
theorem dX3_listOf_382 : decode cX3_listOf 382 = .ok (.iload 10, 2) := dk_21 10 (dk_at dksX3_listOf_16 11 rfl rfl)
theorem dX3_listOf_384 : decode cX3_listOf 384 = .ok (.invokevirtual 262, 3) := dk_182 1 6 (dk_at dksX3_listOf_16 13 rfl rfl)
theorem dX3_listOf_387 : decode cX3_listOf 387 = .ok (.istore_n 2, 1) := dk_61 (dk_at dksX3_listOf_16 16 rfl rfl)
theorem dX3_listOf_388 : decode cX3_listOf 388 = .ok (.iload_n 2, 1) := dk_28 (dk_at dksX3_listOf_16 17 rfl rfl)
theorem dX3_listOf_389 : decode cX3_listOf 389 = .ok (.aload_n 0, 1) := dk_42 (dk_at dksX3_listOf_16 18 rfl rfl)
theorem dX3_listOf_390 : decode cX3_listOf 390 = .ok (.getfield 191, 3) := dk_180 0 191 (dk_at dksX3_listOf_16 19 rfl rfl)
theorem dX3_listOf_393 : decode cX3_listOf 393 = .ok (.if_icmp .ne 17, 3) := dk_160 0 17 (dk_at dksX3_listOf_17 0 rfl rfl)
theorem dX3_listOf_396 : decode cX3_listOf 396 = .ok (.iload 9, 2) := dk_21 9 (dk_at dksX3_listOf_17 3 rfl rfl)
theorem dX3_listOf_398 : decode cX3_listOf 398 = .ok (.ifCond .le 12, 3) := dk_158 0 12 (dk_at dksX3_listOf_17 5 rfl rfl)
theorem dX3_listOf_401 : decode cX3_listOf 401 = .ok (.aload_n 0, 1) := dk_42 (dk_at dksX3_listOf_17 8 rfl rfl)
theorem dX3_listOf_402 : decode cX3_listOf 402 = .ok (.getfield 50, 3) := dk_180 0 50 (dk_at dksX3_listOf_17 9 rfl rfl)
theorem dX3_listOf_405 : decode cX3_listOf 405 = .ok (.iconst 0, 1) := dk_3 (dk_at dksX3_listOf_17 12 rfl rfl)
theorem dX3_listOf_406 : decode cX3_listOf 406 = .ok (.iaload, 1) := dk_46 (dk_at dksX3_listOf_17 13 rfl rfl)
theorem dX3_listOf_407 : decode cX3_listOf 407 = .ok (.goto 4, 3) := dk_167 0 4 (dk_at dksX3_listOf_17 14 rfl rfl)
theorem dX3_listOf_410 : decode cX3_listOf 410 = .ok (.iconst (-1), 1) := dk_2 (dk_at dksX3_listOf_17 17 rfl rfl)
theorem dX3_listOf_411 : decode cX3_listOf 411 = .ok (.istore 4, 2) := dk_54 4 (dk_at dksX3_listOf_17 18 rfl rfl)
theorem dX3_listOf_413 : decode cX3_listOf 413 = .ok (.iload 9, 2) := dk_21 9 (dk_at dksX3_listOf_17 20 rfl rfl)
theorem dX3_listOf_415 : decode cX3_listOf 415 = .ok (.ifCond .le 15, 3) := dk_158 0 15 (dk_at dksX3_listOf_18 0 rfl rfl)
theorem dX3_listOf_418 : decode cX3_listOf 418 = .ok (.iload_n 2, 1) := dk_28 (dk_at dksX3_listOf_18 3 rfl rfl)
theorem dX3_listOf_419 : decode cX3_listOf 419 = .ok (.aload_n 0, 1) := dk_42 (dk_at dksX3_listOf_18 4 rfl rfl)
theorem dX3_listOf_420 : decode cX3_listOf 420 = .ok (.getfield 191, 3) := dk_180 0 191 (dk_at dksX3_listOf_18 5 rfl rfl)
theorem dX3_listOf_423 : decode cX3_listOf 423 = .ok (.if_icmp .ge 7, 3) := dk_162 0 7 (dk_at dksX3_listOf_18 8 rfl rfl)
theorem dX3_listOf_426 : decode cX3_listOf 426 = .ok (.iconst 1, 1) := dk_4 (dk_at dksX3_listOf_18 11 rfl rfl)
theorem dX3_listOf_427 : decode cX3_listOf 427 = .ok (.goto 4, 3) := dk_167 0 4 (dk_at dksX3_listOf_18 12 rfl rfl)
theorem dX3_listOf_430 : decode cX3_listOf 430 = .ok (.iconst 0, 1) := dk_3 (dk_at dksX3_listOf_18 15 rfl rfl)
theorem dX3_listOf_431 : decode cX3_listOf 431 = .ok (.istore 5, 2) := dk_54 5 (dk_at dksX3_listOf_18 16 rfl rfl)
theorem dX3_listOf_433 : decode cX3_listOf 433 = .ok (.goto (-374), 3) := dk_167 254 138 (dk_at dksX3_listOf_18 18 rfl rfl)
theorem dX3_listOf_436 : decode cX3_listOf 436 = .ok (.aload_n 0, 1) := dk_42 (dk_at dksX3_listOf_18 21 rfl rfl)
theorem dX3_listOf_437 : decode cX3_listOf 437 = .ok (.iload_n 1, 1) := dk_27 (dk_at dksX3_listOf_18 22 rfl rfl)
theorem dX3_listOf_438 : decode cX3_listOf 438 = .ok (.invokevirtual 223, 3) := dk_182 0 223 (dk_at dksX3_listOf_19 0 rfl rfl)
theorem dX3_listOf_441 : decode cX3_listOf 441 = .ok (.iload 4, 2) := dk_21 4 (dk_at dksX3_listOf_19 3 rfl rfl)
theorem dX3_listOf_443 : decode cX3_listOf 443 = .ok (.ireturn, 1) := dk_172 (dk_at dksX3_listOf_19 5 rfl rfl)
abbrev cX3_goOn : ByteArray := prog_15_method_45_code
def yX3_goOn : MethodName := ⟨RX3, "goOn", "(II)I"⟩
def dkwX3_goOn_1 : List UInt8 := [167, 255, 235, 29, 172]
abbrev dktX3_goOn_1 : List UInt8 := dkwX3_goOn_1 ++ []
def dkwX3_goOn_0 : List UInt8 := [27, 62, 29, 42, 180, 0, 191, 162, 0, 19, 42, 180, 0, 26, 29, 46, 28, 160, 0, 9, 132, 3, 1]
abbrev dktX3_goOn_0 : List UInt8 := dkwX3_goOn_0 ++ dktX3_goOn_1
theorem dksX3_goOn_0 : cX3_goOn.data.toList.drop 0 = dktX3_goOn_0 := by decide +kernel
theorem dksX3_goOn_1 : cX3_goOn.data.toList.drop 23 = dktX3_goOn_1 := dk_seg dksX3_goOn_0 23 rfl rfl
theorem dX3_goOn_0 : decode cX3_goOn 0 = .ok (.iload_n 1, 1) := dk_27 (dk_at dksX3_goOn_0 0 rfl rfl)
theorem dX3_goOn_1 : decode cX3_goOn 1 = .ok (.istore_n 3, 1) := dk_62 (dk_at dksX3_goOn_0 1 rfl rfl)
theorem dX3_goOn_2 : decode cX3_goOn 2 = .ok (.iload_n 3, 1) := dk_29 (dk_at dksX3_goOn_0 2 rfl rfl)
theorem dX3_goOn_3 : decode cX3_goOn 3 = .ok (.aload_n 0, 1) := dk_42 (dk_at dksX3_goOn_0 3 rfl rfl)
theorem dX3_goOn_4 : decode cX3_goOn 4 = .ok (.getfield 191, 3) := dk_180 0 191 (dk_at dksX3_goOn_0 4 rfl rfl)
theorem dX3_goOn_7 : decode cX3_goOn 7 = .ok (.if_icmp .ge 19, 3) := dk_162 0 19 (dk_at dksX3_goOn_0 7 rfl rfl)
theorem dX3_goOn_10 : decode cX3_goOn 10 = .ok (.aload_n 0, 1) := dk_42 (dk_at dksX3_goOn_0 10 rfl rfl)
theorem dX3_goOn_11 : decode cX3_goOn 11 = .ok (.getfield 26, 3) := dk_180 0 26 (dk_at dksX3_goOn_0 11 rfl rfl)
theorem dX3_goOn_14 : decode cX3_goOn 14 = .ok (.iload_n 3, 1) := dk_29 (dk_at dksX3_goOn_0 14 rfl rfl)
theorem dX3_goOn_15 : decode cX3_goOn 15 = .ok (.iaload, 1) := dk_46 (dk_at dksX3_goOn_0 15 rfl rfl)
theorem dX3_goOn_16 : decode cX3_goOn 16 = .ok (.iload_n 2, 1) := dk_28 (dk_at dksX3_goOn_0 16 rfl rfl)
theorem dX3_goOn_17 : decode cX3_goOn 17 = .ok (.if_icmp .ne 9, 3) := dk_160 0 9 (dk_at dksX3_goOn_0 17 rfl rfl)
theorem dX3_goOn_20 : decode cX3_goOn 20 = .ok (.iinc 3 1, 3) := dk_132 3 1 (dk_at dksX3_goOn_0 20 rfl rfl)
theorem dX3_goOn_23 : decode cX3_goOn 23 = .ok (.goto (-21), 3) := dk_167 255 235 (dk_at dksX3_goOn_1 0 rfl rfl)
theorem dX3_goOn_26 : decode cX3_goOn 26 = .ok (.iload_n 3, 1) := dk_29 (dk_at dksX3_goOn_1 3 rfl rfl)
theorem dX3_goOn_27 : decode cX3_goOn 27 = .ok (.ireturn, 1) := dk_172 (dk_at dksX3_goOn_1 4 rfl rfl)
abbrev cX3_insert : ByteArray := prog_15_method_47_code
def yX3_insert : MethodName := ⟨RX3, "insert", "(III)V"⟩
def dkwX3_insert_1 : List UInt8 := [79, 132, 4, 255, 167, 255, 231, 42, 180, 0, 47, 27, 29, 79, 177]
abbrev dktX3_insert_1 : List UInt8 := dkwX3_insert_1 ++ []
def dkwX3_insert_0 : List UInt8 := [28, 54, 4, 21, 4, 27, 164, 0, 25, 42, 180, 0, 47, 21, 4, 42, 180, 0, 47, 21, 4, 4, 100, 46]
abbrev dktX3_insert_0 : List UInt8 := dkwX3_insert_0 ++ dktX3_insert_1
theorem dksX3_insert_0 : cX3_insert.data.toList.drop 0 = dktX3_insert_0 := by decide +kernel
theorem dksX3_insert_1 : cX3_insert.data.toList.drop 24 = dktX3_insert_1 := dk_seg dksX3_insert_0 24 rfl rfl
theorem dX3_insert_0 : decode cX3_insert 0 = .ok (.iload_n 2, 1) := dk_28 (dk_at dksX3_insert_0 0 rfl rfl)
theorem dX3_insert_1 : decode cX3_insert 1 = .ok (.istore 4, 2) := dk_54 4 (dk_at dksX3_insert_0 1 rfl rfl)
theorem dX3_insert_3 : decode cX3_insert 3 = .ok (.iload 4, 2) := dk_21 4 (dk_at dksX3_insert_0 3 rfl rfl)
theorem dX3_insert_5 : decode cX3_insert 5 = .ok (.iload_n 1, 1) := dk_27 (dk_at dksX3_insert_0 5 rfl rfl)
theorem dX3_insert_6 : decode cX3_insert 6 = .ok (.if_icmp .le 25, 3) := dk_164 0 25 (dk_at dksX3_insert_0 6 rfl rfl)
theorem dX3_insert_9 : decode cX3_insert 9 = .ok (.aload_n 0, 1) := dk_42 (dk_at dksX3_insert_0 9 rfl rfl)
theorem dX3_insert_10 : decode cX3_insert 10 = .ok (.getfield 47, 3) := dk_180 0 47 (dk_at dksX3_insert_0 10 rfl rfl)
theorem dX3_insert_13 : decode cX3_insert 13 = .ok (.iload 4, 2) := dk_21 4 (dk_at dksX3_insert_0 13 rfl rfl)
theorem dX3_insert_15 : decode cX3_insert 15 = .ok (.aload_n 0, 1) := dk_42 (dk_at dksX3_insert_0 15 rfl rfl)
theorem dX3_insert_16 : decode cX3_insert 16 = .ok (.getfield 47, 3) := dk_180 0 47 (dk_at dksX3_insert_0 16 rfl rfl)
theorem dX3_insert_19 : decode cX3_insert 19 = .ok (.iload 4, 2) := dk_21 4 (dk_at dksX3_insert_0 19 rfl rfl)
theorem dX3_insert_21 : decode cX3_insert 21 = .ok (.iconst 1, 1) := dk_4 (dk_at dksX3_insert_0 21 rfl rfl)
theorem dX3_insert_22 : decode cX3_insert 22 = .ok (.isub, 1) := dk_100 (dk_at dksX3_insert_0 22 rfl rfl)
theorem dX3_insert_23 : decode cX3_insert 23 = .ok (.iaload, 1) := dk_46 (dk_at dksX3_insert_0 23 rfl rfl)
theorem dX3_insert_24 : decode cX3_insert 24 = .ok (.iastore, 1) := dk_79 (dk_at dksX3_insert_1 0 rfl rfl)
theorem dX3_insert_25 : decode cX3_insert 25 = .ok (.iinc 4 (-1), 3) := dk_132 4 255 (dk_at dksX3_insert_1 1 rfl rfl)
theorem dX3_insert_28 : decode cX3_insert 28 = .ok (.goto (-25), 3) := dk_167 255 231 (dk_at dksX3_insert_1 4 rfl rfl)
theorem dX3_insert_31 : decode cX3_insert 31 = .ok (.aload_n 0, 1) := dk_42 (dk_at dksX3_insert_1 7 rfl rfl)
theorem dX3_insert_32 : decode cX3_insert 32 = .ok (.getfield 47, 3) := dk_180 0 47 (dk_at dksX3_insert_1 8 rfl rfl)
theorem dX3_insert_35 : decode cX3_insert 35 = .ok (.iload_n 1, 1) := dk_27 (dk_at dksX3_insert_1 11 rfl rfl)
theorem dX3_insert_36 : decode cX3_insert 36 = .ok (.iload_n 3, 1) := dk_29 (dk_at dksX3_insert_1 12 rfl rfl)
theorem dX3_insert_37 : decode cX3_insert 37 = .ok (.iastore, 1) := dk_79 (dk_at dksX3_insert_1 13 rfl rfl)
theorem dX3_insert_38 : decode cX3_insert 38 = .ok (.return_, 1) := dk_177 (dk_at dksX3_insert_1 14 rfl rfl)
abbrev cX3_quick : ByteArray := prog_15_method_49_code
def yX3_quick : MethodName := ⟨RX3, "quick", "(II)I"⟩
def dkwX3_quick_7 : List UInt8 := [21, 4, 167, 0, 4, 29, 62, 132, 4, 1, 167, 255, 120, 29, 172]
abbrev dktX3_quick_7 : List UInt8 := dkwX3_quick_7 ++ []
def dkwX3_quick_6 : List UInt8 := [46, 160, 0, 14, 21, 5, 21, 6, 162, 0, 7, 4, 167, 0, 4, 3, 54, 7, 21, 7, 153, 0, 8]
abbrev dktX3_quick_6 : List UInt8 := dkwX3_quick_6 ++ dktX3_quick_7
def dkwX3_quick_5 : List UInt8 := [21, 4, 46, 42, 180, 0, 56, 29, 46, 161, 0, 26, 42, 180, 0, 56, 21, 4, 46, 42, 180, 0, 56, 29]
abbrev dktX3_quick_5 : List UInt8 := dkwX3_quick_5 ++ dktX3_quick_6
def dkwX3_quick_4 : List UInt8 := [163, 0, 77, 42, 180, 0, 56, 21, 4, 46, 2, 159, 0, 66, 29, 2, 159, 0, 42, 42, 180, 0, 56]
abbrev dktX3_quick_4 : List UInt8 := dkwX3_quick_4 ++ dktX3_quick_5
def dkwX3_quick_3 : List UInt8 := [3, 167, 0, 17, 29, 27, 162, 0, 9, 27, 29, 100, 167, 0, 6, 29, 27, 100, 54, 6, 21, 5, 28]
abbrev dktX3_quick_3 : List UInt8 := dkwX3_quick_3 ++ dktX3_quick_4
def dkwX3_quick_2 : List UInt8 := [21, 4, 27, 162, 0, 10, 27, 21, 4, 100, 167, 0, 7, 21, 4, 27, 100, 54, 5, 29, 2, 160, 0, 7]
abbrev dktX3_quick_2 : List UInt8 := dkwX3_quick_2 ++ dktX3_quick_3
def dkwX3_quick_1 : List UInt8 := [172, 42, 42, 180, 0, 182, 182, 0, 246, 2, 62, 3, 54, 4, 21, 4, 42, 180, 0, 65, 162, 0, 133]
abbrev dktX3_quick_1 : List UInt8 := dkwX3_quick_1 ++ dktX3_quick_2
def dkwX3_quick_0 : List UInt8 := [27, 3, 17, 3, 231, 184, 0, 68, 153, 0, 14, 28, 3, 17, 3, 231, 184, 0, 68, 154, 0, 6, 18, 72]
abbrev dktX3_quick_0 : List UInt8 := dkwX3_quick_0 ++ dktX3_quick_1
theorem dksX3_quick_0 : cX3_quick.data.toList.drop 0 = dktX3_quick_0 := by decide +kernel
theorem dksX3_quick_1 : cX3_quick.data.toList.drop 24 = dktX3_quick_1 := dk_seg dksX3_quick_0 24 rfl rfl
theorem dksX3_quick_2 : cX3_quick.data.toList.drop 47 = dktX3_quick_2 := dk_seg dksX3_quick_1 23 rfl rfl
theorem dksX3_quick_3 : cX3_quick.data.toList.drop 71 = dktX3_quick_3 := dk_seg dksX3_quick_2 24 rfl rfl
theorem dksX3_quick_4 : cX3_quick.data.toList.drop 94 = dktX3_quick_4 := dk_seg dksX3_quick_3 23 rfl rfl
theorem dksX3_quick_5 : cX3_quick.data.toList.drop 117 = dktX3_quick_5 := dk_seg dksX3_quick_4 23 rfl rfl
theorem dksX3_quick_6 : cX3_quick.data.toList.drop 141 = dktX3_quick_6 := dk_seg dksX3_quick_5 24 rfl rfl
theorem dksX3_quick_7 : cX3_quick.data.toList.drop 164 = dktX3_quick_7 := dk_seg dksX3_quick_6 23 rfl rfl
theorem dX3_quick_0 : decode cX3_quick 0 = .ok (.iload_n 1, 1) := dk_27 (dk_at dksX3_quick_0 0 rfl rfl)
theorem dX3_quick_1 : decode cX3_quick 1 = .ok (.iconst 0, 1) := dk_3 (dk_at dksX3_quick_0 1 rfl rfl)
theorem dX3_quick_2 : decode cX3_quick 2 = .ok (.sipush 999, 3) := dk_17 3 231 (dk_at dksX3_quick_0 2 rfl rfl)
theorem dX3_quick_5 : decode cX3_quick 5 = .ok (.invokestatic 68, 3) := dk_184 0 68 (dk_at dksX3_quick_0 5 rfl rfl)
theorem dX3_quick_8 : decode cX3_quick 8 = .ok (.ifCond .eq 14, 3) := dk_153 0 14 (dk_at dksX3_quick_0 8 rfl rfl)
theorem dX3_quick_11 : decode cX3_quick 11 = .ok (.iload_n 2, 1) := dk_28 (dk_at dksX3_quick_0 11 rfl rfl)
theorem dX3_quick_12 : decode cX3_quick 12 = .ok (.iconst 0, 1) := dk_3 (dk_at dksX3_quick_0 12 rfl rfl)
theorem dX3_quick_13 : decode cX3_quick 13 = .ok (.sipush 999, 3) := dk_17 3 231 (dk_at dksX3_quick_0 13 rfl rfl)
theorem dX3_quick_16 : decode cX3_quick 16 = .ok (.invokestatic 68, 3) := dk_184 0 68 (dk_at dksX3_quick_0 16 rfl rfl)
theorem dX3_quick_19 : decode cX3_quick 19 = .ok (.ifCond .ne 6, 3) := dk_154 0 6 (dk_at dksX3_quick_0 19 rfl rfl)
theorem dX3_quick_22 : decode cX3_quick 22 = .ok (.ldc 72, 2) := dk_18 72 (dk_at dksX3_quick_0 22 rfl rfl)
theorem dX3_quick_24 : decode cX3_quick 24 = .ok (.ireturn, 1) := dk_172 (dk_at dksX3_quick_1 0 rfl rfl)
theorem dX3_quick_25 : decode cX3_quick 25 = .ok (.aload_n 0, 1) := dk_42 (dk_at dksX3_quick_1 1 rfl rfl)
theorem dX3_quick_26 : decode cX3_quick 26 = .ok (.aload_n 0, 1) := dk_42 (dk_at dksX3_quick_1 2 rfl rfl)
theorem dX3_quick_27 : decode cX3_quick 27 = .ok (.getfield 182, 3) := dk_180 0 182 (dk_at dksX3_quick_1 3 rfl rfl)
theorem dX3_quick_30 : decode cX3_quick 30 = .ok (.invokevirtual 246, 3) := dk_182 0 246 (dk_at dksX3_quick_1 6 rfl rfl)
theorem dX3_quick_33 : decode cX3_quick 33 = .ok (.iconst (-1), 1) := dk_2 (dk_at dksX3_quick_1 9 rfl rfl)
theorem dX3_quick_34 : decode cX3_quick 34 = .ok (.istore_n 3, 1) := dk_62 (dk_at dksX3_quick_1 10 rfl rfl)
theorem dX3_quick_35 : decode cX3_quick 35 = .ok (.iconst 0, 1) := dk_3 (dk_at dksX3_quick_1 11 rfl rfl)
theorem dX3_quick_36 : decode cX3_quick 36 = .ok (.istore 4, 2) := dk_54 4 (dk_at dksX3_quick_1 12 rfl rfl)
theorem dX3_quick_38 : decode cX3_quick 38 = .ok (.iload 4, 2) := dk_21 4 (dk_at dksX3_quick_1 14 rfl rfl)
theorem dX3_quick_40 : decode cX3_quick 40 = .ok (.aload_n 0, 1) := dk_42 (dk_at dksX3_quick_1 16 rfl rfl)
theorem dX3_quick_41 : decode cX3_quick 41 = .ok (.getfield 65, 3) := dk_180 0 65 (dk_at dksX3_quick_1 17 rfl rfl)
theorem dX3_quick_44 : decode cX3_quick 44 = .ok (.if_icmp .ge 133, 3) := dk_162 0 133 (dk_at dksX3_quick_1 20 rfl rfl)
theorem dX3_quick_47 : decode cX3_quick 47 = .ok (.iload 4, 2) := dk_21 4 (dk_at dksX3_quick_2 0 rfl rfl)
theorem dX3_quick_49 : decode cX3_quick 49 = .ok (.iload_n 1, 1) := dk_27 (dk_at dksX3_quick_2 2 rfl rfl)
theorem dX3_quick_50 : decode cX3_quick 50 = .ok (.if_icmp .ge 10, 3) := dk_162 0 10 (dk_at dksX3_quick_2 3 rfl rfl)
theorem dX3_quick_53 : decode cX3_quick 53 = .ok (.iload_n 1, 1) := dk_27 (dk_at dksX3_quick_2 6 rfl rfl)
theorem dX3_quick_54 : decode cX3_quick 54 = .ok (.iload 4, 2) := dk_21 4 (dk_at dksX3_quick_2 7 rfl rfl)
theorem dX3_quick_56 : decode cX3_quick 56 = .ok (.isub, 1) := dk_100 (dk_at dksX3_quick_2 9 rfl rfl)
theorem dX3_quick_57 : decode cX3_quick 57 = .ok (.goto 7, 3) := dk_167 0 7 (dk_at dksX3_quick_2 10 rfl rfl)
theorem dX3_quick_60 : decode cX3_quick 60 = .ok (.iload 4, 2) := dk_21 4 (dk_at dksX3_quick_2 13 rfl rfl)
theorem dX3_quick_62 : decode cX3_quick 62 = .ok (.iload_n 1, 1) := dk_27 (dk_at dksX3_quick_2 15 rfl rfl)
theorem dX3_quick_63 : decode cX3_quick 63 = .ok (.isub, 1) := dk_100 (dk_at dksX3_quick_2 16 rfl rfl)
theorem dX3_quick_64 : decode cX3_quick 64 = .ok (.istore 5, 2) := dk_54 5 (dk_at dksX3_quick_2 17 rfl rfl)
theorem dX3_quick_66 : decode cX3_quick 66 = .ok (.iload_n 3, 1) := dk_29 (dk_at dksX3_quick_2 19 rfl rfl)
theorem dX3_quick_67 : decode cX3_quick 67 = .ok (.iconst (-1), 1) := dk_2 (dk_at dksX3_quick_2 20 rfl rfl)
theorem dX3_quick_68 : decode cX3_quick 68 = .ok (.if_icmp .ne 7, 3) := dk_160 0 7 (dk_at dksX3_quick_2 21 rfl rfl)
theorem dX3_quick_71 : decode cX3_quick 71 = .ok (.iconst 0, 1) := dk_3 (dk_at dksX3_quick_3 0 rfl rfl)
theorem dX3_quick_72 : decode cX3_quick 72 = .ok (.goto 17, 3) := dk_167 0 17 (dk_at dksX3_quick_3 1 rfl rfl)
theorem dX3_quick_75 : decode cX3_quick 75 = .ok (.iload_n 3, 1) := dk_29 (dk_at dksX3_quick_3 4 rfl rfl)
theorem dX3_quick_76 : decode cX3_quick 76 = .ok (.iload_n 1, 1) := dk_27 (dk_at dksX3_quick_3 5 rfl rfl)
theorem dX3_quick_77 : decode cX3_quick 77 = .ok (.if_icmp .ge 9, 3) := dk_162 0 9 (dk_at dksX3_quick_3 6 rfl rfl)
theorem dX3_quick_80 : decode cX3_quick 80 = .ok (.iload_n 1, 1) := dk_27 (dk_at dksX3_quick_3 9 rfl rfl)
theorem dX3_quick_81 : decode cX3_quick 81 = .ok (.iload_n 3, 1) := dk_29 (dk_at dksX3_quick_3 10 rfl rfl)
theorem dX3_quick_82 : decode cX3_quick 82 = .ok (.isub, 1) := dk_100 (dk_at dksX3_quick_3 11 rfl rfl)
theorem dX3_quick_83 : decode cX3_quick 83 = .ok (.goto 6, 3) := dk_167 0 6 (dk_at dksX3_quick_3 12 rfl rfl)
theorem dX3_quick_86 : decode cX3_quick 86 = .ok (.iload_n 3, 1) := dk_29 (dk_at dksX3_quick_3 15 rfl rfl)
theorem dX3_quick_87 : decode cX3_quick 87 = .ok (.iload_n 1, 1) := dk_27 (dk_at dksX3_quick_3 16 rfl rfl)
theorem dX3_quick_88 : decode cX3_quick 88 = .ok (.isub, 1) := dk_100 (dk_at dksX3_quick_3 17 rfl rfl)
theorem dX3_quick_89 : decode cX3_quick 89 = .ok (.istore 6, 2) := dk_54 6 (dk_at dksX3_quick_3 18 rfl rfl)
theorem dX3_quick_91 : decode cX3_quick 91 = .ok (.iload 5, 2) := dk_21 5 (dk_at dksX3_quick_3 20 rfl rfl)
theorem dX3_quick_93 : decode cX3_quick 93 = .ok (.iload_n 2, 1) := dk_28 (dk_at dksX3_quick_3 22 rfl rfl)
theorem dX3_quick_94 : decode cX3_quick 94 = .ok (.if_icmp .gt 77, 3) := dk_163 0 77 (dk_at dksX3_quick_4 0 rfl rfl)
theorem dX3_quick_97 : decode cX3_quick 97 = .ok (.aload_n 0, 1) := dk_42 (dk_at dksX3_quick_4 3 rfl rfl)
theorem dX3_quick_98 : decode cX3_quick 98 = .ok (.getfield 56, 3) := dk_180 0 56 (dk_at dksX3_quick_4 4 rfl rfl)
theorem dX3_quick_101 : decode cX3_quick 101 = .ok (.iload 4, 2) := dk_21 4 (dk_at dksX3_quick_4 7 rfl rfl)
theorem dX3_quick_103 : decode cX3_quick 103 = .ok (.iaload, 1) := dk_46 (dk_at dksX3_quick_4 9 rfl rfl)
theorem dX3_quick_104 : decode cX3_quick 104 = .ok (.iconst (-1), 1) := dk_2 (dk_at dksX3_quick_4 10 rfl rfl)
theorem dX3_quick_105 : decode cX3_quick 105 = .ok (.if_icmp .eq 66, 3) := dk_159 0 66 (dk_at dksX3_quick_4 11 rfl rfl)
theorem dX3_quick_108 : decode cX3_quick 108 = .ok (.iload_n 3, 1) := dk_29 (dk_at dksX3_quick_4 14 rfl rfl)
theorem dX3_quick_109 : decode cX3_quick 109 = .ok (.iconst (-1), 1) := dk_2 (dk_at dksX3_quick_4 15 rfl rfl)
theorem dX3_quick_110 : decode cX3_quick 110 = .ok (.if_icmp .eq 42, 3) := dk_159 0 42 (dk_at dksX3_quick_4 16 rfl rfl)
theorem dX3_quick_113 : decode cX3_quick 113 = .ok (.aload_n 0, 1) := dk_42 (dk_at dksX3_quick_4 19 rfl rfl)
theorem dX3_quick_114 : decode cX3_quick 114 = .ok (.getfield 56, 3) := dk_180 0 56 (dk_at dksX3_quick_4 20 rfl rfl)
theorem dX3_quick_117 : decode cX3_quick 117 = .ok (.iload 4, 2) := dk_21 4 (dk_at dksX3_quick_5 0 rfl rfl)
theorem dX3_quick_119 : decode cX3_quick 119 = .ok (.iaload, 1) := dk_46 (dk_at dksX3_quick_5 2 rfl rfl)
theorem dX3_quick_120 : decode cX3_quick 120 = .ok (.aload_n 0, 1) := dk_42 (dk_at dksX3_quick_5 3 rfl rfl)
theorem dX3_quick_121 : decode cX3_quick 121 = .ok (.getfield 56, 3) := dk_180 0 56 (dk_at dksX3_quick_5 4 rfl rfl)
theorem dX3_quick_124 : decode cX3_quick 124 = .ok (.iload_n 3, 1) := dk_29 (dk_at dksX3_quick_5 7 rfl rfl)
theorem dX3_quick_125 : decode cX3_quick 125 = .ok (.iaload, 1) := dk_46 (dk_at dksX3_quick_5 8 rfl rfl)
theorem dX3_quick_126 : decode cX3_quick 126 = .ok (.if_icmp .lt 26, 3) := dk_161 0 26 (dk_at dksX3_quick_5 9 rfl rfl)
theorem dX3_quick_129 : decode cX3_quick 129 = .ok (.aload_n 0, 1) := dk_42 (dk_at dksX3_quick_5 12 rfl rfl)
theorem dX3_quick_130 : decode cX3_quick 130 = .ok (.getfield 56, 3) := dk_180 0 56 (dk_at dksX3_quick_5 13 rfl rfl)
theorem dX3_quick_133 : decode cX3_quick 133 = .ok (.iload 4, 2) := dk_21 4 (dk_at dksX3_quick_5 16 rfl rfl)
theorem dX3_quick_135 : decode cX3_quick 135 = .ok (.iaload, 1) := dk_46 (dk_at dksX3_quick_5 18 rfl rfl)
theorem dX3_quick_136 : decode cX3_quick 136 = .ok (.aload_n 0, 1) := dk_42 (dk_at dksX3_quick_5 19 rfl rfl)
theorem dX3_quick_137 : decode cX3_quick 137 = .ok (.getfield 56, 3) := dk_180 0 56 (dk_at dksX3_quick_5 20 rfl rfl)
theorem dX3_quick_140 : decode cX3_quick 140 = .ok (.iload_n 3, 1) := dk_29 (dk_at dksX3_quick_5 23 rfl rfl)
theorem dX3_quick_141 : decode cX3_quick 141 = .ok (.iaload, 1) := dk_46 (dk_at dksX3_quick_6 0 rfl rfl)
theorem dX3_quick_142 : decode cX3_quick 142 = .ok (.if_icmp .ne 14, 3) := dk_160 0 14 (dk_at dksX3_quick_6 1 rfl rfl)
theorem dX3_quick_145 : decode cX3_quick 145 = .ok (.iload 5, 2) := dk_21 5 (dk_at dksX3_quick_6 4 rfl rfl)
theorem dX3_quick_147 : decode cX3_quick 147 = .ok (.iload 6, 2) := dk_21 6 (dk_at dksX3_quick_6 6 rfl rfl)
theorem dX3_quick_149 : decode cX3_quick 149 = .ok (.if_icmp .ge 7, 3) := dk_162 0 7 (dk_at dksX3_quick_6 8 rfl rfl)
theorem dX3_quick_152 : decode cX3_quick 152 = .ok (.iconst 1, 1) := dk_4 (dk_at dksX3_quick_6 11 rfl rfl)
theorem dX3_quick_153 : decode cX3_quick 153 = .ok (.goto 4, 3) := dk_167 0 4 (dk_at dksX3_quick_6 12 rfl rfl)
theorem dX3_quick_156 : decode cX3_quick 156 = .ok (.iconst 0, 1) := dk_3 (dk_at dksX3_quick_6 15 rfl rfl)
theorem dX3_quick_157 : decode cX3_quick 157 = .ok (.istore 7, 2) := dk_54 7 (dk_at dksX3_quick_6 16 rfl rfl)
theorem dX3_quick_159 : decode cX3_quick 159 = .ok (.iload 7, 2) := dk_21 7 (dk_at dksX3_quick_6 18 rfl rfl)
theorem dX3_quick_161 : decode cX3_quick 161 = .ok (.ifCond .eq 8, 3) := dk_153 0 8 (dk_at dksX3_quick_6 20 rfl rfl)
theorem dX3_quick_164 : decode cX3_quick 164 = .ok (.iload 4, 2) := dk_21 4 (dk_at dksX3_quick_7 0 rfl rfl)
theorem dX3_quick_166 : decode cX3_quick 166 = .ok (.goto 4, 3) := dk_167 0 4 (dk_at dksX3_quick_7 2 rfl rfl)
theorem dX3_quick_169 : decode cX3_quick 169 = .ok (.iload_n 3, 1) := dk_29 (dk_at dksX3_quick_7 5 rfl rfl)
theorem dX3_quick_170 : decode cX3_quick 170 = .ok (.istore_n 3, 1) := dk_62 (dk_at dksX3_quick_7 6 rfl rfl)
theorem dX3_quick_171 : decode cX3_quick 171 = .ok (.iinc 4 1, 3) := dk_132 4 1 (dk_at dksX3_quick_7 7 rfl rfl)
theorem dX3_quick_174 : decode cX3_quick 174 = .ok (.goto (-136), 3) := dk_167 255 120 (dk_at dksX3_quick_7 10 rfl rfl)
theorem dX3_quick_177 : decode cX3_quick 177 = .ok (.iload_n 3, 1) := dk_29 (dk_at dksX3_quick_7 13 rfl rfl)
theorem dX3_quick_178 : decode cX3_quick 178 = .ok (.ireturn, 1) := dk_172 (dk_at dksX3_quick_7 14 rfl rfl)
abbrev cX3_struck : ByteArray := prog_15_method_51_code
def yX3_struck : MethodName := ⟨RX3, "struck", "(III)I"⟩
def dkwX3_struck_4 : List UInt8 := [167, 255, 220, 21, 5, 172]
abbrev dktX3_struck_4 : List UInt8 := dkwX3_struck_4 ++ []
def dkwX3_struck_3 : List UInt8 := [21, 6, 182, 1, 16, 154, 0, 10, 4, 21, 6, 120, 167, 0, 4, 3, 128, 54, 5, 132, 6, 1]
abbrev dktX3_struck_3 : List UInt8 := dkwX3_struck_3 ++ dktX3_struck_4
def dkwX3_struck_2 : List UInt8 := [21, 4, 172, 3, 54, 5, 3, 54, 6, 21, 6, 42, 180, 0, 182, 162, 0, 33, 21, 5, 42, 27, 28]
abbrev dktX3_struck_2 : List UInt8 := dkwX3_struck_2 ++ dktX3_struck_3
def dkwX3_struck_1 : List UInt8 := [154, 0, 6, 18, 72, 172, 42, 27, 28, 2, 182, 1, 16, 54, 4, 29, 153, 0, 8, 21, 4, 154, 0, 6]
abbrev dktX3_struck_1 : List UInt8 := dkwX3_struck_1 ++ dktX3_struck_2
def dkwX3_struck_0 : List UInt8 := [27, 3, 16, 8, 184, 0, 68, 153, 0, 20, 42, 28, 182, 0, 243, 153, 0, 12, 29, 3, 4, 184, 0, 68]
abbrev dktX3_struck_0 : List UInt8 := dkwX3_struck_0 ++ dktX3_struck_1
theorem dksX3_struck_0 : cX3_struck.data.toList.drop 0 = dktX3_struck_0 := by decide +kernel
theorem dksX3_struck_1 : cX3_struck.data.toList.drop 24 = dktX3_struck_1 := dk_seg dksX3_struck_0 24 rfl rfl
theorem dksX3_struck_2 : cX3_struck.data.toList.drop 48 = dktX3_struck_2 := dk_seg dksX3_struck_1 24 rfl rfl
theorem dksX3_struck_3 : cX3_struck.data.toList.drop 71 = dktX3_struck_3 := dk_seg dksX3_struck_2 23 rfl rfl
theorem dksX3_struck_4 : cX3_struck.data.toList.drop 93 = dktX3_struck_4 := dk_seg dksX3_struck_3 22 rfl rfl
theorem dX3_struck_0 : decode cX3_struck 0 = .ok (.iload_n 1, 1) := dk_27 (dk_at dksX3_struck_0 0 rfl rfl)
theorem dX3_struck_1 : decode cX3_struck 1 = .ok (.iconst 0, 1) := dk_3 (dk_at dksX3_struck_0 1 rfl rfl)
theorem dX3_struck_2 : decode cX3_struck 2 = .ok (.bipush 8, 2) := dk_16 8 (dk_at dksX3_struck_0 2 rfl rfl)
theorem dX3_struck_4 : decode cX3_struck 4 = .ok (.invokestatic 68, 3) := dk_184 0 68 (dk_at dksX3_struck_0 4 rfl rfl)
theorem dX3_struck_7 : decode cX3_struck 7 = .ok (.ifCond .eq 20, 3) := dk_153 0 20 (dk_at dksX3_struck_0 7 rfl rfl)
theorem dX3_struck_10 : decode cX3_struck 10 = .ok (.aload_n 0, 1) := dk_42 (dk_at dksX3_struck_0 10 rfl rfl)
theorem dX3_struck_11 : decode cX3_struck 11 = .ok (.iload_n 2, 1) := dk_28 (dk_at dksX3_struck_0 11 rfl rfl)
theorem dX3_struck_12 : decode cX3_struck 12 = .ok (.invokevirtual 243, 3) := dk_182 0 243 (dk_at dksX3_struck_0 12 rfl rfl)
theorem dX3_struck_15 : decode cX3_struck 15 = .ok (.ifCond .eq 12, 3) := dk_153 0 12 (dk_at dksX3_struck_0 15 rfl rfl)
theorem dX3_struck_18 : decode cX3_struck 18 = .ok (.iload_n 3, 1) := dk_29 (dk_at dksX3_struck_0 18 rfl rfl)
theorem dX3_struck_19 : decode cX3_struck 19 = .ok (.iconst 0, 1) := dk_3 (dk_at dksX3_struck_0 19 rfl rfl)
theorem dX3_struck_20 : decode cX3_struck 20 = .ok (.iconst 1, 1) := dk_4 (dk_at dksX3_struck_0 20 rfl rfl)
theorem dX3_struck_21 : decode cX3_struck 21 = .ok (.invokestatic 68, 3) := dk_184 0 68 (dk_at dksX3_struck_0 21 rfl rfl)
theorem dX3_struck_24 : decode cX3_struck 24 = .ok (.ifCond .ne 6, 3) := dk_154 0 6 (dk_at dksX3_struck_1 0 rfl rfl)
theorem dX3_struck_27 : decode cX3_struck 27 = .ok (.ldc 72, 2) := dk_18 72 (dk_at dksX3_struck_1 3 rfl rfl)
theorem dX3_struck_29 : decode cX3_struck 29 = .ok (.ireturn, 1) := dk_172 (dk_at dksX3_struck_1 5 rfl rfl)
theorem dX3_struck_30 : decode cX3_struck 30 = .ok (.aload_n 0, 1) := dk_42 (dk_at dksX3_struck_1 6 rfl rfl)
theorem dX3_struck_31 : decode cX3_struck 31 = .ok (.iload_n 1, 1) := dk_27 (dk_at dksX3_struck_1 7 rfl rfl)
theorem dX3_struck_32 : decode cX3_struck 32 = .ok (.iload_n 2, 1) := dk_28 (dk_at dksX3_struck_1 8 rfl rfl)
theorem dX3_struck_33 : decode cX3_struck 33 = .ok (.iconst (-1), 1) := dk_2 (dk_at dksX3_struck_1 9 rfl rfl)
theorem dX3_struck_34 : decode cX3_struck 34 = .ok (.invokevirtual 272, 3) := dk_182 1 16 (dk_at dksX3_struck_1 10 rfl rfl)
theorem dX3_struck_37 : decode cX3_struck 37 = .ok (.istore 4, 2) := dk_54 4 (dk_at dksX3_struck_1 13 rfl rfl)
theorem dX3_struck_39 : decode cX3_struck 39 = .ok (.iload_n 3, 1) := dk_29 (dk_at dksX3_struck_1 15 rfl rfl)
theorem dX3_struck_40 : decode cX3_struck 40 = .ok (.ifCond .eq 8, 3) := dk_153 0 8 (dk_at dksX3_struck_1 16 rfl rfl)
theorem dX3_struck_43 : decode cX3_struck 43 = .ok (.iload 4, 2) := dk_21 4 (dk_at dksX3_struck_1 19 rfl rfl)
theorem dX3_struck_45 : decode cX3_struck 45 = .ok (.ifCond .ne 6, 3) := dk_154 0 6 (dk_at dksX3_struck_1 21 rfl rfl)
theorem dX3_struck_48 : decode cX3_struck 48 = .ok (.iload 4, 2) := dk_21 4 (dk_at dksX3_struck_2 0 rfl rfl)
theorem dX3_struck_50 : decode cX3_struck 50 = .ok (.ireturn, 1) := dk_172 (dk_at dksX3_struck_2 2 rfl rfl)
theorem dX3_struck_51 : decode cX3_struck 51 = .ok (.iconst 0, 1) := dk_3 (dk_at dksX3_struck_2 3 rfl rfl)
theorem dX3_struck_52 : decode cX3_struck 52 = .ok (.istore 5, 2) := dk_54 5 (dk_at dksX3_struck_2 4 rfl rfl)
theorem dX3_struck_54 : decode cX3_struck 54 = .ok (.iconst 0, 1) := dk_3 (dk_at dksX3_struck_2 6 rfl rfl)
theorem dX3_struck_55 : decode cX3_struck 55 = .ok (.istore 6, 2) := dk_54 6 (dk_at dksX3_struck_2 7 rfl rfl)
theorem dX3_struck_57 : decode cX3_struck 57 = .ok (.iload 6, 2) := dk_21 6 (dk_at dksX3_struck_2 9 rfl rfl)
theorem dX3_struck_59 : decode cX3_struck 59 = .ok (.aload_n 0, 1) := dk_42 (dk_at dksX3_struck_2 11 rfl rfl)
theorem dX3_struck_60 : decode cX3_struck 60 = .ok (.getfield 182, 3) := dk_180 0 182 (dk_at dksX3_struck_2 12 rfl rfl)
theorem dX3_struck_63 : decode cX3_struck 63 = .ok (.if_icmp .ge 33, 3) := dk_162 0 33 (dk_at dksX3_struck_2 15 rfl rfl)
theorem dX3_struck_66 : decode cX3_struck 66 = .ok (.iload 5, 2) := dk_21 5 (dk_at dksX3_struck_2 18 rfl rfl)
theorem dX3_struck_68 : decode cX3_struck 68 = .ok (.aload_n 0, 1) := dk_42 (dk_at dksX3_struck_2 20 rfl rfl)
theorem dX3_struck_69 : decode cX3_struck 69 = .ok (.iload_n 1, 1) := dk_27 (dk_at dksX3_struck_2 21 rfl rfl)
theorem dX3_struck_70 : decode cX3_struck 70 = .ok (.iload_n 2, 1) := dk_28 (dk_at dksX3_struck_2 22 rfl rfl)
theorem dX3_struck_71 : decode cX3_struck 71 = .ok (.iload 6, 2) := dk_21 6 (dk_at dksX3_struck_3 0 rfl rfl)
theorem dX3_struck_73 : decode cX3_struck 73 = .ok (.invokevirtual 272, 3) := dk_182 1 16 (dk_at dksX3_struck_3 2 rfl rfl)
theorem dX3_struck_76 : decode cX3_struck 76 = .ok (.ifCond .ne 10, 3) := dk_154 0 10 (dk_at dksX3_struck_3 5 rfl rfl)
theorem dX3_struck_79 : decode cX3_struck 79 = .ok (.iconst 1, 1) := dk_4 (dk_at dksX3_struck_3 8 rfl rfl)
theorem dX3_struck_80 : decode cX3_struck 80 = .ok (.iload 6, 2) := dk_21 6 (dk_at dksX3_struck_3 9 rfl rfl)
theorem dX3_struck_82 : decode cX3_struck 82 = .ok (.ishl, 1) := dk_120 (dk_at dksX3_struck_3 11 rfl rfl)
theorem dX3_struck_83 : decode cX3_struck 83 = .ok (.goto 4, 3) := dk_167 0 4 (dk_at dksX3_struck_3 12 rfl rfl)
theorem dX3_struck_86 : decode cX3_struck 86 = .ok (.iconst 0, 1) := dk_3 (dk_at dksX3_struck_3 15 rfl rfl)
theorem dX3_struck_87 : decode cX3_struck 87 = .ok (.ior, 1) := dk_128 (dk_at dksX3_struck_3 16 rfl rfl)
theorem dX3_struck_88 : decode cX3_struck 88 = .ok (.istore 5, 2) := dk_54 5 (dk_at dksX3_struck_3 17 rfl rfl)
theorem dX3_struck_90 : decode cX3_struck 90 = .ok (.iinc 6 1, 3) := dk_132 6 1 (dk_at dksX3_struck_3 19 rfl rfl)
theorem dX3_struck_93 : decode cX3_struck 93 = .ok (.goto (-36), 3) := dk_167 255 220 (dk_at dksX3_struck_4 0 rfl rfl)
theorem dX3_struck_96 : decode cX3_struck 96 = .ok (.iload 5, 2) := dk_21 5 (dk_at dksX3_struck_4 3 rfl rfl)
theorem dX3_struck_98 : decode cX3_struck 98 = .ok (.ireturn, 1) := dk_172 (dk_at dksX3_struck_4 5 rfl rfl)
abbrev cX3_rowsTo : ByteArray := prog_15_method_50_code
def yX3_rowsTo : MethodName := ⟨RX3, "rowsTo", "(III)I"⟩
def dkwX3_rowsTo_10 : List UInt8 := [132, 6, 1, 167, 255, 218, 42, 21, 4, 182, 0, 223, 21, 5, 172]
abbrev dktX3_rowsTo_10 : List UInt8 := dkwX3_rowsTo_10 ++ []
def dkwX3_rowsTo_9 : List UInt8 := [21, 6, 182, 0, 236, 28, 160, 0, 13, 42, 180, 0, 44, 21, 6, 46, 167, 0, 4, 3, 96, 54, 5]
abbrev dktX3_rowsTo_9 : List UInt8 := dkwX3_rowsTo_9 ++ dktX3_rowsTo_10
def dkwX3_rowsTo_8 : List UInt8 := [132, 5, 1, 167, 255, 110, 3, 54, 5, 3, 54, 6, 21, 6, 42, 182, 0, 233, 162, 0, 35, 21, 5, 42]
abbrev dktX3_rowsTo_8 : List UInt8 := dkwX3_rowsTo_8 ++ dktX3_rowsTo_9
def dkwX3_rowsTo_7 : List UInt8 := [162, 0, 23, 42, 180, 0, 44, 21, 6, 42, 180, 0, 47, 21, 6, 46, 79, 132, 6, 1, 167, 255, 230]
abbrev dktX3_rowsTo_7 : List UInt8 := dkwX3_rowsTo_7 ++ dktX3_rowsTo_8
def dkwX3_rowsTo_6 : List UInt8 := [96, 79, 132, 7, 1, 167, 255, 201, 132, 6, 1, 167, 255, 183, 3, 54, 6, 21, 6, 42, 182, 0, 233]
abbrev dktX3_rowsTo_6 : List UInt8 := dkwX3_rowsTo_6 ++ dktX3_rowsTo_7
def dkwX3_rowsTo_5 : List UInt8 := [21, 7, 182, 0, 239, 92, 46, 21, 7, 29, 160, 0, 7, 3, 167, 0, 10, 42, 180, 0, 44, 21, 6, 46]
abbrev dktX3_rowsTo_5 : List UInt8 := dkwX3_rowsTo_5 ++ dktX3_rowsTo_6
def dkwX3_rowsTo_4 : List UInt8 := [180, 0, 182, 162, 0, 52, 42, 180, 0, 44, 21, 6, 46, 158, 0, 42, 42, 180, 0, 47, 42, 21, 6]
abbrev dktX3_rowsTo_4 : List UInt8 := dkwX3_rowsTo_4 ++ dktX3_rowsTo_5
def dkwX3_rowsTo_3 : List UInt8 := [132, 6, 1, 167, 255, 236, 3, 54, 6, 21, 6, 42, 182, 0, 233, 162, 0, 70, 3, 54, 7, 21, 7, 42]
abbrev dktX3_rowsTo_3 : List UInt8 := dkwX3_rowsTo_3 ++ dktX3_rowsTo_4
def dkwX3_rowsTo_2 : List UInt8 := [162, 0, 146, 3, 54, 6, 21, 6, 42, 182, 0, 233, 162, 0, 17, 42, 180, 0, 47, 21, 6, 3, 79]
abbrev dktX3_rowsTo_2 : List UInt8 := dkwX3_rowsTo_2 ++ dktX3_rowsTo_3
def dkwX3_rowsTo_1 : List UInt8 := [3, 79, 132, 5, 1, 167, 255, 236, 42, 180, 0, 44, 21, 4, 4, 79, 3, 54, 5, 21, 5, 27]
abbrev dktX3_rowsTo_1 : List UInt8 := dkwX3_rowsTo_1 ++ dktX3_rowsTo_2
def dkwX3_rowsTo_0 : List UInt8 := [42, 182, 0, 229, 54, 4, 3, 54, 5, 21, 5, 42, 182, 0, 233, 162, 0, 17, 42, 180, 0, 44, 21, 5]
abbrev dktX3_rowsTo_0 : List UInt8 := dkwX3_rowsTo_0 ++ dktX3_rowsTo_1
theorem dksX3_rowsTo_0 : cX3_rowsTo.data.toList.drop 0 = dktX3_rowsTo_0 := by decide +kernel
theorem dksX3_rowsTo_1 : cX3_rowsTo.data.toList.drop 24 = dktX3_rowsTo_1 := dk_seg dksX3_rowsTo_0 24 rfl rfl
theorem dksX3_rowsTo_2 : cX3_rowsTo.data.toList.drop 46 = dktX3_rowsTo_2 := dk_seg dksX3_rowsTo_1 22 rfl rfl
theorem dksX3_rowsTo_3 : cX3_rowsTo.data.toList.drop 69 = dktX3_rowsTo_3 := dk_seg dksX3_rowsTo_2 23 rfl rfl
theorem dksX3_rowsTo_4 : cX3_rowsTo.data.toList.drop 93 = dktX3_rowsTo_4 := dk_seg dksX3_rowsTo_3 24 rfl rfl
theorem dksX3_rowsTo_5 : cX3_rowsTo.data.toList.drop 116 = dktX3_rowsTo_5 := dk_seg dksX3_rowsTo_4 23 rfl rfl
theorem dksX3_rowsTo_6 : cX3_rowsTo.data.toList.drop 140 = dktX3_rowsTo_6 := dk_seg dksX3_rowsTo_5 24 rfl rfl
theorem dksX3_rowsTo_7 : cX3_rowsTo.data.toList.drop 163 = dktX3_rowsTo_7 := dk_seg dksX3_rowsTo_6 23 rfl rfl
theorem dksX3_rowsTo_8 : cX3_rowsTo.data.toList.drop 186 = dktX3_rowsTo_8 := dk_seg dksX3_rowsTo_7 23 rfl rfl
theorem dksX3_rowsTo_9 : cX3_rowsTo.data.toList.drop 210 = dktX3_rowsTo_9 := dk_seg dksX3_rowsTo_8 24 rfl rfl
theorem dksX3_rowsTo_10 : cX3_rowsTo.data.toList.drop 233 = dktX3_rowsTo_10 := dk_seg dksX3_rowsTo_9 23 rfl rfl
theorem dX3_rowsTo_0 : decode cX3_rowsTo 0 = .ok (.aload_n 0, 1) := dk_42 (dk_at dksX3_rowsTo_0 0 rfl rfl)
theorem dX3_rowsTo_1 : decode cX3_rowsTo 1 = .ok (.invokevirtual 229, 3) := dk_182 0 229 (dk_at dksX3_rowsTo_0 1 rfl rfl)
theorem dX3_rowsTo_4 : decode cX3_rowsTo 4 = .ok (.istore 4, 2) := dk_54 4 (dk_at dksX3_rowsTo_0 4 rfl rfl)
theorem dX3_rowsTo_6 : decode cX3_rowsTo 6 = .ok (.iconst 0, 1) := dk_3 (dk_at dksX3_rowsTo_0 6 rfl rfl)
theorem dX3_rowsTo_7 : decode cX3_rowsTo 7 = .ok (.istore 5, 2) := dk_54 5 (dk_at dksX3_rowsTo_0 7 rfl rfl)
theorem dX3_rowsTo_9 : decode cX3_rowsTo 9 = .ok (.iload 5, 2) := dk_21 5 (dk_at dksX3_rowsTo_0 9 rfl rfl)
theorem dX3_rowsTo_11 : decode cX3_rowsTo 11 = .ok (.aload_n 0, 1) := dk_42 (dk_at dksX3_rowsTo_0 11 rfl rfl)
theorem dX3_rowsTo_12 : decode cX3_rowsTo 12 = .ok (.invokevirtual 233, 3) := dk_182 0 233 (dk_at dksX3_rowsTo_0 12 rfl rfl)
theorem dX3_rowsTo_15 : decode cX3_rowsTo 15 = .ok (.if_icmp .ge 17, 3) := dk_162 0 17 (dk_at dksX3_rowsTo_0 15 rfl rfl)
theorem dX3_rowsTo_18 : decode cX3_rowsTo 18 = .ok (.aload_n 0, 1) := dk_42 (dk_at dksX3_rowsTo_0 18 rfl rfl)
theorem dX3_rowsTo_19 : decode cX3_rowsTo 19 = .ok (.getfield 44, 3) := dk_180 0 44 (dk_at dksX3_rowsTo_0 19 rfl rfl)
theorem dX3_rowsTo_22 : decode cX3_rowsTo 22 = .ok (.iload 5, 2) := dk_21 5 (dk_at dksX3_rowsTo_0 22 rfl rfl)
theorem dX3_rowsTo_24 : decode cX3_rowsTo 24 = .ok (.iconst 0, 1) := dk_3 (dk_at dksX3_rowsTo_1 0 rfl rfl)
theorem dX3_rowsTo_25 : decode cX3_rowsTo 25 = .ok (.iastore, 1) := dk_79 (dk_at dksX3_rowsTo_1 1 rfl rfl)
theorem dX3_rowsTo_26 : decode cX3_rowsTo 26 = .ok (.iinc 5 1, 3) := dk_132 5 1 (dk_at dksX3_rowsTo_1 2 rfl rfl)
theorem dX3_rowsTo_29 : decode cX3_rowsTo 29 = .ok (.goto (-20), 3) := dk_167 255 236 (dk_at dksX3_rowsTo_1 5 rfl rfl)
theorem dX3_rowsTo_32 : decode cX3_rowsTo 32 = .ok (.aload_n 0, 1) := dk_42 (dk_at dksX3_rowsTo_1 8 rfl rfl)
theorem dX3_rowsTo_33 : decode cX3_rowsTo 33 = .ok (.getfield 44, 3) := dk_180 0 44 (dk_at dksX3_rowsTo_1 9 rfl rfl)
theorem dX3_rowsTo_36 : decode cX3_rowsTo 36 = .ok (.iload 4, 2) := dk_21 4 (dk_at dksX3_rowsTo_1 12 rfl rfl)
theorem dX3_rowsTo_38 : decode cX3_rowsTo 38 = .ok (.iconst 1, 1) := dk_4 (dk_at dksX3_rowsTo_1 14 rfl rfl)
theorem dX3_rowsTo_39 : decode cX3_rowsTo 39 = .ok (.iastore, 1) := dk_79 (dk_at dksX3_rowsTo_1 15 rfl rfl)
theorem dX3_rowsTo_40 : decode cX3_rowsTo 40 = .ok (.iconst 0, 1) := dk_3 (dk_at dksX3_rowsTo_1 16 rfl rfl)
theorem dX3_rowsTo_41 : decode cX3_rowsTo 41 = .ok (.istore 5, 2) := dk_54 5 (dk_at dksX3_rowsTo_1 17 rfl rfl)
theorem dX3_rowsTo_43 : decode cX3_rowsTo 43 = .ok (.iload 5, 2) := dk_21 5 (dk_at dksX3_rowsTo_1 19 rfl rfl)
theorem dX3_rowsTo_45 : decode cX3_rowsTo 45 = .ok (.iload_n 1, 1) := dk_27 (dk_at dksX3_rowsTo_1 21 rfl rfl)
theorem dX3_rowsTo_46 : decode cX3_rowsTo 46 = .ok (.if_icmp .ge 146, 3) := dk_162 0 146 (dk_at dksX3_rowsTo_2 0 rfl rfl)
theorem dX3_rowsTo_49 : decode cX3_rowsTo 49 = .ok (.iconst 0, 1) := dk_3 (dk_at dksX3_rowsTo_2 3 rfl rfl)
theorem dX3_rowsTo_50 : decode cX3_rowsTo 50 = .ok (.istore 6, 2) := dk_54 6 (dk_at dksX3_rowsTo_2 4 rfl rfl)
theorem dX3_rowsTo_52 : decode cX3_rowsTo 52 = .ok (.iload 6, 2) := dk_21 6 (dk_at dksX3_rowsTo_2 6 rfl rfl)
theorem dX3_rowsTo_54 : decode cX3_rowsTo 54 = .ok (.aload_n 0, 1) := dk_42 (dk_at dksX3_rowsTo_2 8 rfl rfl)
theorem dX3_rowsTo_55 : decode cX3_rowsTo 55 = .ok (.invokevirtual 233, 3) := dk_182 0 233 (dk_at dksX3_rowsTo_2 9 rfl rfl)
theorem dX3_rowsTo_58 : decode cX3_rowsTo 58 = .ok (.if_icmp .ge 17, 3) := dk_162 0 17 (dk_at dksX3_rowsTo_2 12 rfl rfl)
theorem dX3_rowsTo_61 : decode cX3_rowsTo 61 = .ok (.aload_n 0, 1) := dk_42 (dk_at dksX3_rowsTo_2 15 rfl rfl)
theorem dX3_rowsTo_62 : decode cX3_rowsTo 62 = .ok (.getfield 47, 3) := dk_180 0 47 (dk_at dksX3_rowsTo_2 16 rfl rfl)
theorem dX3_rowsTo_65 : decode cX3_rowsTo 65 = .ok (.iload 6, 2) := dk_21 6 (dk_at dksX3_rowsTo_2 19 rfl rfl)
theorem dX3_rowsTo_67 : decode cX3_rowsTo 67 = .ok (.iconst 0, 1) := dk_3 (dk_at dksX3_rowsTo_2 21 rfl rfl)
theorem dX3_rowsTo_68 : decode cX3_rowsTo 68 = .ok (.iastore, 1) := dk_79 (dk_at dksX3_rowsTo_2 22 rfl rfl)
theorem dX3_rowsTo_69 : decode cX3_rowsTo 69 = .ok (.iinc 6 1, 3) := dk_132 6 1 (dk_at dksX3_rowsTo_3 0 rfl rfl)
theorem dX3_rowsTo_72 : decode cX3_rowsTo 72 = .ok (.goto (-20), 3) := dk_167 255 236 (dk_at dksX3_rowsTo_3 3 rfl rfl)
theorem dX3_rowsTo_75 : decode cX3_rowsTo 75 = .ok (.iconst 0, 1) := dk_3 (dk_at dksX3_rowsTo_3 6 rfl rfl)
theorem dX3_rowsTo_76 : decode cX3_rowsTo 76 = .ok (.istore 6, 2) := dk_54 6 (dk_at dksX3_rowsTo_3 7 rfl rfl)
theorem dX3_rowsTo_78 : decode cX3_rowsTo 78 = .ok (.iload 6, 2) := dk_21 6 (dk_at dksX3_rowsTo_3 9 rfl rfl)
theorem dX3_rowsTo_80 : decode cX3_rowsTo 80 = .ok (.aload_n 0, 1) := dk_42 (dk_at dksX3_rowsTo_3 11 rfl rfl)
theorem dX3_rowsTo_81 : decode cX3_rowsTo 81 = .ok (.invokevirtual 233, 3) := dk_182 0 233 (dk_at dksX3_rowsTo_3 12 rfl rfl)
theorem dX3_rowsTo_84 : decode cX3_rowsTo 84 = .ok (.if_icmp .ge 70, 3) := dk_162 0 70 (dk_at dksX3_rowsTo_3 15 rfl rfl)
theorem dX3_rowsTo_87 : decode cX3_rowsTo 87 = .ok (.iconst 0, 1) := dk_3 (dk_at dksX3_rowsTo_3 18 rfl rfl)
theorem dX3_rowsTo_88 : decode cX3_rowsTo 88 = .ok (.istore 7, 2) := dk_54 7 (dk_at dksX3_rowsTo_3 19 rfl rfl)
theorem dX3_rowsTo_90 : decode cX3_rowsTo 90 = .ok (.iload 7, 2) := dk_21 7 (dk_at dksX3_rowsTo_3 21 rfl rfl)
theorem dX3_rowsTo_92 : decode cX3_rowsTo 92 = .ok (.aload_n 0, 1) := dk_42 (dk_at dksX3_rowsTo_3 23 rfl rfl)
theorem dX3_rowsTo_93 : decode cX3_rowsTo 93 = .ok (.getfield 182, 3) := dk_180 0 182 (dk_at dksX3_rowsTo_4 0 rfl rfl)
theorem dX3_rowsTo_96 : decode cX3_rowsTo 96 = .ok (.if_icmp .ge 52, 3) := dk_162 0 52 (dk_at dksX3_rowsTo_4 3 rfl rfl)
theorem dX3_rowsTo_99 : decode cX3_rowsTo 99 = .ok (.aload_n 0, 1) := dk_42 (dk_at dksX3_rowsTo_4 6 rfl rfl)
theorem dX3_rowsTo_100 : decode cX3_rowsTo 100 = .ok (.getfield 44, 3) := dk_180 0 44 (dk_at dksX3_rowsTo_4 7 rfl rfl)
theorem dX3_rowsTo_103 : decode cX3_rowsTo 103 = .ok (.iload 6, 2) := dk_21 6 (dk_at dksX3_rowsTo_4 10 rfl rfl)
theorem dX3_rowsTo_105 : decode cX3_rowsTo 105 = .ok (.iaload, 1) := dk_46 (dk_at dksX3_rowsTo_4 12 rfl rfl)
theorem dX3_rowsTo_106 : decode cX3_rowsTo 106 = .ok (.ifCond .le 42, 3) := dk_158 0 42 (dk_at dksX3_rowsTo_4 13 rfl rfl)
theorem dX3_rowsTo_109 : decode cX3_rowsTo 109 = .ok (.aload_n 0, 1) := dk_42 (dk_at dksX3_rowsTo_4 16 rfl rfl)
theorem dX3_rowsTo_110 : decode cX3_rowsTo 110 = .ok (.getfield 47, 3) := dk_180 0 47 (dk_at dksX3_rowsTo_4 17 rfl rfl)
theorem dX3_rowsTo_113 : decode cX3_rowsTo 113 = .ok (.aload_n 0, 1) := dk_42 (dk_at dksX3_rowsTo_4 20 rfl rfl)
theorem dX3_rowsTo_114 : decode cX3_rowsTo 114 = .ok (.iload 6, 2) := dk_21 6 (dk_at dksX3_rowsTo_4 21 rfl rfl)
theorem dX3_rowsTo_116 : decode cX3_rowsTo 116 = .ok (.iload 7, 2) := dk_21 7 (dk_at dksX3_rowsTo_5 0 rfl rfl)
theorem dX3_rowsTo_118 : decode cX3_rowsTo 118 = .ok (.invokevirtual 239, 3) := dk_182 0 239 (dk_at dksX3_rowsTo_5 2 rfl rfl)
theorem dX3_rowsTo_121 : decode cX3_rowsTo 121 = .ok (.dup2, 1) := dk_92 (dk_at dksX3_rowsTo_5 5 rfl rfl)
theorem dX3_rowsTo_122 : decode cX3_rowsTo 122 = .ok (.iaload, 1) := dk_46 (dk_at dksX3_rowsTo_5 6 rfl rfl)
theorem dX3_rowsTo_123 : decode cX3_rowsTo 123 = .ok (.iload 7, 2) := dk_21 7 (dk_at dksX3_rowsTo_5 7 rfl rfl)
theorem dX3_rowsTo_125 : decode cX3_rowsTo 125 = .ok (.iload_n 3, 1) := dk_29 (dk_at dksX3_rowsTo_5 9 rfl rfl)
theorem dX3_rowsTo_126 : decode cX3_rowsTo 126 = .ok (.if_icmp .ne 7, 3) := dk_160 0 7 (dk_at dksX3_rowsTo_5 10 rfl rfl)
theorem dX3_rowsTo_129 : decode cX3_rowsTo 129 = .ok (.iconst 0, 1) := dk_3 (dk_at dksX3_rowsTo_5 13 rfl rfl)
theorem dX3_rowsTo_130 : decode cX3_rowsTo 130 = .ok (.goto 10, 3) := dk_167 0 10 (dk_at dksX3_rowsTo_5 14 rfl rfl)
theorem dX3_rowsTo_133 : decode cX3_rowsTo 133 = .ok (.aload_n 0, 1) := dk_42 (dk_at dksX3_rowsTo_5 17 rfl rfl)
theorem dX3_rowsTo_134 : decode cX3_rowsTo 134 = .ok (.getfield 44, 3) := dk_180 0 44 (dk_at dksX3_rowsTo_5 18 rfl rfl)
theorem dX3_rowsTo_137 : decode cX3_rowsTo 137 = .ok (.iload 6, 2) := dk_21 6 (dk_at dksX3_rowsTo_5 21 rfl rfl)
theorem dX3_rowsTo_139 : decode cX3_rowsTo 139 = .ok (.iaload, 1) := dk_46 (dk_at dksX3_rowsTo_5 23 rfl rfl)
theorem dX3_rowsTo_140 : decode cX3_rowsTo 140 = .ok (.iadd, 1) := dk_96 (dk_at dksX3_rowsTo_6 0 rfl rfl)
theorem dX3_rowsTo_141 : decode cX3_rowsTo 141 = .ok (.iastore, 1) := dk_79 (dk_at dksX3_rowsTo_6 1 rfl rfl)
theorem dX3_rowsTo_142 : decode cX3_rowsTo 142 = .ok (.iinc 7 1, 3) := dk_132 7 1 (dk_at dksX3_rowsTo_6 2 rfl rfl)
theorem dX3_rowsTo_145 : decode cX3_rowsTo 145 = .ok (.goto (-55), 3) := dk_167 255 201 (dk_at dksX3_rowsTo_6 5 rfl rfl)
theorem dX3_rowsTo_148 : decode cX3_rowsTo 148 = .ok (.iinc 6 1, 3) := dk_132 6 1 (dk_at dksX3_rowsTo_6 8 rfl rfl)
theorem dX3_rowsTo_151 : decode cX3_rowsTo 151 = .ok (.goto (-73), 3) := dk_167 255 183 (dk_at dksX3_rowsTo_6 11 rfl rfl)
theorem dX3_rowsTo_154 : decode cX3_rowsTo 154 = .ok (.iconst 0, 1) := dk_3 (dk_at dksX3_rowsTo_6 14 rfl rfl)
theorem dX3_rowsTo_155 : decode cX3_rowsTo 155 = .ok (.istore 6, 2) := dk_54 6 (dk_at dksX3_rowsTo_6 15 rfl rfl)
theorem dX3_rowsTo_157 : decode cX3_rowsTo 157 = .ok (.iload 6, 2) := dk_21 6 (dk_at dksX3_rowsTo_6 17 rfl rfl)
theorem dX3_rowsTo_159 : decode cX3_rowsTo 159 = .ok (.aload_n 0, 1) := dk_42 (dk_at dksX3_rowsTo_6 19 rfl rfl)
theorem dX3_rowsTo_160 : decode cX3_rowsTo 160 = .ok (.invokevirtual 233, 3) := dk_182 0 233 (dk_at dksX3_rowsTo_6 20 rfl rfl)
theorem dX3_rowsTo_163 : decode cX3_rowsTo 163 = .ok (.if_icmp .ge 23, 3) := dk_162 0 23 (dk_at dksX3_rowsTo_7 0 rfl rfl)
theorem dX3_rowsTo_166 : decode cX3_rowsTo 166 = .ok (.aload_n 0, 1) := dk_42 (dk_at dksX3_rowsTo_7 3 rfl rfl)
theorem dX3_rowsTo_167 : decode cX3_rowsTo 167 = .ok (.getfield 44, 3) := dk_180 0 44 (dk_at dksX3_rowsTo_7 4 rfl rfl)
theorem dX3_rowsTo_170 : decode cX3_rowsTo 170 = .ok (.iload 6, 2) := dk_21 6 (dk_at dksX3_rowsTo_7 7 rfl rfl)
theorem dX3_rowsTo_172 : decode cX3_rowsTo 172 = .ok (.aload_n 0, 1) := dk_42 (dk_at dksX3_rowsTo_7 9 rfl rfl)
theorem dX3_rowsTo_173 : decode cX3_rowsTo 173 = .ok (.getfield 47, 3) := dk_180 0 47 (dk_at dksX3_rowsTo_7 10 rfl rfl)
theorem dX3_rowsTo_176 : decode cX3_rowsTo 176 = .ok (.iload 6, 2) := dk_21 6 (dk_at dksX3_rowsTo_7 13 rfl rfl)
theorem dX3_rowsTo_178 : decode cX3_rowsTo 178 = .ok (.iaload, 1) := dk_46 (dk_at dksX3_rowsTo_7 15 rfl rfl)
theorem dX3_rowsTo_179 : decode cX3_rowsTo 179 = .ok (.iastore, 1) := dk_79 (dk_at dksX3_rowsTo_7 16 rfl rfl)
theorem dX3_rowsTo_180 : decode cX3_rowsTo 180 = .ok (.iinc 6 1, 3) := dk_132 6 1 (dk_at dksX3_rowsTo_7 17 rfl rfl)
theorem dX3_rowsTo_183 : decode cX3_rowsTo 183 = .ok (.goto (-26), 3) := dk_167 255 230 (dk_at dksX3_rowsTo_7 20 rfl rfl)
theorem dX3_rowsTo_186 : decode cX3_rowsTo 186 = .ok (.iinc 5 1, 3) := dk_132 5 1 (dk_at dksX3_rowsTo_8 0 rfl rfl)
theorem dX3_rowsTo_189 : decode cX3_rowsTo 189 = .ok (.goto (-146), 3) := dk_167 255 110 (dk_at dksX3_rowsTo_8 3 rfl rfl)
theorem dX3_rowsTo_192 : decode cX3_rowsTo 192 = .ok (.iconst 0, 1) := dk_3 (dk_at dksX3_rowsTo_8 6 rfl rfl)
theorem dX3_rowsTo_193 : decode cX3_rowsTo 193 = .ok (.istore 5, 2) := dk_54 5 (dk_at dksX3_rowsTo_8 7 rfl rfl)
theorem dX3_rowsTo_195 : decode cX3_rowsTo 195 = .ok (.iconst 0, 1) := dk_3 (dk_at dksX3_rowsTo_8 9 rfl rfl)
theorem dX3_rowsTo_196 : decode cX3_rowsTo 196 = .ok (.istore 6, 2) := dk_54 6 (dk_at dksX3_rowsTo_8 10 rfl rfl)
theorem dX3_rowsTo_198 : decode cX3_rowsTo 198 = .ok (.iload 6, 2) := dk_21 6 (dk_at dksX3_rowsTo_8 12 rfl rfl)
theorem dX3_rowsTo_200 : decode cX3_rowsTo 200 = .ok (.aload_n 0, 1) := dk_42 (dk_at dksX3_rowsTo_8 14 rfl rfl)
theorem dX3_rowsTo_201 : decode cX3_rowsTo 201 = .ok (.invokevirtual 233, 3) := dk_182 0 233 (dk_at dksX3_rowsTo_8 15 rfl rfl)
theorem dX3_rowsTo_204 : decode cX3_rowsTo 204 = .ok (.if_icmp .ge 35, 3) := dk_162 0 35 (dk_at dksX3_rowsTo_8 18 rfl rfl)
theorem dX3_rowsTo_207 : decode cX3_rowsTo 207 = .ok (.iload 5, 2) := dk_21 5 (dk_at dksX3_rowsTo_8 21 rfl rfl)
theorem dX3_rowsTo_209 : decode cX3_rowsTo 209 = .ok (.aload_n 0, 1) := dk_42 (dk_at dksX3_rowsTo_8 23 rfl rfl)
theorem dX3_rowsTo_210 : decode cX3_rowsTo 210 = .ok (.iload 6, 2) := dk_21 6 (dk_at dksX3_rowsTo_9 0 rfl rfl)
theorem dX3_rowsTo_212 : decode cX3_rowsTo 212 = .ok (.invokevirtual 236, 3) := dk_182 0 236 (dk_at dksX3_rowsTo_9 2 rfl rfl)
theorem dX3_rowsTo_215 : decode cX3_rowsTo 215 = .ok (.iload_n 2, 1) := dk_28 (dk_at dksX3_rowsTo_9 5 rfl rfl)
theorem dX3_rowsTo_216 : decode cX3_rowsTo 216 = .ok (.if_icmp .ne 13, 3) := dk_160 0 13 (dk_at dksX3_rowsTo_9 6 rfl rfl)
theorem dX3_rowsTo_219 : decode cX3_rowsTo 219 = .ok (.aload_n 0, 1) := dk_42 (dk_at dksX3_rowsTo_9 9 rfl rfl)
theorem dX3_rowsTo_220 : decode cX3_rowsTo 220 = .ok (.getfield 44, 3) := dk_180 0 44 (dk_at dksX3_rowsTo_9 10 rfl rfl)
theorem dX3_rowsTo_223 : decode cX3_rowsTo 223 = .ok (.iload 6, 2) := dk_21 6 (dk_at dksX3_rowsTo_9 13 rfl rfl)
theorem dX3_rowsTo_225 : decode cX3_rowsTo 225 = .ok (.iaload, 1) := dk_46 (dk_at dksX3_rowsTo_9 15 rfl rfl)
theorem dX3_rowsTo_226 : decode cX3_rowsTo 226 = .ok (.goto 4, 3) := dk_167 0 4 (dk_at dksX3_rowsTo_9 16 rfl rfl)
theorem dX3_rowsTo_229 : decode cX3_rowsTo 229 = .ok (.iconst 0, 1) := dk_3 (dk_at dksX3_rowsTo_9 19 rfl rfl)
theorem dX3_rowsTo_230 : decode cX3_rowsTo 230 = .ok (.iadd, 1) := dk_96 (dk_at dksX3_rowsTo_9 20 rfl rfl)
theorem dX3_rowsTo_231 : decode cX3_rowsTo 231 = .ok (.istore 5, 2) := dk_54 5 (dk_at dksX3_rowsTo_9 21 rfl rfl)
theorem dX3_rowsTo_233 : decode cX3_rowsTo 233 = .ok (.iinc 6 1, 3) := dk_132 6 1 (dk_at dksX3_rowsTo_10 0 rfl rfl)
theorem dX3_rowsTo_236 : decode cX3_rowsTo 236 = .ok (.goto (-38), 3) := dk_167 255 218 (dk_at dksX3_rowsTo_10 3 rfl rfl)
theorem dX3_rowsTo_239 : decode cX3_rowsTo 239 = .ok (.aload_n 0, 1) := dk_42 (dk_at dksX3_rowsTo_10 6 rfl rfl)
theorem dX3_rowsTo_240 : decode cX3_rowsTo 240 = .ok (.iload 4, 2) := dk_21 4 (dk_at dksX3_rowsTo_10 7 rfl rfl)
theorem dX3_rowsTo_242 : decode cX3_rowsTo 242 = .ok (.invokevirtual 223, 3) := dk_182 0 223 (dk_at dksX3_rowsTo_10 9 rfl rfl)
theorem dX3_rowsTo_245 : decode cX3_rowsTo 245 = .ok (.iload 5, 2) := dk_21 5 (dk_at dksX3_rowsTo_10 12 rfl rfl)
theorem dX3_rowsTo_247 : decode cX3_rowsTo 247 = .ok (.ireturn, 1) := dk_172 (dk_at dksX3_rowsTo_10 14 rfl rfl)
abbrev cX3_lost : ByteArray := prog_15_method_55_code
def yX3_lost : MethodName := ⟨RX3, "lost", "(I)I"⟩
def dkwX3_lost_5 : List UInt8 := [21, 4, 172]
abbrev dktX3_lost_5 : List UInt8 := dkwX3_lost_5 ++ []
def dkwX3_lost_4 : List UInt8 := [167, 0, 4, 2, 54, 4, 132, 6, 1, 167, 255, 220, 132, 5, 1, 167, 255, 190, 42, 28, 182, 0, 223]
abbrev dktX3_lost_4 : List UInt8 := dkwX3_lost_4 ++ dktX3_lost_5
def dkwX3_lost_3 : List UInt8 := [162, 0, 36, 21, 4, 2, 160, 0, 30, 42, 21, 6, 21, 5, 27, 28, 182, 1, 32, 153, 0, 8, 21, 5]
abbrev dktX3_lost_3 : List UInt8 := dkwX3_lost_3 ++ dktX3_lost_4
def dkwX3_lost_2 : List UInt8 := [162, 0, 66, 21, 4, 2, 160, 0, 60, 29, 42, 180, 0, 182, 4, 96, 104, 62, 3, 54, 6, 21, 6, 29]
abbrev dktX3_lost_2 : List UInt8 := dkwX3_lost_2 ++ dktX3_lost_3
def dkwX3_lost_1 : List UInt8 := [162, 0, 6, 18, 72, 172, 42, 182, 0, 229, 61, 4, 62, 2, 54, 4, 4, 54, 5, 21, 5, 8]
abbrev dktX3_lost_1 : List UInt8 := dkwX3_lost_1 ++ dktX3_lost_2
def dkwX3_lost_0 : List UInt8 := [27, 3, 4, 42, 180, 0, 182, 120, 4, 100, 184, 0, 68, 154, 0, 6, 18, 210, 172, 27, 184, 1, 29, 5]
abbrev dktX3_lost_0 : List UInt8 := dkwX3_lost_0 ++ dktX3_lost_1
theorem dksX3_lost_0 : cX3_lost.data.toList.drop 0 = dktX3_lost_0 := by decide +kernel
theorem dksX3_lost_1 : cX3_lost.data.toList.drop 24 = dktX3_lost_1 := dk_seg dksX3_lost_0 24 rfl rfl
theorem dksX3_lost_2 : cX3_lost.data.toList.drop 46 = dktX3_lost_2 := dk_seg dksX3_lost_1 22 rfl rfl
theorem dksX3_lost_3 : cX3_lost.data.toList.drop 70 = dktX3_lost_3 := dk_seg dksX3_lost_2 24 rfl rfl
theorem dksX3_lost_4 : cX3_lost.data.toList.drop 94 = dktX3_lost_4 := dk_seg dksX3_lost_3 24 rfl rfl
theorem dksX3_lost_5 : cX3_lost.data.toList.drop 117 = dktX3_lost_5 := dk_seg dksX3_lost_4 23 rfl rfl
theorem dX3_lost_0 : decode cX3_lost 0 = .ok (.iload_n 1, 1) := dk_27 (dk_at dksX3_lost_0 0 rfl rfl)
theorem dX3_lost_1 : decode cX3_lost 1 = .ok (.iconst 0, 1) := dk_3 (dk_at dksX3_lost_0 1 rfl rfl)
theorem dX3_lost_2 : decode cX3_lost 2 = .ok (.iconst 1, 1) := dk_4 (dk_at dksX3_lost_0 2 rfl rfl)
theorem dX3_lost_3 : decode cX3_lost 3 = .ok (.aload_n 0, 1) := dk_42 (dk_at dksX3_lost_0 3 rfl rfl)
theorem dX3_lost_4 : decode cX3_lost 4 = .ok (.getfield 182, 3) := dk_180 0 182 (dk_at dksX3_lost_0 4 rfl rfl)
theorem dX3_lost_7 : decode cX3_lost 7 = .ok (.ishl, 1) := dk_120 (dk_at dksX3_lost_0 7 rfl rfl)
theorem dX3_lost_8 : decode cX3_lost 8 = .ok (.iconst 1, 1) := dk_4 (dk_at dksX3_lost_0 8 rfl rfl)
theorem dX3_lost_9 : decode cX3_lost 9 = .ok (.isub, 1) := dk_100 (dk_at dksX3_lost_0 9 rfl rfl)
theorem dX3_lost_10 : decode cX3_lost 10 = .ok (.invokestatic 68, 3) := dk_184 0 68 (dk_at dksX3_lost_0 10 rfl rfl)
theorem dX3_lost_13 : decode cX3_lost 13 = .ok (.ifCond .ne 6, 3) := dk_154 0 6 (dk_at dksX3_lost_0 13 rfl rfl)
theorem dX3_lost_16 : decode cX3_lost 16 = .ok (.ldc 210, 2) := dk_18 210 (dk_at dksX3_lost_0 16 rfl rfl)
theorem dX3_lost_18 : decode cX3_lost 18 = .ok (.ireturn, 1) := dk_172 (dk_at dksX3_lost_0 18 rfl rfl)
theorem dX3_lost_19 : decode cX3_lost 19 = .ok (.iload_n 1, 1) := dk_27 (dk_at dksX3_lost_0 19 rfl rfl)
theorem dX3_lost_20 : decode cX3_lost 20 = .ok (.invokestatic 285, 3) := dk_184 1 29 (dk_at dksX3_lost_0 20 rfl rfl)
theorem dX3_lost_23 : decode cX3_lost 23 = .ok (.iconst 2, 1) := dk_5 (dk_at dksX3_lost_0 23 rfl rfl)
theorem dX3_lost_24 : decode cX3_lost 24 = .ok (.if_icmp .ge 6, 3) := dk_162 0 6 (dk_at dksX3_lost_1 0 rfl rfl)
theorem dX3_lost_27 : decode cX3_lost 27 = .ok (.ldc 72, 2) := dk_18 72 (dk_at dksX3_lost_1 3 rfl rfl)
theorem dX3_lost_29 : decode cX3_lost 29 = .ok (.ireturn, 1) := dk_172 (dk_at dksX3_lost_1 5 rfl rfl)
theorem dX3_lost_30 : decode cX3_lost 30 = .ok (.aload_n 0, 1) := dk_42 (dk_at dksX3_lost_1 6 rfl rfl)
theorem dX3_lost_31 : decode cX3_lost 31 = .ok (.invokevirtual 229, 3) := dk_182 0 229 (dk_at dksX3_lost_1 7 rfl rfl)
theorem dX3_lost_34 : decode cX3_lost 34 = .ok (.istore_n 2, 1) := dk_61 (dk_at dksX3_lost_1 10 rfl rfl)
theorem dX3_lost_35 : decode cX3_lost 35 = .ok (.iconst 1, 1) := dk_4 (dk_at dksX3_lost_1 11 rfl rfl)
theorem dX3_lost_36 : decode cX3_lost 36 = .ok (.istore_n 3, 1) := dk_62 (dk_at dksX3_lost_1 12 rfl rfl)
theorem dX3_lost_37 : decode cX3_lost 37 = .ok (.iconst (-1), 1) := dk_2 (dk_at dksX3_lost_1 13 rfl rfl)
theorem dX3_lost_38 : decode cX3_lost 38 = .ok (.istore 4, 2) := dk_54 4 (dk_at dksX3_lost_1 14 rfl rfl)
theorem dX3_lost_40 : decode cX3_lost 40 = .ok (.iconst 1, 1) := dk_4 (dk_at dksX3_lost_1 16 rfl rfl)
theorem dX3_lost_41 : decode cX3_lost 41 = .ok (.istore 5, 2) := dk_54 5 (dk_at dksX3_lost_1 17 rfl rfl)
theorem dX3_lost_43 : decode cX3_lost 43 = .ok (.iload 5, 2) := dk_21 5 (dk_at dksX3_lost_1 19 rfl rfl)
theorem dX3_lost_45 : decode cX3_lost 45 = .ok (.iconst 5, 1) := dk_8 (dk_at dksX3_lost_1 21 rfl rfl)
theorem dX3_lost_46 : decode cX3_lost 46 = .ok (.if_icmp .ge 66, 3) := dk_162 0 66 (dk_at dksX3_lost_2 0 rfl rfl)
theorem dX3_lost_49 : decode cX3_lost 49 = .ok (.iload 4, 2) := dk_21 4 (dk_at dksX3_lost_2 3 rfl rfl)
theorem dX3_lost_51 : decode cX3_lost 51 = .ok (.iconst (-1), 1) := dk_2 (dk_at dksX3_lost_2 5 rfl rfl)
theorem dX3_lost_52 : decode cX3_lost 52 = .ok (.if_icmp .ne 60, 3) := dk_160 0 60 (dk_at dksX3_lost_2 6 rfl rfl)
theorem dX3_lost_55 : decode cX3_lost 55 = .ok (.iload_n 3, 1) := dk_29 (dk_at dksX3_lost_2 9 rfl rfl)
theorem dX3_lost_56 : decode cX3_lost 56 = .ok (.aload_n 0, 1) := dk_42 (dk_at dksX3_lost_2 10 rfl rfl)
theorem dX3_lost_57 : decode cX3_lost 57 = .ok (.getfield 182, 3) := dk_180 0 182 (dk_at dksX3_lost_2 11 rfl rfl)
theorem dX3_lost_60 : decode cX3_lost 60 = .ok (.iconst 1, 1) := dk_4 (dk_at dksX3_lost_2 14 rfl rfl)
theorem dX3_lost_61 : decode cX3_lost 61 = .ok (.iadd, 1) := dk_96 (dk_at dksX3_lost_2 15 rfl rfl)
theorem dX3_lost_62 : decode cX3_lost 62 = .ok (.imul, 1) := dk_104 (dk_at dksX3_lost_2 16 rfl rfl)
theorem dX3_lost_63 : decode cX3_lost 63 = .ok (.istore_n 3, 1) := dk_62 (dk_at dksX3_lost_2 17 rfl rfl)
theorem dX3_lost_64 : decode cX3_lost 64 = .ok (.iconst 0, 1) := dk_3 (dk_at dksX3_lost_2 18 rfl rfl)
theorem dX3_lost_65 : decode cX3_lost 65 = .ok (.istore 6, 2) := dk_54 6 (dk_at dksX3_lost_2 19 rfl rfl)
theorem dX3_lost_67 : decode cX3_lost 67 = .ok (.iload 6, 2) := dk_21 6 (dk_at dksX3_lost_2 21 rfl rfl)
theorem dX3_lost_69 : decode cX3_lost 69 = .ok (.iload_n 3, 1) := dk_29 (dk_at dksX3_lost_2 23 rfl rfl)
theorem dX3_lost_70 : decode cX3_lost 70 = .ok (.if_icmp .ge 36, 3) := dk_162 0 36 (dk_at dksX3_lost_3 0 rfl rfl)
theorem dX3_lost_73 : decode cX3_lost 73 = .ok (.iload 4, 2) := dk_21 4 (dk_at dksX3_lost_3 3 rfl rfl)
theorem dX3_lost_75 : decode cX3_lost 75 = .ok (.iconst (-1), 1) := dk_2 (dk_at dksX3_lost_3 5 rfl rfl)
theorem dX3_lost_76 : decode cX3_lost 76 = .ok (.if_icmp .ne 30, 3) := dk_160 0 30 (dk_at dksX3_lost_3 6 rfl rfl)
theorem dX3_lost_79 : decode cX3_lost 79 = .ok (.aload_n 0, 1) := dk_42 (dk_at dksX3_lost_3 9 rfl rfl)
theorem dX3_lost_80 : decode cX3_lost 80 = .ok (.iload 6, 2) := dk_21 6 (dk_at dksX3_lost_3 10 rfl rfl)
theorem dX3_lost_82 : decode cX3_lost 82 = .ok (.iload 5, 2) := dk_21 5 (dk_at dksX3_lost_3 12 rfl rfl)
theorem dX3_lost_84 : decode cX3_lost 84 = .ok (.iload_n 1, 1) := dk_27 (dk_at dksX3_lost_3 14 rfl rfl)
theorem dX3_lost_85 : decode cX3_lost 85 = .ok (.iload_n 2, 1) := dk_28 (dk_at dksX3_lost_3 15 rfl rfl)
theorem dX3_lost_86 : decode cX3_lost 86 = .ok (.invokevirtual 288, 3) := dk_182 1 32 (dk_at dksX3_lost_3 16 rfl rfl)
theorem dX3_lost_89 : decode cX3_lost 89 = .ok (.ifCond .eq 8, 3) := dk_153 0 8 (dk_at dksX3_lost_3 19 rfl rfl)
theorem dX3_lost_92 : decode cX3_lost 92 = .ok (.iload 5, 2) := dk_21 5 (dk_at dksX3_lost_3 22 rfl rfl)
theorem dX3_lost_94 : decode cX3_lost 94 = .ok (.goto 4, 3) := dk_167 0 4 (dk_at dksX3_lost_4 0 rfl rfl)
theorem dX3_lost_97 : decode cX3_lost 97 = .ok (.iconst (-1), 1) := dk_2 (dk_at dksX3_lost_4 3 rfl rfl)
theorem dX3_lost_98 : decode cX3_lost 98 = .ok (.istore 4, 2) := dk_54 4 (dk_at dksX3_lost_4 4 rfl rfl)
theorem dX3_lost_100 : decode cX3_lost 100 = .ok (.iinc 6 1, 3) := dk_132 6 1 (dk_at dksX3_lost_4 6 rfl rfl)
theorem dX3_lost_103 : decode cX3_lost 103 = .ok (.goto (-36), 3) := dk_167 255 220 (dk_at dksX3_lost_4 9 rfl rfl)
theorem dX3_lost_106 : decode cX3_lost 106 = .ok (.iinc 5 1, 3) := dk_132 5 1 (dk_at dksX3_lost_4 12 rfl rfl)
theorem dX3_lost_109 : decode cX3_lost 109 = .ok (.goto (-66), 3) := dk_167 255 190 (dk_at dksX3_lost_4 15 rfl rfl)
theorem dX3_lost_112 : decode cX3_lost 112 = .ok (.aload_n 0, 1) := dk_42 (dk_at dksX3_lost_4 18 rfl rfl)
theorem dX3_lost_113 : decode cX3_lost 113 = .ok (.iload_n 2, 1) := dk_28 (dk_at dksX3_lost_4 19 rfl rfl)
theorem dX3_lost_114 : decode cX3_lost 114 = .ok (.invokevirtual 223, 3) := dk_182 0 223 (dk_at dksX3_lost_4 20 rfl rfl)
theorem dX3_lost_117 : decode cX3_lost 117 = .ok (.iload 4, 2) := dk_21 4 (dk_at dksX3_lost_5 0 rfl rfl)
theorem dX3_lost_119 : decode cX3_lost 119 = .ok (.ireturn, 1) := dk_172 (dk_at dksX3_lost_5 2 rfl rfl)
abbrev cX3_bits : ByteArray := prog_15_method_52_code
def yX3_bits : MethodName := ⟨RX3, "bits", "(I)I"⟩
def dkwX3_bits_1 : List UInt8 := [27, 172]
abbrev dktX3_bits_1 : List UInt8 := dkwX3_bits_1 ++ []
def dkwX3_bits_0 : List UInt8 := [3, 60, 3, 61, 28, 16, 8, 162, 0, 17, 27, 26, 28, 122, 4, 126, 96, 60, 132, 2, 1, 167, 255, 239]
abbrev dktX3_bits_0 : List UInt8 := dkwX3_bits_0 ++ dktX3_bits_1
theorem dksX3_bits_0 : cX3_bits.data.toList.drop 0 = dktX3_bits_0 := by decide +kernel
theorem dksX3_bits_1 : cX3_bits.data.toList.drop 24 = dktX3_bits_1 := dk_seg dksX3_bits_0 24 rfl rfl
theorem dX3_bits_0 : decode cX3_bits 0 = .ok (.iconst 0, 1) := dk_3 (dk_at dksX3_bits_0 0 rfl rfl)
theorem dX3_bits_1 : decode cX3_bits 1 = .ok (.istore_n 1, 1) := dk_60 (dk_at dksX3_bits_0 1 rfl rfl)
theorem dX3_bits_2 : decode cX3_bits 2 = .ok (.iconst 0, 1) := dk_3 (dk_at dksX3_bits_0 2 rfl rfl)
theorem dX3_bits_3 : decode cX3_bits 3 = .ok (.istore_n 2, 1) := dk_61 (dk_at dksX3_bits_0 3 rfl rfl)
theorem dX3_bits_4 : decode cX3_bits 4 = .ok (.iload_n 2, 1) := dk_28 (dk_at dksX3_bits_0 4 rfl rfl)
theorem dX3_bits_5 : decode cX3_bits 5 = .ok (.bipush 8, 2) := dk_16 8 (dk_at dksX3_bits_0 5 rfl rfl)
theorem dX3_bits_7 : decode cX3_bits 7 = .ok (.if_icmp .ge 17, 3) := dk_162 0 17 (dk_at dksX3_bits_0 7 rfl rfl)
theorem dX3_bits_10 : decode cX3_bits 10 = .ok (.iload_n 1, 1) := dk_27 (dk_at dksX3_bits_0 10 rfl rfl)
theorem dX3_bits_11 : decode cX3_bits 11 = .ok (.iload_n 0, 1) := dk_26 (dk_at dksX3_bits_0 11 rfl rfl)
theorem dX3_bits_12 : decode cX3_bits 12 = .ok (.iload_n 2, 1) := dk_28 (dk_at dksX3_bits_0 12 rfl rfl)
theorem dX3_bits_13 : decode cX3_bits 13 = .ok (.ishr, 1) := dk_122 (dk_at dksX3_bits_0 13 rfl rfl)
theorem dX3_bits_14 : decode cX3_bits 14 = .ok (.iconst 1, 1) := dk_4 (dk_at dksX3_bits_0 14 rfl rfl)
theorem dX3_bits_15 : decode cX3_bits 15 = .ok (.iand, 1) := dk_126 (dk_at dksX3_bits_0 15 rfl rfl)
theorem dX3_bits_16 : decode cX3_bits 16 = .ok (.iadd, 1) := dk_96 (dk_at dksX3_bits_0 16 rfl rfl)
theorem dX3_bits_17 : decode cX3_bits 17 = .ok (.istore_n 1, 1) := dk_60 (dk_at dksX3_bits_0 17 rfl rfl)
theorem dX3_bits_18 : decode cX3_bits 18 = .ok (.iinc 2 1, 3) := dk_132 2 1 (dk_at dksX3_bits_0 18 rfl rfl)
theorem dX3_bits_21 : decode cX3_bits 21 = .ok (.goto (-17), 3) := dk_167 255 239 (dk_at dksX3_bits_0 21 rfl rfl)
theorem dX3_bits_24 : decode cX3_bits 24 = .ok (.iload_n 1, 1) := dk_27 (dk_at dksX3_bits_1 0 rfl rfl)
theorem dX3_bits_25 : decode cX3_bits 25 = .ok (.ireturn, 1) := dk_172 (dk_at dksX3_bits_1 1 rfl rfl)
abbrev cX3_tells : ByteArray := prog_15_method_54_code
def yX3_tells : MethodName := ⟨RX3, "tells", "(IIII)Z"⟩
def dkwX3_tells_4 : List UInt8 := [54, 5, 132, 7, 1, 167, 255, 180, 132, 6, 1, 167, 255, 157, 21, 5, 172]
abbrev dktX3_tells_4 : List UInt8 := dkwX3_tells_4 ++ []
def dkwX3_tells_3 : List UInt8 := [21, 4, 182, 0, 223, 22, 8, 42, 27, 28, 21, 7, 182, 1, 25, 148, 153, 0, 7, 4, 167, 0, 4, 3]
abbrev dktX3_tells_3 : List UInt8 := dkwX3_tells_3 ++ dktX3_tells_4
def dkwX3_tells_2 : List UInt8 := [184, 1, 21, 153, 0, 46, 42, 21, 4, 182, 0, 223, 42, 27, 28, 21, 6, 182, 1, 25, 55, 8, 42]
abbrev dktX3_tells_2 : List UInt8 := dkwX3_tells_2 ++ dktX3_tells_3
def dkwX3_tells_1 : List UInt8 := [21, 7, 21, 6, 162, 0, 75, 21, 5, 153, 0, 70, 29, 21, 6, 184, 1, 21, 153, 0, 55, 29, 21, 7]
abbrev dktX3_tells_1 : List UInt8 := dkwX3_tells_1 ++ dktX3_tells_2
def dkwX3_tells_0 : List UInt8 := [4, 54, 5, 3, 54, 6, 21, 6, 42, 180, 0, 182, 162, 0, 96, 21, 5, 153, 0, 91, 3, 54, 7]
abbrev dktX3_tells_0 : List UInt8 := dkwX3_tells_0 ++ dktX3_tells_1
theorem dksX3_tells_0 : cX3_tells.data.toList.drop 0 = dktX3_tells_0 := by decide +kernel
theorem dksX3_tells_1 : cX3_tells.data.toList.drop 23 = dktX3_tells_1 := dk_seg dksX3_tells_0 23 rfl rfl
theorem dksX3_tells_2 : cX3_tells.data.toList.drop 47 = dktX3_tells_2 := dk_seg dksX3_tells_1 24 rfl rfl
theorem dksX3_tells_3 : cX3_tells.data.toList.drop 70 = dktX3_tells_3 := dk_seg dksX3_tells_2 23 rfl rfl
theorem dksX3_tells_4 : cX3_tells.data.toList.drop 94 = dktX3_tells_4 := dk_seg dksX3_tells_3 24 rfl rfl
theorem dX3_tells_0 : decode cX3_tells 0 = .ok (.iconst 1, 1) := dk_4 (dk_at dksX3_tells_0 0 rfl rfl)
theorem dX3_tells_1 : decode cX3_tells 1 = .ok (.istore 5, 2) := dk_54 5 (dk_at dksX3_tells_0 1 rfl rfl)
theorem dX3_tells_3 : decode cX3_tells 3 = .ok (.iconst 0, 1) := dk_3 (dk_at dksX3_tells_0 3 rfl rfl)
theorem dX3_tells_4 : decode cX3_tells 4 = .ok (.istore 6, 2) := dk_54 6 (dk_at dksX3_tells_0 4 rfl rfl)
theorem dX3_tells_6 : decode cX3_tells 6 = .ok (.iload 6, 2) := dk_21 6 (dk_at dksX3_tells_0 6 rfl rfl)
theorem dX3_tells_8 : decode cX3_tells 8 = .ok (.aload_n 0, 1) := dk_42 (dk_at dksX3_tells_0 8 rfl rfl)
theorem dX3_tells_9 : decode cX3_tells 9 = .ok (.getfield 182, 3) := dk_180 0 182 (dk_at dksX3_tells_0 9 rfl rfl)
theorem dX3_tells_12 : decode cX3_tells 12 = .ok (.if_icmp .ge 96, 3) := dk_162 0 96 (dk_at dksX3_tells_0 12 rfl rfl)
theorem dX3_tells_15 : decode cX3_tells 15 = .ok (.iload 5, 2) := dk_21 5 (dk_at dksX3_tells_0 15 rfl rfl)
theorem dX3_tells_17 : decode cX3_tells 17 = .ok (.ifCond .eq 91, 3) := dk_153 0 91 (dk_at dksX3_tells_0 17 rfl rfl)
theorem dX3_tells_20 : decode cX3_tells 20 = .ok (.iconst 0, 1) := dk_3 (dk_at dksX3_tells_0 20 rfl rfl)
theorem dX3_tells_21 : decode cX3_tells 21 = .ok (.istore 7, 2) := dk_54 7 (dk_at dksX3_tells_0 21 rfl rfl)
theorem dX3_tells_23 : decode cX3_tells 23 = .ok (.iload 7, 2) := dk_21 7 (dk_at dksX3_tells_1 0 rfl rfl)
theorem dX3_tells_25 : decode cX3_tells 25 = .ok (.iload 6, 2) := dk_21 6 (dk_at dksX3_tells_1 2 rfl rfl)
theorem dX3_tells_27 : decode cX3_tells 27 = .ok (.if_icmp .ge 75, 3) := dk_162 0 75 (dk_at dksX3_tells_1 4 rfl rfl)
theorem dX3_tells_30 : decode cX3_tells 30 = .ok (.iload 5, 2) := dk_21 5 (dk_at dksX3_tells_1 7 rfl rfl)
theorem dX3_tells_32 : decode cX3_tells 32 = .ok (.ifCond .eq 70, 3) := dk_153 0 70 (dk_at dksX3_tells_1 9 rfl rfl)
theorem dX3_tells_35 : decode cX3_tells 35 = .ok (.iload_n 3, 1) := dk_29 (dk_at dksX3_tells_1 12 rfl rfl)
theorem dX3_tells_36 : decode cX3_tells 36 = .ok (.iload 6, 2) := dk_21 6 (dk_at dksX3_tells_1 13 rfl rfl)
theorem dX3_tells_38 : decode cX3_tells 38 = .ok (.invokestatic 277, 3) := dk_184 1 21 (dk_at dksX3_tells_1 15 rfl rfl)
theorem dX3_tells_41 : decode cX3_tells 41 = .ok (.ifCond .eq 55, 3) := dk_153 0 55 (dk_at dksX3_tells_1 18 rfl rfl)
theorem dX3_tells_44 : decode cX3_tells 44 = .ok (.iload_n 3, 1) := dk_29 (dk_at dksX3_tells_1 21 rfl rfl)
theorem dX3_tells_45 : decode cX3_tells 45 = .ok (.iload 7, 2) := dk_21 7 (dk_at dksX3_tells_1 22 rfl rfl)
theorem dX3_tells_47 : decode cX3_tells 47 = .ok (.invokestatic 277, 3) := dk_184 1 21 (dk_at dksX3_tells_2 0 rfl rfl)
theorem dX3_tells_50 : decode cX3_tells 50 = .ok (.ifCond .eq 46, 3) := dk_153 0 46 (dk_at dksX3_tells_2 3 rfl rfl)
theorem dX3_tells_53 : decode cX3_tells 53 = .ok (.aload_n 0, 1) := dk_42 (dk_at dksX3_tells_2 6 rfl rfl)
theorem dX3_tells_54 : decode cX3_tells 54 = .ok (.iload 4, 2) := dk_21 4 (dk_at dksX3_tells_2 7 rfl rfl)
theorem dX3_tells_56 : decode cX3_tells 56 = .ok (.invokevirtual 223, 3) := dk_182 0 223 (dk_at dksX3_tells_2 9 rfl rfl)
theorem dX3_tells_59 : decode cX3_tells 59 = .ok (.aload_n 0, 1) := dk_42 (dk_at dksX3_tells_2 12 rfl rfl)
theorem dX3_tells_60 : decode cX3_tells 60 = .ok (.iload_n 1, 1) := dk_27 (dk_at dksX3_tells_2 13 rfl rfl)
theorem dX3_tells_61 : decode cX3_tells 61 = .ok (.iload_n 2, 1) := dk_28 (dk_at dksX3_tells_2 14 rfl rfl)
theorem dX3_tells_62 : decode cX3_tells 62 = .ok (.iload 6, 2) := dk_21 6 (dk_at dksX3_tells_2 15 rfl rfl)
theorem dX3_tells_64 : decode cX3_tells 64 = .ok (.invokevirtual 281, 3) := dk_182 1 25 (dk_at dksX3_tells_2 17 rfl rfl)
theorem dX3_tells_67 : decode cX3_tells 67 = .ok (.lstore 8, 2) := dk_55 8 (dk_at dksX3_tells_2 20 rfl rfl)
theorem dX3_tells_69 : decode cX3_tells 69 = .ok (.aload_n 0, 1) := dk_42 (dk_at dksX3_tells_2 22 rfl rfl)
theorem dX3_tells_70 : decode cX3_tells 70 = .ok (.iload 4, 2) := dk_21 4 (dk_at dksX3_tells_3 0 rfl rfl)
theorem dX3_tells_72 : decode cX3_tells 72 = .ok (.invokevirtual 223, 3) := dk_182 0 223 (dk_at dksX3_tells_3 2 rfl rfl)
theorem dX3_tells_75 : decode cX3_tells 75 = .ok (.lload 8, 2) := dk_22 8 (dk_at dksX3_tells_3 5 rfl rfl)
theorem dX3_tells_77 : decode cX3_tells 77 = .ok (.aload_n 0, 1) := dk_42 (dk_at dksX3_tells_3 7 rfl rfl)
theorem dX3_tells_78 : decode cX3_tells 78 = .ok (.iload_n 1, 1) := dk_27 (dk_at dksX3_tells_3 8 rfl rfl)
theorem dX3_tells_79 : decode cX3_tells 79 = .ok (.iload_n 2, 1) := dk_28 (dk_at dksX3_tells_3 9 rfl rfl)
theorem dX3_tells_80 : decode cX3_tells 80 = .ok (.iload 7, 2) := dk_21 7 (dk_at dksX3_tells_3 10 rfl rfl)
theorem dX3_tells_82 : decode cX3_tells 82 = .ok (.invokevirtual 281, 3) := dk_182 1 25 (dk_at dksX3_tells_3 12 rfl rfl)
theorem dX3_tells_85 : decode cX3_tells 85 = .ok (.lcmp, 1) := dk_148 (dk_at dksX3_tells_3 15 rfl rfl)
theorem dX3_tells_86 : decode cX3_tells 86 = .ok (.ifCond .eq 7, 3) := dk_153 0 7 (dk_at dksX3_tells_3 16 rfl rfl)
theorem dX3_tells_89 : decode cX3_tells 89 = .ok (.iconst 1, 1) := dk_4 (dk_at dksX3_tells_3 19 rfl rfl)
theorem dX3_tells_90 : decode cX3_tells 90 = .ok (.goto 4, 3) := dk_167 0 4 (dk_at dksX3_tells_3 20 rfl rfl)
theorem dX3_tells_93 : decode cX3_tells 93 = .ok (.iconst 0, 1) := dk_3 (dk_at dksX3_tells_3 23 rfl rfl)
theorem dX3_tells_94 : decode cX3_tells 94 = .ok (.istore 5, 2) := dk_54 5 (dk_at dksX3_tells_4 0 rfl rfl)
theorem dX3_tells_96 : decode cX3_tells 96 = .ok (.iinc 7 1, 3) := dk_132 7 1 (dk_at dksX3_tells_4 2 rfl rfl)
theorem dX3_tells_99 : decode cX3_tells 99 = .ok (.goto (-76), 3) := dk_167 255 180 (dk_at dksX3_tells_4 5 rfl rfl)
theorem dX3_tells_102 : decode cX3_tells 102 = .ok (.iinc 6 1, 3) := dk_132 6 1 (dk_at dksX3_tells_4 8 rfl rfl)
theorem dX3_tells_105 : decode cX3_tells 105 = .ok (.goto (-99), 3) := dk_167 255 157 (dk_at dksX3_tells_4 11 rfl rfl)
theorem dX3_tells_108 : decode cX3_tells 108 = .ok (.iload 5, 2) := dk_21 5 (dk_at dksX3_tells_4 14 rfl rfl)
theorem dX3_tells_110 : decode cX3_tells 110 = .ok (.ireturn, 1) := dk_172 (dk_at dksX3_tells_4 16 rfl rfl)
abbrev cX3_has : ByteArray := prog_15_method_3_code
def yX3_has : MethodName := ⟨RX3, "has", "(II)Z"⟩
def dkwX3_has_0 : List UInt8 := [26, 27, 122, 4, 126, 4, 160, 0, 7, 4, 167, 0, 4, 3, 172]
abbrev dktX3_has_0 : List UInt8 := dkwX3_has_0 ++ []
theorem dksX3_has_0 : cX3_has.data.toList.drop 0 = dktX3_has_0 := by decide +kernel
theorem dX3_has_0 : decode cX3_has 0 = .ok (.iload_n 0, 1) := dk_26 (dk_at dksX3_has_0 0 rfl rfl)
theorem dX3_has_1 : decode cX3_has 1 = .ok (.iload_n 1, 1) := dk_27 (dk_at dksX3_has_0 1 rfl rfl)
theorem dX3_has_2 : decode cX3_has 2 = .ok (.ishr, 1) := dk_122 (dk_at dksX3_has_0 2 rfl rfl)
theorem dX3_has_3 : decode cX3_has 3 = .ok (.iconst 1, 1) := dk_4 (dk_at dksX3_has_0 3 rfl rfl)
theorem dX3_has_4 : decode cX3_has 4 = .ok (.iand, 1) := dk_126 (dk_at dksX3_has_0 4 rfl rfl)
theorem dX3_has_5 : decode cX3_has 5 = .ok (.iconst 1, 1) := dk_4 (dk_at dksX3_has_0 5 rfl rfl)
theorem dX3_has_6 : decode cX3_has 6 = .ok (.if_icmp .ne 7, 3) := dk_160 0 7 (dk_at dksX3_has_0 6 rfl rfl)
theorem dX3_has_9 : decode cX3_has 9 = .ok (.iconst 1, 1) := dk_4 (dk_at dksX3_has_0 9 rfl rfl)
theorem dX3_has_10 : decode cX3_has 10 = .ok (.goto 4, 3) := dk_167 0 4 (dk_at dksX3_has_0 10 rfl rfl)
theorem dX3_has_13 : decode cX3_has 13 = .ok (.iconst 0, 1) := dk_3 (dk_at dksX3_has_0 13 rfl rfl)
theorem dX3_has_14 : decode cX3_has 14 = .ok (.ireturn, 1) := dk_172 (dk_at dksX3_has_0 14 rfl rfl)
abbrev cX3_shownBy : ByteArray := prog_15_method_53_code
def yX3_shownBy : MethodName := ⟨RX3, "shownBy", "(III)J"⟩
def dkwX3_shownBy_3 : List UInt8 := [132, 7, 1, 167, 255, 192, 22, 4, 173]
abbrev dktX3_shownBy_3 : List UInt8 := dkwX3_shownBy_3 ++ []
def dkwX3_shownBy_2 : List UInt8 := [167, 0, 5, 21, 8, 182, 0, 226, 20, 1, 19, 22, 4, 105, 42, 180, 0, 197, 133, 97, 55, 4]
abbrev dktX3_shownBy_2 : List UInt8 := dkwX3_shownBy_2 ++ dktX3_shownBy_3
def dkwX3_shownBy_1 : List UInt8 := [54, 8, 21, 6, 42, 180, 0, 182, 4, 96, 108, 54, 6, 42, 21, 8, 42, 180, 0, 182, 160, 0, 7, 29]
abbrev dktX3_shownBy_1 : List UInt8 := dkwX3_shownBy_1 ++ dktX3_shownBy_2
def dkwX3_shownBy_0 : List UInt8 := [9, 55, 4, 27, 54, 6, 3, 54, 7, 21, 7, 28, 162, 0, 64, 21, 6, 42, 180, 0, 182, 4, 96, 112]
abbrev dktX3_shownBy_0 : List UInt8 := dkwX3_shownBy_0 ++ dktX3_shownBy_1
theorem dksX3_shownBy_0 : cX3_shownBy.data.toList.drop 0 = dktX3_shownBy_0 := by decide +kernel
theorem dksX3_shownBy_1 : cX3_shownBy.data.toList.drop 24 = dktX3_shownBy_1 := dk_seg dksX3_shownBy_0 24 rfl rfl
theorem dksX3_shownBy_2 : cX3_shownBy.data.toList.drop 48 = dktX3_shownBy_2 := dk_seg dksX3_shownBy_1 24 rfl rfl
theorem dksX3_shownBy_3 : cX3_shownBy.data.toList.drop 70 = dktX3_shownBy_3 := dk_seg dksX3_shownBy_2 22 rfl rfl
theorem dX3_shownBy_0 : decode cX3_shownBy 0 = .ok (.lconst 0, 1) := dk_9 (dk_at dksX3_shownBy_0 0 rfl rfl)
theorem dX3_shownBy_1 : decode cX3_shownBy 1 = .ok (.lstore 4, 2) := dk_55 4 (dk_at dksX3_shownBy_0 1 rfl rfl)
theorem dX3_shownBy_3 : decode cX3_shownBy 3 = .ok (.iload_n 1, 1) := dk_27 (dk_at dksX3_shownBy_0 3 rfl rfl)
theorem dX3_shownBy_4 : decode cX3_shownBy 4 = .ok (.istore 6, 2) := dk_54 6 (dk_at dksX3_shownBy_0 4 rfl rfl)
theorem dX3_shownBy_6 : decode cX3_shownBy 6 = .ok (.iconst 0, 1) := dk_3 (dk_at dksX3_shownBy_0 6 rfl rfl)
theorem dX3_shownBy_7 : decode cX3_shownBy 7 = .ok (.istore 7, 2) := dk_54 7 (dk_at dksX3_shownBy_0 7 rfl rfl)
theorem dX3_shownBy_9 : decode cX3_shownBy 9 = .ok (.iload 7, 2) := dk_21 7 (dk_at dksX3_shownBy_0 9 rfl rfl)
theorem dX3_shownBy_11 : decode cX3_shownBy 11 = .ok (.iload_n 2, 1) := dk_28 (dk_at dksX3_shownBy_0 11 rfl rfl)
theorem dX3_shownBy_12 : decode cX3_shownBy 12 = .ok (.if_icmp .ge 64, 3) := dk_162 0 64 (dk_at dksX3_shownBy_0 12 rfl rfl)
theorem dX3_shownBy_15 : decode cX3_shownBy 15 = .ok (.iload 6, 2) := dk_21 6 (dk_at dksX3_shownBy_0 15 rfl rfl)
theorem dX3_shownBy_17 : decode cX3_shownBy 17 = .ok (.aload_n 0, 1) := dk_42 (dk_at dksX3_shownBy_0 17 rfl rfl)
theorem dX3_shownBy_18 : decode cX3_shownBy 18 = .ok (.getfield 182, 3) := dk_180 0 182 (dk_at dksX3_shownBy_0 18 rfl rfl)
theorem dX3_shownBy_21 : decode cX3_shownBy 21 = .ok (.iconst 1, 1) := dk_4 (dk_at dksX3_shownBy_0 21 rfl rfl)
theorem dX3_shownBy_22 : decode cX3_shownBy 22 = .ok (.iadd, 1) := dk_96 (dk_at dksX3_shownBy_0 22 rfl rfl)
theorem dX3_shownBy_23 : decode cX3_shownBy 23 = .ok (.irem, 1) := dk_112 (dk_at dksX3_shownBy_0 23 rfl rfl)
theorem dX3_shownBy_24 : decode cX3_shownBy 24 = .ok (.istore 8, 2) := dk_54 8 (dk_at dksX3_shownBy_1 0 rfl rfl)
theorem dX3_shownBy_26 : decode cX3_shownBy 26 = .ok (.iload 6, 2) := dk_21 6 (dk_at dksX3_shownBy_1 2 rfl rfl)
theorem dX3_shownBy_28 : decode cX3_shownBy 28 = .ok (.aload_n 0, 1) := dk_42 (dk_at dksX3_shownBy_1 4 rfl rfl)
theorem dX3_shownBy_29 : decode cX3_shownBy 29 = .ok (.getfield 182, 3) := dk_180 0 182 (dk_at dksX3_shownBy_1 5 rfl rfl)
theorem dX3_shownBy_32 : decode cX3_shownBy 32 = .ok (.iconst 1, 1) := dk_4 (dk_at dksX3_shownBy_1 8 rfl rfl)
theorem dX3_shownBy_33 : decode cX3_shownBy 33 = .ok (.iadd, 1) := dk_96 (dk_at dksX3_shownBy_1 9 rfl rfl)
theorem dX3_shownBy_34 : decode cX3_shownBy 34 = .ok (.idiv, 1) := dk_108 (dk_at dksX3_shownBy_1 10 rfl rfl)
theorem dX3_shownBy_35 : decode cX3_shownBy 35 = .ok (.istore 6, 2) := dk_54 6 (dk_at dksX3_shownBy_1 11 rfl rfl)
theorem dX3_shownBy_37 : decode cX3_shownBy 37 = .ok (.aload_n 0, 1) := dk_42 (dk_at dksX3_shownBy_1 13 rfl rfl)
theorem dX3_shownBy_38 : decode cX3_shownBy 38 = .ok (.iload 8, 2) := dk_21 8 (dk_at dksX3_shownBy_1 14 rfl rfl)
theorem dX3_shownBy_40 : decode cX3_shownBy 40 = .ok (.aload_n 0, 1) := dk_42 (dk_at dksX3_shownBy_1 16 rfl rfl)
theorem dX3_shownBy_41 : decode cX3_shownBy 41 = .ok (.getfield 182, 3) := dk_180 0 182 (dk_at dksX3_shownBy_1 17 rfl rfl)
theorem dX3_shownBy_44 : decode cX3_shownBy 44 = .ok (.if_icmp .ne 7, 3) := dk_160 0 7 (dk_at dksX3_shownBy_1 20 rfl rfl)
theorem dX3_shownBy_47 : decode cX3_shownBy 47 = .ok (.iload_n 3, 1) := dk_29 (dk_at dksX3_shownBy_1 23 rfl rfl)
theorem dX3_shownBy_48 : decode cX3_shownBy 48 = .ok (.goto 5, 3) := dk_167 0 5 (dk_at dksX3_shownBy_2 0 rfl rfl)
theorem dX3_shownBy_51 : decode cX3_shownBy 51 = .ok (.iload 8, 2) := dk_21 8 (dk_at dksX3_shownBy_2 3 rfl rfl)
theorem dX3_shownBy_53 : decode cX3_shownBy 53 = .ok (.invokevirtual 226, 3) := dk_182 0 226 (dk_at dksX3_shownBy_2 5 rfl rfl)
theorem dX3_shownBy_56 : decode cX3_shownBy 56 = .ok (.ldc2_w 275, 3) := dk_20 1 19 (dk_at dksX3_shownBy_2 8 rfl rfl)
theorem dX3_shownBy_59 : decode cX3_shownBy 59 = .ok (.lload 4, 2) := dk_22 4 (dk_at dksX3_shownBy_2 11 rfl rfl)
theorem dX3_shownBy_61 : decode cX3_shownBy 61 = .ok (.lmul, 1) := dk_105 (dk_at dksX3_shownBy_2 13 rfl rfl)
theorem dX3_shownBy_62 : decode cX3_shownBy 62 = .ok (.aload_n 0, 1) := dk_42 (dk_at dksX3_shownBy_2 14 rfl rfl)
theorem dX3_shownBy_63 : decode cX3_shownBy 63 = .ok (.getfield 197, 3) := dk_180 0 197 (dk_at dksX3_shownBy_2 15 rfl rfl)
theorem dX3_shownBy_66 : decode cX3_shownBy 66 = .ok (.i2l, 1) := dk_133 (dk_at dksX3_shownBy_2 18 rfl rfl)
theorem dX3_shownBy_67 : decode cX3_shownBy 67 = .ok (.ladd, 1) := dk_97 (dk_at dksX3_shownBy_2 19 rfl rfl)
theorem dX3_shownBy_68 : decode cX3_shownBy 68 = .ok (.lstore 4, 2) := dk_55 4 (dk_at dksX3_shownBy_2 20 rfl rfl)
theorem dX3_shownBy_70 : decode cX3_shownBy 70 = .ok (.iinc 7 1, 3) := dk_132 7 1 (dk_at dksX3_shownBy_3 0 rfl rfl)
theorem dX3_shownBy_73 : decode cX3_shownBy 73 = .ok (.goto (-64), 3) := dk_167 255 192 (dk_at dksX3_shownBy_3 3 rfl rfl)
theorem dX3_shownBy_76 : decode cX3_shownBy 76 = .ok (.lload 4, 2) := dk_22 4 (dk_at dksX3_shownBy_3 6 rfl rfl)
theorem dX3_shownBy_78 : decode cX3_shownBy 78 = .ok (.lreturn, 1) := dk_173 (dk_at dksX3_shownBy_3 8 rfl rfl)
abbrev cX3_game : ByteArray := prog_15_method_58_code
def yX3_game : MethodName := ⟨RX3, "game", "(III)I"⟩
def dkwX3_game_5 : List UInt8 := [167, 255, 221, 42, 21, 4, 182, 0, 223, 29, 154, 0, 8, 21, 5, 167, 0, 5, 21, 6, 172]
abbrev dktX3_game_5 : List UInt8 := dkwX3_game_5 ++ []
def dkwX3_game_4 : List UInt8 := [182, 0, 239, 27, 182, 1, 36, 21, 5, 160, 0, 8, 21, 7, 167, 0, 5, 21, 6, 54, 6, 132, 7, 255]
abbrev dktX3_game_4 : List UInt8 := dkwX3_game_4 ++ dktX3_game_5
def dkwX3_game_3 : List UInt8 := [54, 5, 2, 54, 6, 42, 180, 0, 182, 4, 100, 54, 7, 21, 7, 155, 0, 36, 42, 42, 21, 4, 21, 7]
abbrev dktX3_game_3 : List UInt8 := dkwX3_game_3 ++ dktX3_game_4
def dkwX3_game_2 : List UInt8 := [167, 0, 4, 2, 172, 42, 182, 0, 229, 54, 4, 42, 27, 28, 182, 1, 39, 42, 180, 0, 44, 21, 4, 46]
abbrev dktX3_game_2 : List UInt8 := dkwX3_game_2 ++ dktX3_game_3
def dkwX3_game_1 : List UInt8 := [154, 0, 6, 18, 72, 172, 28, 153, 0, 10, 42, 180, 0, 182, 154, 0, 13, 29, 154, 0, 7, 3]
abbrev dktX3_game_1 : List UInt8 := dkwX3_game_1 ++ dktX3_game_2
def dkwX3_game_0 : List UInt8 := [42, 27, 182, 0, 243, 153, 0, 22, 28, 3, 16, 6, 184, 0, 68, 153, 0, 12, 29, 3, 4, 184, 0, 68]
abbrev dktX3_game_0 : List UInt8 := dkwX3_game_0 ++ dktX3_game_1
theorem dksX3_game_0 : cX3_game.data.toList.drop 0 = dktX3_game_0 := by decide +kernel
theorem dksX3_game_1 : cX3_game.data.toList.drop 24 = dktX3_game_1 := dk_seg dksX3_game_0 24 rfl rfl
theorem dksX3_game_2 : cX3_game.data.toList.drop 46 = dktX3_game_2 := dk_seg dksX3_game_1 22 rfl rfl
theorem dksX3_game_3 : cX3_game.data.toList.drop 70 = dktX3_game_3 := dk_seg dksX3_game_2 24 rfl rfl
theorem dksX3_game_4 : cX3_game.data.toList.drop 94 = dktX3_game_4 := dk_seg dksX3_game_3 24 rfl rfl
theorem dksX3_game_5 : cX3_game.data.toList.drop 118 = dktX3_game_5 := dk_seg dksX3_game_4 24 rfl rfl
theorem dX3_game_0 : decode cX3_game 0 = .ok (.aload_n 0, 1) := dk_42 (dk_at dksX3_game_0 0 rfl rfl)
theorem dX3_game_1 : decode cX3_game 1 = .ok (.iload_n 1, 1) := dk_27 (dk_at dksX3_game_0 1 rfl rfl)
theorem dX3_game_2 : decode cX3_game 2 = .ok (.invokevirtual 243, 3) := dk_182 0 243 (dk_at dksX3_game_0 2 rfl rfl)
theorem dX3_game_5 : decode cX3_game 5 = .ok (.ifCond .eq 22, 3) := dk_153 0 22 (dk_at dksX3_game_0 5 rfl rfl)
theorem dX3_game_8 : decode cX3_game 8 = .ok (.iload_n 2, 1) := dk_28 (dk_at dksX3_game_0 8 rfl rfl)
theorem dX3_game_9 : decode cX3_game 9 = .ok (.iconst 0, 1) := dk_3 (dk_at dksX3_game_0 9 rfl rfl)
theorem dX3_game_10 : decode cX3_game 10 = .ok (.bipush 6, 2) := dk_16 6 (dk_at dksX3_game_0 10 rfl rfl)
theorem dX3_game_12 : decode cX3_game 12 = .ok (.invokestatic 68, 3) := dk_184 0 68 (dk_at dksX3_game_0 12 rfl rfl)
theorem dX3_game_15 : decode cX3_game 15 = .ok (.ifCond .eq 12, 3) := dk_153 0 12 (dk_at dksX3_game_0 15 rfl rfl)
theorem dX3_game_18 : decode cX3_game 18 = .ok (.iload_n 3, 1) := dk_29 (dk_at dksX3_game_0 18 rfl rfl)
theorem dX3_game_19 : decode cX3_game 19 = .ok (.iconst 0, 1) := dk_3 (dk_at dksX3_game_0 19 rfl rfl)
theorem dX3_game_20 : decode cX3_game 20 = .ok (.iconst 1, 1) := dk_4 (dk_at dksX3_game_0 20 rfl rfl)
theorem dX3_game_21 : decode cX3_game 21 = .ok (.invokestatic 68, 3) := dk_184 0 68 (dk_at dksX3_game_0 21 rfl rfl)
theorem dX3_game_24 : decode cX3_game 24 = .ok (.ifCond .ne 6, 3) := dk_154 0 6 (dk_at dksX3_game_1 0 rfl rfl)
theorem dX3_game_27 : decode cX3_game 27 = .ok (.ldc 72, 2) := dk_18 72 (dk_at dksX3_game_1 3 rfl rfl)
theorem dX3_game_29 : decode cX3_game 29 = .ok (.ireturn, 1) := dk_172 (dk_at dksX3_game_1 5 rfl rfl)
theorem dX3_game_30 : decode cX3_game 30 = .ok (.iload_n 2, 1) := dk_28 (dk_at dksX3_game_1 6 rfl rfl)
theorem dX3_game_31 : decode cX3_game 31 = .ok (.ifCond .eq 10, 3) := dk_153 0 10 (dk_at dksX3_game_1 7 rfl rfl)
theorem dX3_game_34 : decode cX3_game 34 = .ok (.aload_n 0, 1) := dk_42 (dk_at dksX3_game_1 10 rfl rfl)
theorem dX3_game_35 : decode cX3_game 35 = .ok (.getfield 182, 3) := dk_180 0 182 (dk_at dksX3_game_1 11 rfl rfl)
theorem dX3_game_38 : decode cX3_game 38 = .ok (.ifCond .ne 13, 3) := dk_154 0 13 (dk_at dksX3_game_1 14 rfl rfl)
theorem dX3_game_41 : decode cX3_game 41 = .ok (.iload_n 3, 1) := dk_29 (dk_at dksX3_game_1 17 rfl rfl)
theorem dX3_game_42 : decode cX3_game 42 = .ok (.ifCond .ne 7, 3) := dk_154 0 7 (dk_at dksX3_game_1 18 rfl rfl)
theorem dX3_game_45 : decode cX3_game 45 = .ok (.iconst 0, 1) := dk_3 (dk_at dksX3_game_1 21 rfl rfl)
theorem dX3_game_46 : decode cX3_game 46 = .ok (.goto 4, 3) := dk_167 0 4 (dk_at dksX3_game_2 0 rfl rfl)
theorem dX3_game_49 : decode cX3_game 49 = .ok (.iconst (-1), 1) := dk_2 (dk_at dksX3_game_2 3 rfl rfl)
theorem dX3_game_50 : decode cX3_game 50 = .ok (.ireturn, 1) := dk_172 (dk_at dksX3_game_2 4 rfl rfl)
theorem dX3_game_51 : decode cX3_game 51 = .ok (.aload_n 0, 1) := dk_42 (dk_at dksX3_game_2 5 rfl rfl)
theorem dX3_game_52 : decode cX3_game 52 = .ok (.invokevirtual 229, 3) := dk_182 0 229 (dk_at dksX3_game_2 6 rfl rfl)
theorem dX3_game_55 : decode cX3_game 55 = .ok (.istore 4, 2) := dk_54 4 (dk_at dksX3_game_2 9 rfl rfl)
theorem dX3_game_57 : decode cX3_game 57 = .ok (.aload_n 0, 1) := dk_42 (dk_at dksX3_game_2 11 rfl rfl)
theorem dX3_game_58 : decode cX3_game 58 = .ok (.iload_n 1, 1) := dk_27 (dk_at dksX3_game_2 12 rfl rfl)
theorem dX3_game_59 : decode cX3_game 59 = .ok (.iload_n 2, 1) := dk_28 (dk_at dksX3_game_2 13 rfl rfl)
theorem dX3_game_60 : decode cX3_game 60 = .ok (.invokevirtual 295, 3) := dk_182 1 39 (dk_at dksX3_game_2 14 rfl rfl)
theorem dX3_game_63 : decode cX3_game 63 = .ok (.aload_n 0, 1) := dk_42 (dk_at dksX3_game_2 17 rfl rfl)
theorem dX3_game_64 : decode cX3_game 64 = .ok (.getfield 44, 3) := dk_180 0 44 (dk_at dksX3_game_2 18 rfl rfl)
theorem dX3_game_67 : decode cX3_game 67 = .ok (.iload 4, 2) := dk_21 4 (dk_at dksX3_game_2 21 rfl rfl)
theorem dX3_game_69 : decode cX3_game 69 = .ok (.iaload, 1) := dk_46 (dk_at dksX3_game_2 23 rfl rfl)
theorem dX3_game_70 : decode cX3_game 70 = .ok (.istore 5, 2) := dk_54 5 (dk_at dksX3_game_3 0 rfl rfl)
theorem dX3_game_72 : decode cX3_game 72 = .ok (.iconst (-1), 1) := dk_2 (dk_at dksX3_game_3 2 rfl rfl)
theorem dX3_game_73 : decode cX3_game 73 = .ok (.istore 6, 2) := dk_54 6 (dk_at dksX3_game_3 3 rfl rfl)
theorem dX3_game_75 : decode cX3_game 75 = .ok (.aload_n 0, 1) := dk_42 (dk_at dksX3_game_3 5 rfl rfl)
theorem dX3_game_76 : decode cX3_game 76 = .ok (.getfield 182, 3) := dk_180 0 182 (dk_at dksX3_game_3 6 rfl rfl)
theorem dX3_game_79 : decode cX3_game 79 = .ok (.iconst 1, 1) := dk_4 (dk_at dksX3_game_3 9 rfl rfl)
theorem dX3_game_80 : decode cX3_game 80 = .ok (.isub, 1) := dk_100 (dk_at dksX3_game_3 10 rfl rfl)
theorem dX3_game_81 : decode cX3_game 81 = .ok (.istore 7, 2) := dk_54 7 (dk_at dksX3_game_3 11 rfl rfl)
theorem dX3_game_83 : decode cX3_game 83 = .ok (.iload 7, 2) := dk_21 7 (dk_at dksX3_game_3 13 rfl rfl)
theorem dX3_game_85 : decode cX3_game 85 = .ok (.ifCond .lt 36, 3) := dk_155 0 36 (dk_at dksX3_game_3 15 rfl rfl)
theorem dX3_game_88 : decode cX3_game 88 = .ok (.aload_n 0, 1) := dk_42 (dk_at dksX3_game_3 18 rfl rfl)
theorem dX3_game_89 : decode cX3_game 89 = .ok (.aload_n 0, 1) := dk_42 (dk_at dksX3_game_3 19 rfl rfl)
theorem dX3_game_90 : decode cX3_game 90 = .ok (.iload 4, 2) := dk_21 4 (dk_at dksX3_game_3 20 rfl rfl)
theorem dX3_game_92 : decode cX3_game 92 = .ok (.iload 7, 2) := dk_21 7 (dk_at dksX3_game_3 22 rfl rfl)
theorem dX3_game_94 : decode cX3_game 94 = .ok (.invokevirtual 239, 3) := dk_182 0 239 (dk_at dksX3_game_4 0 rfl rfl)
theorem dX3_game_97 : decode cX3_game 97 = .ok (.iload_n 1, 1) := dk_27 (dk_at dksX3_game_4 3 rfl rfl)
theorem dX3_game_98 : decode cX3_game 98 = .ok (.invokevirtual 292, 3) := dk_182 1 36 (dk_at dksX3_game_4 4 rfl rfl)
theorem dX3_game_101 : decode cX3_game 101 = .ok (.iload 5, 2) := dk_21 5 (dk_at dksX3_game_4 7 rfl rfl)
theorem dX3_game_103 : decode cX3_game 103 = .ok (.if_icmp .ne 8, 3) := dk_160 0 8 (dk_at dksX3_game_4 9 rfl rfl)
theorem dX3_game_106 : decode cX3_game 106 = .ok (.iload 7, 2) := dk_21 7 (dk_at dksX3_game_4 12 rfl rfl)
theorem dX3_game_108 : decode cX3_game 108 = .ok (.goto 5, 3) := dk_167 0 5 (dk_at dksX3_game_4 14 rfl rfl)
theorem dX3_game_111 : decode cX3_game 111 = .ok (.iload 6, 2) := dk_21 6 (dk_at dksX3_game_4 17 rfl rfl)
theorem dX3_game_113 : decode cX3_game 113 = .ok (.istore 6, 2) := dk_54 6 (dk_at dksX3_game_4 19 rfl rfl)
theorem dX3_game_115 : decode cX3_game 115 = .ok (.iinc 7 (-1), 3) := dk_132 7 255 (dk_at dksX3_game_4 21 rfl rfl)
theorem dX3_game_118 : decode cX3_game 118 = .ok (.goto (-35), 3) := dk_167 255 221 (dk_at dksX3_game_5 0 rfl rfl)
theorem dX3_game_121 : decode cX3_game 121 = .ok (.aload_n 0, 1) := dk_42 (dk_at dksX3_game_5 3 rfl rfl)
theorem dX3_game_122 : decode cX3_game 122 = .ok (.iload 4, 2) := dk_21 4 (dk_at dksX3_game_5 4 rfl rfl)
theorem dX3_game_124 : decode cX3_game 124 = .ok (.invokevirtual 223, 3) := dk_182 0 223 (dk_at dksX3_game_5 6 rfl rfl)
theorem dX3_game_127 : decode cX3_game 127 = .ok (.iload_n 3, 1) := dk_29 (dk_at dksX3_game_5 9 rfl rfl)
theorem dX3_game_128 : decode cX3_game 128 = .ok (.ifCond .ne 8, 3) := dk_154 0 8 (dk_at dksX3_game_5 10 rfl rfl)
theorem dX3_game_131 : decode cX3_game 131 = .ok (.iload 5, 2) := dk_21 5 (dk_at dksX3_game_5 13 rfl rfl)
theorem dX3_game_133 : decode cX3_game 133 = .ok (.goto 5, 3) := dk_167 0 5 (dk_at dksX3_game_5 15 rfl rfl)
theorem dX3_game_136 : decode cX3_game 136 = .ok (.iload 6, 2) := dk_21 6 (dk_at dksX3_game_5 18 rfl rfl)
theorem dX3_game_138 : decode cX3_game 138 = .ok (.ireturn, 1) := dk_172 (dk_at dksX3_game_5 20 rfl rfl)
abbrev cX3_layGame : ByteArray := prog_15_method_56_code
def yX3_layGame : MethodName := ⟨RX3, "layGame", "(II)V"⟩
def dkwX3_layGame_7 : List UInt8 := [132, 3, 1, 167, 255, 115, 177]
abbrev dktX3_layGame_7 : List UInt8 := dkwX3_layGame_7 ++ []
def dkwX3_layGame_6 : List UInt8 := [167, 0, 10, 42, 180, 0, 44, 21, 4, 46, 79, 132, 5, 1, 167, 255, 187, 132, 4, 1, 167, 255, 161]
abbrev dktX3_layGame_6 : List UInt8 := dkwX3_layGame_6 ++ dktX3_layGame_7
def dkwX3_layGame_5 : List UInt8 := [54, 6, 42, 180, 0, 44, 21, 4, 21, 6, 42, 180, 0, 44, 21, 4, 46, 164, 0, 8, 21, 6]
abbrev dktX3_layGame_5 : List UInt8 := dkwX3_layGame_5 ++ dktX3_layGame_6
def dkwX3_layGame_4 : List UInt8 := [180, 0, 44, 21, 4, 46, 4, 162, 0, 55, 42, 42, 21, 4, 21, 5, 182, 0, 239, 27, 182, 1, 36]
abbrev dktX3_layGame_4 : List UInt8 := dkwX3_layGame_4 ++ dktX3_layGame_5
def dkwX3_layGame_3 : List UInt8 := [162, 0, 92, 42, 180, 0, 44, 21, 4, 2, 79, 3, 54, 5, 21, 5, 42, 180, 0, 182, 162, 0, 66, 42]
abbrev dktX3_layGame_3 : List UInt8 := dkwX3_layGame_3 ++ dktX3_layGame_4
def dkwX3_layGame_2 : List UInt8 := [42, 180, 0, 44, 21, 4, 46, 79, 132, 4, 1, 167, 255, 230, 3, 54, 4, 21, 4, 42, 182, 0, 233]
abbrev dktX3_layGame_2 : List UInt8 := dkwX3_layGame_2 ++ dktX3_layGame_3
def dkwX3_layGame_1 : List UInt8 := [62, 29, 28, 162, 0, 142, 3, 54, 4, 21, 4, 42, 182, 0, 233, 162, 0, 23, 42, 180, 0, 47, 21, 4]
abbrev dktX3_layGame_1 : List UInt8 := dkwX3_layGame_1 ++ dktX3_layGame_2
def dkwX3_layGame_0 : List UInt8 := [3, 62, 29, 42, 182, 0, 233, 162, 0, 16, 42, 180, 0, 44, 29, 3, 79, 132, 3, 1, 167, 255, 238, 3]
abbrev dktX3_layGame_0 : List UInt8 := dkwX3_layGame_0 ++ dktX3_layGame_1
theorem dksX3_layGame_0 : cX3_layGame.data.toList.drop 0 = dktX3_layGame_0 := by decide +kernel
theorem dksX3_layGame_1 : cX3_layGame.data.toList.drop 24 = dktX3_layGame_1 := dk_seg dksX3_layGame_0 24 rfl rfl
theorem dksX3_layGame_2 : cX3_layGame.data.toList.drop 48 = dktX3_layGame_2 := dk_seg dksX3_layGame_1 24 rfl rfl
theorem dksX3_layGame_3 : cX3_layGame.data.toList.drop 71 = dktX3_layGame_3 := dk_seg dksX3_layGame_2 23 rfl rfl
theorem dksX3_layGame_4 : cX3_layGame.data.toList.drop 95 = dktX3_layGame_4 := dk_seg dksX3_layGame_3 24 rfl rfl
theorem dksX3_layGame_5 : cX3_layGame.data.toList.drop 118 = dktX3_layGame_5 := dk_seg dksX3_layGame_4 23 rfl rfl
theorem dksX3_layGame_6 : cX3_layGame.data.toList.drop 140 = dktX3_layGame_6 := dk_seg dksX3_layGame_5 22 rfl rfl
theorem dksX3_layGame_7 : cX3_layGame.data.toList.drop 163 = dktX3_layGame_7 := dk_seg dksX3_layGame_6 23 rfl rfl
theorem dX3_layGame_0 : decode cX3_layGame 0 = .ok (.iconst 0, 1) := dk_3 (dk_at dksX3_layGame_0 0 rfl rfl)
theorem dX3_layGame_1 : decode cX3_layGame 1 = .ok (.istore_n 3, 1) := dk_62 (dk_at dksX3_layGame_0 1 rfl rfl)
theorem dX3_layGame_2 : decode cX3_layGame 2 = .ok (.iload_n 3, 1) := dk_29 (dk_at dksX3_layGame_0 2 rfl rfl)
theorem dX3_layGame_3 : decode cX3_layGame 3 = .ok (.aload_n 0, 1) := dk_42 (dk_at dksX3_layGame_0 3 rfl rfl)
theorem dX3_layGame_4 : decode cX3_layGame 4 = .ok (.invokevirtual 233, 3) := dk_182 0 233 (dk_at dksX3_layGame_0 4 rfl rfl)
theorem dX3_layGame_7 : decode cX3_layGame 7 = .ok (.if_icmp .ge 16, 3) := dk_162 0 16 (dk_at dksX3_layGame_0 7 rfl rfl)
theorem dX3_layGame_10 : decode cX3_layGame 10 = .ok (.aload_n 0, 1) := dk_42 (dk_at dksX3_layGame_0 10 rfl rfl)
theorem dX3_layGame_11 : decode cX3_layGame 11 = .ok (.getfield 44, 3) := dk_180 0 44 (dk_at dksX3_layGame_0 11 rfl rfl)
theorem dX3_layGame_14 : decode cX3_layGame 14 = .ok (.iload_n 3, 1) := dk_29 (dk_at dksX3_layGame_0 14 rfl rfl)
theorem dX3_layGame_15 : decode cX3_layGame 15 = .ok (.iconst 0, 1) := dk_3 (dk_at dksX3_layGame_0 15 rfl rfl)
theorem dX3_layGame_16 : decode cX3_layGame 16 = .ok (.iastore, 1) := dk_79 (dk_at dksX3_layGame_0 16 rfl rfl)
theorem dX3_layGame_17 : decode cX3_layGame 17 = .ok (.iinc 3 1, 3) := dk_132 3 1 (dk_at dksX3_layGame_0 17 rfl rfl)
theorem dX3_layGame_20 : decode cX3_layGame 20 = .ok (.goto (-18), 3) := dk_167 255 238 (dk_at dksX3_layGame_0 20 rfl rfl)
theorem dX3_layGame_23 : decode cX3_layGame 23 = .ok (.iconst 0, 1) := dk_3 (dk_at dksX3_layGame_0 23 rfl rfl)
theorem dX3_layGame_24 : decode cX3_layGame 24 = .ok (.istore_n 3, 1) := dk_62 (dk_at dksX3_layGame_1 0 rfl rfl)
theorem dX3_layGame_25 : decode cX3_layGame 25 = .ok (.iload_n 3, 1) := dk_29 (dk_at dksX3_layGame_1 1 rfl rfl)
theorem dX3_layGame_26 : decode cX3_layGame 26 = .ok (.iload_n 2, 1) := dk_28 (dk_at dksX3_layGame_1 2 rfl rfl)
theorem dX3_layGame_27 : decode cX3_layGame 27 = .ok (.if_icmp .ge 142, 3) := dk_162 0 142 (dk_at dksX3_layGame_1 3 rfl rfl)
theorem dX3_layGame_30 : decode cX3_layGame 30 = .ok (.iconst 0, 1) := dk_3 (dk_at dksX3_layGame_1 6 rfl rfl)
theorem dX3_layGame_31 : decode cX3_layGame 31 = .ok (.istore 4, 2) := dk_54 4 (dk_at dksX3_layGame_1 7 rfl rfl)
theorem dX3_layGame_33 : decode cX3_layGame 33 = .ok (.iload 4, 2) := dk_21 4 (dk_at dksX3_layGame_1 9 rfl rfl)
theorem dX3_layGame_35 : decode cX3_layGame 35 = .ok (.aload_n 0, 1) := dk_42 (dk_at dksX3_layGame_1 11 rfl rfl)
theorem dX3_layGame_36 : decode cX3_layGame 36 = .ok (.invokevirtual 233, 3) := dk_182 0 233 (dk_at dksX3_layGame_1 12 rfl rfl)
theorem dX3_layGame_39 : decode cX3_layGame 39 = .ok (.if_icmp .ge 23, 3) := dk_162 0 23 (dk_at dksX3_layGame_1 15 rfl rfl)
theorem dX3_layGame_42 : decode cX3_layGame 42 = .ok (.aload_n 0, 1) := dk_42 (dk_at dksX3_layGame_1 18 rfl rfl)
theorem dX3_layGame_43 : decode cX3_layGame 43 = .ok (.getfield 47, 3) := dk_180 0 47 (dk_at dksX3_layGame_1 19 rfl rfl)
theorem dX3_layGame_46 : decode cX3_layGame 46 = .ok (.iload 4, 2) := dk_21 4 (dk_at dksX3_layGame_1 22 rfl rfl)
theorem dX3_layGame_48 : decode cX3_layGame 48 = .ok (.aload_n 0, 1) := dk_42 (dk_at dksX3_layGame_2 0 rfl rfl)
theorem dX3_layGame_49 : decode cX3_layGame 49 = .ok (.getfield 44, 3) := dk_180 0 44 (dk_at dksX3_layGame_2 1 rfl rfl)
theorem dX3_layGame_52 : decode cX3_layGame 52 = .ok (.iload 4, 2) := dk_21 4 (dk_at dksX3_layGame_2 4 rfl rfl)
theorem dX3_layGame_54 : decode cX3_layGame 54 = .ok (.iaload, 1) := dk_46 (dk_at dksX3_layGame_2 6 rfl rfl)
theorem dX3_layGame_55 : decode cX3_layGame 55 = .ok (.iastore, 1) := dk_79 (dk_at dksX3_layGame_2 7 rfl rfl)
theorem dX3_layGame_56 : decode cX3_layGame 56 = .ok (.iinc 4 1, 3) := dk_132 4 1 (dk_at dksX3_layGame_2 8 rfl rfl)
theorem dX3_layGame_59 : decode cX3_layGame 59 = .ok (.goto (-26), 3) := dk_167 255 230 (dk_at dksX3_layGame_2 11 rfl rfl)
theorem dX3_layGame_62 : decode cX3_layGame 62 = .ok (.iconst 0, 1) := dk_3 (dk_at dksX3_layGame_2 14 rfl rfl)
theorem dX3_layGame_63 : decode cX3_layGame 63 = .ok (.istore 4, 2) := dk_54 4 (dk_at dksX3_layGame_2 15 rfl rfl)
theorem dX3_layGame_65 : decode cX3_layGame 65 = .ok (.iload 4, 2) := dk_21 4 (dk_at dksX3_layGame_2 17 rfl rfl)
theorem dX3_layGame_67 : decode cX3_layGame 67 = .ok (.aload_n 0, 1) := dk_42 (dk_at dksX3_layGame_2 19 rfl rfl)
theorem dX3_layGame_68 : decode cX3_layGame 68 = .ok (.invokevirtual 233, 3) := dk_182 0 233 (dk_at dksX3_layGame_2 20 rfl rfl)
theorem dX3_layGame_71 : decode cX3_layGame 71 = .ok (.if_icmp .ge 92, 3) := dk_162 0 92 (dk_at dksX3_layGame_3 0 rfl rfl)
theorem dX3_layGame_74 : decode cX3_layGame 74 = .ok (.aload_n 0, 1) := dk_42 (dk_at dksX3_layGame_3 3 rfl rfl)
theorem dX3_layGame_75 : decode cX3_layGame 75 = .ok (.getfield 44, 3) := dk_180 0 44 (dk_at dksX3_layGame_3 4 rfl rfl)
theorem dX3_layGame_78 : decode cX3_layGame 78 = .ok (.iload 4, 2) := dk_21 4 (dk_at dksX3_layGame_3 7 rfl rfl)
theorem dX3_layGame_80 : decode cX3_layGame 80 = .ok (.iconst (-1), 1) := dk_2 (dk_at dksX3_layGame_3 9 rfl rfl)
theorem dX3_layGame_81 : decode cX3_layGame 81 = .ok (.iastore, 1) := dk_79 (dk_at dksX3_layGame_3 10 rfl rfl)
theorem dX3_layGame_82 : decode cX3_layGame 82 = .ok (.iconst 0, 1) := dk_3 (dk_at dksX3_layGame_3 11 rfl rfl)
theorem dX3_layGame_83 : decode cX3_layGame 83 = .ok (.istore 5, 2) := dk_54 5 (dk_at dksX3_layGame_3 12 rfl rfl)
theorem dX3_layGame_85 : decode cX3_layGame 85 = .ok (.iload 5, 2) := dk_21 5 (dk_at dksX3_layGame_3 14 rfl rfl)
theorem dX3_layGame_87 : decode cX3_layGame 87 = .ok (.aload_n 0, 1) := dk_42 (dk_at dksX3_layGame_3 16 rfl rfl)
theorem dX3_layGame_88 : decode cX3_layGame 88 = .ok (.getfield 182, 3) := dk_180 0 182 (dk_at dksX3_layGame_3 17 rfl rfl)
theorem dX3_layGame_91 : decode cX3_layGame 91 = .ok (.if_icmp .ge 66, 3) := dk_162 0 66 (dk_at dksX3_layGame_3 20 rfl rfl)
theorem dX3_layGame_94 : decode cX3_layGame 94 = .ok (.aload_n 0, 1) := dk_42 (dk_at dksX3_layGame_3 23 rfl rfl)
theorem dX3_layGame_95 : decode cX3_layGame 95 = .ok (.getfield 44, 3) := dk_180 0 44 (dk_at dksX3_layGame_4 0 rfl rfl)
theorem dX3_layGame_98 : decode cX3_layGame 98 = .ok (.iload 4, 2) := dk_21 4 (dk_at dksX3_layGame_4 3 rfl rfl)
theorem dX3_layGame_100 : decode cX3_layGame 100 = .ok (.iaload, 1) := dk_46 (dk_at dksX3_layGame_4 5 rfl rfl)
theorem dX3_layGame_101 : decode cX3_layGame 101 = .ok (.iconst 1, 1) := dk_4 (dk_at dksX3_layGame_4 6 rfl rfl)
theorem dX3_layGame_102 : decode cX3_layGame 102 = .ok (.if_icmp .ge 55, 3) := dk_162 0 55 (dk_at dksX3_layGame_4 7 rfl rfl)
theorem dX3_layGame_105 : decode cX3_layGame 105 = .ok (.aload_n 0, 1) := dk_42 (dk_at dksX3_layGame_4 10 rfl rfl)
theorem dX3_layGame_106 : decode cX3_layGame 106 = .ok (.aload_n 0, 1) := dk_42 (dk_at dksX3_layGame_4 11 rfl rfl)
theorem dX3_layGame_107 : decode cX3_layGame 107 = .ok (.iload 4, 2) := dk_21 4 (dk_at dksX3_layGame_4 12 rfl rfl)
theorem dX3_layGame_109 : decode cX3_layGame 109 = .ok (.iload 5, 2) := dk_21 5 (dk_at dksX3_layGame_4 14 rfl rfl)
theorem dX3_layGame_111 : decode cX3_layGame 111 = .ok (.invokevirtual 239, 3) := dk_182 0 239 (dk_at dksX3_layGame_4 16 rfl rfl)
theorem dX3_layGame_114 : decode cX3_layGame 114 = .ok (.iload_n 1, 1) := dk_27 (dk_at dksX3_layGame_4 19 rfl rfl)
theorem dX3_layGame_115 : decode cX3_layGame 115 = .ok (.invokevirtual 292, 3) := dk_182 1 36 (dk_at dksX3_layGame_4 20 rfl rfl)
theorem dX3_layGame_118 : decode cX3_layGame 118 = .ok (.istore 6, 2) := dk_54 6 (dk_at dksX3_layGame_5 0 rfl rfl)
theorem dX3_layGame_120 : decode cX3_layGame 120 = .ok (.aload_n 0, 1) := dk_42 (dk_at dksX3_layGame_5 2 rfl rfl)
theorem dX3_layGame_121 : decode cX3_layGame 121 = .ok (.getfield 44, 3) := dk_180 0 44 (dk_at dksX3_layGame_5 3 rfl rfl)
theorem dX3_layGame_124 : decode cX3_layGame 124 = .ok (.iload 4, 2) := dk_21 4 (dk_at dksX3_layGame_5 6 rfl rfl)
theorem dX3_layGame_126 : decode cX3_layGame 126 = .ok (.iload 6, 2) := dk_21 6 (dk_at dksX3_layGame_5 8 rfl rfl)
theorem dX3_layGame_128 : decode cX3_layGame 128 = .ok (.aload_n 0, 1) := dk_42 (dk_at dksX3_layGame_5 10 rfl rfl)
theorem dX3_layGame_129 : decode cX3_layGame 129 = .ok (.getfield 44, 3) := dk_180 0 44 (dk_at dksX3_layGame_5 11 rfl rfl)
theorem dX3_layGame_132 : decode cX3_layGame 132 = .ok (.iload 4, 2) := dk_21 4 (dk_at dksX3_layGame_5 14 rfl rfl)
theorem dX3_layGame_134 : decode cX3_layGame 134 = .ok (.iaload, 1) := dk_46 (dk_at dksX3_layGame_5 16 rfl rfl)
theorem dX3_layGame_135 : decode cX3_layGame 135 = .ok (.if_icmp .le 8, 3) := dk_164 0 8 (dk_at dksX3_layGame_5 17 rfl rfl)
theorem dX3_layGame_138 : decode cX3_layGame 138 = .ok (.iload 6, 2) := dk_21 6 (dk_at dksX3_layGame_5 20 rfl rfl)
theorem dX3_layGame_140 : decode cX3_layGame 140 = .ok (.goto 10, 3) := dk_167 0 10 (dk_at dksX3_layGame_6 0 rfl rfl)
theorem dX3_layGame_143 : decode cX3_layGame 143 = .ok (.aload_n 0, 1) := dk_42 (dk_at dksX3_layGame_6 3 rfl rfl)
theorem dX3_layGame_144 : decode cX3_layGame 144 = .ok (.getfield 44, 3) := dk_180 0 44 (dk_at dksX3_layGame_6 4 rfl rfl)
theorem dX3_layGame_147 : decode cX3_layGame 147 = .ok (.iload 4, 2) := dk_21 4 (dk_at dksX3_layGame_6 7 rfl rfl)
theorem dX3_layGame_149 : decode cX3_layGame 149 = .ok (.iaload, 1) := dk_46 (dk_at dksX3_layGame_6 9 rfl rfl)
theorem dX3_layGame_150 : decode cX3_layGame 150 = .ok (.iastore, 1) := dk_79 (dk_at dksX3_layGame_6 10 rfl rfl)
theorem dX3_layGame_151 : decode cX3_layGame 151 = .ok (.iinc 5 1, 3) := dk_132 5 1 (dk_at dksX3_layGame_6 11 rfl rfl)
theorem dX3_layGame_154 : decode cX3_layGame 154 = .ok (.goto (-69), 3) := dk_167 255 187 (dk_at dksX3_layGame_6 14 rfl rfl)
theorem dX3_layGame_157 : decode cX3_layGame 157 = .ok (.iinc 4 1, 3) := dk_132 4 1 (dk_at dksX3_layGame_6 17 rfl rfl)
theorem dX3_layGame_160 : decode cX3_layGame 160 = .ok (.goto (-95), 3) := dk_167 255 161 (dk_at dksX3_layGame_6 20 rfl rfl)
theorem dX3_layGame_163 : decode cX3_layGame 163 = .ok (.iinc 3 1, 3) := dk_132 3 1 (dk_at dksX3_layGame_7 0 rfl rfl)
theorem dX3_layGame_166 : decode cX3_layGame 166 = .ok (.goto (-141), 3) := dk_167 255 115 (dk_at dksX3_layGame_7 3 rfl rfl)
theorem dX3_layGame_169 : decode cX3_layGame 169 = .ok (.return_, 1) := dk_177 (dk_at dksX3_layGame_7 6 rfl rfl)
abbrev cX3_worth : ByteArray := prog_15_method_57_code
def yX3_worth : MethodName := ⟨RX3, "worth", "(II)I"⟩
def dkwX3_worth_0 : List UInt8 := [42, 27, 182, 0, 236, 28, 160, 0, 7, 4, 167, 0, 10, 42, 180, 0, 47, 27, 46, 116, 172]
abbrev dktX3_worth_0 : List UInt8 := dkwX3_worth_0 ++ []
theorem dksX3_worth_0 : cX3_worth.data.toList.drop 0 = dktX3_worth_0 := by decide +kernel
theorem dX3_worth_0 : decode cX3_worth 0 = .ok (.aload_n 0, 1) := dk_42 (dk_at dksX3_worth_0 0 rfl rfl)
theorem dX3_worth_1 : decode cX3_worth 1 = .ok (.iload_n 1, 1) := dk_27 (dk_at dksX3_worth_0 1 rfl rfl)
theorem dX3_worth_2 : decode cX3_worth 2 = .ok (.invokevirtual 236, 3) := dk_182 0 236 (dk_at dksX3_worth_0 2 rfl rfl)
theorem dX3_worth_5 : decode cX3_worth 5 = .ok (.iload_n 2, 1) := dk_28 (dk_at dksX3_worth_0 5 rfl rfl)
theorem dX3_worth_6 : decode cX3_worth 6 = .ok (.if_icmp .ne 7, 3) := dk_160 0 7 (dk_at dksX3_worth_0 6 rfl rfl)
theorem dX3_worth_9 : decode cX3_worth 9 = .ok (.iconst 1, 1) := dk_4 (dk_at dksX3_worth_0 9 rfl rfl)
theorem dX3_worth_10 : decode cX3_worth 10 = .ok (.goto 10, 3) := dk_167 0 10 (dk_at dksX3_worth_0 10 rfl rfl)
theorem dX3_worth_13 : decode cX3_worth 13 = .ok (.aload_n 0, 1) := dk_42 (dk_at dksX3_worth_0 13 rfl rfl)
theorem dX3_worth_14 : decode cX3_worth 14 = .ok (.getfield 47, 3) := dk_180 0 47 (dk_at dksX3_worth_0 14 rfl rfl)
theorem dX3_worth_17 : decode cX3_worth 17 = .ok (.iload_n 1, 1) := dk_27 (dk_at dksX3_worth_0 17 rfl rfl)
theorem dX3_worth_18 : decode cX3_worth 18 = .ok (.iaload, 1) := dk_46 (dk_at dksX3_worth_0 18 rfl rfl)
theorem dX3_worth_19 : decode cX3_worth 19 = .ok (.ineg, 1) := dk_116 (dk_at dksX3_worth_0 19 rfl rfl)
theorem dX3_worth_20 : decode cX3_worth 20 = .ok (.ireturn, 1) := dk_172 (dk_at dksX3_worth_0 20 rfl rfl)
abbrev cX3_write : ByteArray := prog_15_method_59_code
def yX3_write : MethodName := ⟨RX3, "write", "(II)I"⟩
def dkwX3_write_3 : List UInt8 := [180, 0, 194, 4, 96, 181, 0, 194, 42, 180, 0, 194, 172]
abbrev dktX3_write_3 : List UInt8 := dkwX3_write_3 ++ []
def dkwX3_write_2 : List UInt8 := [180, 0, 194, 104, 27, 79, 42, 180, 0, 29, 5, 42, 180, 0, 194, 104, 4, 96, 28, 79, 42, 89]
abbrev dktX3_write_2 : List UInt8 := dkwX3_write_2 ++ dktX3_write_3
def dkwX3_write_1 : List UInt8 := [154, 0, 6, 18, 72, 172, 42, 180, 0, 194, 16, 40, 160, 0, 6, 18, 76, 172, 42, 180, 0, 29, 5, 42]
abbrev dktX3_write_1 : List UInt8 := dkwX3_write_1 ++ dktX3_write_2
def dkwX3_write_0 : List UInt8 := [27, 3, 42, 180, 0, 182, 4, 100, 184, 0, 68, 154, 0, 6, 18, 210, 172, 42, 28, 182, 0, 243]
abbrev dktX3_write_0 : List UInt8 := dkwX3_write_0 ++ dktX3_write_1
theorem dksX3_write_0 : cX3_write.data.toList.drop 0 = dktX3_write_0 := by decide +kernel
theorem dksX3_write_1 : cX3_write.data.toList.drop 22 = dktX3_write_1 := dk_seg dksX3_write_0 22 rfl rfl
theorem dksX3_write_2 : cX3_write.data.toList.drop 46 = dktX3_write_2 := dk_seg dksX3_write_1 24 rfl rfl
theorem dksX3_write_3 : cX3_write.data.toList.drop 68 = dktX3_write_3 := dk_seg dksX3_write_2 22 rfl rfl
theorem dX3_write_0 : decode cX3_write 0 = .ok (.iload_n 1, 1) := dk_27 (dk_at dksX3_write_0 0 rfl rfl)
theorem dX3_write_1 : decode cX3_write 1 = .ok (.iconst 0, 1) := dk_3 (dk_at dksX3_write_0 1 rfl rfl)
theorem dX3_write_2 : decode cX3_write 2 = .ok (.aload_n 0, 1) := dk_42 (dk_at dksX3_write_0 2 rfl rfl)
theorem dX3_write_3 : decode cX3_write 3 = .ok (.getfield 182, 3) := dk_180 0 182 (dk_at dksX3_write_0 3 rfl rfl)
theorem dX3_write_6 : decode cX3_write 6 = .ok (.iconst 1, 1) := dk_4 (dk_at dksX3_write_0 6 rfl rfl)
theorem dX3_write_7 : decode cX3_write 7 = .ok (.isub, 1) := dk_100 (dk_at dksX3_write_0 7 rfl rfl)
theorem dX3_write_8 : decode cX3_write 8 = .ok (.invokestatic 68, 3) := dk_184 0 68 (dk_at dksX3_write_0 8 rfl rfl)
theorem dX3_write_11 : decode cX3_write 11 = .ok (.ifCond .ne 6, 3) := dk_154 0 6 (dk_at dksX3_write_0 11 rfl rfl)
theorem dX3_write_14 : decode cX3_write 14 = .ok (.ldc 210, 2) := dk_18 210 (dk_at dksX3_write_0 14 rfl rfl)
theorem dX3_write_16 : decode cX3_write 16 = .ok (.ireturn, 1) := dk_172 (dk_at dksX3_write_0 16 rfl rfl)
theorem dX3_write_17 : decode cX3_write 17 = .ok (.aload_n 0, 1) := dk_42 (dk_at dksX3_write_0 17 rfl rfl)
theorem dX3_write_18 : decode cX3_write 18 = .ok (.iload_n 2, 1) := dk_28 (dk_at dksX3_write_0 18 rfl rfl)
theorem dX3_write_19 : decode cX3_write 19 = .ok (.invokevirtual 243, 3) := dk_182 0 243 (dk_at dksX3_write_0 19 rfl rfl)
theorem dX3_write_22 : decode cX3_write 22 = .ok (.ifCond .ne 6, 3) := dk_154 0 6 (dk_at dksX3_write_1 0 rfl rfl)
theorem dX3_write_25 : decode cX3_write 25 = .ok (.ldc 72, 2) := dk_18 72 (dk_at dksX3_write_1 3 rfl rfl)
theorem dX3_write_27 : decode cX3_write 27 = .ok (.ireturn, 1) := dk_172 (dk_at dksX3_write_1 5 rfl rfl)
theorem dX3_write_28 : decode cX3_write 28 = .ok (.aload_n 0, 1) := dk_42 (dk_at dksX3_write_1 6 rfl rfl)
theorem dX3_write_29 : decode cX3_write 29 = .ok (.getfield 194, 3) := dk_180 0 194 (dk_at dksX3_write_1 7 rfl rfl)
theorem dX3_write_32 : decode cX3_write 32 = .ok (.bipush 40, 2) := dk_16 40 (dk_at dksX3_write_1 10 rfl rfl)
theorem dX3_write_34 : decode cX3_write 34 = .ok (.if_icmp .ne 6, 3) := dk_160 0 6 (dk_at dksX3_write_1 12 rfl rfl)
theorem dX3_write_37 : decode cX3_write 37 = .ok (.ldc 76, 2) := dk_18 76 (dk_at dksX3_write_1 15 rfl rfl)
theorem dX3_write_39 : decode cX3_write 39 = .ok (.ireturn, 1) := dk_172 (dk_at dksX3_write_1 17 rfl rfl)
theorem dX3_write_40 : decode cX3_write 40 = .ok (.aload_n 0, 1) := dk_42 (dk_at dksX3_write_1 18 rfl rfl)
theorem dX3_write_41 : decode cX3_write 41 = .ok (.getfield 29, 3) := dk_180 0 29 (dk_at dksX3_write_1 19 rfl rfl)
theorem dX3_write_44 : decode cX3_write 44 = .ok (.iconst 2, 1) := dk_5 (dk_at dksX3_write_1 22 rfl rfl)
theorem dX3_write_45 : decode cX3_write 45 = .ok (.aload_n 0, 1) := dk_42 (dk_at dksX3_write_1 23 rfl rfl)
theorem dX3_write_46 : decode cX3_write 46 = .ok (.getfield 194, 3) := dk_180 0 194 (dk_at dksX3_write_2 0 rfl rfl)
theorem dX3_write_49 : decode cX3_write 49 = .ok (.imul, 1) := dk_104 (dk_at dksX3_write_2 3 rfl rfl)
theorem dX3_write_50 : decode cX3_write 50 = .ok (.iload_n 1, 1) := dk_27 (dk_at dksX3_write_2 4 rfl rfl)
theorem dX3_write_51 : decode cX3_write 51 = .ok (.iastore, 1) := dk_79 (dk_at dksX3_write_2 5 rfl rfl)
theorem dX3_write_52 : decode cX3_write 52 = .ok (.aload_n 0, 1) := dk_42 (dk_at dksX3_write_2 6 rfl rfl)
theorem dX3_write_53 : decode cX3_write 53 = .ok (.getfield 29, 3) := dk_180 0 29 (dk_at dksX3_write_2 7 rfl rfl)
theorem dX3_write_56 : decode cX3_write 56 = .ok (.iconst 2, 1) := dk_5 (dk_at dksX3_write_2 10 rfl rfl)
theorem dX3_write_57 : decode cX3_write 57 = .ok (.aload_n 0, 1) := dk_42 (dk_at dksX3_write_2 11 rfl rfl)
theorem dX3_write_58 : decode cX3_write 58 = .ok (.getfield 194, 3) := dk_180 0 194 (dk_at dksX3_write_2 12 rfl rfl)
theorem dX3_write_61 : decode cX3_write 61 = .ok (.imul, 1) := dk_104 (dk_at dksX3_write_2 15 rfl rfl)
theorem dX3_write_62 : decode cX3_write 62 = .ok (.iconst 1, 1) := dk_4 (dk_at dksX3_write_2 16 rfl rfl)
theorem dX3_write_63 : decode cX3_write 63 = .ok (.iadd, 1) := dk_96 (dk_at dksX3_write_2 17 rfl rfl)
theorem dX3_write_64 : decode cX3_write 64 = .ok (.iload_n 2, 1) := dk_28 (dk_at dksX3_write_2 18 rfl rfl)
theorem dX3_write_65 : decode cX3_write 65 = .ok (.iastore, 1) := dk_79 (dk_at dksX3_write_2 19 rfl rfl)
theorem dX3_write_66 : decode cX3_write 66 = .ok (.aload_n 0, 1) := dk_42 (dk_at dksX3_write_2 20 rfl rfl)
theorem dX3_write_67 : decode cX3_write 67 = .ok (.dup, 1) := dk_89 (dk_at dksX3_write_2 21 rfl rfl)
theorem dX3_write_68 : decode cX3_write 68 = .ok (.getfield 194, 3) := dk_180 0 194 (dk_at dksX3_write_3 0 rfl rfl)
theorem dX3_write_71 : decode cX3_write 71 = .ok (.iconst 1, 1) := dk_4 (dk_at dksX3_write_3 3 rfl rfl)
theorem dX3_write_72 : decode cX3_write 72 = .ok (.iadd, 1) := dk_96 (dk_at dksX3_write_3 4 rfl rfl)
theorem dX3_write_73 : decode cX3_write 73 = .ok (.putfield 194, 3) := dk_181 0 194 (dk_at dksX3_write_3 5 rfl rfl)
theorem dX3_write_76 : decode cX3_write 76 = .ok (.aload_n 0, 1) := dk_42 (dk_at dksX3_write_3 8 rfl rfl)
theorem dX3_write_77 : decode cX3_write 77 = .ok (.getfield 194, 3) := dk_180 0 194 (dk_at dksX3_write_3 9 rfl rfl)
theorem dX3_write_80 : decode cX3_write 80 = .ok (.ireturn, 1) := dk_172 (dk_at dksX3_write_3 12 rfl rfl)
abbrev cX3_tear : ByteArray := prog_15_method_60_code
def yX3_tear : MethodName := ⟨RX3, "tear", "()I"⟩
def dkwX3_tear_0 : List UInt8 := [42, 180, 0, 194, 60, 42, 3, 181, 0, 194, 27, 172]
abbrev dktX3_tear_0 : List UInt8 := dkwX3_tear_0 ++ []
theorem dksX3_tear_0 : cX3_tear.data.toList.drop 0 = dktX3_tear_0 := by decide +kernel
theorem dX3_tear_0 : decode cX3_tear 0 = .ok (.aload_n 0, 1) := dk_42 (dk_at dksX3_tear_0 0 rfl rfl)
theorem dX3_tear_1 : decode cX3_tear 1 = .ok (.getfield 194, 3) := dk_180 0 194 (dk_at dksX3_tear_0 1 rfl rfl)
theorem dX3_tear_4 : decode cX3_tear 4 = .ok (.istore_n 1, 1) := dk_60 (dk_at dksX3_tear_0 4 rfl rfl)
theorem dX3_tear_5 : decode cX3_tear 5 = .ok (.aload_n 0, 1) := dk_42 (dk_at dksX3_tear_0 5 rfl rfl)
theorem dX3_tear_6 : decode cX3_tear 6 = .ok (.iconst 0, 1) := dk_3 (dk_at dksX3_tear_0 6 rfl rfl)
theorem dX3_tear_7 : decode cX3_tear 7 = .ok (.putfield 194, 3) := dk_181 0 194 (dk_at dksX3_tear_0 7 rfl rfl)
theorem dX3_tear_10 : decode cX3_tear 10 = .ok (.iload_n 1, 1) := dk_27 (dk_at dksX3_tear_0 10 rfl rfl)
theorem dX3_tear_11 : decode cX3_tear 11 = .ok (.ireturn, 1) := dk_172 (dk_at dksX3_tear_0 11 rfl rfl)
abbrev cX3_judge : ByteArray := prog_15_method_61_code
def yX3_judge : MethodName := ⟨RX3, "judge", "()I"⟩
def dkwX3_judge_2 : List UInt8 := [160, 0, 7, 2, 167, 0, 4, 29, 61, 132, 3, 1, 167, 255, 205, 42, 27, 182, 0, 223, 28, 172]
abbrev dktX3_judge_2 : List UInt8 := dkwX3_judge_2 ++ []
def dkwX3_judge_1 : List UInt8 := [180, 0, 29, 5, 29, 104, 46, 182, 0, 226, 42, 180, 0, 197, 42, 180, 0, 29, 5, 29, 104, 4, 96, 46]
abbrev dktX3_judge_1 : List UInt8 := dkwX3_judge_1 ++ dktX3_judge_2
def dkwX3_judge_0 : List UInt8 := [42, 182, 0, 229, 60, 2, 61, 3, 62, 29, 42, 180, 0, 194, 162, 0, 49, 28, 2, 160, 0, 44, 42, 42]
abbrev dktX3_judge_0 : List UInt8 := dkwX3_judge_0 ++ dktX3_judge_1
theorem dksX3_judge_0 : cX3_judge.data.toList.drop 0 = dktX3_judge_0 := by decide +kernel
theorem dksX3_judge_1 : cX3_judge.data.toList.drop 24 = dktX3_judge_1 := dk_seg dksX3_judge_0 24 rfl rfl
theorem dksX3_judge_2 : cX3_judge.data.toList.drop 48 = dktX3_judge_2 := dk_seg dksX3_judge_1 24 rfl rfl
theorem dX3_judge_0 : decode cX3_judge 0 = .ok (.aload_n 0, 1) := dk_42 (dk_at dksX3_judge_0 0 rfl rfl)
theorem dX3_judge_1 : decode cX3_judge 1 = .ok (.invokevirtual 229, 3) := dk_182 0 229 (dk_at dksX3_judge_0 1 rfl rfl)
theorem dX3_judge_4 : decode cX3_judge 4 = .ok (.istore_n 1, 1) := dk_60 (dk_at dksX3_judge_0 4 rfl rfl)
theorem dX3_judge_5 : decode cX3_judge 5 = .ok (.iconst (-1), 1) := dk_2 (dk_at dksX3_judge_0 5 rfl rfl)
theorem dX3_judge_6 : decode cX3_judge 6 = .ok (.istore_n 2, 1) := dk_61 (dk_at dksX3_judge_0 6 rfl rfl)
theorem dX3_judge_7 : decode cX3_judge 7 = .ok (.iconst 0, 1) := dk_3 (dk_at dksX3_judge_0 7 rfl rfl)
theorem dX3_judge_8 : decode cX3_judge 8 = .ok (.istore_n 3, 1) := dk_62 (dk_at dksX3_judge_0 8 rfl rfl)
theorem dX3_judge_9 : decode cX3_judge 9 = .ok (.iload_n 3, 1) := dk_29 (dk_at dksX3_judge_0 9 rfl rfl)
theorem dX3_judge_10 : decode cX3_judge 10 = .ok (.aload_n 0, 1) := dk_42 (dk_at dksX3_judge_0 10 rfl rfl)
theorem dX3_judge_11 : decode cX3_judge 11 = .ok (.getfield 194, 3) := dk_180 0 194 (dk_at dksX3_judge_0 11 rfl rfl)
theorem dX3_judge_14 : decode cX3_judge 14 = .ok (.if_icmp .ge 49, 3) := dk_162 0 49 (dk_at dksX3_judge_0 14 rfl rfl)
theorem dX3_judge_17 : decode cX3_judge 17 = .ok (.iload_n 2, 1) := dk_28 (dk_at dksX3_judge_0 17 rfl rfl)
theorem dX3_judge_18 : decode cX3_judge 18 = .ok (.iconst (-1), 1) := dk_2 (dk_at dksX3_judge_0 18 rfl rfl)
theorem dX3_judge_19 : decode cX3_judge 19 = .ok (.if_icmp .ne 44, 3) := dk_160 0 44 (dk_at dksX3_judge_0 19 rfl rfl)
theorem dX3_judge_22 : decode cX3_judge 22 = .ok (.aload_n 0, 1) := dk_42 (dk_at dksX3_judge_0 22 rfl rfl)
theorem dX3_judge_23 : decode cX3_judge 23 = .ok (.aload_n 0, 1) := dk_42 (dk_at dksX3_judge_0 23 rfl rfl)
theorem dX3_judge_24 : decode cX3_judge 24 = .ok (.getfield 29, 3) := dk_180 0 29 (dk_at dksX3_judge_1 0 rfl rfl)
theorem dX3_judge_27 : decode cX3_judge 27 = .ok (.iconst 2, 1) := dk_5 (dk_at dksX3_judge_1 3 rfl rfl)
theorem dX3_judge_28 : decode cX3_judge 28 = .ok (.iload_n 3, 1) := dk_29 (dk_at dksX3_judge_1 4 rfl rfl)
theorem dX3_judge_29 : decode cX3_judge 29 = .ok (.imul, 1) := dk_104 (dk_at dksX3_judge_1 5 rfl rfl)
theorem dX3_judge_30 : decode cX3_judge 30 = .ok (.iaload, 1) := dk_46 (dk_at dksX3_judge_1 6 rfl rfl)
theorem dX3_judge_31 : decode cX3_judge 31 = .ok (.invokevirtual 226, 3) := dk_182 0 226 (dk_at dksX3_judge_1 7 rfl rfl)
theorem dX3_judge_34 : decode cX3_judge 34 = .ok (.aload_n 0, 1) := dk_42 (dk_at dksX3_judge_1 10 rfl rfl)
theorem dX3_judge_35 : decode cX3_judge 35 = .ok (.getfield 197, 3) := dk_180 0 197 (dk_at dksX3_judge_1 11 rfl rfl)
theorem dX3_judge_38 : decode cX3_judge 38 = .ok (.aload_n 0, 1) := dk_42 (dk_at dksX3_judge_1 14 rfl rfl)
theorem dX3_judge_39 : decode cX3_judge 39 = .ok (.getfield 29, 3) := dk_180 0 29 (dk_at dksX3_judge_1 15 rfl rfl)
theorem dX3_judge_42 : decode cX3_judge 42 = .ok (.iconst 2, 1) := dk_5 (dk_at dksX3_judge_1 18 rfl rfl)
theorem dX3_judge_43 : decode cX3_judge 43 = .ok (.iload_n 3, 1) := dk_29 (dk_at dksX3_judge_1 19 rfl rfl)
theorem dX3_judge_44 : decode cX3_judge 44 = .ok (.imul, 1) := dk_104 (dk_at dksX3_judge_1 20 rfl rfl)
theorem dX3_judge_45 : decode cX3_judge 45 = .ok (.iconst 1, 1) := dk_4 (dk_at dksX3_judge_1 21 rfl rfl)
theorem dX3_judge_46 : decode cX3_judge 46 = .ok (.iadd, 1) := dk_96 (dk_at dksX3_judge_1 22 rfl rfl)
theorem dX3_judge_47 : decode cX3_judge 47 = .ok (.iaload, 1) := dk_46 (dk_at dksX3_judge_1 23 rfl rfl)
theorem dX3_judge_48 : decode cX3_judge 48 = .ok (.if_icmp .ne 7, 3) := dk_160 0 7 (dk_at dksX3_judge_2 0 rfl rfl)
theorem dX3_judge_51 : decode cX3_judge 51 = .ok (.iconst (-1), 1) := dk_2 (dk_at dksX3_judge_2 3 rfl rfl)
theorem dX3_judge_52 : decode cX3_judge 52 = .ok (.goto 4, 3) := dk_167 0 4 (dk_at dksX3_judge_2 4 rfl rfl)
theorem dX3_judge_55 : decode cX3_judge 55 = .ok (.iload_n 3, 1) := dk_29 (dk_at dksX3_judge_2 7 rfl rfl)
theorem dX3_judge_56 : decode cX3_judge 56 = .ok (.istore_n 2, 1) := dk_61 (dk_at dksX3_judge_2 8 rfl rfl)
theorem dX3_judge_57 : decode cX3_judge 57 = .ok (.iinc 3 1, 3) := dk_132 3 1 (dk_at dksX3_judge_2 9 rfl rfl)
theorem dX3_judge_60 : decode cX3_judge 60 = .ok (.goto (-51), 3) := dk_167 255 205 (dk_at dksX3_judge_2 12 rfl rfl)
theorem dX3_judge_63 : decode cX3_judge 63 = .ok (.aload_n 0, 1) := dk_42 (dk_at dksX3_judge_2 15 rfl rfl)
theorem dX3_judge_64 : decode cX3_judge 64 = .ok (.iload_n 1, 1) := dk_27 (dk_at dksX3_judge_2 16 rfl rfl)
theorem dX3_judge_65 : decode cX3_judge 65 = .ok (.invokevirtual 223, 3) := dk_182 0 223 (dk_at dksX3_judge_2 17 rfl rfl)
theorem dX3_judge_68 : decode cX3_judge 68 = .ok (.iload_n 2, 1) := dk_28 (dk_at dksX3_judge_2 20 rfl rfl)
theorem dX3_judge_69 : decode cX3_judge 69 = .ok (.ireturn, 1) := dk_172 (dk_at dksX3_judge_2 21 rfl rfl)
abbrev cX3_drift : ByteArray := prog_15_method_62_code
def yX3_drift : MethodName := ⟨RX3, "drift", "(I)I"⟩
def dkwX3_drift_4 : List UInt8 := [132, 2, 1, 167, 255, 188, 42, 180, 0, 197, 172]
abbrev dktX3_drift_4 : List UInt8 := dkwX3_drift_4 ++ []
def dkwX3_drift_3 : List UInt8 := [182, 0, 226, 42, 89, 180, 0, 188, 42, 180, 0, 13, 7, 29, 104, 4, 96, 46, 96, 181, 0, 188]
abbrev dktX3_drift_3 : List UInt8 := dkwX3_drift_3 ++ dktX3_drift_4
def dkwX3_drift_2 : List UInt8 := [113, 181, 1, 43, 42, 180, 1, 43, 20, 1, 52, 109, 42, 180, 0, 182, 133, 113, 136, 62, 42, 29]
abbrev dktX3_drift_2 : List UInt8 := dkwX3_drift_2 ++ dktX3_drift_3
def dkwX3_drift_1 : List UInt8 := [172, 3, 61, 28, 27, 162, 0, 69, 42, 42, 180, 1, 43, 20, 1, 46, 105, 20, 1, 48, 97, 20, 1, 50]
abbrev dktX3_drift_1 : List UInt8 := dkwX3_drift_1 ++ dktX3_drift_2
def dkwX3_drift_0 : List UInt8 := [27, 4, 17, 3, 231, 184, 0, 68, 154, 0, 6, 18, 72, 172, 42, 180, 0, 182, 154, 0, 7, 19, 1, 2]
abbrev dktX3_drift_0 : List UInt8 := dkwX3_drift_0 ++ dktX3_drift_1
theorem dksX3_drift_0 : cX3_drift.data.toList.drop 0 = dktX3_drift_0 := by decide +kernel
theorem dksX3_drift_1 : cX3_drift.data.toList.drop 24 = dktX3_drift_1 := dk_seg dksX3_drift_0 24 rfl rfl
theorem dksX3_drift_2 : cX3_drift.data.toList.drop 48 = dktX3_drift_2 := dk_seg dksX3_drift_1 24 rfl rfl
theorem dksX3_drift_3 : cX3_drift.data.toList.drop 70 = dktX3_drift_3 := dk_seg dksX3_drift_2 22 rfl rfl
theorem dksX3_drift_4 : cX3_drift.data.toList.drop 92 = dktX3_drift_4 := dk_seg dksX3_drift_3 22 rfl rfl
theorem dX3_drift_0 : decode cX3_drift 0 = .ok (.iload_n 1, 1) := dk_27 (dk_at dksX3_drift_0 0 rfl rfl)
theorem dX3_drift_1 : decode cX3_drift 1 = .ok (.iconst 1, 1) := dk_4 (dk_at dksX3_drift_0 1 rfl rfl)
theorem dX3_drift_2 : decode cX3_drift 2 = .ok (.sipush 999, 3) := dk_17 3 231 (dk_at dksX3_drift_0 2 rfl rfl)
theorem dX3_drift_5 : decode cX3_drift 5 = .ok (.invokestatic 68, 3) := dk_184 0 68 (dk_at dksX3_drift_0 5 rfl rfl)
theorem dX3_drift_8 : decode cX3_drift 8 = .ok (.ifCond .ne 6, 3) := dk_154 0 6 (dk_at dksX3_drift_0 8 rfl rfl)
theorem dX3_drift_11 : decode cX3_drift 11 = .ok (.ldc 72, 2) := dk_18 72 (dk_at dksX3_drift_0 11 rfl rfl)
theorem dX3_drift_13 : decode cX3_drift 13 = .ok (.ireturn, 1) := dk_172 (dk_at dksX3_drift_0 13 rfl rfl)
theorem dX3_drift_14 : decode cX3_drift 14 = .ok (.aload_n 0, 1) := dk_42 (dk_at dksX3_drift_0 14 rfl rfl)
theorem dX3_drift_15 : decode cX3_drift 15 = .ok (.getfield 182, 3) := dk_180 0 182 (dk_at dksX3_drift_0 15 rfl rfl)
theorem dX3_drift_18 : decode cX3_drift 18 = .ok (.ifCond .ne 7, 3) := dk_154 0 7 (dk_at dksX3_drift_0 18 rfl rfl)
theorem dX3_drift_21 : decode cX3_drift 21 = .ok (.ldc_w 258, 3) := dk_19 1 2 (dk_at dksX3_drift_0 21 rfl rfl)
theorem dX3_drift_24 : decode cX3_drift 24 = .ok (.ireturn, 1) := dk_172 (dk_at dksX3_drift_1 0 rfl rfl)
theorem dX3_drift_25 : decode cX3_drift 25 = .ok (.iconst 0, 1) := dk_3 (dk_at dksX3_drift_1 1 rfl rfl)
theorem dX3_drift_26 : decode cX3_drift 26 = .ok (.istore_n 2, 1) := dk_61 (dk_at dksX3_drift_1 2 rfl rfl)
theorem dX3_drift_27 : decode cX3_drift 27 = .ok (.iload_n 2, 1) := dk_28 (dk_at dksX3_drift_1 3 rfl rfl)
theorem dX3_drift_28 : decode cX3_drift 28 = .ok (.iload_n 1, 1) := dk_27 (dk_at dksX3_drift_1 4 rfl rfl)
theorem dX3_drift_29 : decode cX3_drift 29 = .ok (.if_icmp .ge 69, 3) := dk_162 0 69 (dk_at dksX3_drift_1 5 rfl rfl)
theorem dX3_drift_32 : decode cX3_drift 32 = .ok (.aload_n 0, 1) := dk_42 (dk_at dksX3_drift_1 8 rfl rfl)
theorem dX3_drift_33 : decode cX3_drift 33 = .ok (.aload_n 0, 1) := dk_42 (dk_at dksX3_drift_1 9 rfl rfl)
theorem dX3_drift_34 : decode cX3_drift 34 = .ok (.getfield 299, 3) := dk_180 1 43 (dk_at dksX3_drift_1 10 rfl rfl)
theorem dX3_drift_37 : decode cX3_drift 37 = .ok (.ldc2_w 302, 3) := dk_20 1 46 (dk_at dksX3_drift_1 13 rfl rfl)
theorem dX3_drift_40 : decode cX3_drift 40 = .ok (.lmul, 1) := dk_105 (dk_at dksX3_drift_1 16 rfl rfl)
theorem dX3_drift_41 : decode cX3_drift 41 = .ok (.ldc2_w 304, 3) := dk_20 1 48 (dk_at dksX3_drift_1 17 rfl rfl)
theorem dX3_drift_44 : decode cX3_drift 44 = .ok (.ladd, 1) := dk_97 (dk_at dksX3_drift_1 20 rfl rfl)
theorem dX3_drift_45 : decode cX3_drift 45 = .ok (.ldc2_w 306, 3) := dk_20 1 50 (dk_at dksX3_drift_1 21 rfl rfl)
theorem dX3_drift_48 : decode cX3_drift 48 = .ok (.lrem, 1) := dk_113 (dk_at dksX3_drift_2 0 rfl rfl)
theorem dX3_drift_49 : decode cX3_drift 49 = .ok (.putfield 299, 3) := dk_181 1 43 (dk_at dksX3_drift_2 1 rfl rfl)
theorem dX3_drift_52 : decode cX3_drift 52 = .ok (.aload_n 0, 1) := dk_42 (dk_at dksX3_drift_2 4 rfl rfl)
theorem dX3_drift_53 : decode cX3_drift 53 = .ok (.getfield 299, 3) := dk_180 1 43 (dk_at dksX3_drift_2 5 rfl rfl)
theorem dX3_drift_56 : decode cX3_drift 56 = .ok (.ldc2_w 308, 3) := dk_20 1 52 (dk_at dksX3_drift_2 8 rfl rfl)
theorem dX3_drift_59 : decode cX3_drift 59 = .ok (.ldiv, 1) := dk_109 (dk_at dksX3_drift_2 11 rfl rfl)
theorem dX3_drift_60 : decode cX3_drift 60 = .ok (.aload_n 0, 1) := dk_42 (dk_at dksX3_drift_2 12 rfl rfl)
theorem dX3_drift_61 : decode cX3_drift 61 = .ok (.getfield 182, 3) := dk_180 0 182 (dk_at dksX3_drift_2 13 rfl rfl)
theorem dX3_drift_64 : decode cX3_drift 64 = .ok (.i2l, 1) := dk_133 (dk_at dksX3_drift_2 16 rfl rfl)
theorem dX3_drift_65 : decode cX3_drift 65 = .ok (.lrem, 1) := dk_113 (dk_at dksX3_drift_2 17 rfl rfl)
theorem dX3_drift_66 : decode cX3_drift 66 = .ok (.l2i, 1) := dk_136 (dk_at dksX3_drift_2 18 rfl rfl)
theorem dX3_drift_67 : decode cX3_drift 67 = .ok (.istore_n 3, 1) := dk_62 (dk_at dksX3_drift_2 19 rfl rfl)
theorem dX3_drift_68 : decode cX3_drift 68 = .ok (.aload_n 0, 1) := dk_42 (dk_at dksX3_drift_2 20 rfl rfl)
theorem dX3_drift_69 : decode cX3_drift 69 = .ok (.iload_n 3, 1) := dk_29 (dk_at dksX3_drift_2 21 rfl rfl)
theorem dX3_drift_70 : decode cX3_drift 70 = .ok (.invokevirtual 226, 3) := dk_182 0 226 (dk_at dksX3_drift_3 0 rfl rfl)
theorem dX3_drift_73 : decode cX3_drift 73 = .ok (.aload_n 0, 1) := dk_42 (dk_at dksX3_drift_3 3 rfl rfl)
theorem dX3_drift_74 : decode cX3_drift 74 = .ok (.dup, 1) := dk_89 (dk_at dksX3_drift_3 4 rfl rfl)
theorem dX3_drift_75 : decode cX3_drift 75 = .ok (.getfield 188, 3) := dk_180 0 188 (dk_at dksX3_drift_3 5 rfl rfl)
theorem dX3_drift_78 : decode cX3_drift 78 = .ok (.aload_n 0, 1) := dk_42 (dk_at dksX3_drift_3 8 rfl rfl)
theorem dX3_drift_79 : decode cX3_drift 79 = .ok (.getfield 13, 3) := dk_180 0 13 (dk_at dksX3_drift_3 9 rfl rfl)
theorem dX3_drift_82 : decode cX3_drift 82 = .ok (.iconst 4, 1) := dk_7 (dk_at dksX3_drift_3 12 rfl rfl)
theorem dX3_drift_83 : decode cX3_drift 83 = .ok (.iload_n 3, 1) := dk_29 (dk_at dksX3_drift_3 13 rfl rfl)
theorem dX3_drift_84 : decode cX3_drift 84 = .ok (.imul, 1) := dk_104 (dk_at dksX3_drift_3 14 rfl rfl)
theorem dX3_drift_85 : decode cX3_drift 85 = .ok (.iconst 1, 1) := dk_4 (dk_at dksX3_drift_3 15 rfl rfl)
theorem dX3_drift_86 : decode cX3_drift 86 = .ok (.iadd, 1) := dk_96 (dk_at dksX3_drift_3 16 rfl rfl)
theorem dX3_drift_87 : decode cX3_drift 87 = .ok (.iaload, 1) := dk_46 (dk_at dksX3_drift_3 17 rfl rfl)
theorem dX3_drift_88 : decode cX3_drift 88 = .ok (.iadd, 1) := dk_96 (dk_at dksX3_drift_3 18 rfl rfl)
theorem dX3_drift_89 : decode cX3_drift 89 = .ok (.putfield 188, 3) := dk_181 0 188 (dk_at dksX3_drift_3 19 rfl rfl)
theorem dX3_drift_92 : decode cX3_drift 92 = .ok (.iinc 2 1, 3) := dk_132 2 1 (dk_at dksX3_drift_4 0 rfl rfl)
theorem dX3_drift_95 : decode cX3_drift 95 = .ok (.goto (-68), 3) := dk_167 255 188 (dk_at dksX3_drift_4 3 rfl rfl)
theorem dX3_drift_98 : decode cX3_drift 98 = .ok (.aload_n 0, 1) := dk_42 (dk_at dksX3_drift_4 6 rfl rfl)
theorem dX3_drift_99 : decode cX3_drift 99 = .ok (.getfield 197, 3) := dk_180 0 197 (dk_at dksX3_drift_4 7 rfl rfl)
theorem dX3_drift_102 : decode cX3_drift 102 = .ok (.ireturn, 1) := dk_172 (dk_at dksX3_drift_4 10 rfl rfl)
abbrev cX3_seed : ByteArray := prog_15_method_63_code
def yX3_seed : MethodName := ⟨RX3, "seed", "(I)I"⟩
def dkwX3_seed_0 : List UInt8 := [27, 156, 0, 6, 18, 72, 172, 42, 180, 1, 43, 136, 61, 42, 27, 133, 181, 1, 43, 28, 172]
abbrev dktX3_seed_0 : List UInt8 := dkwX3_seed_0 ++ []
theorem dksX3_seed_0 : cX3_seed.data.toList.drop 0 = dktX3_seed_0 := by decide +kernel
theorem dX3_seed_0 : decode cX3_seed 0 = .ok (.iload_n 1, 1) := dk_27 (dk_at dksX3_seed_0 0 rfl rfl)
theorem dX3_seed_1 : decode cX3_seed 1 = .ok (.ifCond .ge 6, 3) := dk_156 0 6 (dk_at dksX3_seed_0 1 rfl rfl)
theorem dX3_seed_4 : decode cX3_seed 4 = .ok (.ldc 72, 2) := dk_18 72 (dk_at dksX3_seed_0 4 rfl rfl)
theorem dX3_seed_6 : decode cX3_seed 6 = .ok (.ireturn, 1) := dk_172 (dk_at dksX3_seed_0 6 rfl rfl)
theorem dX3_seed_7 : decode cX3_seed 7 = .ok (.aload_n 0, 1) := dk_42 (dk_at dksX3_seed_0 7 rfl rfl)
theorem dX3_seed_8 : decode cX3_seed 8 = .ok (.getfield 299, 3) := dk_180 1 43 (dk_at dksX3_seed_0 8 rfl rfl)
theorem dX3_seed_11 : decode cX3_seed 11 = .ok (.l2i, 1) := dk_136 (dk_at dksX3_seed_0 11 rfl rfl)
theorem dX3_seed_12 : decode cX3_seed 12 = .ok (.istore_n 2, 1) := dk_61 (dk_at dksX3_seed_0 12 rfl rfl)
theorem dX3_seed_13 : decode cX3_seed 13 = .ok (.aload_n 0, 1) := dk_42 (dk_at dksX3_seed_0 13 rfl rfl)
theorem dX3_seed_14 : decode cX3_seed 14 = .ok (.iload_n 1, 1) := dk_27 (dk_at dksX3_seed_0 14 rfl rfl)
theorem dX3_seed_15 : decode cX3_seed 15 = .ok (.i2l, 1) := dk_133 (dk_at dksX3_seed_0 15 rfl rfl)
theorem dX3_seed_16 : decode cX3_seed 16 = .ok (.putfield 299, 3) := dk_181 1 43 (dk_at dksX3_seed_0 16 rfl rfl)
theorem dX3_seed_19 : decode cX3_seed 19 = .ok (.iload_n 2, 1) := dk_28 (dk_at dksX3_seed_0 19 rfl rfl)
theorem dX3_seed_20 : decode cX3_seed 20 = .ok (.ireturn, 1) := dk_172 (dk_at dksX3_seed_0 20 rfl rfl)
abbrev cX3_keep : ByteArray := prog_15_method_64_code
def yX3_keep : MethodName := ⟨RX3, "keep", "(I)I"⟩
def dkwX3_keep_4 : List UInt8 := [180, 1, 43, 80, 42, 180, 0, 39, 27, 4, 84, 4, 172]
abbrev dktX3_keep_4 : List UInt8 := dkwX3_keep_4 ++ []
def dkwX3_keep_3 : List UInt8 := [96, 28, 96, 42, 180, 0, 26, 28, 46, 79, 132, 2, 1, 167, 255, 228, 42, 180, 0, 35, 27, 42]
abbrev dktX3_keep_3 : List UInt8 := dkwX3_keep_3 ++ dktX3_keep_4
def dkwX3_keep_2 : List UInt8 := [5, 96, 42, 180, 0, 191, 79, 3, 61, 28, 16, 6, 162, 0, 28, 42, 180, 0, 32, 16, 9, 27, 104, 6]
abbrev dktX3_keep_2 : List UInt8 := dkwX3_keep_2 ++ dktX3_keep_3
def dkwX3_keep_1 : List UInt8 := [79, 42, 180, 0, 32, 16, 9, 27, 104, 4, 96, 42, 180, 0, 188, 79, 42, 180, 0, 32, 16, 9, 27, 104]
abbrev dktX3_keep_1 : List UInt8 := dkwX3_keep_1 ++ dktX3_keep_2
def dkwX3_keep_0 : List UInt8 := [27, 3, 4, 184, 0, 68, 154, 0, 6, 18, 210, 172, 42, 180, 0, 32, 16, 9, 27, 104, 42, 182, 0, 229]
abbrev dktX3_keep_0 : List UInt8 := dkwX3_keep_0 ++ dktX3_keep_1
theorem dksX3_keep_0 : cX3_keep.data.toList.drop 0 = dktX3_keep_0 := by decide +kernel
theorem dksX3_keep_1 : cX3_keep.data.toList.drop 24 = dktX3_keep_1 := dk_seg dksX3_keep_0 24 rfl rfl
theorem dksX3_keep_2 : cX3_keep.data.toList.drop 48 = dktX3_keep_2 := dk_seg dksX3_keep_1 24 rfl rfl
theorem dksX3_keep_3 : cX3_keep.data.toList.drop 72 = dktX3_keep_3 := dk_seg dksX3_keep_2 24 rfl rfl
theorem dksX3_keep_4 : cX3_keep.data.toList.drop 94 = dktX3_keep_4 := dk_seg dksX3_keep_3 22 rfl rfl
theorem dX3_keep_0 : decode cX3_keep 0 = .ok (.iload_n 1, 1) := dk_27 (dk_at dksX3_keep_0 0 rfl rfl)
theorem dX3_keep_1 : decode cX3_keep 1 = .ok (.iconst 0, 1) := dk_3 (dk_at dksX3_keep_0 1 rfl rfl)
theorem dX3_keep_2 : decode cX3_keep 2 = .ok (.iconst 1, 1) := dk_4 (dk_at dksX3_keep_0 2 rfl rfl)
theorem dX3_keep_3 : decode cX3_keep 3 = .ok (.invokestatic 68, 3) := dk_184 0 68 (dk_at dksX3_keep_0 3 rfl rfl)
theorem dX3_keep_6 : decode cX3_keep 6 = .ok (.ifCond .ne 6, 3) := dk_154 0 6 (dk_at dksX3_keep_0 6 rfl rfl)
theorem dX3_keep_9 : decode cX3_keep 9 = .ok (.ldc 210, 2) := dk_18 210 (dk_at dksX3_keep_0 9 rfl rfl)
theorem dX3_keep_11 : decode cX3_keep 11 = .ok (.ireturn, 1) := dk_172 (dk_at dksX3_keep_0 11 rfl rfl)
theorem dX3_keep_12 : decode cX3_keep 12 = .ok (.aload_n 0, 1) := dk_42 (dk_at dksX3_keep_0 12 rfl rfl)
theorem dX3_keep_13 : decode cX3_keep 13 = .ok (.getfield 32, 3) := dk_180 0 32 (dk_at dksX3_keep_0 13 rfl rfl)
theorem dX3_keep_16 : decode cX3_keep 16 = .ok (.bipush 9, 2) := dk_16 9 (dk_at dksX3_keep_0 16 rfl rfl)
theorem dX3_keep_18 : decode cX3_keep 18 = .ok (.iload_n 1, 1) := dk_27 (dk_at dksX3_keep_0 18 rfl rfl)
theorem dX3_keep_19 : decode cX3_keep 19 = .ok (.imul, 1) := dk_104 (dk_at dksX3_keep_0 19 rfl rfl)
theorem dX3_keep_20 : decode cX3_keep 20 = .ok (.aload_n 0, 1) := dk_42 (dk_at dksX3_keep_0 20 rfl rfl)
theorem dX3_keep_21 : decode cX3_keep 21 = .ok (.invokevirtual 229, 3) := dk_182 0 229 (dk_at dksX3_keep_0 21 rfl rfl)
theorem dX3_keep_24 : decode cX3_keep 24 = .ok (.iastore, 1) := dk_79 (dk_at dksX3_keep_1 0 rfl rfl)
theorem dX3_keep_25 : decode cX3_keep 25 = .ok (.aload_n 0, 1) := dk_42 (dk_at dksX3_keep_1 1 rfl rfl)
theorem dX3_keep_26 : decode cX3_keep 26 = .ok (.getfield 32, 3) := dk_180 0 32 (dk_at dksX3_keep_1 2 rfl rfl)
theorem dX3_keep_29 : decode cX3_keep 29 = .ok (.bipush 9, 2) := dk_16 9 (dk_at dksX3_keep_1 5 rfl rfl)
theorem dX3_keep_31 : decode cX3_keep 31 = .ok (.iload_n 1, 1) := dk_27 (dk_at dksX3_keep_1 7 rfl rfl)
theorem dX3_keep_32 : decode cX3_keep 32 = .ok (.imul, 1) := dk_104 (dk_at dksX3_keep_1 8 rfl rfl)
theorem dX3_keep_33 : decode cX3_keep 33 = .ok (.iconst 1, 1) := dk_4 (dk_at dksX3_keep_1 9 rfl rfl)
theorem dX3_keep_34 : decode cX3_keep 34 = .ok (.iadd, 1) := dk_96 (dk_at dksX3_keep_1 10 rfl rfl)
theorem dX3_keep_35 : decode cX3_keep 35 = .ok (.aload_n 0, 1) := dk_42 (dk_at dksX3_keep_1 11 rfl rfl)
theorem dX3_keep_36 : decode cX3_keep 36 = .ok (.getfield 188, 3) := dk_180 0 188 (dk_at dksX3_keep_1 12 rfl rfl)
theorem dX3_keep_39 : decode cX3_keep 39 = .ok (.iastore, 1) := dk_79 (dk_at dksX3_keep_1 15 rfl rfl)
theorem dX3_keep_40 : decode cX3_keep 40 = .ok (.aload_n 0, 1) := dk_42 (dk_at dksX3_keep_1 16 rfl rfl)
theorem dX3_keep_41 : decode cX3_keep 41 = .ok (.getfield 32, 3) := dk_180 0 32 (dk_at dksX3_keep_1 17 rfl rfl)
theorem dX3_keep_44 : decode cX3_keep 44 = .ok (.bipush 9, 2) := dk_16 9 (dk_at dksX3_keep_1 20 rfl rfl)
theorem dX3_keep_46 : decode cX3_keep 46 = .ok (.iload_n 1, 1) := dk_27 (dk_at dksX3_keep_1 22 rfl rfl)
theorem dX3_keep_47 : decode cX3_keep 47 = .ok (.imul, 1) := dk_104 (dk_at dksX3_keep_1 23 rfl rfl)
theorem dX3_keep_48 : decode cX3_keep 48 = .ok (.iconst 2, 1) := dk_5 (dk_at dksX3_keep_2 0 rfl rfl)
theorem dX3_keep_49 : decode cX3_keep 49 = .ok (.iadd, 1) := dk_96 (dk_at dksX3_keep_2 1 rfl rfl)
theorem dX3_keep_50 : decode cX3_keep 50 = .ok (.aload_n 0, 1) := dk_42 (dk_at dksX3_keep_2 2 rfl rfl)
theorem dX3_keep_51 : decode cX3_keep 51 = .ok (.getfield 191, 3) := dk_180 0 191 (dk_at dksX3_keep_2 3 rfl rfl)
theorem dX3_keep_54 : decode cX3_keep 54 = .ok (.iastore, 1) := dk_79 (dk_at dksX3_keep_2 6 rfl rfl)
theorem dX3_keep_55 : decode cX3_keep 55 = .ok (.iconst 0, 1) := dk_3 (dk_at dksX3_keep_2 7 rfl rfl)
theorem dX3_keep_56 : decode cX3_keep 56 = .ok (.istore_n 2, 1) := dk_61 (dk_at dksX3_keep_2 8 rfl rfl)
theorem dX3_keep_57 : decode cX3_keep 57 = .ok (.iload_n 2, 1) := dk_28 (dk_at dksX3_keep_2 9 rfl rfl)
theorem dX3_keep_58 : decode cX3_keep 58 = .ok (.bipush 6, 2) := dk_16 6 (dk_at dksX3_keep_2 10 rfl rfl)
theorem dX3_keep_60 : decode cX3_keep 60 = .ok (.if_icmp .ge 28, 3) := dk_162 0 28 (dk_at dksX3_keep_2 12 rfl rfl)
theorem dX3_keep_63 : decode cX3_keep 63 = .ok (.aload_n 0, 1) := dk_42 (dk_at dksX3_keep_2 15 rfl rfl)
theorem dX3_keep_64 : decode cX3_keep 64 = .ok (.getfield 32, 3) := dk_180 0 32 (dk_at dksX3_keep_2 16 rfl rfl)
theorem dX3_keep_67 : decode cX3_keep 67 = .ok (.bipush 9, 2) := dk_16 9 (dk_at dksX3_keep_2 19 rfl rfl)
theorem dX3_keep_69 : decode cX3_keep 69 = .ok (.iload_n 1, 1) := dk_27 (dk_at dksX3_keep_2 21 rfl rfl)
theorem dX3_keep_70 : decode cX3_keep 70 = .ok (.imul, 1) := dk_104 (dk_at dksX3_keep_2 22 rfl rfl)
theorem dX3_keep_71 : decode cX3_keep 71 = .ok (.iconst 3, 1) := dk_6 (dk_at dksX3_keep_2 23 rfl rfl)
theorem dX3_keep_72 : decode cX3_keep 72 = .ok (.iadd, 1) := dk_96 (dk_at dksX3_keep_3 0 rfl rfl)
theorem dX3_keep_73 : decode cX3_keep 73 = .ok (.iload_n 2, 1) := dk_28 (dk_at dksX3_keep_3 1 rfl rfl)
theorem dX3_keep_74 : decode cX3_keep 74 = .ok (.iadd, 1) := dk_96 (dk_at dksX3_keep_3 2 rfl rfl)
theorem dX3_keep_75 : decode cX3_keep 75 = .ok (.aload_n 0, 1) := dk_42 (dk_at dksX3_keep_3 3 rfl rfl)
theorem dX3_keep_76 : decode cX3_keep 76 = .ok (.getfield 26, 3) := dk_180 0 26 (dk_at dksX3_keep_3 4 rfl rfl)
theorem dX3_keep_79 : decode cX3_keep 79 = .ok (.iload_n 2, 1) := dk_28 (dk_at dksX3_keep_3 7 rfl rfl)
theorem dX3_keep_80 : decode cX3_keep 80 = .ok (.iaload, 1) := dk_46 (dk_at dksX3_keep_3 8 rfl rfl)
theorem dX3_keep_81 : decode cX3_keep 81 = .ok (.iastore, 1) := dk_79 (dk_at dksX3_keep_3 9 rfl rfl)
theorem dX3_keep_82 : decode cX3_keep 82 = .ok (.iinc 2 1, 3) := dk_132 2 1 (dk_at dksX3_keep_3 10 rfl rfl)
theorem dX3_keep_85 : decode cX3_keep 85 = .ok (.goto (-28), 3) := dk_167 255 228 (dk_at dksX3_keep_3 13 rfl rfl)
theorem dX3_keep_88 : decode cX3_keep 88 = .ok (.aload_n 0, 1) := dk_42 (dk_at dksX3_keep_3 16 rfl rfl)
theorem dX3_keep_89 : decode cX3_keep 89 = .ok (.getfield 35, 3) := dk_180 0 35 (dk_at dksX3_keep_3 17 rfl rfl)
theorem dX3_keep_92 : decode cX3_keep 92 = .ok (.iload_n 1, 1) := dk_27 (dk_at dksX3_keep_3 20 rfl rfl)
theorem dX3_keep_93 : decode cX3_keep 93 = .ok (.aload_n 0, 1) := dk_42 (dk_at dksX3_keep_3 21 rfl rfl)
theorem dX3_keep_94 : decode cX3_keep 94 = .ok (.getfield 299, 3) := dk_180 1 43 (dk_at dksX3_keep_4 0 rfl rfl)
theorem dX3_keep_97 : decode cX3_keep 97 = .ok (.lastore, 1) := dk_80 (dk_at dksX3_keep_4 3 rfl rfl)
theorem dX3_keep_98 : decode cX3_keep 98 = .ok (.aload_n 0, 1) := dk_42 (dk_at dksX3_keep_4 4 rfl rfl)
theorem dX3_keep_99 : decode cX3_keep 99 = .ok (.getfield 39, 3) := dk_180 0 39 (dk_at dksX3_keep_4 5 rfl rfl)
theorem dX3_keep_102 : decode cX3_keep 102 = .ok (.iload_n 1, 1) := dk_27 (dk_at dksX3_keep_4 8 rfl rfl)
theorem dX3_keep_103 : decode cX3_keep 103 = .ok (.iconst 1, 1) := dk_4 (dk_at dksX3_keep_4 9 rfl rfl)
theorem dX3_keep_104 : decode cX3_keep 104 = .ok (.bastore, 1) := dk_84 (dk_at dksX3_keep_4 10 rfl rfl)
theorem dX3_keep_105 : decode cX3_keep 105 = .ok (.iconst 1, 1) := dk_4 (dk_at dksX3_keep_4 11 rfl rfl)
theorem dX3_keep_106 : decode cX3_keep 106 = .ok (.ireturn, 1) := dk_172 (dk_at dksX3_keep_4 12 rfl rfl)
abbrev cX3_goBack : ByteArray := prog_15_method_65_code
def yX3_goBack : MethodName := ⟨RX3, "goBack", "(I)I"⟩
def dkwX3_goBack_4 : List UInt8 := [132, 2, 1, 167, 255, 228, 42, 42, 180, 0, 35, 27, 47, 181, 1, 43, 4, 172]
abbrev dktX3_goBack_4 : List UInt8 := dkwX3_goBack_4 ++ []
def dkwX3_goBack_3 : List UInt8 := [16, 6, 162, 0, 28, 42, 180, 0, 26, 28, 42, 180, 0, 32, 16, 9, 27, 104, 6, 96, 28, 96, 46, 79]
abbrev dktX3_goBack_3 : List UInt8 := dkwX3_goBack_3 ++ dktX3_goBack_4
def dkwX3_goBack_2 : List UInt8 := [96, 46, 181, 0, 188, 42, 42, 180, 0, 32, 16, 9, 27, 104, 5, 96, 46, 181, 0, 191, 3, 61, 28]
abbrev dktX3_goBack_2 : List UInt8 := dkwX3_goBack_2 ++ dktX3_goBack_3
def dkwX3_goBack_1 : List UInt8 := [172, 42, 42, 180, 0, 32, 16, 9, 27, 104, 46, 182, 0, 223, 42, 42, 180, 0, 32, 16, 9, 27, 104, 4]
abbrev dktX3_goBack_1 : List UInt8 := dkwX3_goBack_1 ++ dktX3_goBack_2
def dkwX3_goBack_0 : List UInt8 := [27, 3, 4, 184, 0, 68, 154, 0, 6, 18, 210, 172, 42, 180, 0, 39, 27, 51, 154, 0, 7, 19, 1, 2]
abbrev dktX3_goBack_0 : List UInt8 := dkwX3_goBack_0 ++ dktX3_goBack_1
theorem dksX3_goBack_0 : cX3_goBack.data.toList.drop 0 = dktX3_goBack_0 := by decide +kernel
theorem dksX3_goBack_1 : cX3_goBack.data.toList.drop 24 = dktX3_goBack_1 := dk_seg dksX3_goBack_0 24 rfl rfl
theorem dksX3_goBack_2 : cX3_goBack.data.toList.drop 48 = dktX3_goBack_2 := dk_seg dksX3_goBack_1 24 rfl rfl
theorem dksX3_goBack_3 : cX3_goBack.data.toList.drop 71 = dktX3_goBack_3 := dk_seg dksX3_goBack_2 23 rfl rfl
theorem dksX3_goBack_4 : cX3_goBack.data.toList.drop 95 = dktX3_goBack_4 := dk_seg dksX3_goBack_3 24 rfl rfl
theorem dX3_goBack_0 : decode cX3_goBack 0 = .ok (.iload_n 1, 1) := dk_27 (dk_at dksX3_goBack_0 0 rfl rfl)
theorem dX3_goBack_1 : decode cX3_goBack 1 = .ok (.iconst 0, 1) := dk_3 (dk_at dksX3_goBack_0 1 rfl rfl)
theorem dX3_goBack_2 : decode cX3_goBack 2 = .ok (.iconst 1, 1) := dk_4 (dk_at dksX3_goBack_0 2 rfl rfl)
theorem dX3_goBack_3 : decode cX3_goBack 3 = .ok (.invokestatic 68, 3) := dk_184 0 68 (dk_at dksX3_goBack_0 3 rfl rfl)
theorem dX3_goBack_6 : decode cX3_goBack 6 = .ok (.ifCond .ne 6, 3) := dk_154 0 6 (dk_at dksX3_goBack_0 6 rfl rfl)
theorem dX3_goBack_9 : decode cX3_goBack 9 = .ok (.ldc 210, 2) := dk_18 210 (dk_at dksX3_goBack_0 9 rfl rfl)
theorem dX3_goBack_11 : decode cX3_goBack 11 = .ok (.ireturn, 1) := dk_172 (dk_at dksX3_goBack_0 11 rfl rfl)
theorem dX3_goBack_12 : decode cX3_goBack 12 = .ok (.aload_n 0, 1) := dk_42 (dk_at dksX3_goBack_0 12 rfl rfl)
theorem dX3_goBack_13 : decode cX3_goBack 13 = .ok (.getfield 39, 3) := dk_180 0 39 (dk_at dksX3_goBack_0 13 rfl rfl)
theorem dX3_goBack_16 : decode cX3_goBack 16 = .ok (.iload_n 1, 1) := dk_27 (dk_at dksX3_goBack_0 16 rfl rfl)
theorem dX3_goBack_17 : decode cX3_goBack 17 = .ok (.baload, 1) := dk_51 (dk_at dksX3_goBack_0 17 rfl rfl)
theorem dX3_goBack_18 : decode cX3_goBack 18 = .ok (.ifCond .ne 7, 3) := dk_154 0 7 (dk_at dksX3_goBack_0 18 rfl rfl)
theorem dX3_goBack_21 : decode cX3_goBack 21 = .ok (.ldc_w 258, 3) := dk_19 1 2 (dk_at dksX3_goBack_0 21 rfl rfl)
theorem dX3_goBack_24 : decode cX3_goBack 24 = .ok (.ireturn, 1) := dk_172 (dk_at dksX3_goBack_1 0 rfl rfl)
theorem dX3_goBack_25 : decode cX3_goBack 25 = .ok (.aload_n 0, 1) := dk_42 (dk_at dksX3_goBack_1 1 rfl rfl)
theorem dX3_goBack_26 : decode cX3_goBack 26 = .ok (.aload_n 0, 1) := dk_42 (dk_at dksX3_goBack_1 2 rfl rfl)
theorem dX3_goBack_27 : decode cX3_goBack 27 = .ok (.getfield 32, 3) := dk_180 0 32 (dk_at dksX3_goBack_1 3 rfl rfl)
theorem dX3_goBack_30 : decode cX3_goBack 30 = .ok (.bipush 9, 2) := dk_16 9 (dk_at dksX3_goBack_1 6 rfl rfl)
theorem dX3_goBack_32 : decode cX3_goBack 32 = .ok (.iload_n 1, 1) := dk_27 (dk_at dksX3_goBack_1 8 rfl rfl)
theorem dX3_goBack_33 : decode cX3_goBack 33 = .ok (.imul, 1) := dk_104 (dk_at dksX3_goBack_1 9 rfl rfl)
theorem dX3_goBack_34 : decode cX3_goBack 34 = .ok (.iaload, 1) := dk_46 (dk_at dksX3_goBack_1 10 rfl rfl)
theorem dX3_goBack_35 : decode cX3_goBack 35 = .ok (.invokevirtual 223, 3) := dk_182 0 223 (dk_at dksX3_goBack_1 11 rfl rfl)
theorem dX3_goBack_38 : decode cX3_goBack 38 = .ok (.aload_n 0, 1) := dk_42 (dk_at dksX3_goBack_1 14 rfl rfl)
theorem dX3_goBack_39 : decode cX3_goBack 39 = .ok (.aload_n 0, 1) := dk_42 (dk_at dksX3_goBack_1 15 rfl rfl)
theorem dX3_goBack_40 : decode cX3_goBack 40 = .ok (.getfield 32, 3) := dk_180 0 32 (dk_at dksX3_goBack_1 16 rfl rfl)
theorem dX3_goBack_43 : decode cX3_goBack 43 = .ok (.bipush 9, 2) := dk_16 9 (dk_at dksX3_goBack_1 19 rfl rfl)
theorem dX3_goBack_45 : decode cX3_goBack 45 = .ok (.iload_n 1, 1) := dk_27 (dk_at dksX3_goBack_1 21 rfl rfl)
theorem dX3_goBack_46 : decode cX3_goBack 46 = .ok (.imul, 1) := dk_104 (dk_at dksX3_goBack_1 22 rfl rfl)
theorem dX3_goBack_47 : decode cX3_goBack 47 = .ok (.iconst 1, 1) := dk_4 (dk_at dksX3_goBack_1 23 rfl rfl)
theorem dX3_goBack_48 : decode cX3_goBack 48 = .ok (.iadd, 1) := dk_96 (dk_at dksX3_goBack_2 0 rfl rfl)
theorem dX3_goBack_49 : decode cX3_goBack 49 = .ok (.iaload, 1) := dk_46 (dk_at dksX3_goBack_2 1 rfl rfl)
theorem dX3_goBack_50 : decode cX3_goBack 50 = .ok (.putfield 188, 3) := dk_181 0 188 (dk_at dksX3_goBack_2 2 rfl rfl)
theorem dX3_goBack_53 : decode cX3_goBack 53 = .ok (.aload_n 0, 1) := dk_42 (dk_at dksX3_goBack_2 5 rfl rfl)
theorem dX3_goBack_54 : decode cX3_goBack 54 = .ok (.aload_n 0, 1) := dk_42 (dk_at dksX3_goBack_2 6 rfl rfl)
theorem dX3_goBack_55 : decode cX3_goBack 55 = .ok (.getfield 32, 3) := dk_180 0 32 (dk_at dksX3_goBack_2 7 rfl rfl)
theorem dX3_goBack_58 : decode cX3_goBack 58 = .ok (.bipush 9, 2) := dk_16 9 (dk_at dksX3_goBack_2 10 rfl rfl)
theorem dX3_goBack_60 : decode cX3_goBack 60 = .ok (.iload_n 1, 1) := dk_27 (dk_at dksX3_goBack_2 12 rfl rfl)
theorem dX3_goBack_61 : decode cX3_goBack 61 = .ok (.imul, 1) := dk_104 (dk_at dksX3_goBack_2 13 rfl rfl)
theorem dX3_goBack_62 : decode cX3_goBack 62 = .ok (.iconst 2, 1) := dk_5 (dk_at dksX3_goBack_2 14 rfl rfl)
theorem dX3_goBack_63 : decode cX3_goBack 63 = .ok (.iadd, 1) := dk_96 (dk_at dksX3_goBack_2 15 rfl rfl)
theorem dX3_goBack_64 : decode cX3_goBack 64 = .ok (.iaload, 1) := dk_46 (dk_at dksX3_goBack_2 16 rfl rfl)
theorem dX3_goBack_65 : decode cX3_goBack 65 = .ok (.putfield 191, 3) := dk_181 0 191 (dk_at dksX3_goBack_2 17 rfl rfl)
theorem dX3_goBack_68 : decode cX3_goBack 68 = .ok (.iconst 0, 1) := dk_3 (dk_at dksX3_goBack_2 20 rfl rfl)
theorem dX3_goBack_69 : decode cX3_goBack 69 = .ok (.istore_n 2, 1) := dk_61 (dk_at dksX3_goBack_2 21 rfl rfl)
theorem dX3_goBack_70 : decode cX3_goBack 70 = .ok (.iload_n 2, 1) := dk_28 (dk_at dksX3_goBack_2 22 rfl rfl)
theorem dX3_goBack_71 : decode cX3_goBack 71 = .ok (.bipush 6, 2) := dk_16 6 (dk_at dksX3_goBack_3 0 rfl rfl)
theorem dX3_goBack_73 : decode cX3_goBack 73 = .ok (.if_icmp .ge 28, 3) := dk_162 0 28 (dk_at dksX3_goBack_3 2 rfl rfl)
theorem dX3_goBack_76 : decode cX3_goBack 76 = .ok (.aload_n 0, 1) := dk_42 (dk_at dksX3_goBack_3 5 rfl rfl)
theorem dX3_goBack_77 : decode cX3_goBack 77 = .ok (.getfield 26, 3) := dk_180 0 26 (dk_at dksX3_goBack_3 6 rfl rfl)
theorem dX3_goBack_80 : decode cX3_goBack 80 = .ok (.iload_n 2, 1) := dk_28 (dk_at dksX3_goBack_3 9 rfl rfl)
theorem dX3_goBack_81 : decode cX3_goBack 81 = .ok (.aload_n 0, 1) := dk_42 (dk_at dksX3_goBack_3 10 rfl rfl)
theorem dX3_goBack_82 : decode cX3_goBack 82 = .ok (.getfield 32, 3) := dk_180 0 32 (dk_at dksX3_goBack_3 11 rfl rfl)
theorem dX3_goBack_85 : decode cX3_goBack 85 = .ok (.bipush 9, 2) := dk_16 9 (dk_at dksX3_goBack_3 14 rfl rfl)
theorem dX3_goBack_87 : decode cX3_goBack 87 = .ok (.iload_n 1, 1) := dk_27 (dk_at dksX3_goBack_3 16 rfl rfl)
theorem dX3_goBack_88 : decode cX3_goBack 88 = .ok (.imul, 1) := dk_104 (dk_at dksX3_goBack_3 17 rfl rfl)
theorem dX3_goBack_89 : decode cX3_goBack 89 = .ok (.iconst 3, 1) := dk_6 (dk_at dksX3_goBack_3 18 rfl rfl)
theorem dX3_goBack_90 : decode cX3_goBack 90 = .ok (.iadd, 1) := dk_96 (dk_at dksX3_goBack_3 19 rfl rfl)
theorem dX3_goBack_91 : decode cX3_goBack 91 = .ok (.iload_n 2, 1) := dk_28 (dk_at dksX3_goBack_3 20 rfl rfl)
theorem dX3_goBack_92 : decode cX3_goBack 92 = .ok (.iadd, 1) := dk_96 (dk_at dksX3_goBack_3 21 rfl rfl)
theorem dX3_goBack_93 : decode cX3_goBack 93 = .ok (.iaload, 1) := dk_46 (dk_at dksX3_goBack_3 22 rfl rfl)
theorem dX3_goBack_94 : decode cX3_goBack 94 = .ok (.iastore, 1) := dk_79 (dk_at dksX3_goBack_3 23 rfl rfl)
theorem dX3_goBack_95 : decode cX3_goBack 95 = .ok (.iinc 2 1, 3) := dk_132 2 1 (dk_at dksX3_goBack_4 0 rfl rfl)
theorem dX3_goBack_98 : decode cX3_goBack 98 = .ok (.goto (-28), 3) := dk_167 255 228 (dk_at dksX3_goBack_4 3 rfl rfl)
theorem dX3_goBack_101 : decode cX3_goBack 101 = .ok (.aload_n 0, 1) := dk_42 (dk_at dksX3_goBack_4 6 rfl rfl)
theorem dX3_goBack_102 : decode cX3_goBack 102 = .ok (.aload_n 0, 1) := dk_42 (dk_at dksX3_goBack_4 7 rfl rfl)
theorem dX3_goBack_103 : decode cX3_goBack 103 = .ok (.getfield 35, 3) := dk_180 0 35 (dk_at dksX3_goBack_4 8 rfl rfl)
theorem dX3_goBack_106 : decode cX3_goBack 106 = .ok (.iload_n 1, 1) := dk_27 (dk_at dksX3_goBack_4 11 rfl rfl)
theorem dX3_goBack_107 : decode cX3_goBack 107 = .ok (.laload, 1) := dk_47 (dk_at dksX3_goBack_4 12 rfl rfl)
theorem dX3_goBack_108 : decode cX3_goBack 108 = .ok (.putfield 299, 3) := dk_181 1 43 (dk_at dksX3_goBack_4 13 rfl rfl)
theorem dX3_goBack_111 : decode cX3_goBack 111 = .ok (.iconst 1, 1) := dk_4 (dk_at dksX3_goBack_4 16 rfl rfl)
theorem dX3_goBack_112 : decode cX3_goBack 112 = .ok (.ireturn, 1) := dk_172 (dk_at dksX3_goBack_4 17 rfl rfl)
theorem q64 : (Jvm.Cond.initialized "FewKeysModel") ∈ lw_all := lw_g (lw_at lw_m1 4 rfl) rfl
theorem q1093 : (Jvm.Cond.instantiable "FewKeysModel" (41 : Nat)) ∈ lw_all := lw_g (lw_at lw_m5 73 rfl) rfl
theorem q1095 : (Jvm.Cond.instanceMethod ({ cls := "FewKeysModel", name := "<init>", desc := "()V" } : Jvm.MethodName)) ∈ lw_all := lw_g (lw_at lw_m5 75 rfl) rfl
theorem q1096 : (Jvm.Cond.code ({ cls := "FewKeysModel", name := "<init>", desc := "()V" } : Jvm.MethodName) prog_15_method_1_code (1 : Nat) (Option.none : Option Jvm.ClassFile.FieldType)) ∈ lw_all := lw_g (lw_at lw_m5 76 rfl) rfl
theorem q1097 : (Jvm.Cond.methodLink "FewKeysModel" (1 : Nat) ({ cls := "java/lang/Object", name := "<init>", desc := "()V" } : Jvm.MethodName)) ∈ lw_all := lw_g (lw_at lw_m5 77 rfl) rfl
theorem q1098 : (Jvm.Cond.constant "FewKeysModel" (43 : Nat) (80000 : Int32)) ∈ lw_all := lw_g (lw_at lw_m5 78 rfl) rfl
theorem q1099 : (Jvm.Cond.fieldLink "FewKeysModel" (7 : Nat) "FewKeysModel" "kind" "I") ∈ lw_all := lw_g (lw_at lw_m5 79 rfl) rfl
theorem q1100 : (Jvm.Cond.fieldLink "FewKeysModel" (176 : Nat) "FewKeysModel" "base" "I") ∈ lw_all := lw_g (lw_at lw_m5 80 rfl) rfl
theorem q1101 : (Jvm.Cond.fieldLink "FewKeysModel" (179 : Nat) "FewKeysModel" "figures" "I") ∈ lw_all := lw_g (lw_at lw_m5 81 rfl) rfl
theorem q1102 : (Jvm.Cond.fieldLink "FewKeysModel" (65 : Nat) "FewKeysModel" "numbers" "I") ∈ lw_all := lw_g (lw_at lw_m5 82 rfl) rfl
theorem q1103 : (Jvm.Cond.fieldLink "FewKeysModel" (182 : Nat) "FewKeysModel" "keys" "I") ∈ lw_all := lw_g (lw_at lw_m5 83 rfl) rfl
theorem q1104 : (Jvm.Cond.fieldLink "FewKeysModel" (13 : Nat) "FewKeysModel" "key" "[I") ∈ lw_all := lw_g (lw_at lw_m5 84 rfl) rfl
theorem q1105 : (Jvm.Cond.fieldLink "FewKeysModel" (73 : Nat) "FewKeysModel" "bytes" "I") ∈ lw_all := lw_g (lw_at lw_m5 85 rfl) rfl
theorem q1106 : (Jvm.Cond.fieldLink "FewKeysModel" (17 : Nat) "FewKeysModel" "text" "[I") ∈ lw_all := lw_g (lw_at lw_m5 86 rfl) rfl
theorem q1107 : (Jvm.Cond.fieldLink "FewKeysModel" (79 : Nat) "FewKeysModel" "position" "I") ∈ lw_all := lw_g (lw_at lw_m5 87 rfl) rfl
theorem q1108 : (Jvm.Cond.fieldLink "FewKeysModel" (82 : Nat) "FewKeysModel" "tokenAt" "I") ∈ lw_all := lw_g (lw_at lw_m5 88 rfl) rfl
theorem q1109 : (Jvm.Cond.fieldLink "FewKeysModel" (93 : Nat) "FewKeysModel" "token" "J") ∈ lw_all := lw_g (lw_at lw_m5 89 rfl) rfl
theorem q1110 : (Jvm.Cond.fieldLink "FewKeysModel" (85 : Nat) "FewKeysModel" "digits" "I") ∈ lw_all := lw_g (lw_at lw_m5 90 rfl) rfl
theorem q1111 : (Jvm.Cond.fieldLink "FewKeysModel" (88 : Nat) "FewKeysModel" "number" "I") ∈ lw_all := lw_g (lw_at lw_m5 91 rfl) rfl
theorem q1112 : (Jvm.Cond.fieldLink "FewKeysModel" (20 : Nat) "FewKeysModel" "faultAt" "I") ∈ lw_all := lw_g (lw_at lw_m5 92 rfl) rfl
theorem q1113 : (Jvm.Cond.fieldLink "FewKeysModel" (107 : Nat) "FewKeysModel" "faultIs" "I") ∈ lw_all := lw_g (lw_at lw_m5 93 rfl) rfl
theorem q1114 : (Jvm.Cond.fieldLink "FewKeysModel" (121 : Nat) "FewKeysModel" "readKind" "I") ∈ lw_all := lw_g (lw_at lw_m5 94 rfl) rfl
theorem q1115 : (Jvm.Cond.fieldLink "FewKeysModel" (127 : Nat) "FewKeysModel" "readBase" "I") ∈ lw_all := lw_g (lw_at lw_m5 95 rfl) rfl
theorem q1116 : (Jvm.Cond.fieldLink "FewKeysModel" (130 : Nat) "FewKeysModel" "readFigures" "I") ∈ lw_all := lw_g (lw_at lw_m5 96 rfl) rfl
theorem q1117 : (Jvm.Cond.fieldLink "FewKeysModel" (133 : Nat) "FewKeysModel" "readNumbers" "I") ∈ lw_all := lw_g (lw_at lw_m5 97 rfl) rfl
theorem q1118 : (Jvm.Cond.fieldLink "FewKeysModel" (161 : Nat) "FewKeysModel" "readKeys" "I") ∈ lw_all := lw_g (lw_at lw_m5 98 rfl) rfl
theorem q1119 : (Jvm.Cond.fieldLink "FewKeysModel" (23 : Nat) "FewKeysModel" "read" "[I") ∈ lw_all := lw_g (lw_at lw_m5 99 rfl) rfl
theorem q1120 : (Jvm.Cond.fieldLink "FewKeysModel" (197 : Nat) "FewKeysModel" "shown" "I") ∈ lw_all := lw_g (lw_at lw_m5 100 rfl) rfl
theorem q1121 : (Jvm.Cond.fieldLink "FewKeysModel" (200 : Nat) "FewKeysModel" "waits" "I") ∈ lw_all := lw_g (lw_at lw_m5 101 rfl) rfl
theorem q1122 : (Jvm.Cond.fieldLink "FewKeysModel" (203 : Nat) "FewKeysModel" "held" "I") ∈ lw_all := lw_g (lw_at lw_m5 102 rfl) rfl
theorem q1123 : (Jvm.Cond.fieldLink "FewKeysModel" (206 : Nat) "FewKeysModel" "isTyped" "Z") ∈ lw_all := lw_g (lw_at lw_m5 103 rfl) rfl
theorem q1124 : (Jvm.Cond.fieldLink "FewKeysModel" (188 : Nat) "FewKeysModel" "spent" "I") ∈ lw_all := lw_g (lw_at lw_m5 104 rfl) rfl
theorem q1125 : (Jvm.Cond.fieldLink "FewKeysModel" (299 : Nat) "FewKeysModel" "seed" "J") ∈ lw_all := lw_g (lw_at lw_m5 105 rfl) rfl
theorem q1126 : (Jvm.Cond.fieldLink "FewKeysModel" (191 : Nat) "FewKeysModel" "targets" "I") ∈ lw_all := lw_g (lw_at lw_m5 106 rfl) rfl
theorem q1127 : (Jvm.Cond.fieldLink "FewKeysModel" (26 : Nat) "FewKeysModel" "target" "[I") ∈ lw_all := lw_g (lw_at lw_m5 107 rfl) rfl
theorem q1128 : (Jvm.Cond.fieldLink "FewKeysModel" (194 : Nat) "FewKeysModel" "entries" "I") ∈ lw_all := lw_g (lw_at lw_m5 108 rfl) rfl
theorem q1129 : (Jvm.Cond.fieldLink "FewKeysModel" (29 : Nat) "FewKeysModel" "book" "[I") ∈ lw_all := lw_g (lw_at lw_m5 109 rfl) rfl
theorem q1130 : (Jvm.Cond.fieldLink "FewKeysModel" (32 : Nat) "FewKeysModel" "image" "[I") ∈ lw_all := lw_g (lw_at lw_m5 110 rfl) rfl
theorem q1131 : (Jvm.Cond.fieldLink "FewKeysModel" (35 : Nat) "FewKeysModel" "imageSeed" "[J") ∈ lw_all := lw_g (lw_at lw_m5 111 rfl) rfl
theorem q1132 : (Jvm.Cond.fieldLink "FewKeysModel" (39 : Nat) "FewKeysModel" "isKept" "[Z") ∈ lw_all := lw_g (lw_at lw_m5 112 rfl) rfl
theorem q1133 : (Jvm.Cond.fieldLink "FewKeysModel" (44 : Nat) "FewKeysModel" "far" "[I") ∈ lw_all := lw_g (lw_at lw_m5 113 rfl) rfl
theorem q1134 : (Jvm.Cond.fieldLink "FewKeysModel" (47 : Nat) "FewKeysModel" "line" "[I") ∈ lw_all := lw_g (lw_at lw_m5 114 rfl) rfl
theorem q1135 : (Jvm.Cond.fieldLink "FewKeysModel" (50 : Nat) "FewKeysModel" "by" "[I") ∈ lw_all := lw_g (lw_at lw_m5 115 rfl) rfl
theorem q1136 : (Jvm.Cond.fieldLink "FewKeysModel" (53 : Nat) "FewKeysModel" "more" "[I") ∈ lw_all := lw_g (lw_at lw_m5 116 rfl) rfl
theorem q1137 : (Jvm.Cond.fieldLink "FewKeysModel" (56 : Nat) "FewKeysModel" "fewest" "[I") ∈ lw_all := lw_g (lw_at lw_m5 117 rfl) rfl
theorem q1138 : (Jvm.Cond.fieldLink "FewKeysModel" (59 : Nat) "FewKeysModel" "first" "[I") ∈ lw_all := lw_g (lw_at lw_m5 118 rfl) rfl
theorem q1139 : (Jvm.Cond.fieldLink "FewKeysModel" (62 : Nat) "FewKeysModel" "heads" "[I") ∈ lw_all := lw_g (lw_at lw_m5 119 rfl) rfl
theorem q1140 : (Jvm.Cond.lays "FewKeysModel" "FewKeysModel" "kind" "I") ∈ lw_all := lw_g (lw_at lw_m5 120 rfl) rfl
theorem q1141 : (Jvm.Cond.soleField "FewKeysModel" "kind") ∈ lw_all := lw_g (lw_at lw_m5 121 rfl) rfl
theorem q1142 : (Jvm.Cond.lays "FewKeysModel" "FewKeysModel" "base" "I") ∈ lw_all := lw_g (lw_at lw_m5 122 rfl) rfl
theorem q1143 : (Jvm.Cond.soleField "FewKeysModel" "base") ∈ lw_all := lw_g (lw_at lw_m5 123 rfl) rfl
theorem q1144 : (Jvm.Cond.lays "FewKeysModel" "FewKeysModel" "figures" "I") ∈ lw_all := lw_g (lw_at lw_m5 124 rfl) rfl
theorem q1145 : (Jvm.Cond.soleField "FewKeysModel" "figures") ∈ lw_all := lw_g (lw_at lw_m5 125 rfl) rfl
theorem q1146 : (Jvm.Cond.lays "FewKeysModel" "FewKeysModel" "numbers" "I") ∈ lw_all := lw_g (lw_at lw_m5 126 rfl) rfl
theorem q1147 : (Jvm.Cond.soleField "FewKeysModel" "numbers") ∈ lw_all := lw_g (lw_at lw_m5 127 rfl) rfl
theorem q1148 : (Jvm.Cond.lays "FewKeysModel" "FewKeysModel" "keys" "I") ∈ lw_all := lw_g (lw_at lw_m5 128 rfl) rfl
theorem q1149 : (Jvm.Cond.soleField "FewKeysModel" "keys") ∈ lw_all := lw_g (lw_at lw_m5 129 rfl) rfl
theorem q1150 : (Jvm.Cond.laysFinal "FewKeysModel" "FewKeysModel" "key" "[I") ∈ lw_all := lw_g (lw_at lw_m5 130 rfl) rfl
theorem q1151 : (Jvm.Cond.soleField "FewKeysModel" "key") ∈ lw_all := lw_g (lw_at lw_m5 131 rfl) rfl
theorem q1152 : (Jvm.Cond.lays "FewKeysModel" "FewKeysModel" "bytes" "I") ∈ lw_all := lw_g (lw_at lw_m5 132 rfl) rfl
theorem q1153 : (Jvm.Cond.soleField "FewKeysModel" "bytes") ∈ lw_all := lw_g (lw_at lw_m5 133 rfl) rfl
theorem q1154 : (Jvm.Cond.laysFinal "FewKeysModel" "FewKeysModel" "text" "[I") ∈ lw_all := lw_g (lw_at lw_m5 134 rfl) rfl
theorem q1155 : (Jvm.Cond.soleField "FewKeysModel" "text") ∈ lw_all := lw_g (lw_at lw_m5 135 rfl) rfl
theorem q1156 : (Jvm.Cond.lays "FewKeysModel" "FewKeysModel" "position" "I") ∈ lw_all := lw_g (lw_at lw_m5 136 rfl) rfl
theorem q1157 : (Jvm.Cond.soleField "FewKeysModel" "position") ∈ lw_all := lw_g (lw_at lw_m5 137 rfl) rfl
theorem q1158 : (Jvm.Cond.lays "FewKeysModel" "FewKeysModel" "tokenAt" "I") ∈ lw_all := lw_g (lw_at lw_m5 138 rfl) rfl
theorem q1159 : (Jvm.Cond.soleField "FewKeysModel" "tokenAt") ∈ lw_all := lw_g (lw_at lw_m5 139 rfl) rfl
theorem q1160 : (Jvm.Cond.lays "FewKeysModel" "FewKeysModel" "token" "J") ∈ lw_all := lw_g (lw_at lw_m5 140 rfl) rfl
theorem q1161 : (Jvm.Cond.soleField "FewKeysModel" "token") ∈ lw_all := lw_g (lw_at lw_m5 141 rfl) rfl
theorem q1162 : (Jvm.Cond.lays "FewKeysModel" "FewKeysModel" "digits" "I") ∈ lw_all := lw_g (lw_at lw_m5 142 rfl) rfl
theorem q1163 : (Jvm.Cond.soleField "FewKeysModel" "digits") ∈ lw_all := lw_g (lw_at lw_m5 143 rfl) rfl
theorem q1164 : (Jvm.Cond.lays "FewKeysModel" "FewKeysModel" "number" "I") ∈ lw_all := lw_g (lw_at lw_m5 144 rfl) rfl
theorem q1165 : (Jvm.Cond.soleField "FewKeysModel" "number") ∈ lw_all := lw_g (lw_at lw_m5 145 rfl) rfl
theorem q1166 : (Jvm.Cond.lays "FewKeysModel" "FewKeysModel" "faultAt" "I") ∈ lw_all := lw_g (lw_at lw_m5 146 rfl) rfl
theorem q1167 : (Jvm.Cond.soleField "FewKeysModel" "faultAt") ∈ lw_all := lw_g (lw_at lw_m5 147 rfl) rfl
theorem q1168 : (Jvm.Cond.lays "FewKeysModel" "FewKeysModel" "faultIs" "I") ∈ lw_all := lw_g (lw_at lw_m5 148 rfl) rfl
theorem q1169 : (Jvm.Cond.soleField "FewKeysModel" "faultIs") ∈ lw_all := lw_g (lw_at lw_m5 149 rfl) rfl
theorem q1170 : (Jvm.Cond.lays "FewKeysModel" "FewKeysModel" "readKind" "I") ∈ lw_all := lw_g (lw_at lw_m5 150 rfl) rfl
theorem q1171 : (Jvm.Cond.soleField "FewKeysModel" "readKind") ∈ lw_all := lw_g (lw_at lw_m5 151 rfl) rfl
theorem q1172 : (Jvm.Cond.lays "FewKeysModel" "FewKeysModel" "readBase" "I") ∈ lw_all := lw_g (lw_at lw_m5 152 rfl) rfl
theorem q1173 : (Jvm.Cond.soleField "FewKeysModel" "readBase") ∈ lw_all := lw_g (lw_at lw_m5 153 rfl) rfl
theorem q1174 : (Jvm.Cond.lays "FewKeysModel" "FewKeysModel" "readFigures" "I") ∈ lw_all := lw_g (lw_at lw_m5 154 rfl) rfl
theorem q1175 : (Jvm.Cond.soleField "FewKeysModel" "readFigures") ∈ lw_all := lw_g (lw_at lw_m5 155 rfl) rfl
theorem q1176 : (Jvm.Cond.lays "FewKeysModel" "FewKeysModel" "readNumbers" "I") ∈ lw_all := lw_g (lw_at lw_m5 156 rfl) rfl
theorem q1177 : (Jvm.Cond.soleField "FewKeysModel" "readNumbers") ∈ lw_all := lw_g (lw_at lw_m5 157 rfl) rfl
theorem q1178 : (Jvm.Cond.lays "FewKeysModel" "FewKeysModel" "readKeys" "I") ∈ lw_all := lw_g (lw_at lw_m5 158 rfl) rfl
theorem q1179 : (Jvm.Cond.soleField "FewKeysModel" "readKeys") ∈ lw_all := lw_g (lw_at lw_m5 159 rfl) rfl
theorem q1180 : (Jvm.Cond.laysFinal "FewKeysModel" "FewKeysModel" "read" "[I") ∈ lw_all := lw_g (lw_at lw_m5 160 rfl) rfl
theorem q1181 : (Jvm.Cond.soleField "FewKeysModel" "read") ∈ lw_all := lw_g (lw_at lw_m5 161 rfl) rfl
theorem q1182 : (Jvm.Cond.lays "FewKeysModel" "FewKeysModel" "shown" "I") ∈ lw_all := lw_g (lw_at lw_m5 162 rfl) rfl
theorem q1183 : (Jvm.Cond.soleField "FewKeysModel" "shown") ∈ lw_all := lw_g (lw_at lw_m5 163 rfl) rfl
theorem q1184 : (Jvm.Cond.lays "FewKeysModel" "FewKeysModel" "waits" "I") ∈ lw_all := lw_g (lw_at lw_m5 164 rfl) rfl
theorem q1185 : (Jvm.Cond.soleField "FewKeysModel" "waits") ∈ lw_all := lw_g (lw_at lw_m5 165 rfl) rfl
theorem q1186 : (Jvm.Cond.lays "FewKeysModel" "FewKeysModel" "held" "I") ∈ lw_all := lw_g (lw_at lw_m5 166 rfl) rfl
theorem q1187 : (Jvm.Cond.soleField "FewKeysModel" "held") ∈ lw_all := lw_g (lw_at lw_m5 167 rfl) rfl
theorem q1188 : (Jvm.Cond.lays "FewKeysModel" "FewKeysModel" "isTyped" "Z") ∈ lw_all := lw_g (lw_at lw_m5 168 rfl) rfl
theorem q1189 : (Jvm.Cond.soleField "FewKeysModel" "isTyped") ∈ lw_all := lw_g (lw_at lw_m5 169 rfl) rfl
theorem q1190 : (Jvm.Cond.lays "FewKeysModel" "FewKeysModel" "spent" "I") ∈ lw_all := lw_g (lw_at lw_m5 170 rfl) rfl
theorem q1191 : (Jvm.Cond.soleField "FewKeysModel" "spent") ∈ lw_all := lw_g (lw_at lw_m5 171 rfl) rfl
theorem q1192 : (Jvm.Cond.lays "FewKeysModel" "FewKeysModel" "seed" "J") ∈ lw_all := lw_g (lw_at lw_m5 172 rfl) rfl
theorem q1193 : (Jvm.Cond.soleField "FewKeysModel" "seed") ∈ lw_all := lw_g (lw_at lw_m5 173 rfl) rfl
theorem q1194 : (Jvm.Cond.lays "FewKeysModel" "FewKeysModel" "targets" "I") ∈ lw_all := lw_g (lw_at lw_m5 174 rfl) rfl
theorem q1195 : (Jvm.Cond.soleField "FewKeysModel" "targets") ∈ lw_all := lw_g (lw_at lw_m5 175 rfl) rfl
theorem q1196 : (Jvm.Cond.laysFinal "FewKeysModel" "FewKeysModel" "target" "[I") ∈ lw_all := lw_g (lw_at lw_m5 176 rfl) rfl
theorem q1197 : (Jvm.Cond.soleField "FewKeysModel" "target") ∈ lw_all := lw_g (lw_at lw_m5 177 rfl) rfl
theorem q1198 : (Jvm.Cond.lays "FewKeysModel" "FewKeysModel" "entries" "I") ∈ lw_all := lw_g (lw_at lw_m5 178 rfl) rfl
theorem q1199 : (Jvm.Cond.soleField "FewKeysModel" "entries") ∈ lw_all := lw_g (lw_at lw_m5 179 rfl) rfl
theorem q1200 : (Jvm.Cond.laysFinal "FewKeysModel" "FewKeysModel" "book" "[I") ∈ lw_all := lw_g (lw_at lw_m5 180 rfl) rfl
theorem q1201 : (Jvm.Cond.soleField "FewKeysModel" "book") ∈ lw_all := lw_g (lw_at lw_m5 181 rfl) rfl
theorem q1202 : (Jvm.Cond.laysFinal "FewKeysModel" "FewKeysModel" "image" "[I") ∈ lw_all := lw_g (lw_at lw_m5 182 rfl) rfl
theorem q1203 : (Jvm.Cond.soleField "FewKeysModel" "image") ∈ lw_all := lw_g (lw_at lw_m5 183 rfl) rfl
theorem q1204 : (Jvm.Cond.laysFinal "FewKeysModel" "FewKeysModel" "imageSeed" "[J") ∈ lw_all := lw_g (lw_at lw_m5 184 rfl) rfl
theorem q1205 : (Jvm.Cond.soleField "FewKeysModel" "imageSeed") ∈ lw_all := lw_g (lw_at lw_m5 185 rfl) rfl
theorem q1206 : (Jvm.Cond.laysFinal "FewKeysModel" "FewKeysModel" "isKept" "[Z") ∈ lw_all := lw_g (lw_at lw_m5 186 rfl) rfl
theorem q1207 : (Jvm.Cond.soleField "FewKeysModel" "isKept") ∈ lw_all := lw_g (lw_at lw_m5 187 rfl) rfl
theorem q1208 : (Jvm.Cond.laysFinal "FewKeysModel" "FewKeysModel" "far" "[I") ∈ lw_all := lw_g (lw_at lw_m5 188 rfl) rfl
theorem q1209 : (Jvm.Cond.soleField "FewKeysModel" "far") ∈ lw_all := lw_g (lw_at lw_m5 189 rfl) rfl
theorem q1210 : (Jvm.Cond.laysFinal "FewKeysModel" "FewKeysModel" "line" "[I") ∈ lw_all := lw_g (lw_at lw_m5 190 rfl) rfl
theorem q1211 : (Jvm.Cond.soleField "FewKeysModel" "line") ∈ lw_all := lw_g (lw_at lw_m5 191 rfl) rfl
theorem q1212 : (Jvm.Cond.laysFinal "FewKeysModel" "FewKeysModel" "by" "[I") ∈ lw_all := lw_g (lw_at lw_m5 192 rfl) rfl
theorem q1213 : (Jvm.Cond.soleField "FewKeysModel" "by") ∈ lw_all := lw_g (lw_at lw_m5 193 rfl) rfl
theorem q1214 : (Jvm.Cond.laysFinal "FewKeysModel" "FewKeysModel" "more" "[I") ∈ lw_all := lw_g (lw_at lw_m5 194 rfl) rfl
theorem q1215 : (Jvm.Cond.soleField "FewKeysModel" "more") ∈ lw_all := lw_g (lw_at lw_m5 195 rfl) rfl
theorem q1216 : (Jvm.Cond.laysFinal "FewKeysModel" "FewKeysModel" "fewest" "[I") ∈ lw_all := lw_g (lw_at lw_m5 196 rfl) rfl
theorem q1217 : (Jvm.Cond.soleField "FewKeysModel" "fewest") ∈ lw_all := lw_g (lw_at lw_m5 197 rfl) rfl
theorem q1218 : (Jvm.Cond.laysFinal "FewKeysModel" "FewKeysModel" "first" "[I") ∈ lw_all := lw_g (lw_at lw_m5 198 rfl) rfl
theorem q1219 : (Jvm.Cond.soleField "FewKeysModel" "first") ∈ lw_all := lw_g (lw_at lw_m5 199 rfl) rfl
theorem q1220 : (Jvm.Cond.laysFinal "FewKeysModel" "FewKeysModel" "heads" "[I") ∈ lw_all := lw_g (lw_at lw_m5 200 rfl) rfl
theorem q1221 : (Jvm.Cond.soleField "FewKeysModel" "heads") ∈ lw_all := lw_g (lw_at lw_m5 201 rfl) rfl
theorem q1222 : (Jvm.Cond.superclass "FewKeysModel" "java/lang/Object") ∈ lw_all := lw_g (lw_at lw_m5 202 rfl) rfl
theorem q1225 : (Jvm.Cond.instanceMethod ({ cls := "FewKeysModel", name := "feed", desc := "(IJ)I" } : Jvm.MethodName)) ∈ lw_all := lw_g (lw_at lw_m5 205 rfl) rfl
theorem q1226 : (Jvm.Cond.selects "FewKeysModel" ({ cls := "FewKeysModel", name := "feed", desc := "(IJ)I" } : Jvm.MethodName) ({ cls := "FewKeysModel", name := "feed", desc := "(IJ)I" } : Jvm.MethodName)) ∈ lw_all := lw_g (lw_at lw_m5 206 rfl) rfl
theorem q1227 : (Jvm.Cond.code ({ cls := "FewKeysModel", name := "feed", desc := "(IJ)I" } : Jvm.MethodName) prog_15_method_5_code (5 : Nat) (Option.some Jvm.ClassFile.FieldType.int)) ∈ lw_all := lw_g (lw_at lw_m5 207 rfl) rfl
theorem q1228 : (Jvm.Cond.methodLink "FewKeysModel" (68 : Nat) ({ cls := "FewKeysModel", name := "in", desc := "(III)Z" } : Jvm.MethodName)) ∈ lw_all := lw_g (lw_at lw_m5 208 rfl) rfl
theorem q1229 : (Jvm.Cond.static ({ cls := "FewKeysModel", name := "in", desc := "(III)Z" } : Jvm.MethodName)) ∈ lw_all := lw_g (lw_at lw_m5 209 rfl) rfl
theorem q1230 : (Jvm.Cond.code ({ cls := "FewKeysModel", name := "in", desc := "(III)Z" } : Jvm.MethodName) prog_15_method_2_code (3 : Nat) (Option.some Jvm.ClassFile.FieldType.boolean)) ∈ lw_all := lw_g (lw_at lw_m5 210 rfl) rfl
theorem q1231 : (Jvm.Cond.constant "FewKeysModel" (72 : Nat) (-1000000002 : Int32)) ∈ lw_all := lw_g (lw_at lw_m5 211 rfl) rfl
theorem q1232 : (Jvm.Cond.constant "FewKeysModel" (76 : Nat) (-1000000004 : Int32)) ∈ lw_all := lw_g (lw_at lw_m5 212 rfl) rfl
theorem q1233 : (Jvm.Cond.constantLong "FewKeysModel" (77 : Nat) (255 : Int64)) ∈ lw_all := lw_g (lw_at lw_m5 213 rfl) rfl
theorem q1235 : (Jvm.Cond.instanceMethod ({ cls := "FewKeysModel", name := "reckoner", desc := "()I" } : Jvm.MethodName)) ∈ lw_all := lw_g (lw_at lw_m5 215 rfl) rfl
theorem q1236 : (Jvm.Cond.selects "FewKeysModel" ({ cls := "FewKeysModel", name := "reckoner", desc := "()I" } : Jvm.MethodName) ({ cls := "FewKeysModel", name := "reckoner", desc := "()I" } : Jvm.MethodName)) ∈ lw_all := lw_g (lw_at lw_m5 216 rfl) rfl
theorem q1237 : (Jvm.Cond.code ({ cls := "FewKeysModel", name := "reckoner", desc := "()I" } : Jvm.MethodName) prog_15_method_15_code (3 : Nat) (Option.some Jvm.ClassFile.FieldType.int)) ∈ lw_all := lw_g (lw_at lw_m5 217 rfl) rfl
theorem q1238 : (Jvm.Cond.methodLink "FewKeysModel" (173 : Nat) ({ cls := "FewKeysModel", name := "isRead", desc := "()Z" } : Jvm.MethodName)) ∈ lw_all := lw_g (lw_at lw_m5 218 rfl) rfl
theorem q1239 : (Jvm.Cond.privateMethod ({ cls := "FewKeysModel", name := "isRead", desc := "()Z" } : Jvm.MethodName)) ∈ lw_tbl := lw_at lw_m5 219 rfl
theorem q1240 : (Jvm.Cond.instanceMethod ({ cls := "FewKeysModel", name := "isRead", desc := "()Z" } : Jvm.MethodName)) ∈ lw_all := lw_g (lw_at lw_m5 220 rfl) rfl
theorem q1241 : (Jvm.Cond.code ({ cls := "FewKeysModel", name := "isRead", desc := "()Z" } : Jvm.MethodName) prog_15_method_14_code (2 : Nat) (Option.some Jvm.ClassFile.FieldType.boolean)) ∈ lw_all := lw_g (lw_at lw_m5 221 rfl) rfl
theorem q1242 : (Jvm.Cond.methodLink "FewKeysModel" (110 : Nat) ({ cls := "FewKeysModel", name := "nextToken", desc := "()V" } : Jvm.MethodName)) ∈ lw_all := lw_g (lw_at lw_m5 222 rfl) rfl
theorem q1243 : (Jvm.Cond.privateMethod ({ cls := "FewKeysModel", name := "nextToken", desc := "()V" } : Jvm.MethodName)) ∈ lw_tbl := lw_at lw_m5 223 rfl
theorem q1244 : (Jvm.Cond.instanceMethod ({ cls := "FewKeysModel", name := "nextToken", desc := "()V" } : Jvm.MethodName)) ∈ lw_all := lw_g (lw_at lw_m5 224 rfl) rfl
theorem q1245 : (Jvm.Cond.code ({ cls := "FewKeysModel", name := "nextToken", desc := "()V" } : Jvm.MethodName) prog_15_method_6_code (1 : Nat) (Option.none : Option Jvm.ClassFile.FieldType)) ∈ lw_all := lw_g (lw_at lw_m5 225 rfl) rfl
theorem q1246 : (Jvm.Cond.constantLong "FewKeysModel" (91 : Nat) (-2 : Int64)) ∈ lw_all := lw_g (lw_at lw_m5 226 rfl) rfl
theorem q1247 : (Jvm.Cond.constantLong "FewKeysModel" (97 : Nat) (27 : Int64)) ∈ lw_all := lw_g (lw_at lw_m5 227 rfl) rfl
theorem q1248 : (Jvm.Cond.constantLong "FewKeysModel" (99 : Nat) (96 : Int64)) ∈ lw_all := lw_g (lw_at lw_m5 228 rfl) rfl
theorem q1249 : (Jvm.Cond.constantLong "FewKeysModel" (101 : Nat) (-4 : Int64)) ∈ lw_all := lw_g (lw_at lw_m5 229 rfl) rfl
theorem q1250 : (Jvm.Cond.constantLong "FewKeysModel" (103 : Nat) (-1 : Int64)) ∈ lw_all := lw_g (lw_at lw_m5 230 rfl) rfl
theorem q1251 : (Jvm.Cond.constantLong "FewKeysModel" (105 : Nat) (-3 : Int64)) ∈ lw_all := lw_g (lw_at lw_m5 231 rfl) rfl
theorem q1252 : (Jvm.Cond.constantLong "FewKeysModel" (159 : Nat) (85332 : Int64)) ∈ lw_all := lw_g (lw_at lw_m5 232 rfl) rfl
theorem q1253 : (Jvm.Cond.methodLink "FewKeysModel" (113 : Nat) ({ cls := "FewKeysModel", name := "fails", desc := "(I)Z" } : Jvm.MethodName)) ∈ lw_all := lw_g (lw_at lw_m5 233 rfl) rfl
theorem q1254 : (Jvm.Cond.privateMethod ({ cls := "FewKeysModel", name := "fails", desc := "(I)Z" } : Jvm.MethodName)) ∈ lw_tbl := lw_at lw_m5 234 rfl
theorem q1255 : (Jvm.Cond.instanceMethod ({ cls := "FewKeysModel", name := "fails", desc := "(I)Z" } : Jvm.MethodName)) ∈ lw_all := lw_g (lw_at lw_m5 235 rfl) rfl
theorem q1256 : (Jvm.Cond.code ({ cls := "FewKeysModel", name := "fails", desc := "(I)Z" } : Jvm.MethodName) prog_15_method_7_code (2 : Nat) (Option.some Jvm.ClassFile.FieldType.boolean)) ∈ lw_all := lw_g (lw_at lw_m5 236 rfl) rfl
theorem q1257 : (Jvm.Cond.methodLink "FewKeysModel" (167 : Nat) ({ cls := "FewKeysModel", name := "isDial", desc := "()Z" } : Jvm.MethodName)) ∈ lw_all := lw_g (lw_at lw_m5 237 rfl) rfl
theorem q1258 : (Jvm.Cond.privateMethod ({ cls := "FewKeysModel", name := "isDial", desc := "()Z" } : Jvm.MethodName)) ∈ lw_tbl := lw_at lw_m5 238 rfl
theorem q1259 : (Jvm.Cond.instanceMethod ({ cls := "FewKeysModel", name := "isDial", desc := "()Z" } : Jvm.MethodName)) ∈ lw_all := lw_g (lw_at lw_m5 239 rfl) rfl
theorem q1260 : (Jvm.Cond.code ({ cls := "FewKeysModel", name := "isDial", desc := "()Z" } : Jvm.MethodName) prog_15_method_10_code (2 : Nat) (Option.some Jvm.ClassFile.FieldType.boolean)) ∈ lw_all := lw_g (lw_at lw_m6 0 rfl) rfl
theorem q1261 : (Jvm.Cond.constantLong "FewKeysModel" (117 : Nat) (9876874 : Int64)) ∈ lw_all := lw_g (lw_at lw_m6 1 rfl) rfl
theorem q1262 : (Jvm.Cond.constantLong "FewKeysModel" (119 : Nat) (388978 : Int64)) ∈ lw_all := lw_g (lw_at lw_m6 2 rfl) rfl
theorem q1263 : (Jvm.Cond.methodLink "FewKeysModel" (124 : Nat) ({ cls := "FewKeysModel", name := "isNext", desc := "(III)Z" } : Jvm.MethodName)) ∈ lw_all := lw_g (lw_at lw_m6 3 rfl) rfl
theorem q1264 : (Jvm.Cond.privateMethod ({ cls := "FewKeysModel", name := "isNext", desc := "(III)Z" } : Jvm.MethodName)) ∈ lw_tbl := lw_at lw_m6 4 rfl
theorem q1265 : (Jvm.Cond.instanceMethod ({ cls := "FewKeysModel", name := "isNext", desc := "(III)Z" } : Jvm.MethodName)) ∈ lw_all := lw_g (lw_at lw_m6 5 rfl) rfl
theorem q1266 : (Jvm.Cond.code ({ cls := "FewKeysModel", name := "isNext", desc := "(III)Z" } : Jvm.MethodName) prog_15_method_8_code (4 : Nat) (Option.some Jvm.ClassFile.FieldType.boolean)) ∈ lw_all := lw_g (lw_at lw_m6 6 rfl) rfl
theorem q1267 : (Jvm.Cond.methodLink "FewKeysModel" (136 : Nat) ({ cls := "FewKeysModel", name := "ends", desc := "()Z" } : Jvm.MethodName)) ∈ lw_all := lw_g (lw_at lw_m6 7 rfl) rfl
theorem q1268 : (Jvm.Cond.privateMethod ({ cls := "FewKeysModel", name := "ends", desc := "()Z" } : Jvm.MethodName)) ∈ lw_tbl := lw_at lw_m6 8 rfl
theorem q1269 : (Jvm.Cond.instanceMethod ({ cls := "FewKeysModel", name := "ends", desc := "()Z" } : Jvm.MethodName)) ∈ lw_all := lw_g (lw_at lw_m6 9 rfl) rfl
theorem q1270 : (Jvm.Cond.code ({ cls := "FewKeysModel", name := "ends", desc := "()Z" } : Jvm.MethodName) prog_15_method_9_code (1 : Nat) (Option.some Jvm.ClassFile.FieldType.boolean)) ∈ lw_all := lw_g (lw_at lw_m6 10 rfl) rfl
theorem q1271 : (Jvm.Cond.methodLink "FewKeysModel" (170 : Nat) ({ cls := "FewKeysModel", name := "isKey", desc := "()Z" } : Jvm.MethodName)) ∈ lw_all := lw_g (lw_at lw_m6 11 rfl) rfl
theorem q1272 : (Jvm.Cond.privateMethod ({ cls := "FewKeysModel", name := "isKey", desc := "()Z" } : Jvm.MethodName)) ∈ lw_tbl := lw_at lw_m6 12 rfl
theorem q1273 : (Jvm.Cond.instanceMethod ({ cls := "FewKeysModel", name := "isKey", desc := "()Z" } : Jvm.MethodName)) ∈ lw_all := lw_g (lw_at lw_m6 13 rfl) rfl
theorem q1274 : (Jvm.Cond.code ({ cls := "FewKeysModel", name := "isKey", desc := "()Z" } : Jvm.MethodName) prog_15_method_13_code (4 : Nat) (Option.some Jvm.ClassFile.FieldType.boolean)) ∈ lw_all := lw_g (lw_at lw_m6 14 rfl) rfl
theorem q1275 : (Jvm.Cond.constantLong "FewKeysModel" (149 : Nat) (91029992 : Int64)) ∈ lw_all := lw_g (lw_at lw_m6 15 rfl) rfl
theorem q1276 : (Jvm.Cond.constantLong "FewKeysModel" (140 : Nat) (324262 : Int64)) ∈ lw_all := lw_g (lw_at lw_m6 16 rfl) rfl
theorem q1277 : (Jvm.Cond.constantLong "FewKeysModel" (142 : Nat) (240373 : Int64)) ∈ lw_all := lw_g (lw_at lw_m6 17 rfl) rfl
theorem q1278 : (Jvm.Cond.constantLong "FewKeysModel" (144 : Nat) (10815598 : Int64)) ∈ lw_all := lw_g (lw_at lw_m6 18 rfl) rfl
theorem q1279 : (Jvm.Cond.constantLong "FewKeysModel" (151 : Nat) (262 : Int64)) ∈ lw_all := lw_g (lw_at lw_m6 19 rfl) rfl
theorem q1280 : (Jvm.Cond.constantLong "FewKeysModel" (153 : Nat) (1834209 : Int64)) ∈ lw_all := lw_g (lw_at lw_m6 20 rfl) rfl
theorem q1281 : (Jvm.Cond.constantLong "FewKeysModel" (155 : Nat) (10634 : Int64)) ∈ lw_all := lw_g (lw_at lw_m6 21 rfl) rfl
theorem q1282 : (Jvm.Cond.constantLong "FewKeysModel" (157 : Nat) (10506440 : Int64)) ∈ lw_all := lw_g (lw_at lw_m6 22 rfl) rfl
theorem q1283 : (Jvm.Cond.methodLink "FewKeysModel" (164 : Nat) ({ cls := "FewKeysModel", name := "isNow", desc := "(I)Z" } : Jvm.MethodName)) ∈ lw_all := lw_g (lw_at lw_m6 23 rfl) rfl
theorem q1284 : (Jvm.Cond.privateMethod ({ cls := "FewKeysModel", name := "isNow", desc := "(I)Z" } : Jvm.MethodName)) ∈ lw_tbl := lw_at lw_m6 24 rfl
theorem q1285 : (Jvm.Cond.instanceMethod ({ cls := "FewKeysModel", name := "isNow", desc := "(I)Z" } : Jvm.MethodName)) ∈ lw_all := lw_g (lw_at lw_m6 25 rfl) rfl
theorem q1286 : (Jvm.Cond.code ({ cls := "FewKeysModel", name := "isNow", desc := "(I)Z" } : Jvm.MethodName) prog_15_method_12_code (2 : Nat) (Option.some Jvm.ClassFile.FieldType.boolean)) ∈ lw_all := lw_g (lw_at lw_m6 26 rfl) rfl
theorem q1287 : (Jvm.Cond.methodLink "FewKeysModel" (146 : Nat) ({ cls := "FewKeysModel", name := "isCost", desc := "(I)Z" } : Jvm.MethodName)) ∈ lw_all := lw_g (lw_at lw_m6 27 rfl) rfl
theorem q1288 : (Jvm.Cond.privateMethod ({ cls := "FewKeysModel", name := "isCost", desc := "(I)Z" } : Jvm.MethodName)) ∈ lw_tbl := lw_at lw_m6 28 rfl
theorem q1289 : (Jvm.Cond.instanceMethod ({ cls := "FewKeysModel", name := "isCost", desc := "(I)Z" } : Jvm.MethodName)) ∈ lw_all := lw_g (lw_at lw_m6 29 rfl) rfl
theorem q1290 : (Jvm.Cond.code ({ cls := "FewKeysModel", name := "isCost", desc := "(I)Z" } : Jvm.MethodName) prog_15_method_11_code (2 : Nat) (Option.some Jvm.ClassFile.FieldType.boolean)) ∈ lw_all := lw_g (lw_at lw_m6 30 rfl) rfl
theorem q1291 : (Jvm.Cond.methodLink "FewKeysModel" (185 : Nat) ({ cls := "FewKeysModel", name := "start", desc := "()V" } : Jvm.MethodName)) ∈ lw_all := lw_g (lw_at lw_m6 31 rfl) rfl
theorem q1292 : (Jvm.Cond.privateMethod ({ cls := "FewKeysModel", name := "start", desc := "()V" } : Jvm.MethodName)) ∈ lw_tbl := lw_at lw_m6 32 rfl
theorem q1293 : (Jvm.Cond.instanceMethod ({ cls := "FewKeysModel", name := "start", desc := "()V" } : Jvm.MethodName)) ∈ lw_all := lw_g (lw_at lw_m6 33 rfl) rfl
theorem q1294 : (Jvm.Cond.code ({ cls := "FewKeysModel", name := "start", desc := "()V" } : Jvm.MethodName) prog_15_method_19_code (1 : Nat) (Option.none : Option Jvm.ClassFile.FieldType)) ∈ lw_all := lw_g (lw_at lw_m6 34 rfl) rfl
theorem q1296 : (Jvm.Cond.instanceMethod ({ cls := "FewKeysModel", name := "fault", desc := "()I" } : Jvm.MethodName)) ∈ lw_all := lw_g (lw_at lw_m6 36 rfl) rfl
theorem q1297 : (Jvm.Cond.selects "FewKeysModel" ({ cls := "FewKeysModel", name := "fault", desc := "()I" } : Jvm.MethodName) ({ cls := "FewKeysModel", name := "fault", desc := "()I" } : Jvm.MethodName)) ∈ lw_all := lw_g (lw_at lw_m6 37 rfl) rfl
theorem q1298 : (Jvm.Cond.code ({ cls := "FewKeysModel", name := "fault", desc := "()I" } : Jvm.MethodName) prog_15_method_16_code (1 : Nat) (Option.some Jvm.ClassFile.FieldType.int)) ∈ lw_all := lw_g (lw_at lw_m6 38 rfl) rfl
theorem q1300 : (Jvm.Cond.instanceMethod ({ cls := "FewKeysModel", name := "told", desc := "(I)I" } : Jvm.MethodName)) ∈ lw_all := lw_g (lw_at lw_m6 40 rfl) rfl
theorem q1301 : (Jvm.Cond.selects "FewKeysModel" ({ cls := "FewKeysModel", name := "told", desc := "(I)I" } : Jvm.MethodName) ({ cls := "FewKeysModel", name := "told", desc := "(I)I" } : Jvm.MethodName)) ∈ lw_all := lw_g (lw_at lw_m6 41 rfl) rfl
theorem q1302 : (Jvm.Cond.code ({ cls := "FewKeysModel", name := "told", desc := "(I)I" } : Jvm.MethodName) prog_15_method_17_code (2 : Nat) (Option.some Jvm.ClassFile.FieldType.int)) ∈ lw_all := lw_g (lw_at lw_m6 42 rfl) rfl
theorem q1304 : (Jvm.Cond.instanceMethod ({ cls := "FewKeysModel", name := "key", desc := "(II)I" } : Jvm.MethodName)) ∈ lw_all := lw_g (lw_at lw_m6 44 rfl) rfl
theorem q1305 : (Jvm.Cond.selects "FewKeysModel" ({ cls := "FewKeysModel", name := "key", desc := "(II)I" } : Jvm.MethodName) ({ cls := "FewKeysModel", name := "key", desc := "(II)I" } : Jvm.MethodName)) ∈ lw_all := lw_g (lw_at lw_m6 45 rfl) rfl
theorem q1306 : (Jvm.Cond.code ({ cls := "FewKeysModel", name := "key", desc := "(II)I" } : Jvm.MethodName) prog_15_method_18_code (3 : Nat) (Option.some Jvm.ClassFile.FieldType.int)) ∈ lw_all := lw_g (lw_at lw_m6 46 rfl) rfl
theorem q1307 : (Jvm.Cond.constant "FewKeysModel" (210 : Nat) (-1000000001 : Int32)) ∈ lw_all := lw_g (lw_at lw_m6 47 rfl) rfl
theorem q1309 : (Jvm.Cond.instanceMethod ({ cls := "FewKeysModel", name := "strike", desc := "(I)I" } : Jvm.MethodName)) ∈ lw_all := lw_g (lw_at lw_m6 49 rfl) rfl
theorem q1310 : (Jvm.Cond.selects "FewKeysModel" ({ cls := "FewKeysModel", name := "strike", desc := "(I)I" } : Jvm.MethodName) ({ cls := "FewKeysModel", name := "strike", desc := "(I)I" } : Jvm.MethodName)) ∈ lw_all := lw_g (lw_at lw_m6 50 rfl) rfl
theorem q1311 : (Jvm.Cond.code ({ cls := "FewKeysModel", name := "strike", desc := "(I)I" } : Jvm.MethodName) prog_15_method_29_code (2 : Nat) (Option.some Jvm.ClassFile.FieldType.int)) ∈ lw_all := lw_g (lw_at lw_m6 51 rfl) rfl
theorem q1312 : (Jvm.Cond.methodLink "FewKeysModel" (226 : Nat) ({ cls := "FewKeysModel", name := "doStroke", desc := "(I)V" } : Jvm.MethodName)) ∈ lw_all := lw_g (lw_at lw_m6 52 rfl) rfl
theorem q1313 : (Jvm.Cond.privateMethod ({ cls := "FewKeysModel", name := "doStroke", desc := "(I)V" } : Jvm.MethodName)) ∈ lw_tbl := lw_at lw_m6 53 rfl
theorem q1314 : (Jvm.Cond.instanceMethod ({ cls := "FewKeysModel", name := "doStroke", desc := "(I)V" } : Jvm.MethodName)) ∈ lw_all := lw_g (lw_at lw_m6 54 rfl) rfl
theorem q1315 : (Jvm.Cond.code ({ cls := "FewKeysModel", name := "doStroke", desc := "(I)V" } : Jvm.MethodName) prog_15_method_23_code (3 : Nat) (Option.none : Option Jvm.ClassFile.FieldType)) ∈ lw_all := lw_g (lw_at lw_m6 55 rfl) rfl
theorem q1316 : (Jvm.Cond.methodLink "FewKeysModel" (215 : Nat) ({ cls := "FewKeysModel", name := "figure", desc := "(I)V" } : Jvm.MethodName)) ∈ lw_all := lw_g (lw_at lw_m6 56 rfl) rfl
theorem q1317 : (Jvm.Cond.privateMethod ({ cls := "FewKeysModel", name := "figure", desc := "(I)V" } : Jvm.MethodName)) ∈ lw_tbl := lw_at lw_m6 57 rfl
theorem q1318 : (Jvm.Cond.instanceMethod ({ cls := "FewKeysModel", name := "figure", desc := "(I)V" } : Jvm.MethodName)) ∈ lw_all := lw_g (lw_at lw_m6 58 rfl) rfl
theorem q1319 : (Jvm.Cond.code ({ cls := "FewKeysModel", name := "figure", desc := "(I)V" } : Jvm.MethodName) prog_15_method_22_code (3 : Nat) (Option.none : Option Jvm.ClassFile.FieldType)) ∈ lw_all := lw_g (lw_at lw_m6 59 rfl) rfl
theorem q1320 : (Jvm.Cond.methodLink "FewKeysModel" (219 : Nat) ({ cls := "FewKeysModel", name := "reckon", desc := "(III)I" } : Jvm.MethodName)) ∈ lw_all := lw_g (lw_at lw_m6 60 rfl) rfl
theorem q1321 : (Jvm.Cond.privateMethod ({ cls := "FewKeysModel", name := "reckon", desc := "(III)I" } : Jvm.MethodName)) ∈ lw_tbl := lw_at lw_m6 61 rfl
theorem q1322 : (Jvm.Cond.instanceMethod ({ cls := "FewKeysModel", name := "reckon", desc := "(III)I" } : Jvm.MethodName)) ∈ lw_all := lw_g (lw_at lw_m6 62 rfl) rfl
theorem q1323 : (Jvm.Cond.code ({ cls := "FewKeysModel", name := "reckon", desc := "(III)I" } : Jvm.MethodName) prog_15_method_21_code (4 : Nat) (Option.some Jvm.ClassFile.FieldType.int)) ∈ lw_all := lw_g (lw_at lw_m6 63 rfl) rfl
theorem q1324 : (Jvm.Cond.methodLink "FewKeysModel" (211 : Nat) ({ cls := "FewKeysModel", name := "bound", desc := "(I)I" } : Jvm.MethodName)) ∈ lw_all := lw_g (lw_at lw_m6 64 rfl) rfl
theorem q1325 : (Jvm.Cond.privateMethod ({ cls := "FewKeysModel", name := "bound", desc := "(I)I" } : Jvm.MethodName)) ∈ lw_tbl := lw_at lw_m6 65 rfl
theorem q1326 : (Jvm.Cond.instanceMethod ({ cls := "FewKeysModel", name := "bound", desc := "(I)I" } : Jvm.MethodName)) ∈ lw_all := lw_g (lw_at lw_m6 66 rfl) rfl
theorem q1327 : (Jvm.Cond.code ({ cls := "FewKeysModel", name := "bound", desc := "(I)I" } : Jvm.MethodName) prog_15_method_20_code (2 : Nat) (Option.some Jvm.ClassFile.FieldType.int)) ∈ lw_all := lw_g (lw_at lw_m6 67 rfl) rfl
theorem q1329 : (Jvm.Cond.instanceMethod ({ cls := "FewKeysModel", name := "begin", desc := "()I" } : Jvm.MethodName)) ∈ lw_all := lw_g (lw_at lw_m6 69 rfl) rfl
theorem q1330 : (Jvm.Cond.selects "FewKeysModel" ({ cls := "FewKeysModel", name := "begin", desc := "()I" } : Jvm.MethodName) ({ cls := "FewKeysModel", name := "begin", desc := "()I" } : Jvm.MethodName)) ∈ lw_all := lw_g (lw_at lw_m6 70 rfl) rfl
theorem q1331 : (Jvm.Cond.code ({ cls := "FewKeysModel", name := "begin", desc := "()I" } : Jvm.MethodName) prog_15_method_30_code (2 : Nat) (Option.some Jvm.ClassFile.FieldType.int)) ∈ lw_all := lw_g (lw_at lw_m6 71 rfl) rfl
theorem q1333 : (Jvm.Cond.instanceMethod ({ cls := "FewKeysModel", name := "fewest", desc := "(I)I" } : Jvm.MethodName)) ∈ lw_all := lw_g (lw_at lw_m6 73 rfl) rfl
theorem q1334 : (Jvm.Cond.selects "FewKeysModel" ({ cls := "FewKeysModel", name := "fewest", desc := "(I)I" } : Jvm.MethodName) ({ cls := "FewKeysModel", name := "fewest", desc := "(I)I" } : Jvm.MethodName)) ∈ lw_all := lw_g (lw_at lw_m6 74 rfl) rfl
theorem q1335 : (Jvm.Cond.code ({ cls := "FewKeysModel", name := "fewest", desc := "(I)I" } : Jvm.MethodName) prog_15_method_32_code (2 : Nat) (Option.some Jvm.ClassFile.FieldType.int)) ∈ lw_all := lw_g (lw_at lw_m6 75 rfl) rfl
theorem q1336 : (Jvm.Cond.methodLink "FewKeysModel" (243 : Nat) ({ cls := "FewKeysModel", name := "isNumber", desc := "(I)Z" } : Jvm.MethodName)) ∈ lw_all := lw_g (lw_at lw_m6 76 rfl) rfl
theorem q1337 : (Jvm.Cond.privateMethod ({ cls := "FewKeysModel", name := "isNumber", desc := "(I)Z" } : Jvm.MethodName)) ∈ lw_tbl := lw_at lw_m6 77 rfl
theorem q1338 : (Jvm.Cond.instanceMethod ({ cls := "FewKeysModel", name := "isNumber", desc := "(I)Z" } : Jvm.MethodName)) ∈ lw_all := lw_g (lw_at lw_m6 78 rfl) rfl
theorem q1339 : (Jvm.Cond.code ({ cls := "FewKeysModel", name := "isNumber", desc := "(I)Z" } : Jvm.MethodName) prog_15_method_4_code (2 : Nat) (Option.some Jvm.ClassFile.FieldType.boolean)) ∈ lw_all := lw_g (lw_at lw_m6 79 rfl) rfl
theorem q1340 : (Jvm.Cond.methodLink "FewKeysModel" (246 : Nat) ({ cls := "FewKeysModel", name := "layFewest", desc := "(I)V" } : Jvm.MethodName)) ∈ lw_all := lw_g (lw_at lw_m6 80 rfl) rfl
theorem q1341 : (Jvm.Cond.privateMethod ({ cls := "FewKeysModel", name := "layFewest", desc := "(I)V" } : Jvm.MethodName)) ∈ lw_tbl := lw_at lw_m6 81 rfl
theorem q1342 : (Jvm.Cond.instanceMethod ({ cls := "FewKeysModel", name := "layFewest", desc := "(I)V" } : Jvm.MethodName)) ∈ lw_all := lw_g (lw_at lw_m6 82 rfl) rfl
theorem q1343 : (Jvm.Cond.code ({ cls := "FewKeysModel", name := "layFewest", desc := "(I)V" } : Jvm.MethodName) prog_15_method_31_code (9 : Nat) (Option.none : Option Jvm.ClassFile.FieldType)) ∈ lw_all := lw_g (lw_at lw_m6 83 rfl) rfl
theorem q1344 : (Jvm.Cond.methodLink "FewKeysModel" (229 : Nat) ({ cls := "FewKeysModel", name := "stateNow", desc := "()I" } : Jvm.MethodName)) ∈ lw_all := lw_g (lw_at lw_m6 84 rfl) rfl
theorem q1345 : (Jvm.Cond.privateMethod ({ cls := "FewKeysModel", name := "stateNow", desc := "()I" } : Jvm.MethodName)) ∈ lw_tbl := lw_at lw_m6 85 rfl
theorem q1346 : (Jvm.Cond.instanceMethod ({ cls := "FewKeysModel", name := "stateNow", desc := "()I" } : Jvm.MethodName)) ∈ lw_all := lw_g (lw_at lw_m6 86 rfl) rfl
theorem q1347 : (Jvm.Cond.code ({ cls := "FewKeysModel", name := "stateNow", desc := "()I" } : Jvm.MethodName) prog_15_method_24_code (1 : Nat) (Option.some Jvm.ClassFile.FieldType.int)) ∈ lw_all := lw_g (lw_at lw_m6 87 rfl) rfl
theorem q1348 : (Jvm.Cond.methodLink "FewKeysModel" (233 : Nat) ({ cls := "FewKeysModel", name := "states", desc := "()I" } : Jvm.MethodName)) ∈ lw_all := lw_g (lw_at lw_m6 88 rfl) rfl
theorem q1349 : (Jvm.Cond.privateMethod ({ cls := "FewKeysModel", name := "states", desc := "()I" } : Jvm.MethodName)) ∈ lw_tbl := lw_at lw_m6 89 rfl
theorem q1350 : (Jvm.Cond.instanceMethod ({ cls := "FewKeysModel", name := "states", desc := "()I" } : Jvm.MethodName)) ∈ lw_all := lw_g (lw_at lw_m6 90 rfl) rfl
theorem q1351 : (Jvm.Cond.code ({ cls := "FewKeysModel", name := "states", desc := "()I" } : Jvm.MethodName) prog_15_method_27_code (1 : Nat) (Option.some Jvm.ClassFile.FieldType.int)) ∈ lw_all := lw_g (lw_at lw_m6 91 rfl) rfl
theorem q1352 : (Jvm.Cond.methodLink "FewKeysModel" (236 : Nat) ({ cls := "FewKeysModel", name := "shownIn", desc := "(I)I" } : Jvm.MethodName)) ∈ lw_all := lw_g (lw_at lw_m6 92 rfl) rfl
theorem q1353 : (Jvm.Cond.privateMethod ({ cls := "FewKeysModel", name := "shownIn", desc := "(I)I" } : Jvm.MethodName)) ∈ lw_tbl := lw_at lw_m6 93 rfl
theorem q1354 : (Jvm.Cond.instanceMethod ({ cls := "FewKeysModel", name := "shownIn", desc := "(I)I" } : Jvm.MethodName)) ∈ lw_all := lw_g (lw_at lw_m6 94 rfl) rfl
theorem q1355 : (Jvm.Cond.code ({ cls := "FewKeysModel", name := "shownIn", desc := "(I)I" } : Jvm.MethodName) prog_15_method_26_code (2 : Nat) (Option.some Jvm.ClassFile.FieldType.int)) ∈ lw_all := lw_g (lw_at lw_m6 95 rfl) rfl
theorem q1356 : (Jvm.Cond.methodLink "FewKeysModel" (239 : Nat) ({ cls := "FewKeysModel", name := "behind", desc := "(II)I" } : Jvm.MethodName)) ∈ lw_all := lw_g (lw_at lw_m6 96 rfl) rfl
theorem q1357 : (Jvm.Cond.privateMethod ({ cls := "FewKeysModel", name := "behind", desc := "(II)I" } : Jvm.MethodName)) ∈ lw_tbl := lw_at lw_m6 97 rfl
theorem q1358 : (Jvm.Cond.instanceMethod ({ cls := "FewKeysModel", name := "behind", desc := "(II)I" } : Jvm.MethodName)) ∈ lw_all := lw_g (lw_at lw_m6 98 rfl) rfl
theorem q1359 : (Jvm.Cond.code ({ cls := "FewKeysModel", name := "behind", desc := "(II)I" } : Jvm.MethodName) prog_15_method_28_code (3 : Nat) (Option.some Jvm.ClassFile.FieldType.int)) ∈ lw_all := lw_g (lw_at lw_m6 99 rfl) rfl
theorem q1360 : (Jvm.Cond.methodLink "FewKeysModel" (223 : Nat) ({ cls := "FewKeysModel", name := "setState", desc := "(I)V" } : Jvm.MethodName)) ∈ lw_all := lw_g (lw_at lw_m6 100 rfl) rfl
theorem q1361 : (Jvm.Cond.privateMethod ({ cls := "FewKeysModel", name := "setState", desc := "(I)V" } : Jvm.MethodName)) ∈ lw_tbl := lw_at lw_m6 101 rfl
theorem q1362 : (Jvm.Cond.instanceMethod ({ cls := "FewKeysModel", name := "setState", desc := "(I)V" } : Jvm.MethodName)) ∈ lw_all := lw_g (lw_at lw_m6 102 rfl) rfl
theorem q1363 : (Jvm.Cond.code ({ cls := "FewKeysModel", name := "setState", desc := "(I)V" } : Jvm.MethodName) prog_15_method_25_code (2 : Nat) (Option.none : Option Jvm.ClassFile.FieldType)) ∈ lw_all := lw_g (lw_at lw_m6 103 rfl) rfl
theorem q1365 : (Jvm.Cond.instanceMethod ({ cls := "FewKeysModel", name := "way", desc := "(II)I" } : Jvm.MethodName)) ∈ lw_all := lw_g (lw_at lw_m6 105 rfl) rfl
theorem q1366 : (Jvm.Cond.selects "FewKeysModel" ({ cls := "FewKeysModel", name := "way", desc := "(II)I" } : Jvm.MethodName) ({ cls := "FewKeysModel", name := "way", desc := "(II)I" } : Jvm.MethodName)) ∈ lw_all := lw_g (lw_at lw_m6 106 rfl) rfl
theorem q1367 : (Jvm.Cond.code ({ cls := "FewKeysModel", name := "way", desc := "(II)I" } : Jvm.MethodName) prog_15_method_33_code (4 : Nat) (Option.some Jvm.ClassFile.FieldType.int)) ∈ lw_all := lw_g (lw_at lw_m6 107 rfl) rfl
theorem q1369 : (Jvm.Cond.instanceMethod ({ cls := "FewKeysModel", name := "least", desc := "(I)I" } : Jvm.MethodName)) ∈ lw_all := lw_g (lw_at lw_m6 109 rfl) rfl
theorem q1370 : (Jvm.Cond.selects "FewKeysModel" ({ cls := "FewKeysModel", name := "least", desc := "(I)I" } : Jvm.MethodName) ({ cls := "FewKeysModel", name := "least", desc := "(I)I" } : Jvm.MethodName)) ∈ lw_all := lw_g (lw_at lw_m6 110 rfl) rfl
theorem q1371 : (Jvm.Cond.code ({ cls := "FewKeysModel", name := "least", desc := "(I)I" } : Jvm.MethodName) prog_15_method_37_code (2 : Nat) (Option.some Jvm.ClassFile.FieldType.int)) ∈ lw_all := lw_g (lw_at lw_m6 111 rfl) rfl
theorem q1372 : (Jvm.Cond.methodLink "FewKeysModel" (255 : Nat) ({ cls := "FewKeysModel", name := "leastOf", desc := "(I)I" } : Jvm.MethodName)) ∈ lw_all := lw_g (lw_at lw_m6 112 rfl) rfl
theorem q1373 : (Jvm.Cond.privateMethod ({ cls := "FewKeysModel", name := "leastOf", desc := "(I)I" } : Jvm.MethodName)) ∈ lw_tbl := lw_at lw_m6 113 rfl
theorem q1374 : (Jvm.Cond.instanceMethod ({ cls := "FewKeysModel", name := "leastOf", desc := "(I)I" } : Jvm.MethodName)) ∈ lw_all := lw_g (lw_at lw_m6 114 rfl) rfl
theorem q1375 : (Jvm.Cond.code ({ cls := "FewKeysModel", name := "leastOf", desc := "(I)I" } : Jvm.MethodName) prog_15_method_36_code (10 : Nat) (Option.some Jvm.ClassFile.FieldType.int)) ∈ lw_all := lw_g (lw_at lw_m6 115 rfl) rfl
theorem q1376 : (Jvm.Cond.methodLink "FewKeysModel" (249 : Nat) ({ cls := "FewKeysModel", name := "putIn", desc := "(I)V" } : Jvm.MethodName)) ∈ lw_all := lw_g (lw_at lw_m6 116 rfl) rfl
theorem q1377 : (Jvm.Cond.privateMethod ({ cls := "FewKeysModel", name := "putIn", desc := "(I)V" } : Jvm.MethodName)) ∈ lw_tbl := lw_at lw_m6 117 rfl
theorem q1378 : (Jvm.Cond.instanceMethod ({ cls := "FewKeysModel", name := "putIn", desc := "(I)V" } : Jvm.MethodName)) ∈ lw_all := lw_g (lw_at lw_m6 118 rfl) rfl
theorem q1379 : (Jvm.Cond.code ({ cls := "FewKeysModel", name := "putIn", desc := "(I)V" } : Jvm.MethodName) prog_15_method_34_code (3 : Nat) (Option.none : Option Jvm.ClassFile.FieldType)) ∈ lw_all := lw_g (lw_at lw_m6 119 rfl) rfl
theorem q1380 : (Jvm.Cond.methodLink "FewKeysModel" (252 : Nat) ({ cls := "FewKeysModel", name := "takeOut", desc := "(I)V" } : Jvm.MethodName)) ∈ lw_all := lw_g (lw_at lw_m6 120 rfl) rfl
theorem q1381 : (Jvm.Cond.privateMethod ({ cls := "FewKeysModel", name := "takeOut", desc := "(I)V" } : Jvm.MethodName)) ∈ lw_tbl := lw_at lw_m6 121 rfl
theorem q1382 : (Jvm.Cond.instanceMethod ({ cls := "FewKeysModel", name := "takeOut", desc := "(I)V" } : Jvm.MethodName)) ∈ lw_all := lw_g (lw_at lw_m6 122 rfl) rfl
theorem q1383 : (Jvm.Cond.code ({ cls := "FewKeysModel", name := "takeOut", desc := "(I)V" } : Jvm.MethodName) prog_15_method_35_code (2 : Nat) (Option.none : Option Jvm.ClassFile.FieldType)) ∈ lw_all := lw_g (lw_at lw_m6 123 rfl) rfl
theorem q1385 : (Jvm.Cond.instanceMethod ({ cls := "FewKeysModel", name := "never", desc := "(I)I" } : Jvm.MethodName)) ∈ lw_all := lw_g (lw_at lw_m6 125 rfl) rfl
theorem q1386 : (Jvm.Cond.selects "FewKeysModel" ({ cls := "FewKeysModel", name := "never", desc := "(I)I" } : Jvm.MethodName) ({ cls := "FewKeysModel", name := "never", desc := "(I)I" } : Jvm.MethodName)) ∈ lw_all := lw_g (lw_at lw_m6 126 rfl) rfl
theorem q1387 : (Jvm.Cond.code ({ cls := "FewKeysModel", name := "never", desc := "(I)I" } : Jvm.MethodName) prog_15_method_38_code (4 : Nat) (Option.some Jvm.ClassFile.FieldType.int)) ∈ lw_all := lw_g (lw_at lw_m6 127 rfl) rfl
theorem q1389 : (Jvm.Cond.instanceMethod ({ cls := "FewKeysModel", name := "farthest", desc := "(I)I" } : Jvm.MethodName)) ∈ lw_all := lw_g (lw_at lw_m6 129 rfl) rfl
theorem q1390 : (Jvm.Cond.selects "FewKeysModel" ({ cls := "FewKeysModel", name := "farthest", desc := "(I)I" } : Jvm.MethodName) ({ cls := "FewKeysModel", name := "farthest", desc := "(I)I" } : Jvm.MethodName)) ∈ lw_all := lw_g (lw_at lw_m6 130 rfl) rfl
theorem q1391 : (Jvm.Cond.code ({ cls := "FewKeysModel", name := "farthest", desc := "(I)I" } : Jvm.MethodName) prog_15_method_39_code (4 : Nat) (Option.some Jvm.ClassFile.FieldType.int)) ∈ lw_all := lw_g (lw_at lw_m6 131 rfl) rfl
theorem q1392 : (Jvm.Cond.constant "FewKeysModel" (258 : Nat) (-1000000003 : Int32)) ∈ lw_all := lw_g (lw_at lw_m6 132 rfl) rfl
theorem q1394 : (Jvm.Cond.instanceMethod ({ cls := "FewKeysModel", name := "target", desc := "(I)I" } : Jvm.MethodName)) ∈ lw_all := lw_g (lw_at lw_m6 134 rfl) rfl
theorem q1395 : (Jvm.Cond.selects "FewKeysModel" ({ cls := "FewKeysModel", name := "target", desc := "(I)I" } : Jvm.MethodName) ({ cls := "FewKeysModel", name := "target", desc := "(I)I" } : Jvm.MethodName)) ∈ lw_all := lw_g (lw_at lw_m6 135 rfl) rfl
theorem q1396 : (Jvm.Cond.code ({ cls := "FewKeysModel", name := "target", desc := "(I)I" } : Jvm.MethodName) prog_15_method_40_code (2 : Nat) (Option.some Jvm.ClassFile.FieldType.int)) ∈ lw_all := lw_g (lw_at lw_m6 136 rfl) rfl
theorem q1398 : (Jvm.Cond.instanceMethod ({ cls := "FewKeysModel", name := "targetAt", desc := "(I)I" } : Jvm.MethodName)) ∈ lw_all := lw_g (lw_at lw_m6 138 rfl) rfl
theorem q1399 : (Jvm.Cond.selects "FewKeysModel" ({ cls := "FewKeysModel", name := "targetAt", desc := "(I)I" } : Jvm.MethodName) ({ cls := "FewKeysModel", name := "targetAt", desc := "(I)I" } : Jvm.MethodName)) ∈ lw_all := lw_g (lw_at lw_m6 139 rfl) rfl
theorem q1400 : (Jvm.Cond.code ({ cls := "FewKeysModel", name := "targetAt", desc := "(I)I" } : Jvm.MethodName) prog_15_method_41_code (2 : Nat) (Option.some Jvm.ClassFile.FieldType.int)) ∈ lw_all := lw_g (lw_at lw_m6 140 rfl) rfl
theorem q1402 : (Jvm.Cond.instanceMethod ({ cls := "FewKeysModel", name := "forget", desc := "()I" } : Jvm.MethodName)) ∈ lw_all := lw_g (lw_at lw_m6 142 rfl) rfl
theorem q1403 : (Jvm.Cond.selects "FewKeysModel" ({ cls := "FewKeysModel", name := "forget", desc := "()I" } : Jvm.MethodName) ({ cls := "FewKeysModel", name := "forget", desc := "()I" } : Jvm.MethodName)) ∈ lw_all := lw_g (lw_at lw_m6 143 rfl) rfl
theorem q1404 : (Jvm.Cond.code ({ cls := "FewKeysModel", name := "forget", desc := "()I" } : Jvm.MethodName) prog_15_method_42_code (2 : Nat) (Option.some Jvm.ClassFile.FieldType.int)) ∈ lw_all := lw_g (lw_at lw_m6 144 rfl) rfl
theorem q1406 : (Jvm.Cond.instanceMethod ({ cls := "FewKeysModel", name := "more", desc := "(I)I" } : Jvm.MethodName)) ∈ lw_all := lw_g (lw_at lw_m6 146 rfl) rfl
theorem q1407 : (Jvm.Cond.selects "FewKeysModel" ({ cls := "FewKeysModel", name := "more", desc := "(I)I" } : Jvm.MethodName) ({ cls := "FewKeysModel", name := "more", desc := "(I)I" } : Jvm.MethodName)) ∈ lw_all := lw_g (lw_at lw_m6 147 rfl) rfl
theorem q1408 : (Jvm.Cond.code ({ cls := "FewKeysModel", name := "more", desc := "(I)I" } : Jvm.MethodName) prog_15_method_44_code (7 : Nat) (Option.some Jvm.ClassFile.FieldType.int)) ∈ lw_all := lw_g (lw_at lw_m6 148 rfl) rfl
theorem q1409 : (Jvm.Cond.methodLink "FewKeysModel" (259 : Nat) ({ cls := "FewKeysModel", name := "allFewest", desc := "(I)I" } : Jvm.MethodName)) ∈ lw_all := lw_g (lw_at lw_m6 149 rfl) rfl
theorem q1410 : (Jvm.Cond.privateMethod ({ cls := "FewKeysModel", name := "allFewest", desc := "(I)I" } : Jvm.MethodName)) ∈ lw_tbl := lw_at lw_m6 150 rfl
theorem q1411 : (Jvm.Cond.instanceMethod ({ cls := "FewKeysModel", name := "allFewest", desc := "(I)I" } : Jvm.MethodName)) ∈ lw_all := lw_g (lw_at lw_m6 151 rfl) rfl
theorem q1412 : (Jvm.Cond.code ({ cls := "FewKeysModel", name := "allFewest", desc := "(I)I" } : Jvm.MethodName) prog_15_method_43_code (4 : Nat) (Option.some Jvm.ClassFile.FieldType.int)) ∈ lw_all := lw_g (lw_at lw_m6 152 rfl) rfl
theorem q1414 : (Jvm.Cond.instanceMethod ({ cls := "FewKeysModel", name := "list", desc := "()I" } : Jvm.MethodName)) ∈ lw_all := lw_g (lw_at lw_m6 154 rfl) rfl
theorem q1415 : (Jvm.Cond.selects "FewKeysModel" ({ cls := "FewKeysModel", name := "list", desc := "()I" } : Jvm.MethodName) ({ cls := "FewKeysModel", name := "list", desc := "()I" } : Jvm.MethodName)) ∈ lw_all := lw_g (lw_at lw_m6 155 rfl) rfl
theorem q1416 : (Jvm.Cond.code ({ cls := "FewKeysModel", name := "list", desc := "()I" } : Jvm.MethodName) prog_15_method_48_code (1 : Nat) (Option.some Jvm.ClassFile.FieldType.int)) ∈ lw_all := lw_g (lw_at lw_m6 156 rfl) rfl
theorem q1417 : (Jvm.Cond.methodLink "FewKeysModel" (269 : Nat) ({ cls := "FewKeysModel", name := "listOf", desc := "()I" } : Jvm.MethodName)) ∈ lw_all := lw_g (lw_at lw_m6 157 rfl) rfl
theorem q1418 : (Jvm.Cond.privateMethod ({ cls := "FewKeysModel", name := "listOf", desc := "()I" } : Jvm.MethodName)) ∈ lw_tbl := lw_at lw_m6 158 rfl
theorem q1419 : (Jvm.Cond.instanceMethod ({ cls := "FewKeysModel", name := "listOf", desc := "()I" } : Jvm.MethodName)) ∈ lw_all := lw_g (lw_at lw_m6 159 rfl) rfl
theorem q1420 : (Jvm.Cond.code ({ cls := "FewKeysModel", name := "listOf", desc := "()I" } : Jvm.MethodName) prog_15_method_46_code (13 : Nat) (Option.some Jvm.ClassFile.FieldType.int)) ∈ lw_all := lw_g (lw_at lw_m6 160 rfl) rfl
theorem q1421 : (Jvm.Cond.methodLink "FewKeysModel" (262 : Nat) ({ cls := "FewKeysModel", name := "goOn", desc := "(II)I" } : Jvm.MethodName)) ∈ lw_all := lw_g (lw_at lw_m6 161 rfl) rfl
theorem q1422 : (Jvm.Cond.privateMethod ({ cls := "FewKeysModel", name := "goOn", desc := "(II)I" } : Jvm.MethodName)) ∈ lw_tbl := lw_at lw_m6 162 rfl
theorem q1423 : (Jvm.Cond.instanceMethod ({ cls := "FewKeysModel", name := "goOn", desc := "(II)I" } : Jvm.MethodName)) ∈ lw_all := lw_g (lw_at lw_m6 163 rfl) rfl
theorem q1424 : (Jvm.Cond.code ({ cls := "FewKeysModel", name := "goOn", desc := "(II)I" } : Jvm.MethodName) prog_15_method_45_code (4 : Nat) (Option.some Jvm.ClassFile.FieldType.int)) ∈ lw_all := lw_g (lw_at lw_m6 164 rfl) rfl
theorem q1425 : (Jvm.Cond.methodLink "FewKeysModel" (265 : Nat) ({ cls := "FewKeysModel", name := "insert", desc := "(III)V" } : Jvm.MethodName)) ∈ lw_all := lw_g (lw_at lw_m6 165 rfl) rfl
theorem q1426 : (Jvm.Cond.privateMethod ({ cls := "FewKeysModel", name := "insert", desc := "(III)V" } : Jvm.MethodName)) ∈ lw_tbl := lw_at lw_m6 166 rfl
theorem q1427 : (Jvm.Cond.instanceMethod ({ cls := "FewKeysModel", name := "insert", desc := "(III)V" } : Jvm.MethodName)) ∈ lw_all := lw_g (lw_at lw_m6 167 rfl) rfl
theorem q1428 : (Jvm.Cond.code ({ cls := "FewKeysModel", name := "insert", desc := "(III)V" } : Jvm.MethodName) prog_15_method_47_code (5 : Nat) (Option.none : Option Jvm.ClassFile.FieldType)) ∈ lw_all := lw_g (lw_at lw_m6 168 rfl) rfl
theorem q1430 : (Jvm.Cond.instanceMethod ({ cls := "FewKeysModel", name := "quick", desc := "(II)I" } : Jvm.MethodName)) ∈ lw_all := lw_g (lw_at lw_m6 170 rfl) rfl
theorem q1431 : (Jvm.Cond.selects "FewKeysModel" ({ cls := "FewKeysModel", name := "quick", desc := "(II)I" } : Jvm.MethodName) ({ cls := "FewKeysModel", name := "quick", desc := "(II)I" } : Jvm.MethodName)) ∈ lw_all := lw_g (lw_at lw_m6 171 rfl) rfl
theorem q1432 : (Jvm.Cond.code ({ cls := "FewKeysModel", name := "quick", desc := "(II)I" } : Jvm.MethodName) prog_15_method_49_code (8 : Nat) (Option.some Jvm.ClassFile.FieldType.int)) ∈ lw_all := lw_g (lw_at lw_m6 172 rfl) rfl
theorem q1434 : (Jvm.Cond.instanceMethod ({ cls := "FewKeysModel", name := "struck", desc := "(III)I" } : Jvm.MethodName)) ∈ lw_all := lw_g (lw_at lw_m6 174 rfl) rfl
theorem q1435 : (Jvm.Cond.selects "FewKeysModel" ({ cls := "FewKeysModel", name := "struck", desc := "(III)I" } : Jvm.MethodName) ({ cls := "FewKeysModel", name := "struck", desc := "(III)I" } : Jvm.MethodName)) ∈ lw_all := lw_g (lw_at lw_m6 175 rfl) rfl
theorem q1436 : (Jvm.Cond.code ({ cls := "FewKeysModel", name := "struck", desc := "(III)I" } : Jvm.MethodName) prog_15_method_51_code (7 : Nat) (Option.some Jvm.ClassFile.FieldType.int)) ∈ lw_all := lw_g (lw_at lw_m6 176 rfl) rfl
theorem q1437 : (Jvm.Cond.methodLink "FewKeysModel" (272 : Nat) ({ cls := "FewKeysModel", name := "rowsTo", desc := "(III)I" } : Jvm.MethodName)) ∈ lw_all := lw_g (lw_at lw_m6 177 rfl) rfl
theorem q1438 : (Jvm.Cond.privateMethod ({ cls := "FewKeysModel", name := "rowsTo", desc := "(III)I" } : Jvm.MethodName)) ∈ lw_tbl := lw_at lw_m6 178 rfl
theorem q1439 : (Jvm.Cond.instanceMethod ({ cls := "FewKeysModel", name := "rowsTo", desc := "(III)I" } : Jvm.MethodName)) ∈ lw_all := lw_g (lw_at lw_m6 179 rfl) rfl
theorem q1440 : (Jvm.Cond.code ({ cls := "FewKeysModel", name := "rowsTo", desc := "(III)I" } : Jvm.MethodName) prog_15_method_50_code (8 : Nat) (Option.some Jvm.ClassFile.FieldType.int)) ∈ lw_all := lw_g (lw_at lw_m6 180 rfl) rfl
theorem q1442 : (Jvm.Cond.instanceMethod ({ cls := "FewKeysModel", name := "lost", desc := "(I)I" } : Jvm.MethodName)) ∈ lw_all := lw_g (lw_at lw_m6 182 rfl) rfl
theorem q1443 : (Jvm.Cond.selects "FewKeysModel" ({ cls := "FewKeysModel", name := "lost", desc := "(I)I" } : Jvm.MethodName) ({ cls := "FewKeysModel", name := "lost", desc := "(I)I" } : Jvm.MethodName)) ∈ lw_all := lw_g (lw_at lw_m6 183 rfl) rfl
theorem q1444 : (Jvm.Cond.code ({ cls := "FewKeysModel", name := "lost", desc := "(I)I" } : Jvm.MethodName) prog_15_method_55_code (7 : Nat) (Option.some Jvm.ClassFile.FieldType.int)) ∈ lw_all := lw_g (lw_at lw_m6 184 rfl) rfl
theorem q1445 : (Jvm.Cond.methodLink "FewKeysModel" (285 : Nat) ({ cls := "FewKeysModel", name := "bits", desc := "(I)I" } : Jvm.MethodName)) ∈ lw_all := lw_g (lw_at lw_m6 185 rfl) rfl
theorem q1446 : (Jvm.Cond.static ({ cls := "FewKeysModel", name := "bits", desc := "(I)I" } : Jvm.MethodName)) ∈ lw_all := lw_g (lw_at lw_m6 186 rfl) rfl
theorem q1447 : (Jvm.Cond.code ({ cls := "FewKeysModel", name := "bits", desc := "(I)I" } : Jvm.MethodName) prog_15_method_52_code (3 : Nat) (Option.some Jvm.ClassFile.FieldType.int)) ∈ lw_all := lw_g (lw_at lw_m6 187 rfl) rfl
theorem q1448 : (Jvm.Cond.methodLink "FewKeysModel" (288 : Nat) ({ cls := "FewKeysModel", name := "tells", desc := "(IIII)Z" } : Jvm.MethodName)) ∈ lw_all := lw_g (lw_at lw_m6 188 rfl) rfl
theorem q1449 : (Jvm.Cond.privateMethod ({ cls := "FewKeysModel", name := "tells", desc := "(IIII)Z" } : Jvm.MethodName)) ∈ lw_tbl := lw_at lw_m6 189 rfl
theorem q1450 : (Jvm.Cond.instanceMethod ({ cls := "FewKeysModel", name := "tells", desc := "(IIII)Z" } : Jvm.MethodName)) ∈ lw_all := lw_g (lw_at lw_m6 190 rfl) rfl
theorem q1451 : (Jvm.Cond.code ({ cls := "FewKeysModel", name := "tells", desc := "(IIII)Z" } : Jvm.MethodName) prog_15_method_54_code (10 : Nat) (Option.some Jvm.ClassFile.FieldType.boolean)) ∈ lw_all := lw_g (lw_at lw_m6 191 rfl) rfl
theorem q1452 : (Jvm.Cond.methodLink "FewKeysModel" (277 : Nat) ({ cls := "FewKeysModel", name := "has", desc := "(II)Z" } : Jvm.MethodName)) ∈ lw_all := lw_g (lw_at lw_m6 192 rfl) rfl
theorem q1453 : (Jvm.Cond.static ({ cls := "FewKeysModel", name := "has", desc := "(II)Z" } : Jvm.MethodName)) ∈ lw_all := lw_g (lw_at lw_m6 193 rfl) rfl
theorem q1454 : (Jvm.Cond.code ({ cls := "FewKeysModel", name := "has", desc := "(II)Z" } : Jvm.MethodName) prog_15_method_3_code (2 : Nat) (Option.some Jvm.ClassFile.FieldType.boolean)) ∈ lw_all := lw_g (lw_at lw_m6 194 rfl) rfl
theorem q1455 : (Jvm.Cond.methodLink "FewKeysModel" (281 : Nat) ({ cls := "FewKeysModel", name := "shownBy", desc := "(III)J" } : Jvm.MethodName)) ∈ lw_all := lw_g (lw_at lw_m6 195 rfl) rfl
theorem q1456 : (Jvm.Cond.privateMethod ({ cls := "FewKeysModel", name := "shownBy", desc := "(III)J" } : Jvm.MethodName)) ∈ lw_tbl := lw_at lw_m6 196 rfl
theorem q1457 : (Jvm.Cond.instanceMethod ({ cls := "FewKeysModel", name := "shownBy", desc := "(III)J" } : Jvm.MethodName)) ∈ lw_all := lw_g (lw_at lw_m6 197 rfl) rfl
theorem q1458 : (Jvm.Cond.code ({ cls := "FewKeysModel", name := "shownBy", desc := "(III)J" } : Jvm.MethodName) prog_15_method_53_code (9 : Nat) (Option.some Jvm.ClassFile.FieldType.long)) ∈ lw_all := lw_g (lw_at lw_m6 198 rfl) rfl
theorem q1459 : (Jvm.Cond.constantLong "FewKeysModel" (275 : Nat) (100 : Int64)) ∈ lw_all := lw_g (lw_at lw_m6 199 rfl) rfl
theorem q1461 : (Jvm.Cond.instanceMethod ({ cls := "FewKeysModel", name := "game", desc := "(III)I" } : Jvm.MethodName)) ∈ lw_all := lw_g (lw_at lw_m6 201 rfl) rfl
theorem q1462 : (Jvm.Cond.selects "FewKeysModel" ({ cls := "FewKeysModel", name := "game", desc := "(III)I" } : Jvm.MethodName) ({ cls := "FewKeysModel", name := "game", desc := "(III)I" } : Jvm.MethodName)) ∈ lw_all := lw_g (lw_at lw_m6 202 rfl) rfl
theorem q1463 : (Jvm.Cond.code ({ cls := "FewKeysModel", name := "game", desc := "(III)I" } : Jvm.MethodName) prog_15_method_58_code (8 : Nat) (Option.some Jvm.ClassFile.FieldType.int)) ∈ lw_all := lw_g (lw_at lw_m6 203 rfl) rfl
theorem q1464 : (Jvm.Cond.methodLink "FewKeysModel" (295 : Nat) ({ cls := "FewKeysModel", name := "layGame", desc := "(II)V" } : Jvm.MethodName)) ∈ lw_all := lw_g (lw_at lw_m6 204 rfl) rfl
theorem q1465 : (Jvm.Cond.privateMethod ({ cls := "FewKeysModel", name := "layGame", desc := "(II)V" } : Jvm.MethodName)) ∈ lw_tbl := lw_at lw_m6 205 rfl
theorem q1466 : (Jvm.Cond.instanceMethod ({ cls := "FewKeysModel", name := "layGame", desc := "(II)V" } : Jvm.MethodName)) ∈ lw_all := lw_g (lw_at lw_m6 206 rfl) rfl
theorem q1467 : (Jvm.Cond.code ({ cls := "FewKeysModel", name := "layGame", desc := "(II)V" } : Jvm.MethodName) prog_15_method_56_code (7 : Nat) (Option.none : Option Jvm.ClassFile.FieldType)) ∈ lw_all := lw_g (lw_at lw_m6 207 rfl) rfl
theorem q1468 : (Jvm.Cond.methodLink "FewKeysModel" (292 : Nat) ({ cls := "FewKeysModel", name := "worth", desc := "(II)I" } : Jvm.MethodName)) ∈ lw_all := lw_g (lw_at lw_m6 208 rfl) rfl
theorem q1469 : (Jvm.Cond.privateMethod ({ cls := "FewKeysModel", name := "worth", desc := "(II)I" } : Jvm.MethodName)) ∈ lw_tbl := lw_at lw_m6 209 rfl
theorem q1470 : (Jvm.Cond.instanceMethod ({ cls := "FewKeysModel", name := "worth", desc := "(II)I" } : Jvm.MethodName)) ∈ lw_all := lw_g (lw_at lw_m6 210 rfl) rfl
theorem q1471 : (Jvm.Cond.code ({ cls := "FewKeysModel", name := "worth", desc := "(II)I" } : Jvm.MethodName) prog_15_method_57_code (3 : Nat) (Option.some Jvm.ClassFile.FieldType.int)) ∈ lw_all := lw_g (lw_at lw_m6 211 rfl) rfl
theorem q1473 : (Jvm.Cond.instanceMethod ({ cls := "FewKeysModel", name := "write", desc := "(II)I" } : Jvm.MethodName)) ∈ lw_all := lw_g (lw_at lw_m6 213 rfl) rfl
theorem q1474 : (Jvm.Cond.selects "FewKeysModel" ({ cls := "FewKeysModel", name := "write", desc := "(II)I" } : Jvm.MethodName) ({ cls := "FewKeysModel", name := "write", desc := "(II)I" } : Jvm.MethodName)) ∈ lw_all := lw_g (lw_at lw_m6 214 rfl) rfl
theorem q1475 : (Jvm.Cond.code ({ cls := "FewKeysModel", name := "write", desc := "(II)I" } : Jvm.MethodName) prog_15_method_59_code (3 : Nat) (Option.some Jvm.ClassFile.FieldType.int)) ∈ lw_all := lw_g (lw_at lw_m6 215 rfl) rfl
theorem q1477 : (Jvm.Cond.instanceMethod ({ cls := "FewKeysModel", name := "tear", desc := "()I" } : Jvm.MethodName)) ∈ lw_all := lw_g (lw_at lw_m6 217 rfl) rfl
theorem q1478 : (Jvm.Cond.selects "FewKeysModel" ({ cls := "FewKeysModel", name := "tear", desc := "()I" } : Jvm.MethodName) ({ cls := "FewKeysModel", name := "tear", desc := "()I" } : Jvm.MethodName)) ∈ lw_all := lw_g (lw_at lw_m6 218 rfl) rfl
theorem q1479 : (Jvm.Cond.code ({ cls := "FewKeysModel", name := "tear", desc := "()I" } : Jvm.MethodName) prog_15_method_60_code (2 : Nat) (Option.some Jvm.ClassFile.FieldType.int)) ∈ lw_all := lw_g (lw_at lw_m6 219 rfl) rfl
theorem q1481 : (Jvm.Cond.instanceMethod ({ cls := "FewKeysModel", name := "judge", desc := "()I" } : Jvm.MethodName)) ∈ lw_all := lw_g (lw_at lw_m6 221 rfl) rfl
theorem q1482 : (Jvm.Cond.selects "FewKeysModel" ({ cls := "FewKeysModel", name := "judge", desc := "()I" } : Jvm.MethodName) ({ cls := "FewKeysModel", name := "judge", desc := "()I" } : Jvm.MethodName)) ∈ lw_all := lw_g (lw_at lw_m6 222 rfl) rfl
theorem q1483 : (Jvm.Cond.code ({ cls := "FewKeysModel", name := "judge", desc := "()I" } : Jvm.MethodName) prog_15_method_61_code (4 : Nat) (Option.some Jvm.ClassFile.FieldType.int)) ∈ lw_all := lw_g (lw_at lw_m6 223 rfl) rfl
theorem q1485 : (Jvm.Cond.instanceMethod ({ cls := "FewKeysModel", name := "drift", desc := "(I)I" } : Jvm.MethodName)) ∈ lw_all := lw_g (lw_at lw_m6 225 rfl) rfl
theorem q1486 : (Jvm.Cond.selects "FewKeysModel" ({ cls := "FewKeysModel", name := "drift", desc := "(I)I" } : Jvm.MethodName) ({ cls := "FewKeysModel", name := "drift", desc := "(I)I" } : Jvm.MethodName)) ∈ lw_all := lw_g (lw_at lw_m6 226 rfl) rfl
theorem q1487 : (Jvm.Cond.code ({ cls := "FewKeysModel", name := "drift", desc := "(I)I" } : Jvm.MethodName) prog_15_method_62_code (4 : Nat) (Option.some Jvm.ClassFile.FieldType.int)) ∈ lw_all := lw_g (lw_at lw_m6 227 rfl) rfl
theorem q1488 : (Jvm.Cond.constantLong "FewKeysModel" (302 : Nat) (1103515245 : Int64)) ∈ lw_all := lw_g (lw_at lw_m6 228 rfl) rfl
theorem q1489 : (Jvm.Cond.constantLong "FewKeysModel" (304 : Nat) (12345 : Int64)) ∈ lw_all := lw_g (lw_at lw_m6 229 rfl) rfl
theorem q1490 : (Jvm.Cond.constantLong "FewKeysModel" (306 : Nat) (2147483648 : Int64)) ∈ lw_all := lw_g (lw_at lw_m6 230 rfl) rfl
theorem q1491 : (Jvm.Cond.constantLong "FewKeysModel" (308 : Nat) (65536 : Int64)) ∈ lw_all := lw_g (lw_at lw_m6 231 rfl) rfl
theorem q1493 : (Jvm.Cond.instanceMethod ({ cls := "FewKeysModel", name := "seed", desc := "(I)I" } : Jvm.MethodName)) ∈ lw_all := lw_g (lw_at lw_m6 233 rfl) rfl
theorem q1494 : (Jvm.Cond.selects "FewKeysModel" ({ cls := "FewKeysModel", name := "seed", desc := "(I)I" } : Jvm.MethodName) ({ cls := "FewKeysModel", name := "seed", desc := "(I)I" } : Jvm.MethodName)) ∈ lw_all := lw_g (lw_at lw_m6 234 rfl) rfl
theorem q1495 : (Jvm.Cond.code ({ cls := "FewKeysModel", name := "seed", desc := "(I)I" } : Jvm.MethodName) prog_15_method_63_code (3 : Nat) (Option.some Jvm.ClassFile.FieldType.int)) ∈ lw_all := lw_g (lw_at lw_m6 235 rfl) rfl
theorem q1497 : (Jvm.Cond.instanceMethod ({ cls := "FewKeysModel", name := "keep", desc := "(I)I" } : Jvm.MethodName)) ∈ lw_all := lw_g (lw_at lw_m6 237 rfl) rfl
theorem q1498 : (Jvm.Cond.selects "FewKeysModel" ({ cls := "FewKeysModel", name := "keep", desc := "(I)I" } : Jvm.MethodName) ({ cls := "FewKeysModel", name := "keep", desc := "(I)I" } : Jvm.MethodName)) ∈ lw_all := lw_g (lw_at lw_m6 238 rfl) rfl
theorem q1499 : (Jvm.Cond.code ({ cls := "FewKeysModel", name := "keep", desc := "(I)I" } : Jvm.MethodName) prog_15_method_64_code (3 : Nat) (Option.some Jvm.ClassFile.FieldType.int)) ∈ lw_all := lw_g (lw_at lw_m6 239 rfl) rfl
theorem q1501 : (Jvm.Cond.instanceMethod ({ cls := "FewKeysModel", name := "goBack", desc := "(I)I" } : Jvm.MethodName)) ∈ lw_all := lw_g (lw_at lw_m7 1 rfl) rfl
theorem q1502 : (Jvm.Cond.selects "FewKeysModel" ({ cls := "FewKeysModel", name := "goBack", desc := "(I)I" } : Jvm.MethodName) ({ cls := "FewKeysModel", name := "goBack", desc := "(I)I" } : Jvm.MethodName)) ∈ lw_all := lw_g (lw_at lw_m7 2 rfl) rfl
theorem q1503 : (Jvm.Cond.code ({ cls := "FewKeysModel", name := "goBack", desc := "(I)I" } : Jvm.MethodName) prog_15_method_65_code (3 : Nat) (Option.some Jvm.ClassFile.FieldType.int)) ∈ lw_all := lw_g (lw_at lw_m7 3 rfl) rfl
theorem in_X3 : ∀ w ∈ wsX30, w ∈ lw_all := lw_in wsX30 [1140, 1142, 1144, 1146, 1148, 1150, 1152, 1154, 1156, 1158, 1160, 1162, 1164, 1166, 1168, 1170, 1172, 1174, 1176, 1178, 1180, 1182, 1184, 1186, 1188, 1190, 1192, 1194, 1196, 1198, 1200, 1202, 1204, 1206, 1208, 1210, 1212, 1214, 1216, 1218, 1220] (by decide +kernel) (by decide +kernel)

