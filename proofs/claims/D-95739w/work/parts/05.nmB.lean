/-! FewKeys -/
set_option maxRecDepth 100000
def RX0 : String := "FewKeys"
def TX0 : u_T := fun k => match k with
  | 0 => ("FewKeys", "reckoner", "LFewKeys$Reckoner;", false)
  | 1 => ("FewKeys", "now", "LFewKeys$Desk;", true)
  | 2 => ("FewKeys", "bookKey", "[I", true)
  | 3 => ("FewKeys", "bookShown", "[I", true)
  | 4 => ("FewKeys", "written", "I", false)
  | 5 => ("FewKeys", "text", "[B", true)
  | 6 => ("FewKeys", "size", "I", false)
  | 7 => ("FewKeys", "fault", "I", false)
  | 8 => ("FewKeys", "strokes", "[I", true)
  | 9 => ("FewKeys", "row", "[I", true)
  | 10 => ("FewKeys", "before", "[I", true)
  | 11 => ("FewKeys", "by", "[B", true)
  | 12 => ("FewKeys", "firstState", "[I", true)
  | 13 => ("FewKeys", "cost", "[I", true)
  | 14 => ("FewKeys", "waits", "[Z", true)
  | 15 => ("FewKeys", "ways", "[I", true)
  | 16 => ("FewKeys", "then", "[I", true)
  | 17 => ("FewKeys", "asKey", "[[I", true)
  | 18 => ("FewKeys", "alikes", "[[I", true)
  | _ => ("FewKeys", "images", "[LFewKeys$Desk;", true)
def tyX0 : Nat → FieldType := fun k => match k with
  | 0 => .object "FewKeys$Reckoner"
  | 1 => .object "FewKeys$Desk"
  | 2 => .array .int
  | 3 => .array .int
  | 4 => .int
  | 5 => .array .byte
  | 6 => .int
  | 7 => .int
  | 8 => .array .int
  | 9 => .array .int
  | 10 => .array .int
  | 11 => .array .byte
  | 12 => .array .int
  | 13 => .array .int
  | 14 => .array .boolean
  | 15 => .array .int
  | 16 => .array .int
  | 17 => .array (.array .int)
  | 18 => .array (.array .int)
  | _ => .array (.object "FewKeys$Desk")
abbrev wsX00 : List Cond := u_ws RX0 TX0 20
set_option maxRecDepth 100000 in
theorem nmX0 : ∀ a, a < 20 → ∀ b, b < 20 → a ≠ b → (TX0 a).2.1 ≠ (TX0 b).2.1 := by decide +kernel
set_option maxRecDepth 100000 in
theorem tyX0_ok : ∀ k, k < 20 → parseFieldDescriptor (TX0 k).2.2.1 = some (tyX0 k) := by decide +kernel
abbrev cX0_init : ByteArray := prog_1_method_3_code
def yX0_init : MethodName := ⟨RX0, "<init>", "()V"⟩
def dkwX0_init_7 : List UInt8 := [190, 162, 0, 22, 42, 180, 0, 75, 27, 187, 0, 16, 89, 183, 0, 18, 83, 132, 1, 1, 167, 255, 231, 177]
abbrev dktX0_init_7 : List UInt8 := dkwX0_init_7 ++ []
def dkwX0_init_6 : List UInt8 := [16, 8, 197, 0, 67, 2, 181, 0, 72, 42, 5, 189, 0, 16, 181, 0, 75, 3, 60, 27, 42, 180, 0, 75]
abbrev dktX0_init_6 : List UInt8 := dkwX0_init_6 ++ dktX0_init_7
def dkwX0_init_5 : List UInt8 := [181, 0, 61, 42, 18, 38, 188, 10, 181, 0, 64, 42, 8, 16, 8, 197, 0, 67, 2, 181, 0, 69, 42, 8]
abbrev dktX0_init_5 : List UInt8 := dkwX0_init_5 ++ dktX0_init_6
def dkwX0_init_4 : List UInt8 := [181, 0, 51, 42, 18, 38, 188, 10, 181, 0, 54, 42, 18, 38, 188, 4, 181, 0, 57, 42, 18, 38, 188, 10]
abbrev dktX0_init_4 : List UInt8 := dkwX0_init_4 ++ dktX0_init_5
def dkwX0_init_3 : List UInt8 := [181, 0, 42, 42, 18, 38, 188, 10, 181, 0, 45, 42, 18, 38, 188, 8, 181, 0, 48, 42, 16, 100, 188, 10]
abbrev dktX0_init_3 : List UInt8 := dkwX0_init_3 ++ dktX0_init_4
def dkwX0_init_2 : List UInt8 := [188, 8, 181, 0, 30, 42, 2, 181, 0, 34, 42, 18, 38, 188, 10, 181, 0, 39, 42, 18, 38, 188, 10]
abbrev dktX0_init_2 : List UInt8 := dkwX0_init_2 ++ dktX0_init_3
def dkwX0_init_1 : List UInt8 := [181, 0, 19, 42, 16, 40, 188, 10, 181, 0, 23, 42, 16, 40, 188, 10, 181, 0, 27, 42, 17, 1, 144]
abbrev dktX0_init_1 : List UInt8 := dkwX0_init_1 ++ dktX0_init_2
def dkwX0_init_0 : List UInt8 := [42, 183, 0, 3, 42, 187, 0, 9, 89, 183, 0, 11, 181, 0, 12, 42, 187, 0, 16, 89, 183, 0, 18]
abbrev dktX0_init_0 : List UInt8 := dkwX0_init_0 ++ dktX0_init_1
theorem dksX0_init_0 : cX0_init.data.toList.drop 0 = dktX0_init_0 := by decide +kernel
theorem dksX0_init_1 : cX0_init.data.toList.drop 23 = dktX0_init_1 := dk_seg dksX0_init_0 23 rfl rfl
theorem dksX0_init_2 : cX0_init.data.toList.drop 46 = dktX0_init_2 := dk_seg dksX0_init_1 23 rfl rfl
theorem dksX0_init_3 : cX0_init.data.toList.drop 69 = dktX0_init_3 := dk_seg dksX0_init_2 23 rfl rfl
theorem dksX0_init_4 : cX0_init.data.toList.drop 93 = dktX0_init_4 := dk_seg dksX0_init_3 24 rfl rfl
theorem dksX0_init_5 : cX0_init.data.toList.drop 117 = dktX0_init_5 := dk_seg dksX0_init_4 24 rfl rfl
theorem dksX0_init_6 : cX0_init.data.toList.drop 141 = dktX0_init_6 := dk_seg dksX0_init_5 24 rfl rfl
theorem dksX0_init_7 : cX0_init.data.toList.drop 165 = dktX0_init_7 := dk_seg dksX0_init_6 24 rfl rfl
theorem dX0_init_0 : decode cX0_init 0 = .ok (.aload_n 0, 1) := dk_42 (dk_at dksX0_init_0 0 rfl rfl)
theorem dX0_init_1 : decode cX0_init 1 = .ok (.invokespecial 3, 3) := dk_183 0 3 (dk_at dksX0_init_0 1 rfl rfl)
theorem dX0_init_4 : decode cX0_init 4 = .ok (.aload_n 0, 1) := dk_42 (dk_at dksX0_init_0 4 rfl rfl)
theorem dX0_init_5 : decode cX0_init 5 = .ok (.new 9, 3) := dk_187 0 9 (dk_at dksX0_init_0 5 rfl rfl)
theorem dX0_init_8 : decode cX0_init 8 = .ok (.dup, 1) := dk_89 (dk_at dksX0_init_0 8 rfl rfl)
theorem dX0_init_9 : decode cX0_init 9 = .ok (.invokespecial 11, 3) := dk_183 0 11 (dk_at dksX0_init_0 9 rfl rfl)
theorem dX0_init_12 : decode cX0_init 12 = .ok (.putfield 12, 3) := dk_181 0 12 (dk_at dksX0_init_0 12 rfl rfl)
theorem dX0_init_15 : decode cX0_init 15 = .ok (.aload_n 0, 1) := dk_42 (dk_at dksX0_init_0 15 rfl rfl)
theorem dX0_init_16 : decode cX0_init 16 = .ok (.new 16, 3) := dk_187 0 16 (dk_at dksX0_init_0 16 rfl rfl)
theorem dX0_init_19 : decode cX0_init 19 = .ok (.dup, 1) := dk_89 (dk_at dksX0_init_0 19 rfl rfl)
theorem dX0_init_20 : decode cX0_init 20 = .ok (.invokespecial 18, 3) := dk_183 0 18 (dk_at dksX0_init_0 20 rfl rfl)
theorem dX0_init_23 : decode cX0_init 23 = .ok (.putfield 19, 3) := dk_181 0 19 (dk_at dksX0_init_1 0 rfl rfl)
theorem dX0_init_26 : decode cX0_init 26 = .ok (.aload_n 0, 1) := dk_42 (dk_at dksX0_init_1 3 rfl rfl)
theorem dX0_init_27 : decode cX0_init 27 = .ok (.bipush 40, 2) := dk_16 40 (dk_at dksX0_init_1 4 rfl rfl)
theorem dX0_init_29 : decode cX0_init 29 = .ok (.newarray .int, 2) := dk_188_10 (dk_at dksX0_init_1 6 rfl rfl)
theorem dX0_init_31 : decode cX0_init 31 = .ok (.putfield 23, 3) := dk_181 0 23 (dk_at dksX0_init_1 8 rfl rfl)
theorem dX0_init_34 : decode cX0_init 34 = .ok (.aload_n 0, 1) := dk_42 (dk_at dksX0_init_1 11 rfl rfl)
theorem dX0_init_35 : decode cX0_init 35 = .ok (.bipush 40, 2) := dk_16 40 (dk_at dksX0_init_1 12 rfl rfl)
theorem dX0_init_37 : decode cX0_init 37 = .ok (.newarray .int, 2) := dk_188_10 (dk_at dksX0_init_1 14 rfl rfl)
theorem dX0_init_39 : decode cX0_init 39 = .ok (.putfield 27, 3) := dk_181 0 27 (dk_at dksX0_init_1 16 rfl rfl)
theorem dX0_init_42 : decode cX0_init 42 = .ok (.aload_n 0, 1) := dk_42 (dk_at dksX0_init_1 19 rfl rfl)
theorem dX0_init_43 : decode cX0_init 43 = .ok (.sipush 400, 3) := dk_17 1 144 (dk_at dksX0_init_1 20 rfl rfl)
theorem dX0_init_46 : decode cX0_init 46 = .ok (.newarray .byte, 2) := dk_188_8 (dk_at dksX0_init_2 0 rfl rfl)
theorem dX0_init_48 : decode cX0_init 48 = .ok (.putfield 30, 3) := dk_181 0 30 (dk_at dksX0_init_2 2 rfl rfl)
theorem dX0_init_51 : decode cX0_init 51 = .ok (.aload_n 0, 1) := dk_42 (dk_at dksX0_init_2 5 rfl rfl)
theorem dX0_init_52 : decode cX0_init 52 = .ok (.iconst (-1), 1) := dk_2 (dk_at dksX0_init_2 6 rfl rfl)
theorem dX0_init_53 : decode cX0_init 53 = .ok (.putfield 34, 3) := dk_181 0 34 (dk_at dksX0_init_2 7 rfl rfl)
theorem dX0_init_56 : decode cX0_init 56 = .ok (.aload_n 0, 1) := dk_42 (dk_at dksX0_init_2 10 rfl rfl)
theorem dX0_init_57 : decode cX0_init 57 = .ok (.ldc 38, 2) := dk_18 38 (dk_at dksX0_init_2 11 rfl rfl)
theorem dX0_init_59 : decode cX0_init 59 = .ok (.newarray .int, 2) := dk_188_10 (dk_at dksX0_init_2 13 rfl rfl)
theorem dX0_init_61 : decode cX0_init 61 = .ok (.putfield 39, 3) := dk_181 0 39 (dk_at dksX0_init_2 15 rfl rfl)
theorem dX0_init_64 : decode cX0_init 64 = .ok (.aload_n 0, 1) := dk_42 (dk_at dksX0_init_2 18 rfl rfl)
theorem dX0_init_65 : decode cX0_init 65 = .ok (.ldc 38, 2) := dk_18 38 (dk_at dksX0_init_2 19 rfl rfl)
theorem dX0_init_67 : decode cX0_init 67 = .ok (.newarray .int, 2) := dk_188_10 (dk_at dksX0_init_2 21 rfl rfl)
theorem dX0_init_69 : decode cX0_init 69 = .ok (.putfield 42, 3) := dk_181 0 42 (dk_at dksX0_init_3 0 rfl rfl)
theorem dX0_init_72 : decode cX0_init 72 = .ok (.aload_n 0, 1) := dk_42 (dk_at dksX0_init_3 3 rfl rfl)
theorem dX0_init_73 : decode cX0_init 73 = .ok (.ldc 38, 2) := dk_18 38 (dk_at dksX0_init_3 4 rfl rfl)
theorem dX0_init_75 : decode cX0_init 75 = .ok (.newarray .int, 2) := dk_188_10 (dk_at dksX0_init_3 6 rfl rfl)
theorem dX0_init_77 : decode cX0_init 77 = .ok (.putfield 45, 3) := dk_181 0 45 (dk_at dksX0_init_3 8 rfl rfl)
theorem dX0_init_80 : decode cX0_init 80 = .ok (.aload_n 0, 1) := dk_42 (dk_at dksX0_init_3 11 rfl rfl)
theorem dX0_init_81 : decode cX0_init 81 = .ok (.ldc 38, 2) := dk_18 38 (dk_at dksX0_init_3 12 rfl rfl)
theorem dX0_init_83 : decode cX0_init 83 = .ok (.newarray .byte, 2) := dk_188_8 (dk_at dksX0_init_3 14 rfl rfl)
theorem dX0_init_85 : decode cX0_init 85 = .ok (.putfield 48, 3) := dk_181 0 48 (dk_at dksX0_init_3 16 rfl rfl)
theorem dX0_init_88 : decode cX0_init 88 = .ok (.aload_n 0, 1) := dk_42 (dk_at dksX0_init_3 19 rfl rfl)
theorem dX0_init_89 : decode cX0_init 89 = .ok (.bipush 100, 2) := dk_16 100 (dk_at dksX0_init_3 20 rfl rfl)
theorem dX0_init_91 : decode cX0_init 91 = .ok (.newarray .int, 2) := dk_188_10 (dk_at dksX0_init_3 22 rfl rfl)
theorem dX0_init_93 : decode cX0_init 93 = .ok (.putfield 51, 3) := dk_181 0 51 (dk_at dksX0_init_4 0 rfl rfl)
theorem dX0_init_96 : decode cX0_init 96 = .ok (.aload_n 0, 1) := dk_42 (dk_at dksX0_init_4 3 rfl rfl)
theorem dX0_init_97 : decode cX0_init 97 = .ok (.ldc 38, 2) := dk_18 38 (dk_at dksX0_init_4 4 rfl rfl)
theorem dX0_init_99 : decode cX0_init 99 = .ok (.newarray .int, 2) := dk_188_10 (dk_at dksX0_init_4 6 rfl rfl)
theorem dX0_init_101 : decode cX0_init 101 = .ok (.putfield 54, 3) := dk_181 0 54 (dk_at dksX0_init_4 8 rfl rfl)
theorem dX0_init_104 : decode cX0_init 104 = .ok (.aload_n 0, 1) := dk_42 (dk_at dksX0_init_4 11 rfl rfl)
theorem dX0_init_105 : decode cX0_init 105 = .ok (.ldc 38, 2) := dk_18 38 (dk_at dksX0_init_4 12 rfl rfl)
theorem dX0_init_107 : decode cX0_init 107 = .ok (.newarray .boolean, 2) := dk_188_4 (dk_at dksX0_init_4 14 rfl rfl)
theorem dX0_init_109 : decode cX0_init 109 = .ok (.putfield 57, 3) := dk_181 0 57 (dk_at dksX0_init_4 16 rfl rfl)
theorem dX0_init_112 : decode cX0_init 112 = .ok (.aload_n 0, 1) := dk_42 (dk_at dksX0_init_4 19 rfl rfl)
theorem dX0_init_113 : decode cX0_init 113 = .ok (.ldc 38, 2) := dk_18 38 (dk_at dksX0_init_4 20 rfl rfl)
theorem dX0_init_115 : decode cX0_init 115 = .ok (.newarray .int, 2) := dk_188_10 (dk_at dksX0_init_4 22 rfl rfl)
theorem dX0_init_117 : decode cX0_init 117 = .ok (.putfield 61, 3) := dk_181 0 61 (dk_at dksX0_init_5 0 rfl rfl)
theorem dX0_init_120 : decode cX0_init 120 = .ok (.aload_n 0, 1) := dk_42 (dk_at dksX0_init_5 3 rfl rfl)
theorem dX0_init_121 : decode cX0_init 121 = .ok (.ldc 38, 2) := dk_18 38 (dk_at dksX0_init_5 4 rfl rfl)
theorem dX0_init_123 : decode cX0_init 123 = .ok (.newarray .int, 2) := dk_188_10 (dk_at dksX0_init_5 6 rfl rfl)
theorem dX0_init_125 : decode cX0_init 125 = .ok (.putfield 64, 3) := dk_181 0 64 (dk_at dksX0_init_5 8 rfl rfl)
theorem dX0_init_128 : decode cX0_init 128 = .ok (.aload_n 0, 1) := dk_42 (dk_at dksX0_init_5 11 rfl rfl)
theorem dX0_init_129 : decode cX0_init 129 = .ok (.iconst 5, 1) := dk_8 (dk_at dksX0_init_5 12 rfl rfl)
theorem dX0_init_130 : decode cX0_init 130 = .ok (.bipush 8, 2) := dk_16 8 (dk_at dksX0_init_5 13 rfl rfl)
theorem dX0_init_132 : decode cX0_init 132 = .ok (.multianewarray 67 2, 4) := by decide +kernel
theorem dX0_init_136 : decode cX0_init 136 = .ok (.putfield 69, 3) := dk_181 0 69 (dk_at dksX0_init_5 19 rfl rfl)
theorem dX0_init_139 : decode cX0_init 139 = .ok (.aload_n 0, 1) := dk_42 (dk_at dksX0_init_5 22 rfl rfl)
theorem dX0_init_140 : decode cX0_init 140 = .ok (.iconst 5, 1) := dk_8 (dk_at dksX0_init_5 23 rfl rfl)
theorem dX0_init_141 : decode cX0_init 141 = .ok (.bipush 8, 2) := dk_16 8 (dk_at dksX0_init_6 0 rfl rfl)
theorem dX0_init_143 : decode cX0_init 143 = .ok (.multianewarray 67 2, 4) := by decide +kernel
theorem dX0_init_147 : decode cX0_init 147 = .ok (.putfield 72, 3) := dk_181 0 72 (dk_at dksX0_init_6 6 rfl rfl)
theorem dX0_init_150 : decode cX0_init 150 = .ok (.aload_n 0, 1) := dk_42 (dk_at dksX0_init_6 9 rfl rfl)
theorem dX0_init_151 : decode cX0_init 151 = .ok (.iconst 2, 1) := dk_5 (dk_at dksX0_init_6 10 rfl rfl)
theorem dX0_init_152 : decode cX0_init 152 = .ok (.anewarray 16, 3) := dk_189 0 16 (dk_at dksX0_init_6 11 rfl rfl)
theorem dX0_init_155 : decode cX0_init 155 = .ok (.putfield 75, 3) := dk_181 0 75 (dk_at dksX0_init_6 14 rfl rfl)
theorem dX0_init_158 : decode cX0_init 158 = .ok (.iconst 0, 1) := dk_3 (dk_at dksX0_init_6 17 rfl rfl)
theorem dX0_init_159 : decode cX0_init 159 = .ok (.istore_n 1, 1) := dk_60 (dk_at dksX0_init_6 18 rfl rfl)
theorem dX0_init_160 : decode cX0_init 160 = .ok (.iload_n 1, 1) := dk_27 (dk_at dksX0_init_6 19 rfl rfl)
theorem dX0_init_161 : decode cX0_init 161 = .ok (.aload_n 0, 1) := dk_42 (dk_at dksX0_init_6 20 rfl rfl)
theorem dX0_init_162 : decode cX0_init 162 = .ok (.getfield 75, 3) := dk_180 0 75 (dk_at dksX0_init_6 21 rfl rfl)
theorem dX0_init_165 : decode cX0_init 165 = .ok (.arraylength, 1) := dk_190 (dk_at dksX0_init_7 0 rfl rfl)
theorem dX0_init_166 : decode cX0_init 166 = .ok (.if_icmp .ge 22, 3) := dk_162 0 22 (dk_at dksX0_init_7 1 rfl rfl)
theorem dX0_init_169 : decode cX0_init 169 = .ok (.aload_n 0, 1) := dk_42 (dk_at dksX0_init_7 4 rfl rfl)
theorem dX0_init_170 : decode cX0_init 170 = .ok (.getfield 75, 3) := dk_180 0 75 (dk_at dksX0_init_7 5 rfl rfl)
theorem dX0_init_173 : decode cX0_init 173 = .ok (.iload_n 1, 1) := dk_27 (dk_at dksX0_init_7 8 rfl rfl)
theorem dX0_init_174 : decode cX0_init 174 = .ok (.new 16, 3) := dk_187 0 16 (dk_at dksX0_init_7 9 rfl rfl)
theorem dX0_init_177 : decode cX0_init 177 = .ok (.dup, 1) := dk_89 (dk_at dksX0_init_7 12 rfl rfl)
theorem dX0_init_178 : decode cX0_init 178 = .ok (.invokespecial 18, 3) := dk_183 0 18 (dk_at dksX0_init_7 13 rfl rfl)
theorem dX0_init_181 : decode cX0_init 181 = .ok (.aastore, 1) := dk_83 (dk_at dksX0_init_7 16 rfl rfl)
theorem dX0_init_182 : decode cX0_init 182 = .ok (.iinc 1 1, 3) := dk_132 1 1 (dk_at dksX0_init_7 17 rfl rfl)
theorem dX0_init_185 : decode cX0_init 185 = .ok (.goto (-25), 3) := dk_167 255 231 (dk_at dksX0_init_7 20 rfl rfl)
theorem dX0_init_188 : decode cX0_init 188 = .ok (.return_, 1) := dk_177 (dk_at dksX0_init_7 23 rfl rfl)
abbrev cX0_feed : ByteArray := prog_1_method_4_code
def yX0_feed : MethodName := ⟨RX0, "feed", "(IJ)I"⟩
def dkwX0_feed_3 : List UInt8 := [167, 255, 220, 42, 180, 0, 84, 172]
abbrev dktX0_feed_3 : List UInt8 := dkwX0_feed_3 ++ []
def dkwX0_feed_2 : List UInt8 := [32, 16, 8, 21, 4, 104, 123, 136, 145, 84, 42, 89, 180, 0, 84, 4, 96, 181, 0, 84, 132, 4, 255]
abbrev dktX0_feed_2 : List UInt8 := dkwX0_feed_2 ++ dktX0_feed_3
def dkwX0_feed_1 : List UInt8 := [164, 0, 6, 18, 87, 172, 27, 4, 100, 54, 4, 21, 4, 155, 0, 37, 42, 180, 0, 30, 42, 180, 0, 84]
abbrev dktX0_feed_1 : List UInt8 := dkwX0_feed_1 ++ dktX0_feed_2
def dkwX0_feed_0 : List UInt8 := [27, 4, 16, 8, 184, 0, 79, 154, 0, 6, 18, 83, 172, 42, 180, 0, 84, 27, 96, 17, 1, 144]
abbrev dktX0_feed_0 : List UInt8 := dkwX0_feed_0 ++ dktX0_feed_1
theorem dksX0_feed_0 : cX0_feed.data.toList.drop 0 = dktX0_feed_0 := by decide +kernel
theorem dksX0_feed_1 : cX0_feed.data.toList.drop 22 = dktX0_feed_1 := dk_seg dksX0_feed_0 22 rfl rfl
theorem dksX0_feed_2 : cX0_feed.data.toList.drop 46 = dktX0_feed_2 := dk_seg dksX0_feed_1 24 rfl rfl
theorem dksX0_feed_3 : cX0_feed.data.toList.drop 69 = dktX0_feed_3 := dk_seg dksX0_feed_2 23 rfl rfl
theorem dX0_feed_0 : decode cX0_feed 0 = .ok (.iload_n 1, 1) := dk_27 (dk_at dksX0_feed_0 0 rfl rfl)
theorem dX0_feed_1 : decode cX0_feed 1 = .ok (.iconst 1, 1) := dk_4 (dk_at dksX0_feed_0 1 rfl rfl)
theorem dX0_feed_2 : decode cX0_feed 2 = .ok (.bipush 8, 2) := dk_16 8 (dk_at dksX0_feed_0 2 rfl rfl)
theorem dX0_feed_4 : decode cX0_feed 4 = .ok (.invokestatic 79, 3) := dk_184 0 79 (dk_at dksX0_feed_0 4 rfl rfl)
theorem dX0_feed_7 : decode cX0_feed 7 = .ok (.ifCond .ne 6, 3) := dk_154 0 6 (dk_at dksX0_feed_0 7 rfl rfl)
theorem dX0_feed_10 : decode cX0_feed 10 = .ok (.ldc 83, 2) := dk_18 83 (dk_at dksX0_feed_0 10 rfl rfl)
theorem dX0_feed_12 : decode cX0_feed 12 = .ok (.ireturn, 1) := dk_172 (dk_at dksX0_feed_0 12 rfl rfl)
theorem dX0_feed_13 : decode cX0_feed 13 = .ok (.aload_n 0, 1) := dk_42 (dk_at dksX0_feed_0 13 rfl rfl)
theorem dX0_feed_14 : decode cX0_feed 14 = .ok (.getfield 84, 3) := dk_180 0 84 (dk_at dksX0_feed_0 14 rfl rfl)
theorem dX0_feed_17 : decode cX0_feed 17 = .ok (.iload_n 1, 1) := dk_27 (dk_at dksX0_feed_0 17 rfl rfl)
theorem dX0_feed_18 : decode cX0_feed 18 = .ok (.iadd, 1) := dk_96 (dk_at dksX0_feed_0 18 rfl rfl)
theorem dX0_feed_19 : decode cX0_feed 19 = .ok (.sipush 400, 3) := dk_17 1 144 (dk_at dksX0_feed_0 19 rfl rfl)
theorem dX0_feed_22 : decode cX0_feed 22 = .ok (.if_icmp .le 6, 3) := dk_164 0 6 (dk_at dksX0_feed_1 0 rfl rfl)
theorem dX0_feed_25 : decode cX0_feed 25 = .ok (.ldc 87, 2) := dk_18 87 (dk_at dksX0_feed_1 3 rfl rfl)
theorem dX0_feed_27 : decode cX0_feed 27 = .ok (.ireturn, 1) := dk_172 (dk_at dksX0_feed_1 5 rfl rfl)
theorem dX0_feed_28 : decode cX0_feed 28 = .ok (.iload_n 1, 1) := dk_27 (dk_at dksX0_feed_1 6 rfl rfl)
theorem dX0_feed_29 : decode cX0_feed 29 = .ok (.iconst 1, 1) := dk_4 (dk_at dksX0_feed_1 7 rfl rfl)
theorem dX0_feed_30 : decode cX0_feed 30 = .ok (.isub, 1) := dk_100 (dk_at dksX0_feed_1 8 rfl rfl)
theorem dX0_feed_31 : decode cX0_feed 31 = .ok (.istore 4, 2) := dk_54 4 (dk_at dksX0_feed_1 9 rfl rfl)
theorem dX0_feed_33 : decode cX0_feed 33 = .ok (.iload 4, 2) := dk_21 4 (dk_at dksX0_feed_1 11 rfl rfl)
theorem dX0_feed_35 : decode cX0_feed 35 = .ok (.ifCond .lt 37, 3) := dk_155 0 37 (dk_at dksX0_feed_1 13 rfl rfl)
theorem dX0_feed_38 : decode cX0_feed 38 = .ok (.aload_n 0, 1) := dk_42 (dk_at dksX0_feed_1 16 rfl rfl)
theorem dX0_feed_39 : decode cX0_feed 39 = .ok (.getfield 30, 3) := dk_180 0 30 (dk_at dksX0_feed_1 17 rfl rfl)
theorem dX0_feed_42 : decode cX0_feed 42 = .ok (.aload_n 0, 1) := dk_42 (dk_at dksX0_feed_1 20 rfl rfl)
theorem dX0_feed_43 : decode cX0_feed 43 = .ok (.getfield 84, 3) := dk_180 0 84 (dk_at dksX0_feed_1 21 rfl rfl)
theorem dX0_feed_46 : decode cX0_feed 46 = .ok (.lload_n 2, 1) := dk_32 (dk_at dksX0_feed_2 0 rfl rfl)
theorem dX0_feed_47 : decode cX0_feed 47 = .ok (.bipush 8, 2) := dk_16 8 (dk_at dksX0_feed_2 1 rfl rfl)
theorem dX0_feed_49 : decode cX0_feed 49 = .ok (.iload 4, 2) := dk_21 4 (dk_at dksX0_feed_2 3 rfl rfl)
theorem dX0_feed_51 : decode cX0_feed 51 = .ok (.imul, 1) := dk_104 (dk_at dksX0_feed_2 5 rfl rfl)
theorem dX0_feed_52 : decode cX0_feed 52 = .ok (.lshr, 1) := dk_123 (dk_at dksX0_feed_2 6 rfl rfl)
theorem dX0_feed_53 : decode cX0_feed 53 = .ok (.l2i, 1) := dk_136 (dk_at dksX0_feed_2 7 rfl rfl)
theorem dX0_feed_54 : decode cX0_feed 54 = .ok (.i2b, 1) := dk_145 (dk_at dksX0_feed_2 8 rfl rfl)
theorem dX0_feed_55 : decode cX0_feed 55 = .ok (.bastore, 1) := dk_84 (dk_at dksX0_feed_2 9 rfl rfl)
theorem dX0_feed_56 : decode cX0_feed 56 = .ok (.aload_n 0, 1) := dk_42 (dk_at dksX0_feed_2 10 rfl rfl)
theorem dX0_feed_57 : decode cX0_feed 57 = .ok (.dup, 1) := dk_89 (dk_at dksX0_feed_2 11 rfl rfl)
theorem dX0_feed_58 : decode cX0_feed 58 = .ok (.getfield 84, 3) := dk_180 0 84 (dk_at dksX0_feed_2 12 rfl rfl)
theorem dX0_feed_61 : decode cX0_feed 61 = .ok (.iconst 1, 1) := dk_4 (dk_at dksX0_feed_2 15 rfl rfl)
theorem dX0_feed_62 : decode cX0_feed 62 = .ok (.iadd, 1) := dk_96 (dk_at dksX0_feed_2 16 rfl rfl)
theorem dX0_feed_63 : decode cX0_feed 63 = .ok (.putfield 84, 3) := dk_181 0 84 (dk_at dksX0_feed_2 17 rfl rfl)
theorem dX0_feed_66 : decode cX0_feed 66 = .ok (.iinc 4 (-1), 3) := dk_132 4 255 (dk_at dksX0_feed_2 20 rfl rfl)
theorem dX0_feed_69 : decode cX0_feed 69 = .ok (.goto (-36), 3) := dk_167 255 220 (dk_at dksX0_feed_3 0 rfl rfl)
theorem dX0_feed_72 : decode cX0_feed 72 = .ok (.aload_n 0, 1) := dk_42 (dk_at dksX0_feed_3 3 rfl rfl)
theorem dX0_feed_73 : decode cX0_feed 73 = .ok (.getfield 84, 3) := dk_180 0 84 (dk_at dksX0_feed_3 4 rfl rfl)
theorem dX0_feed_76 : decode cX0_feed 76 = .ok (.ireturn, 1) := dk_172 (dk_at dksX0_feed_3 7 rfl rfl)
abbrev cX0_isIn : ByteArray := prog_1_method_1_code
def yX0_isIn : MethodName := ⟨RX0, "isIn", "(III)Z"⟩
def dkwX0_isIn_0 : List UInt8 := [26, 27, 161, 0, 12, 26, 28, 163, 0, 7, 4, 167, 0, 4, 3, 172]
abbrev dktX0_isIn_0 : List UInt8 := dkwX0_isIn_0 ++ []
theorem dksX0_isIn_0 : cX0_isIn.data.toList.drop 0 = dktX0_isIn_0 := by decide +kernel
theorem dX0_isIn_0 : decode cX0_isIn 0 = .ok (.iload_n 0, 1) := dk_26 (dk_at dksX0_isIn_0 0 rfl rfl)
theorem dX0_isIn_1 : decode cX0_isIn 1 = .ok (.iload_n 1, 1) := dk_27 (dk_at dksX0_isIn_0 1 rfl rfl)
theorem dX0_isIn_2 : decode cX0_isIn 2 = .ok (.if_icmp .lt 12, 3) := dk_161 0 12 (dk_at dksX0_isIn_0 2 rfl rfl)
theorem dX0_isIn_5 : decode cX0_isIn 5 = .ok (.iload_n 0, 1) := dk_26 (dk_at dksX0_isIn_0 5 rfl rfl)
theorem dX0_isIn_6 : decode cX0_isIn 6 = .ok (.iload_n 2, 1) := dk_28 (dk_at dksX0_isIn_0 6 rfl rfl)
theorem dX0_isIn_7 : decode cX0_isIn 7 = .ok (.if_icmp .gt 7, 3) := dk_163 0 7 (dk_at dksX0_isIn_0 7 rfl rfl)
theorem dX0_isIn_10 : decode cX0_isIn 10 = .ok (.iconst 1, 1) := dk_4 (dk_at dksX0_isIn_0 10 rfl rfl)
theorem dX0_isIn_11 : decode cX0_isIn 11 = .ok (.goto 4, 3) := dk_167 0 4 (dk_at dksX0_isIn_0 11 rfl rfl)
theorem dX0_isIn_14 : decode cX0_isIn 14 = .ok (.iconst 0, 1) := dk_3 (dk_at dksX0_isIn_0 14 rfl rfl)
theorem dX0_isIn_15 : decode cX0_isIn 15 = .ok (.ireturn, 1) := dk_172 (dk_at dksX0_isIn_0 15 rfl rfl)
abbrev cX0_reckoner : ByteArray := prog_1_method_5_code
def yX0_reckoner : MethodName := ⟨RX0, "reckoner", "()I"⟩
def dkwX0_reckoner_4 : List UInt8 := [3, 181, 0, 111, 42, 182, 0, 115, 172]
abbrev dktX0_reckoner_4 : List UInt8 := dkwX0_reckoner_4 ++ []
def dkwX0_reckoner_3 : List UInt8 := [182, 0, 105, 42, 3, 181, 0, 108, 42, 180, 0, 75, 3, 50, 3, 181, 0, 111, 42, 180, 0, 75, 4, 50]
abbrev dktX0_reckoner_3 : List UInt8 := dkwX0_reckoner_3 ++ dktX0_reckoner_4
def dkwX0_reckoner_2 : List UInt8 := [180, 0, 102, 100, 61, 42, 3, 181, 0, 84, 28, 172, 78, 42, 3, 181, 0, 84, 45, 191, 42, 180, 0, 19]
abbrev dktX0_reckoner_2 : List UInt8 := dkwX0_reckoner_2 ++ dktX0_reckoner_3
def dkwX0_reckoner_1 : List UInt8 := [181, 0, 12, 42, 3, 181, 0, 84, 167, 0, 35, 76, 42, 43, 180, 0, 99, 181, 0, 34, 16, 246, 43]
abbrev dktX0_reckoner_1 : List UInt8 := dkwX0_reckoner_1 ++ dktX0_reckoner_2
def dkwX0_reckoner_0 : List UInt8 := [42, 2, 181, 0, 34, 42, 187, 0, 88, 89, 42, 180, 0, 30, 42, 180, 0, 84, 183, 0, 90, 182, 0, 93]
abbrev dktX0_reckoner_0 : List UInt8 := dkwX0_reckoner_0 ++ dktX0_reckoner_1
theorem dksX0_reckoner_0 : cX0_reckoner.data.toList.drop 0 = dktX0_reckoner_0 := by decide +kernel
theorem dksX0_reckoner_1 : cX0_reckoner.data.toList.drop 24 = dktX0_reckoner_1 := dk_seg dksX0_reckoner_0 24 rfl rfl
theorem dksX0_reckoner_2 : cX0_reckoner.data.toList.drop 47 = dktX0_reckoner_2 := dk_seg dksX0_reckoner_1 23 rfl rfl
theorem dksX0_reckoner_3 : cX0_reckoner.data.toList.drop 71 = dktX0_reckoner_3 := dk_seg dksX0_reckoner_2 24 rfl rfl
theorem dksX0_reckoner_4 : cX0_reckoner.data.toList.drop 95 = dktX0_reckoner_4 := dk_seg dksX0_reckoner_3 24 rfl rfl
theorem dX0_reckoner_0 : decode cX0_reckoner 0 = .ok (.aload_n 0, 1) := dk_42 (dk_at dksX0_reckoner_0 0 rfl rfl)
theorem dX0_reckoner_1 : decode cX0_reckoner 1 = .ok (.iconst (-1), 1) := dk_2 (dk_at dksX0_reckoner_0 1 rfl rfl)
theorem dX0_reckoner_2 : decode cX0_reckoner 2 = .ok (.putfield 34, 3) := dk_181 0 34 (dk_at dksX0_reckoner_0 2 rfl rfl)
theorem dX0_reckoner_5 : decode cX0_reckoner 5 = .ok (.aload_n 0, 1) := dk_42 (dk_at dksX0_reckoner_0 5 rfl rfl)
theorem dX0_reckoner_6 : decode cX0_reckoner 6 = .ok (.new 88, 3) := dk_187 0 88 (dk_at dksX0_reckoner_0 6 rfl rfl)
theorem dX0_reckoner_9 : decode cX0_reckoner 9 = .ok (.dup, 1) := dk_89 (dk_at dksX0_reckoner_0 9 rfl rfl)
theorem dX0_reckoner_10 : decode cX0_reckoner 10 = .ok (.aload_n 0, 1) := dk_42 (dk_at dksX0_reckoner_0 10 rfl rfl)
theorem dX0_reckoner_11 : decode cX0_reckoner 11 = .ok (.getfield 30, 3) := dk_180 0 30 (dk_at dksX0_reckoner_0 11 rfl rfl)
theorem dX0_reckoner_14 : decode cX0_reckoner 14 = .ok (.aload_n 0, 1) := dk_42 (dk_at dksX0_reckoner_0 14 rfl rfl)
theorem dX0_reckoner_15 : decode cX0_reckoner 15 = .ok (.getfield 84, 3) := dk_180 0 84 (dk_at dksX0_reckoner_0 15 rfl rfl)
theorem dX0_reckoner_18 : decode cX0_reckoner 18 = .ok (.invokespecial 90, 3) := dk_183 0 90 (dk_at dksX0_reckoner_0 18 rfl rfl)
theorem dX0_reckoner_21 : decode cX0_reckoner 21 = .ok (.invokevirtual 93, 3) := dk_182 0 93 (dk_at dksX0_reckoner_0 21 rfl rfl)
theorem dX0_reckoner_24 : decode cX0_reckoner 24 = .ok (.putfield 12, 3) := dk_181 0 12 (dk_at dksX0_reckoner_1 0 rfl rfl)
theorem dX0_reckoner_27 : decode cX0_reckoner 27 = .ok (.aload_n 0, 1) := dk_42 (dk_at dksX0_reckoner_1 3 rfl rfl)
theorem dX0_reckoner_28 : decode cX0_reckoner 28 = .ok (.iconst 0, 1) := dk_3 (dk_at dksX0_reckoner_1 4 rfl rfl)
theorem dX0_reckoner_29 : decode cX0_reckoner 29 = .ok (.putfield 84, 3) := dk_181 0 84 (dk_at dksX0_reckoner_1 5 rfl rfl)
theorem dX0_reckoner_32 : decode cX0_reckoner 32 = .ok (.goto 35, 3) := dk_167 0 35 (dk_at dksX0_reckoner_1 8 rfl rfl)
theorem dX0_reckoner_35 : decode cX0_reckoner 35 = .ok (.astore_n 1, 1) := dk_76 (dk_at dksX0_reckoner_1 11 rfl rfl)
theorem dX0_reckoner_36 : decode cX0_reckoner 36 = .ok (.aload_n 0, 1) := dk_42 (dk_at dksX0_reckoner_1 12 rfl rfl)
theorem dX0_reckoner_37 : decode cX0_reckoner 37 = .ok (.aload_n 1, 1) := dk_43 (dk_at dksX0_reckoner_1 13 rfl rfl)
theorem dX0_reckoner_38 : decode cX0_reckoner 38 = .ok (.getfield 99, 3) := dk_180 0 99 (dk_at dksX0_reckoner_1 14 rfl rfl)
theorem dX0_reckoner_41 : decode cX0_reckoner 41 = .ok (.putfield 34, 3) := dk_181 0 34 (dk_at dksX0_reckoner_1 17 rfl rfl)
theorem dX0_reckoner_44 : decode cX0_reckoner 44 = .ok (.bipush (-10), 2) := dk_16 246 (dk_at dksX0_reckoner_1 20 rfl rfl)
theorem dX0_reckoner_46 : decode cX0_reckoner 46 = .ok (.aload_n 1, 1) := dk_43 (dk_at dksX0_reckoner_1 22 rfl rfl)
theorem dX0_reckoner_47 : decode cX0_reckoner 47 = .ok (.getfield 102, 3) := dk_180 0 102 (dk_at dksX0_reckoner_2 0 rfl rfl)
theorem dX0_reckoner_50 : decode cX0_reckoner 50 = .ok (.isub, 1) := dk_100 (dk_at dksX0_reckoner_2 3 rfl rfl)
theorem dX0_reckoner_51 : decode cX0_reckoner 51 = .ok (.istore_n 2, 1) := dk_61 (dk_at dksX0_reckoner_2 4 rfl rfl)
theorem dX0_reckoner_52 : decode cX0_reckoner 52 = .ok (.aload_n 0, 1) := dk_42 (dk_at dksX0_reckoner_2 5 rfl rfl)
theorem dX0_reckoner_53 : decode cX0_reckoner 53 = .ok (.iconst 0, 1) := dk_3 (dk_at dksX0_reckoner_2 6 rfl rfl)
theorem dX0_reckoner_54 : decode cX0_reckoner 54 = .ok (.putfield 84, 3) := dk_181 0 84 (dk_at dksX0_reckoner_2 7 rfl rfl)
theorem dX0_reckoner_57 : decode cX0_reckoner 57 = .ok (.iload_n 2, 1) := dk_28 (dk_at dksX0_reckoner_2 10 rfl rfl)
theorem dX0_reckoner_58 : decode cX0_reckoner 58 = .ok (.ireturn, 1) := dk_172 (dk_at dksX0_reckoner_2 11 rfl rfl)
theorem dX0_reckoner_59 : decode cX0_reckoner 59 = .ok (.astore_n 3, 1) := dk_78 (dk_at dksX0_reckoner_2 12 rfl rfl)
theorem dX0_reckoner_60 : decode cX0_reckoner 60 = .ok (.aload_n 0, 1) := dk_42 (dk_at dksX0_reckoner_2 13 rfl rfl)
theorem dX0_reckoner_61 : decode cX0_reckoner 61 = .ok (.iconst 0, 1) := dk_3 (dk_at dksX0_reckoner_2 14 rfl rfl)
theorem dX0_reckoner_62 : decode cX0_reckoner 62 = .ok (.putfield 84, 3) := dk_181 0 84 (dk_at dksX0_reckoner_2 15 rfl rfl)
theorem dX0_reckoner_65 : decode cX0_reckoner 65 = .ok (.aload_n 3, 1) := dk_45 (dk_at dksX0_reckoner_2 18 rfl rfl)
theorem dX0_reckoner_66 : decode cX0_reckoner 66 = .ok (.athrow, 1) := dk_191 (dk_at dksX0_reckoner_2 19 rfl rfl)
theorem dX0_reckoner_67 : decode cX0_reckoner 67 = .ok (.aload_n 0, 1) := dk_42 (dk_at dksX0_reckoner_2 20 rfl rfl)
theorem dX0_reckoner_68 : decode cX0_reckoner 68 = .ok (.getfield 19, 3) := dk_180 0 19 (dk_at dksX0_reckoner_2 21 rfl rfl)
theorem dX0_reckoner_71 : decode cX0_reckoner 71 = .ok (.invokevirtual 105, 3) := dk_182 0 105 (dk_at dksX0_reckoner_3 0 rfl rfl)
theorem dX0_reckoner_74 : decode cX0_reckoner 74 = .ok (.aload_n 0, 1) := dk_42 (dk_at dksX0_reckoner_3 3 rfl rfl)
theorem dX0_reckoner_75 : decode cX0_reckoner 75 = .ok (.iconst 0, 1) := dk_3 (dk_at dksX0_reckoner_3 4 rfl rfl)
theorem dX0_reckoner_76 : decode cX0_reckoner 76 = .ok (.putfield 108, 3) := dk_181 0 108 (dk_at dksX0_reckoner_3 5 rfl rfl)
theorem dX0_reckoner_79 : decode cX0_reckoner 79 = .ok (.aload_n 0, 1) := dk_42 (dk_at dksX0_reckoner_3 8 rfl rfl)
theorem dX0_reckoner_80 : decode cX0_reckoner 80 = .ok (.getfield 75, 3) := dk_180 0 75 (dk_at dksX0_reckoner_3 9 rfl rfl)
theorem dX0_reckoner_83 : decode cX0_reckoner 83 = .ok (.iconst 0, 1) := dk_3 (dk_at dksX0_reckoner_3 12 rfl rfl)
theorem dX0_reckoner_84 : decode cX0_reckoner 84 = .ok (.aaload, 1) := dk_50 (dk_at dksX0_reckoner_3 13 rfl rfl)
theorem dX0_reckoner_85 : decode cX0_reckoner 85 = .ok (.iconst 0, 1) := dk_3 (dk_at dksX0_reckoner_3 14 rfl rfl)
theorem dX0_reckoner_86 : decode cX0_reckoner 86 = .ok (.putfield 111, 3) := dk_181 0 111 (dk_at dksX0_reckoner_3 15 rfl rfl)
theorem dX0_reckoner_89 : decode cX0_reckoner 89 = .ok (.aload_n 0, 1) := dk_42 (dk_at dksX0_reckoner_3 18 rfl rfl)
theorem dX0_reckoner_90 : decode cX0_reckoner 90 = .ok (.getfield 75, 3) := dk_180 0 75 (dk_at dksX0_reckoner_3 19 rfl rfl)
theorem dX0_reckoner_93 : decode cX0_reckoner 93 = .ok (.iconst 1, 1) := dk_4 (dk_at dksX0_reckoner_3 22 rfl rfl)
theorem dX0_reckoner_94 : decode cX0_reckoner 94 = .ok (.aaload, 1) := dk_50 (dk_at dksX0_reckoner_3 23 rfl rfl)
theorem dX0_reckoner_95 : decode cX0_reckoner 95 = .ok (.iconst 0, 1) := dk_3 (dk_at dksX0_reckoner_4 0 rfl rfl)
theorem dX0_reckoner_96 : decode cX0_reckoner 96 = .ok (.putfield 111, 3) := dk_181 0 111 (dk_at dksX0_reckoner_4 1 rfl rfl)
theorem dX0_reckoner_99 : decode cX0_reckoner 99 = .ok (.aload_n 0, 1) := dk_42 (dk_at dksX0_reckoner_4 4 rfl rfl)
theorem dX0_reckoner_100 : decode cX0_reckoner 100 = .ok (.invokevirtual 115, 3) := dk_182 0 115 (dk_at dksX0_reckoner_4 5 rfl rfl)
theorem dX0_reckoner_103 : decode cX0_reckoner 103 = .ok (.ireturn, 1) := dk_172 (dk_at dksX0_reckoner_4 8 rfl rfl)
abbrev cX0_many : ByteArray := prog_1_method_8_code
def yX0_many : MethodName := ⟨RX0, "many", "()I"⟩
def dkwX0_many_0 : List UInt8 := [42, 182, 0, 123, 153, 0, 7, 3, 167, 0, 13, 42, 180, 0, 12, 180, 0, 119, 180, 0, 127, 172]
abbrev dktX0_many_0 : List UInt8 := dkwX0_many_0 ++ []
theorem dksX0_many_0 : cX0_many.data.toList.drop 0 = dktX0_many_0 := by decide +kernel
theorem dX0_many_0 : decode cX0_many 0 = .ok (.aload_n 0, 1) := dk_42 (dk_at dksX0_many_0 0 rfl rfl)
theorem dX0_many_1 : decode cX0_many 1 = .ok (.invokevirtual 123, 3) := dk_182 0 123 (dk_at dksX0_many_0 1 rfl rfl)
theorem dX0_many_4 : decode cX0_many 4 = .ok (.ifCond .eq 7, 3) := dk_153 0 7 (dk_at dksX0_many_0 4 rfl rfl)
theorem dX0_many_7 : decode cX0_many 7 = .ok (.iconst 0, 1) := dk_3 (dk_at dksX0_many_0 7 rfl rfl)
theorem dX0_many_8 : decode cX0_many 8 = .ok (.goto 13, 3) := dk_167 0 13 (dk_at dksX0_many_0 8 rfl rfl)
theorem dX0_many_11 : decode cX0_many 11 = .ok (.aload_n 0, 1) := dk_42 (dk_at dksX0_many_0 11 rfl rfl)
theorem dX0_many_12 : decode cX0_many 12 = .ok (.getfield 12, 3) := dk_180 0 12 (dk_at dksX0_many_0 12 rfl rfl)
theorem dX0_many_15 : decode cX0_many 15 = .ok (.getfield 119, 3) := dk_180 0 119 (dk_at dksX0_many_0 15 rfl rfl)
theorem dX0_many_18 : decode cX0_many 18 = .ok (.getfield 127, 3) := dk_180 0 127 (dk_at dksX0_many_0 18 rfl rfl)
theorem dX0_many_21 : decode cX0_many 21 = .ok (.ireturn, 1) := dk_172 (dk_at dksX0_many_0 21 rfl rfl)
abbrev cX0_isNone : ByteArray := prog_1_method_7_code
def yX0_isNone : MethodName := ⟨RX0, "isNone", "()Z"⟩
def dkwX0_isNone_0 : List UInt8 := [42, 180, 0, 12, 180, 0, 119, 199, 0, 7, 4, 167, 0, 4, 3, 172]
abbrev dktX0_isNone_0 : List UInt8 := dkwX0_isNone_0 ++ []
theorem dksX0_isNone_0 : cX0_isNone.data.toList.drop 0 = dktX0_isNone_0 := by decide +kernel
theorem dX0_isNone_0 : decode cX0_isNone 0 = .ok (.aload_n 0, 1) := dk_42 (dk_at dksX0_isNone_0 0 rfl rfl)
theorem dX0_isNone_1 : decode cX0_isNone 1 = .ok (.getfield 12, 3) := dk_180 0 12 (dk_at dksX0_isNone_0 1 rfl rfl)
theorem dX0_isNone_4 : decode cX0_isNone 4 = .ok (.getfield 119, 3) := dk_180 0 119 (dk_at dksX0_isNone_0 4 rfl rfl)
theorem dX0_isNone_7 : decode cX0_isNone 7 = .ok (.ifnonnull 7, 3) := dk_199 0 7 (dk_at dksX0_isNone_0 7 rfl rfl)
theorem dX0_isNone_10 : decode cX0_isNone 10 = .ok (.iconst 1, 1) := dk_4 (dk_at dksX0_isNone_0 10 rfl rfl)
theorem dX0_isNone_11 : decode cX0_isNone 11 = .ok (.goto 4, 3) := dk_167 0 4 (dk_at dksX0_isNone_0 11 rfl rfl)
theorem dX0_isNone_14 : decode cX0_isNone 14 = .ok (.iconst 0, 1) := dk_3 (dk_at dksX0_isNone_0 14 rfl rfl)
theorem dX0_isNone_15 : decode cX0_isNone 15 = .ok (.ireturn, 1) := dk_172 (dk_at dksX0_isNone_0 15 rfl rfl)
abbrev cX0_fault : ByteArray := prog_1_method_6_code
def yX0_fault : MethodName := ⟨RX0, "fault", "()I"⟩
theorem dX0_fault_0 : decode cX0_fault 0 = .ok (.aload_n 0, 1) := by decide +kernel
theorem dX0_fault_1 : decode cX0_fault 1 = .ok (.getfield 34, 3) := by decide +kernel
theorem dX0_fault_4 : decode cX0_fault 4 = .ok (.ireturn, 1) := by decide +kernel
abbrev cX0_told : ByteArray := prog_1_method_12_code
def yX0_told : MethodName := ⟨RX0, "told", "(I)I"⟩
def dkwX0_told_10 : List UInt8 := [172, 42, 180, 0, 108, 172, 18, 83, 172]
abbrev dktX0_told_10 : List UInt8 := dkwX0_told_10 ++ []
def dkwX0_told_9 : List UInt8 := [180, 0, 19, 180, 0, 145, 5, 112, 172, 42, 180, 0, 19, 180, 0, 154, 172, 42, 180, 0, 19, 180, 0, 157]
abbrev dktX0_told_9 : List UInt8 := dkwX0_told_9 ++ dktX0_told_10
def dkwX0_told_8 : List UInt8 := [167, 0, 20, 42, 180, 0, 12, 180, 0, 119, 42, 180, 0, 19, 180, 0, 145, 182, 0, 151, 172, 42]
abbrev dktX0_told_8 : List UInt8 := dkwX0_told_8 ++ dktX0_told_9
def dkwX0_told_7 : List UInt8 := [180, 0, 119, 42, 180, 0, 19, 180, 0, 145, 182, 0, 149, 172, 42, 182, 0, 123, 153, 0, 7, 3]
abbrev dktX0_told_7 : List UInt8 := dkwX0_told_7 ++ dktX0_told_8
def dkwX0_told_6 : List UInt8 := [180, 0, 145, 182, 0, 148, 172, 42, 182, 0, 123, 153, 0, 7, 3, 167, 0, 20, 42, 180, 0, 12]
abbrev dktX0_told_6 : List UInt8 := dkwX0_told_6 ++ dktX0_told_7
def dkwX0_told_5 : List UInt8 := [182, 0, 115, 172, 42, 180, 0, 12, 180, 0, 131, 172, 42, 180, 0, 84, 172, 42, 42, 180, 0, 19]
abbrev dktX0_told_5 : List UInt8 := dkwX0_told_5 ++ dktX0_told_6
def dkwX0_told_4 : List UInt8 := [182, 0, 123, 153, 0, 7, 3, 167, 0, 13, 42, 180, 0, 12, 180, 0, 119, 180, 0, 142, 172, 42]
abbrev dktX0_told_4 : List UInt8 := dkwX0_told_4 ++ dktX0_told_5
def dkwX0_told_3 : List UInt8 := [182, 0, 123, 153, 0, 7, 3, 167, 0, 13, 42, 180, 0, 12, 180, 0, 119, 180, 0, 139, 172, 42]
abbrev dktX0_told_3 : List UInt8 := dkwX0_told_3 ++ dktX0_told_4
def dkwX0_told_2 : List UInt8 := [42, 182, 0, 123, 153, 0, 7, 2, 167, 0, 13, 42, 180, 0, 12, 180, 0, 119, 180, 0, 136, 172, 42]
abbrev dktX0_told_2 : List UInt8 := dkwX0_told_2 ++ dktX0_told_3
def dkwX0_told_1 : List UInt8 := [170, 0, 0, 0, 0, 0, 252, 0, 0, 0, 0, 0, 0, 0, 12, 0, 0, 0, 67, 0, 0, 0, 89, 0, 0, 0, 111, 0, 0, 0, 133, 0, 0, 0, 138, 0, 0, 0, 146, 0, 0, 0, 151, 0, 0, 0, 163, 0, 0, 0, 192, 0, 0, 0, 221, 0, 0, 0, 231, 0, 0, 0, 239, 0, 0, 0, 247]
abbrev dktX0_told_1 : List UInt8 := dkwX0_told_1 ++ dktX0_told_2
def dkwX0_told_0 : List UInt8 := [27]
abbrev dktX0_told_0 : List UInt8 := dkwX0_told_0 ++ dktX0_told_1
theorem dksX0_told_0 : cX0_told.data.toList.drop 0 = dktX0_told_0 := by decide +kernel
theorem dksX0_told_1 : cX0_told.data.toList.drop 1 = dktX0_told_1 := dk_seg dksX0_told_0 1 rfl rfl
theorem dksX0_told_2 : cX0_told.data.toList.drop 68 = dktX0_told_2 := dk_seg dksX0_told_1 67 rfl rfl
theorem dksX0_told_3 : cX0_told.data.toList.drop 91 = dktX0_told_3 := dk_seg dksX0_told_2 23 rfl rfl
theorem dksX0_told_4 : cX0_told.data.toList.drop 113 = dktX0_told_4 := dk_seg dksX0_told_3 22 rfl rfl
theorem dksX0_told_5 : cX0_told.data.toList.drop 135 = dktX0_told_5 := dk_seg dksX0_told_4 22 rfl rfl
theorem dksX0_told_6 : cX0_told.data.toList.drop 157 = dktX0_told_6 := dk_seg dksX0_told_5 22 rfl rfl
theorem dksX0_told_7 : cX0_told.data.toList.drop 179 = dktX0_told_7 := dk_seg dksX0_told_6 22 rfl rfl
theorem dksX0_told_8 : cX0_told.data.toList.drop 201 = dktX0_told_8 := dk_seg dksX0_told_7 22 rfl rfl
theorem dksX0_told_9 : cX0_told.data.toList.drop 223 = dktX0_told_9 := dk_seg dksX0_told_8 22 rfl rfl
theorem dksX0_told_10 : cX0_told.data.toList.drop 247 = dktX0_told_10 := dk_seg dksX0_told_9 24 rfl rfl
theorem dX0_told_0 : decode cX0_told 0 = .ok (.iload_n 1, 1) := dk_27 (dk_at dksX0_told_0 0 rfl rfl)
theorem dX0_told_1 : decode cX0_told 1 = .ok (.tableswitch 252 0 12 #[67, 89, 111, 133, 138, 146, 151, 163, 192, 221, 231, 239, 247], 67) := by decide +kernel
theorem dX0_told_68 : decode cX0_told 68 = .ok (.aload_n 0, 1) := dk_42 (dk_at dksX0_told_2 0 rfl rfl)
theorem dX0_told_69 : decode cX0_told 69 = .ok (.invokevirtual 123, 3) := dk_182 0 123 (dk_at dksX0_told_2 1 rfl rfl)
theorem dX0_told_72 : decode cX0_told 72 = .ok (.ifCond .eq 7, 3) := dk_153 0 7 (dk_at dksX0_told_2 4 rfl rfl)
theorem dX0_told_75 : decode cX0_told 75 = .ok (.iconst (-1), 1) := dk_2 (dk_at dksX0_told_2 7 rfl rfl)
theorem dX0_told_76 : decode cX0_told 76 = .ok (.goto 13, 3) := dk_167 0 13 (dk_at dksX0_told_2 8 rfl rfl)
theorem dX0_told_79 : decode cX0_told 79 = .ok (.aload_n 0, 1) := dk_42 (dk_at dksX0_told_2 11 rfl rfl)
theorem dX0_told_80 : decode cX0_told 80 = .ok (.getfield 12, 3) := dk_180 0 12 (dk_at dksX0_told_2 12 rfl rfl)
theorem dX0_told_83 : decode cX0_told 83 = .ok (.getfield 119, 3) := dk_180 0 119 (dk_at dksX0_told_2 15 rfl rfl)
theorem dX0_told_86 : decode cX0_told 86 = .ok (.getfield 136, 3) := dk_180 0 136 (dk_at dksX0_told_2 18 rfl rfl)
theorem dX0_told_89 : decode cX0_told 89 = .ok (.ireturn, 1) := dk_172 (dk_at dksX0_told_2 21 rfl rfl)
theorem dX0_told_90 : decode cX0_told 90 = .ok (.aload_n 0, 1) := dk_42 (dk_at dksX0_told_2 22 rfl rfl)
theorem dX0_told_91 : decode cX0_told 91 = .ok (.invokevirtual 123, 3) := dk_182 0 123 (dk_at dksX0_told_3 0 rfl rfl)
theorem dX0_told_94 : decode cX0_told 94 = .ok (.ifCond .eq 7, 3) := dk_153 0 7 (dk_at dksX0_told_3 3 rfl rfl)
theorem dX0_told_97 : decode cX0_told 97 = .ok (.iconst 0, 1) := dk_3 (dk_at dksX0_told_3 6 rfl rfl)
theorem dX0_told_98 : decode cX0_told 98 = .ok (.goto 13, 3) := dk_167 0 13 (dk_at dksX0_told_3 7 rfl rfl)
theorem dX0_told_101 : decode cX0_told 101 = .ok (.aload_n 0, 1) := dk_42 (dk_at dksX0_told_3 10 rfl rfl)
theorem dX0_told_102 : decode cX0_told 102 = .ok (.getfield 12, 3) := dk_180 0 12 (dk_at dksX0_told_3 11 rfl rfl)
theorem dX0_told_105 : decode cX0_told 105 = .ok (.getfield 119, 3) := dk_180 0 119 (dk_at dksX0_told_3 14 rfl rfl)
theorem dX0_told_108 : decode cX0_told 108 = .ok (.getfield 139, 3) := dk_180 0 139 (dk_at dksX0_told_3 17 rfl rfl)
theorem dX0_told_111 : decode cX0_told 111 = .ok (.ireturn, 1) := dk_172 (dk_at dksX0_told_3 20 rfl rfl)
theorem dX0_told_112 : decode cX0_told 112 = .ok (.aload_n 0, 1) := dk_42 (dk_at dksX0_told_3 21 rfl rfl)
theorem dX0_told_113 : decode cX0_told 113 = .ok (.invokevirtual 123, 3) := dk_182 0 123 (dk_at dksX0_told_4 0 rfl rfl)
theorem dX0_told_116 : decode cX0_told 116 = .ok (.ifCond .eq 7, 3) := dk_153 0 7 (dk_at dksX0_told_4 3 rfl rfl)
theorem dX0_told_119 : decode cX0_told 119 = .ok (.iconst 0, 1) := dk_3 (dk_at dksX0_told_4 6 rfl rfl)
theorem dX0_told_120 : decode cX0_told 120 = .ok (.goto 13, 3) := dk_167 0 13 (dk_at dksX0_told_4 7 rfl rfl)
theorem dX0_told_123 : decode cX0_told 123 = .ok (.aload_n 0, 1) := dk_42 (dk_at dksX0_told_4 10 rfl rfl)
theorem dX0_told_124 : decode cX0_told 124 = .ok (.getfield 12, 3) := dk_180 0 12 (dk_at dksX0_told_4 11 rfl rfl)
theorem dX0_told_127 : decode cX0_told 127 = .ok (.getfield 119, 3) := dk_180 0 119 (dk_at dksX0_told_4 14 rfl rfl)
theorem dX0_told_130 : decode cX0_told 130 = .ok (.getfield 142, 3) := dk_180 0 142 (dk_at dksX0_told_4 17 rfl rfl)
theorem dX0_told_133 : decode cX0_told 133 = .ok (.ireturn, 1) := dk_172 (dk_at dksX0_told_4 20 rfl rfl)
theorem dX0_told_134 : decode cX0_told 134 = .ok (.aload_n 0, 1) := dk_42 (dk_at dksX0_told_4 21 rfl rfl)
theorem dX0_told_135 : decode cX0_told 135 = .ok (.invokevirtual 115, 3) := dk_182 0 115 (dk_at dksX0_told_5 0 rfl rfl)
theorem dX0_told_138 : decode cX0_told 138 = .ok (.ireturn, 1) := dk_172 (dk_at dksX0_told_5 3 rfl rfl)
theorem dX0_told_139 : decode cX0_told 139 = .ok (.aload_n 0, 1) := dk_42 (dk_at dksX0_told_5 4 rfl rfl)
theorem dX0_told_140 : decode cX0_told 140 = .ok (.getfield 12, 3) := dk_180 0 12 (dk_at dksX0_told_5 5 rfl rfl)
theorem dX0_told_143 : decode cX0_told 143 = .ok (.getfield 131, 3) := dk_180 0 131 (dk_at dksX0_told_5 8 rfl rfl)
theorem dX0_told_146 : decode cX0_told 146 = .ok (.ireturn, 1) := dk_172 (dk_at dksX0_told_5 11 rfl rfl)
theorem dX0_told_147 : decode cX0_told 147 = .ok (.aload_n 0, 1) := dk_42 (dk_at dksX0_told_5 12 rfl rfl)
theorem dX0_told_148 : decode cX0_told 148 = .ok (.getfield 84, 3) := dk_180 0 84 (dk_at dksX0_told_5 13 rfl rfl)
theorem dX0_told_151 : decode cX0_told 151 = .ok (.ireturn, 1) := dk_172 (dk_at dksX0_told_5 16 rfl rfl)
theorem dX0_told_152 : decode cX0_told 152 = .ok (.aload_n 0, 1) := dk_42 (dk_at dksX0_told_5 17 rfl rfl)
theorem dX0_told_153 : decode cX0_told 153 = .ok (.aload_n 0, 1) := dk_42 (dk_at dksX0_told_5 18 rfl rfl)
theorem dX0_told_154 : decode cX0_told 154 = .ok (.getfield 19, 3) := dk_180 0 19 (dk_at dksX0_told_5 19 rfl rfl)
theorem dX0_told_157 : decode cX0_told 157 = .ok (.getfield 145, 3) := dk_180 0 145 (dk_at dksX0_told_6 0 rfl rfl)
theorem dX0_told_160 : decode cX0_told 160 = .ok (.invokevirtual 148, 3) := dk_182 0 148 (dk_at dksX0_told_6 3 rfl rfl)
theorem dX0_told_163 : decode cX0_told 163 = .ok (.ireturn, 1) := dk_172 (dk_at dksX0_told_6 6 rfl rfl)
theorem dX0_told_164 : decode cX0_told 164 = .ok (.aload_n 0, 1) := dk_42 (dk_at dksX0_told_6 7 rfl rfl)
theorem dX0_told_165 : decode cX0_told 165 = .ok (.invokevirtual 123, 3) := dk_182 0 123 (dk_at dksX0_told_6 8 rfl rfl)
theorem dX0_told_168 : decode cX0_told 168 = .ok (.ifCond .eq 7, 3) := dk_153 0 7 (dk_at dksX0_told_6 11 rfl rfl)
theorem dX0_told_171 : decode cX0_told 171 = .ok (.iconst 0, 1) := dk_3 (dk_at dksX0_told_6 14 rfl rfl)
theorem dX0_told_172 : decode cX0_told 172 = .ok (.goto 20, 3) := dk_167 0 20 (dk_at dksX0_told_6 15 rfl rfl)
theorem dX0_told_175 : decode cX0_told 175 = .ok (.aload_n 0, 1) := dk_42 (dk_at dksX0_told_6 18 rfl rfl)
theorem dX0_told_176 : decode cX0_told 176 = .ok (.getfield 12, 3) := dk_180 0 12 (dk_at dksX0_told_6 19 rfl rfl)
theorem dX0_told_179 : decode cX0_told 179 = .ok (.getfield 119, 3) := dk_180 0 119 (dk_at dksX0_told_7 0 rfl rfl)
theorem dX0_told_182 : decode cX0_told 182 = .ok (.aload_n 0, 1) := dk_42 (dk_at dksX0_told_7 3 rfl rfl)
theorem dX0_told_183 : decode cX0_told 183 = .ok (.getfield 19, 3) := dk_180 0 19 (dk_at dksX0_told_7 4 rfl rfl)
theorem dX0_told_186 : decode cX0_told 186 = .ok (.getfield 145, 3) := dk_180 0 145 (dk_at dksX0_told_7 7 rfl rfl)
theorem dX0_told_189 : decode cX0_told 189 = .ok (.invokevirtual 149, 3) := dk_182 0 149 (dk_at dksX0_told_7 10 rfl rfl)
theorem dX0_told_192 : decode cX0_told 192 = .ok (.ireturn, 1) := dk_172 (dk_at dksX0_told_7 13 rfl rfl)
theorem dX0_told_193 : decode cX0_told 193 = .ok (.aload_n 0, 1) := dk_42 (dk_at dksX0_told_7 14 rfl rfl)
theorem dX0_told_194 : decode cX0_told 194 = .ok (.invokevirtual 123, 3) := dk_182 0 123 (dk_at dksX0_told_7 15 rfl rfl)
theorem dX0_told_197 : decode cX0_told 197 = .ok (.ifCond .eq 7, 3) := dk_153 0 7 (dk_at dksX0_told_7 18 rfl rfl)
theorem dX0_told_200 : decode cX0_told 200 = .ok (.iconst 0, 1) := dk_3 (dk_at dksX0_told_7 21 rfl rfl)
theorem dX0_told_201 : decode cX0_told 201 = .ok (.goto 20, 3) := dk_167 0 20 (dk_at dksX0_told_8 0 rfl rfl)
theorem dX0_told_204 : decode cX0_told 204 = .ok (.aload_n 0, 1) := dk_42 (dk_at dksX0_told_8 3 rfl rfl)
theorem dX0_told_205 : decode cX0_told 205 = .ok (.getfield 12, 3) := dk_180 0 12 (dk_at dksX0_told_8 4 rfl rfl)
theorem dX0_told_208 : decode cX0_told 208 = .ok (.getfield 119, 3) := dk_180 0 119 (dk_at dksX0_told_8 7 rfl rfl)
theorem dX0_told_211 : decode cX0_told 211 = .ok (.aload_n 0, 1) := dk_42 (dk_at dksX0_told_8 10 rfl rfl)
theorem dX0_told_212 : decode cX0_told 212 = .ok (.getfield 19, 3) := dk_180 0 19 (dk_at dksX0_told_8 11 rfl rfl)
theorem dX0_told_215 : decode cX0_told 215 = .ok (.getfield 145, 3) := dk_180 0 145 (dk_at dksX0_told_8 14 rfl rfl)
theorem dX0_told_218 : decode cX0_told 218 = .ok (.invokevirtual 151, 3) := dk_182 0 151 (dk_at dksX0_told_8 17 rfl rfl)
theorem dX0_told_221 : decode cX0_told 221 = .ok (.ireturn, 1) := dk_172 (dk_at dksX0_told_8 20 rfl rfl)
theorem dX0_told_222 : decode cX0_told 222 = .ok (.aload_n 0, 1) := dk_42 (dk_at dksX0_told_8 21 rfl rfl)
theorem dX0_told_223 : decode cX0_told 223 = .ok (.getfield 19, 3) := dk_180 0 19 (dk_at dksX0_told_9 0 rfl rfl)
theorem dX0_told_226 : decode cX0_told 226 = .ok (.getfield 145, 3) := dk_180 0 145 (dk_at dksX0_told_9 3 rfl rfl)
theorem dX0_told_229 : decode cX0_told 229 = .ok (.iconst 2, 1) := dk_5 (dk_at dksX0_told_9 6 rfl rfl)
theorem dX0_told_230 : decode cX0_told 230 = .ok (.irem, 1) := dk_112 (dk_at dksX0_told_9 7 rfl rfl)
theorem dX0_told_231 : decode cX0_told 231 = .ok (.ireturn, 1) := dk_172 (dk_at dksX0_told_9 8 rfl rfl)
theorem dX0_told_232 : decode cX0_told 232 = .ok (.aload_n 0, 1) := dk_42 (dk_at dksX0_told_9 9 rfl rfl)
theorem dX0_told_233 : decode cX0_told 233 = .ok (.getfield 19, 3) := dk_180 0 19 (dk_at dksX0_told_9 10 rfl rfl)
theorem dX0_told_236 : decode cX0_told 236 = .ok (.getfield 154, 3) := dk_180 0 154 (dk_at dksX0_told_9 13 rfl rfl)
theorem dX0_told_239 : decode cX0_told 239 = .ok (.ireturn, 1) := dk_172 (dk_at dksX0_told_9 16 rfl rfl)
theorem dX0_told_240 : decode cX0_told 240 = .ok (.aload_n 0, 1) := dk_42 (dk_at dksX0_told_9 17 rfl rfl)
theorem dX0_told_241 : decode cX0_told 241 = .ok (.getfield 19, 3) := dk_180 0 19 (dk_at dksX0_told_9 18 rfl rfl)
theorem dX0_told_244 : decode cX0_told 244 = .ok (.getfield 157, 3) := dk_180 0 157 (dk_at dksX0_told_9 21 rfl rfl)
theorem dX0_told_247 : decode cX0_told 247 = .ok (.ireturn, 1) := dk_172 (dk_at dksX0_told_10 0 rfl rfl)
theorem dX0_told_248 : decode cX0_told 248 = .ok (.aload_n 0, 1) := dk_42 (dk_at dksX0_told_10 1 rfl rfl)
theorem dX0_told_249 : decode cX0_told 249 = .ok (.getfield 108, 3) := dk_180 0 108 (dk_at dksX0_told_10 2 rfl rfl)
theorem dX0_told_252 : decode cX0_told 252 = .ok (.ireturn, 1) := dk_172 (dk_at dksX0_told_10 5 rfl rfl)
theorem dX0_told_253 : decode cX0_told 253 = .ok (.ldc 83, 2) := dk_18 83 (dk_at dksX0_told_10 6 rfl rfl)
theorem dX0_told_255 : decode cX0_told 255 = .ok (.ireturn, 1) := dk_172 (dk_at dksX0_told_10 8 rfl rfl)
abbrev cX0_shown : ByteArray := prog_1_method_11_code
def yX0_shown : MethodName := ⟨RX0, "shown", "(I)I"⟩
def dkwX0_shown_0 : List UInt8 := [42, 182, 0, 123, 153, 0, 7, 3, 167, 0, 14, 42, 180, 0, 12, 180, 0, 119, 27, 182, 0, 132, 172]
abbrev dktX0_shown_0 : List UInt8 := dkwX0_shown_0 ++ []
theorem dksX0_shown_0 : cX0_shown.data.toList.drop 0 = dktX0_shown_0 := by decide +kernel
theorem dX0_shown_0 : decode cX0_shown 0 = .ok (.aload_n 0, 1) := dk_42 (dk_at dksX0_shown_0 0 rfl rfl)
theorem dX0_shown_1 : decode cX0_shown 1 = .ok (.invokevirtual 123, 3) := dk_182 0 123 (dk_at dksX0_shown_0 1 rfl rfl)
theorem dX0_shown_4 : decode cX0_shown 4 = .ok (.ifCond .eq 7, 3) := dk_153 0 7 (dk_at dksX0_shown_0 4 rfl rfl)
theorem dX0_shown_7 : decode cX0_shown 7 = .ok (.iconst 0, 1) := dk_3 (dk_at dksX0_shown_0 7 rfl rfl)
theorem dX0_shown_8 : decode cX0_shown 8 = .ok (.goto 14, 3) := dk_167 0 14 (dk_at dksX0_shown_0 8 rfl rfl)
theorem dX0_shown_11 : decode cX0_shown 11 = .ok (.aload_n 0, 1) := dk_42 (dk_at dksX0_shown_0 11 rfl rfl)
theorem dX0_shown_12 : decode cX0_shown 12 = .ok (.getfield 12, 3) := dk_180 0 12 (dk_at dksX0_shown_0 12 rfl rfl)
theorem dX0_shown_15 : decode cX0_shown 15 = .ok (.getfield 119, 3) := dk_180 0 119 (dk_at dksX0_shown_0 15 rfl rfl)
theorem dX0_shown_18 : decode cX0_shown 18 = .ok (.iload_n 1, 1) := dk_27 (dk_at dksX0_shown_0 18 rfl rfl)
theorem dX0_shown_19 : decode cX0_shown 19 = .ok (.invokevirtual 132, 3) := dk_182 0 132 (dk_at dksX0_shown_0 19 rfl rfl)
theorem dX0_shown_22 : decode cX0_shown 22 = .ok (.ireturn, 1) := dk_172 (dk_at dksX0_shown_0 22 rfl rfl)
abbrev cX0_key : ByteArray := prog_1_method_13_code
def yX0_key : MethodName := ⟨RX0, "key", "(II)I"⟩
def dkwX0_key_3 : List UInt8 := [172]
abbrev dktX0_key_3 : List UInt8 := dkwX0_key_3 ++ []
def dkwX0_key_2 : List UInt8 := [160, 0, 10, 45, 182, 0, 175, 167, 0, 17, 28, 6, 160, 0, 10, 45, 182, 0, 177, 167, 0, 5, 18, 83]
abbrev dktX0_key_2 : List UInt8 := dkwX0_key_2 ++ dktX0_key_3
def dkwX0_key_1 : List UInt8 := [154, 0, 10, 45, 182, 0, 169, 167, 0, 41, 28, 4, 160, 0, 10, 45, 180, 0, 173, 167, 0, 29, 28, 5]
abbrev dktX0_key_1 : List UInt8 := dkwX0_key_1 ++ dktX0_key_2
def dkwX0_key_0 : List UInt8 := [42, 27, 182, 0, 160, 154, 0, 6, 18, 164, 172, 42, 180, 0, 12, 180, 0, 165, 27, 50, 78, 28]
abbrev dktX0_key_0 : List UInt8 := dkwX0_key_0 ++ dktX0_key_1
theorem dksX0_key_0 : cX0_key.data.toList.drop 0 = dktX0_key_0 := by decide +kernel
theorem dksX0_key_1 : cX0_key.data.toList.drop 22 = dktX0_key_1 := dk_seg dksX0_key_0 22 rfl rfl
theorem dksX0_key_2 : cX0_key.data.toList.drop 46 = dktX0_key_2 := dk_seg dksX0_key_1 24 rfl rfl
theorem dksX0_key_3 : cX0_key.data.toList.drop 70 = dktX0_key_3 := dk_seg dksX0_key_2 24 rfl rfl
theorem dX0_key_0 : decode cX0_key 0 = .ok (.aload_n 0, 1) := dk_42 (dk_at dksX0_key_0 0 rfl rfl)
theorem dX0_key_1 : decode cX0_key 1 = .ok (.iload_n 1, 1) := dk_27 (dk_at dksX0_key_0 1 rfl rfl)
theorem dX0_key_2 : decode cX0_key 2 = .ok (.invokevirtual 160, 3) := dk_182 0 160 (dk_at dksX0_key_0 2 rfl rfl)
theorem dX0_key_5 : decode cX0_key 5 = .ok (.ifCond .ne 6, 3) := dk_154 0 6 (dk_at dksX0_key_0 5 rfl rfl)
theorem dX0_key_8 : decode cX0_key 8 = .ok (.ldc 164, 2) := dk_18 164 (dk_at dksX0_key_0 8 rfl rfl)
theorem dX0_key_10 : decode cX0_key 10 = .ok (.ireturn, 1) := dk_172 (dk_at dksX0_key_0 10 rfl rfl)
theorem dX0_key_11 : decode cX0_key 11 = .ok (.aload_n 0, 1) := dk_42 (dk_at dksX0_key_0 11 rfl rfl)
theorem dX0_key_12 : decode cX0_key 12 = .ok (.getfield 12, 3) := dk_180 0 12 (dk_at dksX0_key_0 12 rfl rfl)
theorem dX0_key_15 : decode cX0_key 15 = .ok (.getfield 165, 3) := dk_180 0 165 (dk_at dksX0_key_0 15 rfl rfl)
theorem dX0_key_18 : decode cX0_key 18 = .ok (.iload_n 1, 1) := dk_27 (dk_at dksX0_key_0 18 rfl rfl)
theorem dX0_key_19 : decode cX0_key 19 = .ok (.aaload, 1) := dk_50 (dk_at dksX0_key_0 19 rfl rfl)
theorem dX0_key_20 : decode cX0_key 20 = .ok (.astore_n 3, 1) := dk_78 (dk_at dksX0_key_0 20 rfl rfl)
theorem dX0_key_21 : decode cX0_key 21 = .ok (.iload_n 2, 1) := dk_28 (dk_at dksX0_key_0 21 rfl rfl)
theorem dX0_key_22 : decode cX0_key 22 = .ok (.ifCond .ne 10, 3) := dk_154 0 10 (dk_at dksX0_key_1 0 rfl rfl)
theorem dX0_key_25 : decode cX0_key 25 = .ok (.aload_n 3, 1) := dk_45 (dk_at dksX0_key_1 3 rfl rfl)
theorem dX0_key_26 : decode cX0_key 26 = .ok (.invokevirtual 169, 3) := dk_182 0 169 (dk_at dksX0_key_1 4 rfl rfl)
theorem dX0_key_29 : decode cX0_key 29 = .ok (.goto 41, 3) := dk_167 0 41 (dk_at dksX0_key_1 7 rfl rfl)
theorem dX0_key_32 : decode cX0_key 32 = .ok (.iload_n 2, 1) := dk_28 (dk_at dksX0_key_1 10 rfl rfl)
theorem dX0_key_33 : decode cX0_key 33 = .ok (.iconst 1, 1) := dk_4 (dk_at dksX0_key_1 11 rfl rfl)
theorem dX0_key_34 : decode cX0_key 34 = .ok (.if_icmp .ne 10, 3) := dk_160 0 10 (dk_at dksX0_key_1 12 rfl rfl)
theorem dX0_key_37 : decode cX0_key 37 = .ok (.aload_n 3, 1) := dk_45 (dk_at dksX0_key_1 15 rfl rfl)
theorem dX0_key_38 : decode cX0_key 38 = .ok (.getfield 173, 3) := dk_180 0 173 (dk_at dksX0_key_1 16 rfl rfl)
theorem dX0_key_41 : decode cX0_key 41 = .ok (.goto 29, 3) := dk_167 0 29 (dk_at dksX0_key_1 19 rfl rfl)
theorem dX0_key_44 : decode cX0_key 44 = .ok (.iload_n 2, 1) := dk_28 (dk_at dksX0_key_1 22 rfl rfl)
theorem dX0_key_45 : decode cX0_key 45 = .ok (.iconst 2, 1) := dk_5 (dk_at dksX0_key_1 23 rfl rfl)
theorem dX0_key_46 : decode cX0_key 46 = .ok (.if_icmp .ne 10, 3) := dk_160 0 10 (dk_at dksX0_key_2 0 rfl rfl)
theorem dX0_key_49 : decode cX0_key 49 = .ok (.aload_n 3, 1) := dk_45 (dk_at dksX0_key_2 3 rfl rfl)
theorem dX0_key_50 : decode cX0_key 50 = .ok (.invokevirtual 175, 3) := dk_182 0 175 (dk_at dksX0_key_2 4 rfl rfl)
theorem dX0_key_53 : decode cX0_key 53 = .ok (.goto 17, 3) := dk_167 0 17 (dk_at dksX0_key_2 7 rfl rfl)
theorem dX0_key_56 : decode cX0_key 56 = .ok (.iload_n 2, 1) := dk_28 (dk_at dksX0_key_2 10 rfl rfl)
theorem dX0_key_57 : decode cX0_key 57 = .ok (.iconst 3, 1) := dk_6 (dk_at dksX0_key_2 11 rfl rfl)
theorem dX0_key_58 : decode cX0_key 58 = .ok (.if_icmp .ne 10, 3) := dk_160 0 10 (dk_at dksX0_key_2 12 rfl rfl)
theorem dX0_key_61 : decode cX0_key 61 = .ok (.aload_n 3, 1) := dk_45 (dk_at dksX0_key_2 15 rfl rfl)
theorem dX0_key_62 : decode cX0_key 62 = .ok (.invokevirtual 177, 3) := dk_182 0 177 (dk_at dksX0_key_2 16 rfl rfl)
theorem dX0_key_65 : decode cX0_key 65 = .ok (.goto 5, 3) := dk_167 0 5 (dk_at dksX0_key_2 19 rfl rfl)
theorem dX0_key_68 : decode cX0_key 68 = .ok (.ldc 83, 2) := dk_18 83 (dk_at dksX0_key_2 22 rfl rfl)
theorem dX0_key_70 : decode cX0_key 70 = .ok (.ireturn, 1) := dk_172 (dk_at dksX0_key_3 0 rfl rfl)
abbrev cX0_isKey : ByteArray := prog_1_method_10_code
def yX0_isKey : MethodName := ⟨RX0, "isKey", "(I)Z"⟩
def dkwX0_isKey_0 : List UInt8 := [27, 3, 42, 180, 0, 12, 180, 0, 131, 4, 100, 184, 0, 79, 172]
abbrev dktX0_isKey_0 : List UInt8 := dkwX0_isKey_0 ++ []
theorem dksX0_isKey_0 : cX0_isKey.data.toList.drop 0 = dktX0_isKey_0 := by decide +kernel
theorem dX0_isKey_0 : decode cX0_isKey 0 = .ok (.iload_n 1, 1) := dk_27 (dk_at dksX0_isKey_0 0 rfl rfl)
theorem dX0_isKey_1 : decode cX0_isKey 1 = .ok (.iconst 0, 1) := dk_3 (dk_at dksX0_isKey_0 1 rfl rfl)
theorem dX0_isKey_2 : decode cX0_isKey 2 = .ok (.aload_n 0, 1) := dk_42 (dk_at dksX0_isKey_0 2 rfl rfl)
theorem dX0_isKey_3 : decode cX0_isKey 3 = .ok (.getfield 12, 3) := dk_180 0 12 (dk_at dksX0_isKey_0 3 rfl rfl)
theorem dX0_isKey_6 : decode cX0_isKey 6 = .ok (.getfield 131, 3) := dk_180 0 131 (dk_at dksX0_isKey_0 6 rfl rfl)
theorem dX0_isKey_9 : decode cX0_isKey 9 = .ok (.iconst 1, 1) := dk_4 (dk_at dksX0_isKey_0 9 rfl rfl)
theorem dX0_isKey_10 : decode cX0_isKey 10 = .ok (.isub, 1) := dk_100 (dk_at dksX0_isKey_0 10 rfl rfl)
theorem dX0_isKey_11 : decode cX0_isKey 11 = .ok (.invokestatic 79, 3) := dk_184 0 79 (dk_at dksX0_isKey_0 11 rfl rfl)
theorem dX0_isKey_14 : decode cX0_isKey 14 = .ok (.ireturn, 1) := dk_172 (dk_at dksX0_isKey_0 14 rfl rfl)
abbrev cX0_strike : ByteArray := prog_1_method_15_code
def yX0_strike : MethodName := ⟨RX0, "strike", "(I)I"⟩
def dkwX0_strike_1 : List UInt8 := [182, 0, 148, 172]
abbrev dktX0_strike_1 : List UInt8 := dkwX0_strike_1 ++ []
def dkwX0_strike_0 : List UInt8 := [42, 27, 182, 0, 160, 154, 0, 6, 18, 164, 172, 42, 27, 182, 0, 183, 42, 42, 180, 0, 19, 180, 0, 145]
abbrev dktX0_strike_0 : List UInt8 := dkwX0_strike_0 ++ dktX0_strike_1
theorem dksX0_strike_0 : cX0_strike.data.toList.drop 0 = dktX0_strike_0 := by decide +kernel
theorem dksX0_strike_1 : cX0_strike.data.toList.drop 24 = dktX0_strike_1 := dk_seg dksX0_strike_0 24 rfl rfl
theorem dX0_strike_0 : decode cX0_strike 0 = .ok (.aload_n 0, 1) := dk_42 (dk_at dksX0_strike_0 0 rfl rfl)
theorem dX0_strike_1 : decode cX0_strike 1 = .ok (.iload_n 1, 1) := dk_27 (dk_at dksX0_strike_0 1 rfl rfl)
theorem dX0_strike_2 : decode cX0_strike 2 = .ok (.invokevirtual 160, 3) := dk_182 0 160 (dk_at dksX0_strike_0 2 rfl rfl)
theorem dX0_strike_5 : decode cX0_strike 5 = .ok (.ifCond .ne 6, 3) := dk_154 0 6 (dk_at dksX0_strike_0 5 rfl rfl)
theorem dX0_strike_8 : decode cX0_strike 8 = .ok (.ldc 164, 2) := dk_18 164 (dk_at dksX0_strike_0 8 rfl rfl)
theorem dX0_strike_10 : decode cX0_strike 10 = .ok (.ireturn, 1) := dk_172 (dk_at dksX0_strike_0 10 rfl rfl)
theorem dX0_strike_11 : decode cX0_strike 11 = .ok (.aload_n 0, 1) := dk_42 (dk_at dksX0_strike_0 11 rfl rfl)
theorem dX0_strike_12 : decode cX0_strike 12 = .ok (.iload_n 1, 1) := dk_27 (dk_at dksX0_strike_0 12 rfl rfl)
theorem dX0_strike_13 : decode cX0_strike 13 = .ok (.invokevirtual 183, 3) := dk_182 0 183 (dk_at dksX0_strike_0 13 rfl rfl)
theorem dX0_strike_16 : decode cX0_strike 16 = .ok (.aload_n 0, 1) := dk_42 (dk_at dksX0_strike_0 16 rfl rfl)
theorem dX0_strike_17 : decode cX0_strike 17 = .ok (.aload_n 0, 1) := dk_42 (dk_at dksX0_strike_0 17 rfl rfl)
theorem dX0_strike_18 : decode cX0_strike 18 = .ok (.getfield 19, 3) := dk_180 0 19 (dk_at dksX0_strike_0 18 rfl rfl)
theorem dX0_strike_21 : decode cX0_strike 21 = .ok (.getfield 145, 3) := dk_180 0 145 (dk_at dksX0_strike_0 21 rfl rfl)
theorem dX0_strike_24 : decode cX0_strike 24 = .ok (.invokevirtual 148, 3) := dk_182 0 148 (dk_at dksX0_strike_1 0 rfl rfl)
theorem dX0_strike_27 : decode cX0_strike 27 = .ok (.ireturn, 1) := dk_172 (dk_at dksX0_strike_1 3 rfl rfl)
abbrev cX0_strikeNow : ByteArray := prog_1_method_14_code
def yX0_strikeNow : MethodName := ⟨RX0, "strikeNow", "(I)V"⟩
def dkwX0_strikeNow_2 : List UInt8 := [181, 0, 154, 177]
abbrev dktX0_strikeNow_2 : List UInt8 := dkwX0_strikeNow_2 ++ []
def dkwX0_strikeNow_1 : List UInt8 := [181, 0, 145, 42, 180, 0, 19, 89, 180, 0, 154, 42, 180, 0, 12, 180, 0, 165, 27, 50, 180, 0, 173, 96]
abbrev dktX0_strikeNow_1 : List UInt8 := dkwX0_strikeNow_1 ++ dktX0_strikeNow_2
def dkwX0_strikeNow_0 : List UInt8 := [42, 180, 0, 19, 42, 180, 0, 12, 180, 0, 165, 27, 50, 42, 180, 0, 19, 180, 0, 145, 182, 0, 180]
abbrev dktX0_strikeNow_0 : List UInt8 := dkwX0_strikeNow_0 ++ dktX0_strikeNow_1
theorem dksX0_strikeNow_0 : cX0_strikeNow.data.toList.drop 0 = dktX0_strikeNow_0 := by decide +kernel
theorem dksX0_strikeNow_1 : cX0_strikeNow.data.toList.drop 23 = dktX0_strikeNow_1 := dk_seg dksX0_strikeNow_0 23 rfl rfl
theorem dksX0_strikeNow_2 : cX0_strikeNow.data.toList.drop 47 = dktX0_strikeNow_2 := dk_seg dksX0_strikeNow_1 24 rfl rfl
theorem dX0_strikeNow_0 : decode cX0_strikeNow 0 = .ok (.aload_n 0, 1) := dk_42 (dk_at dksX0_strikeNow_0 0 rfl rfl)
theorem dX0_strikeNow_1 : decode cX0_strikeNow 1 = .ok (.getfield 19, 3) := dk_180 0 19 (dk_at dksX0_strikeNow_0 1 rfl rfl)
theorem dX0_strikeNow_4 : decode cX0_strikeNow 4 = .ok (.aload_n 0, 1) := dk_42 (dk_at dksX0_strikeNow_0 4 rfl rfl)
theorem dX0_strikeNow_5 : decode cX0_strikeNow 5 = .ok (.getfield 12, 3) := dk_180 0 12 (dk_at dksX0_strikeNow_0 5 rfl rfl)
theorem dX0_strikeNow_8 : decode cX0_strikeNow 8 = .ok (.getfield 165, 3) := dk_180 0 165 (dk_at dksX0_strikeNow_0 8 rfl rfl)
theorem dX0_strikeNow_11 : decode cX0_strikeNow 11 = .ok (.iload_n 1, 1) := dk_27 (dk_at dksX0_strikeNow_0 11 rfl rfl)
theorem dX0_strikeNow_12 : decode cX0_strikeNow 12 = .ok (.aaload, 1) := dk_50 (dk_at dksX0_strikeNow_0 12 rfl rfl)
theorem dX0_strikeNow_13 : decode cX0_strikeNow 13 = .ok (.aload_n 0, 1) := dk_42 (dk_at dksX0_strikeNow_0 13 rfl rfl)
theorem dX0_strikeNow_14 : decode cX0_strikeNow 14 = .ok (.getfield 19, 3) := dk_180 0 19 (dk_at dksX0_strikeNow_0 14 rfl rfl)
theorem dX0_strikeNow_17 : decode cX0_strikeNow 17 = .ok (.getfield 145, 3) := dk_180 0 145 (dk_at dksX0_strikeNow_0 17 rfl rfl)
theorem dX0_strikeNow_20 : decode cX0_strikeNow 20 = .ok (.invokevirtual 180, 3) := dk_182 0 180 (dk_at dksX0_strikeNow_0 20 rfl rfl)
theorem dX0_strikeNow_23 : decode cX0_strikeNow 23 = .ok (.putfield 145, 3) := dk_181 0 145 (dk_at dksX0_strikeNow_1 0 rfl rfl)
theorem dX0_strikeNow_26 : decode cX0_strikeNow 26 = .ok (.aload_n 0, 1) := dk_42 (dk_at dksX0_strikeNow_1 3 rfl rfl)
theorem dX0_strikeNow_27 : decode cX0_strikeNow 27 = .ok (.getfield 19, 3) := dk_180 0 19 (dk_at dksX0_strikeNow_1 4 rfl rfl)
theorem dX0_strikeNow_30 : decode cX0_strikeNow 30 = .ok (.dup, 1) := dk_89 (dk_at dksX0_strikeNow_1 7 rfl rfl)
theorem dX0_strikeNow_31 : decode cX0_strikeNow 31 = .ok (.getfield 154, 3) := dk_180 0 154 (dk_at dksX0_strikeNow_1 8 rfl rfl)
theorem dX0_strikeNow_34 : decode cX0_strikeNow 34 = .ok (.aload_n 0, 1) := dk_42 (dk_at dksX0_strikeNow_1 11 rfl rfl)
theorem dX0_strikeNow_35 : decode cX0_strikeNow 35 = .ok (.getfield 12, 3) := dk_180 0 12 (dk_at dksX0_strikeNow_1 12 rfl rfl)
theorem dX0_strikeNow_38 : decode cX0_strikeNow 38 = .ok (.getfield 165, 3) := dk_180 0 165 (dk_at dksX0_strikeNow_1 15 rfl rfl)
theorem dX0_strikeNow_41 : decode cX0_strikeNow 41 = .ok (.iload_n 1, 1) := dk_27 (dk_at dksX0_strikeNow_1 18 rfl rfl)
theorem dX0_strikeNow_42 : decode cX0_strikeNow 42 = .ok (.aaload, 1) := dk_50 (dk_at dksX0_strikeNow_1 19 rfl rfl)
theorem dX0_strikeNow_43 : decode cX0_strikeNow 43 = .ok (.getfield 173, 3) := dk_180 0 173 (dk_at dksX0_strikeNow_1 20 rfl rfl)
theorem dX0_strikeNow_46 : decode cX0_strikeNow 46 = .ok (.iadd, 1) := dk_96 (dk_at dksX0_strikeNow_1 23 rfl rfl)
theorem dX0_strikeNow_47 : decode cX0_strikeNow 47 = .ok (.putfield 154, 3) := dk_181 0 154 (dk_at dksX0_strikeNow_2 0 rfl rfl)
theorem dX0_strikeNow_50 : decode cX0_strikeNow 50 = .ok (.return_, 1) := dk_177 (dk_at dksX0_strikeNow_2 3 rfl rfl)
abbrev cX0_begin : ByteArray := prog_1_method_16_code
def yX0_begin : MethodName := ⟨RX0, "begin", "()I"⟩
def dkwX0_begin_0 : List UInt8 := [42, 42, 180, 0, 19, 180, 0, 145, 182, 0, 148, 60, 42, 180, 0, 19, 3, 181, 0, 145, 27, 172]
abbrev dktX0_begin_0 : List UInt8 := dkwX0_begin_0 ++ []
theorem dksX0_begin_0 : cX0_begin.data.toList.drop 0 = dktX0_begin_0 := by decide +kernel
theorem dX0_begin_0 : decode cX0_begin 0 = .ok (.aload_n 0, 1) := dk_42 (dk_at dksX0_begin_0 0 rfl rfl)
theorem dX0_begin_1 : decode cX0_begin 1 = .ok (.aload_n 0, 1) := dk_42 (dk_at dksX0_begin_0 1 rfl rfl)
theorem dX0_begin_2 : decode cX0_begin 2 = .ok (.getfield 19, 3) := dk_180 0 19 (dk_at dksX0_begin_0 2 rfl rfl)
theorem dX0_begin_5 : decode cX0_begin 5 = .ok (.getfield 145, 3) := dk_180 0 145 (dk_at dksX0_begin_0 5 rfl rfl)
theorem dX0_begin_8 : decode cX0_begin 8 = .ok (.invokevirtual 148, 3) := dk_182 0 148 (dk_at dksX0_begin_0 8 rfl rfl)
theorem dX0_begin_11 : decode cX0_begin 11 = .ok (.istore_n 1, 1) := dk_60 (dk_at dksX0_begin_0 11 rfl rfl)
theorem dX0_begin_12 : decode cX0_begin 12 = .ok (.aload_n 0, 1) := dk_42 (dk_at dksX0_begin_0 12 rfl rfl)
theorem dX0_begin_13 : decode cX0_begin 13 = .ok (.getfield 19, 3) := dk_180 0 19 (dk_at dksX0_begin_0 13 rfl rfl)
theorem dX0_begin_16 : decode cX0_begin 16 = .ok (.iconst 0, 1) := dk_3 (dk_at dksX0_begin_0 16 rfl rfl)
theorem dX0_begin_17 : decode cX0_begin 17 = .ok (.putfield 145, 3) := dk_181 0 145 (dk_at dksX0_begin_0 17 rfl rfl)
theorem dX0_begin_20 : decode cX0_begin 20 = .ok (.iload_n 1, 1) := dk_27 (dk_at dksX0_begin_0 20 rfl rfl)
theorem dX0_begin_21 : decode cX0_begin 21 = .ok (.ireturn, 1) := dk_172 (dk_at dksX0_begin_0 21 rfl rfl)
abbrev cX0_fewest : ByteArray := prog_1_method_19_code
def yX0_fewest : MethodName := ⟨RX0, "fewest", "(I)I"⟩
def dkwX0_fewest_1 : List UInt8 := [180, 0, 131, 182, 0, 202, 42, 27, 182, 0, 206, 172]
abbrev dktX0_fewest_1 : List UInt8 := dkwX0_fewest_1 ++ []
def dkwX0_fewest_0 : List UInt8 := [42, 27, 182, 0, 199, 154, 0, 6, 18, 83, 172, 42, 42, 180, 0, 19, 180, 0, 145, 42, 180, 0, 12]
abbrev dktX0_fewest_0 : List UInt8 := dkwX0_fewest_0 ++ dktX0_fewest_1
theorem dksX0_fewest_0 : cX0_fewest.data.toList.drop 0 = dktX0_fewest_0 := by decide +kernel
theorem dksX0_fewest_1 : cX0_fewest.data.toList.drop 23 = dktX0_fewest_1 := dk_seg dksX0_fewest_0 23 rfl rfl
theorem dX0_fewest_0 : decode cX0_fewest 0 = .ok (.aload_n 0, 1) := dk_42 (dk_at dksX0_fewest_0 0 rfl rfl)
theorem dX0_fewest_1 : decode cX0_fewest 1 = .ok (.iload_n 1, 1) := dk_27 (dk_at dksX0_fewest_0 1 rfl rfl)
theorem dX0_fewest_2 : decode cX0_fewest 2 = .ok (.invokevirtual 199, 3) := dk_182 0 199 (dk_at dksX0_fewest_0 2 rfl rfl)
theorem dX0_fewest_5 : decode cX0_fewest 5 = .ok (.ifCond .ne 6, 3) := dk_154 0 6 (dk_at dksX0_fewest_0 5 rfl rfl)
theorem dX0_fewest_8 : decode cX0_fewest 8 = .ok (.ldc 83, 2) := dk_18 83 (dk_at dksX0_fewest_0 8 rfl rfl)
theorem dX0_fewest_10 : decode cX0_fewest 10 = .ok (.ireturn, 1) := dk_172 (dk_at dksX0_fewest_0 10 rfl rfl)
theorem dX0_fewest_11 : decode cX0_fewest 11 = .ok (.aload_n 0, 1) := dk_42 (dk_at dksX0_fewest_0 11 rfl rfl)
theorem dX0_fewest_12 : decode cX0_fewest 12 = .ok (.aload_n 0, 1) := dk_42 (dk_at dksX0_fewest_0 12 rfl rfl)
theorem dX0_fewest_13 : decode cX0_fewest 13 = .ok (.getfield 19, 3) := dk_180 0 19 (dk_at dksX0_fewest_0 13 rfl rfl)
theorem dX0_fewest_16 : decode cX0_fewest 16 = .ok (.getfield 145, 3) := dk_180 0 145 (dk_at dksX0_fewest_0 16 rfl rfl)
theorem dX0_fewest_19 : decode cX0_fewest 19 = .ok (.aload_n 0, 1) := dk_42 (dk_at dksX0_fewest_0 19 rfl rfl)
theorem dX0_fewest_20 : decode cX0_fewest 20 = .ok (.getfield 12, 3) := dk_180 0 12 (dk_at dksX0_fewest_0 20 rfl rfl)
theorem dX0_fewest_23 : decode cX0_fewest 23 = .ok (.getfield 131, 3) := dk_180 0 131 (dk_at dksX0_fewest_1 0 rfl rfl)
theorem dX0_fewest_26 : decode cX0_fewest 26 = .ok (.invokevirtual 202, 3) := dk_182 0 202 (dk_at dksX0_fewest_1 3 rfl rfl)
theorem dX0_fewest_29 : decode cX0_fewest 29 = .ok (.aload_n 0, 1) := dk_42 (dk_at dksX0_fewest_1 6 rfl rfl)
theorem dX0_fewest_30 : decode cX0_fewest 30 = .ok (.iload_n 1, 1) := dk_27 (dk_at dksX0_fewest_1 7 rfl rfl)
theorem dX0_fewest_31 : decode cX0_fewest 31 = .ok (.invokevirtual 206, 3) := dk_182 0 206 (dk_at dksX0_fewest_1 8 rfl rfl)
theorem dX0_fewest_34 : decode cX0_fewest 34 = .ok (.ireturn, 1) := dk_172 (dk_at dksX0_fewest_1 11 rfl rfl)
abbrev cX0_isNumber : ByteArray := prog_1_method_9_code
def yX0_isNumber : MethodName := ⟨RX0, "isNumber", "(I)Z"⟩
def dkwX0_isNumber_0 : List UInt8 := [27, 3, 42, 182, 0, 115, 4, 100, 184, 0, 79, 172]
abbrev dktX0_isNumber_0 : List UInt8 := dkwX0_isNumber_0 ++ []
theorem dksX0_isNumber_0 : cX0_isNumber.data.toList.drop 0 = dktX0_isNumber_0 := by decide +kernel
theorem dX0_isNumber_0 : decode cX0_isNumber 0 = .ok (.iload_n 1, 1) := dk_27 (dk_at dksX0_isNumber_0 0 rfl rfl)
theorem dX0_isNumber_1 : decode cX0_isNumber 1 = .ok (.iconst 0, 1) := dk_3 (dk_at dksX0_isNumber_0 1 rfl rfl)
theorem dX0_isNumber_2 : decode cX0_isNumber 2 = .ok (.aload_n 0, 1) := dk_42 (dk_at dksX0_isNumber_0 2 rfl rfl)
theorem dX0_isNumber_3 : decode cX0_isNumber 3 = .ok (.invokevirtual 115, 3) := dk_182 0 115 (dk_at dksX0_isNumber_0 3 rfl rfl)
theorem dX0_isNumber_6 : decode cX0_isNumber 6 = .ok (.iconst 1, 1) := dk_4 (dk_at dksX0_isNumber_0 6 rfl rfl)
theorem dX0_isNumber_7 : decode cX0_isNumber 7 = .ok (.isub, 1) := dk_100 (dk_at dksX0_isNumber_0 7 rfl rfl)
theorem dX0_isNumber_8 : decode cX0_isNumber 8 = .ok (.invokestatic 79, 3) := dk_184 0 79 (dk_at dksX0_isNumber_0 8 rfl rfl)
theorem dX0_isNumber_11 : decode cX0_isNumber 11 = .ok (.ireturn, 1) := dk_172 (dk_at dksX0_isNumber_0 11 rfl rfl)
abbrev cX0_spread : ByteArray := prog_1_method_17_code
def yX0_spread : MethodName := ⟨RX0, "spread", "(II)V"⟩
def dkwX0_spread_8 : List UInt8 := [180, 0, 51, 42, 21, 7, 182, 0, 148, 46, 79, 132, 6, 1, 167, 255, 131, 132, 4, 1, 167, 255, 107, 177]
abbrev dktX0_spread_8 : List UInt8 := dkwX0_spread_8 ++ []
def dkwX0_spread_7 : List UInt8 := [182, 0, 148, 42, 180, 0, 51, 42, 21, 7, 182, 0, 148, 46, 2, 160, 0, 8, 21, 7, 167, 0, 14, 42]
abbrev dktX0_spread_7 : List UInt8 := dkwX0_spread_7 ++ dktX0_spread_8
def dkwX0_spread_6 : List UInt8 := [21, 6, 145, 84, 42, 180, 0, 42, 29, 21, 7, 79, 132, 3, 1, 42, 180, 0, 51, 42, 21, 7]
abbrev dktX0_spread_6 : List UInt8 := dkwX0_spread_6 ++ dktX0_spread_7
def dkwX0_spread_5 : List UInt8 := [180, 0, 39, 21, 5, 46, 4, 96, 79, 42, 180, 0, 45, 21, 7, 21, 5, 79, 42, 180, 0, 48, 21, 7]
abbrev dktX0_spread_5 : List UInt8 := dkwX0_spread_5 ++ dktX0_spread_6
def dkwX0_spread_4 : List UInt8 := [182, 0, 180, 54, 7, 42, 180, 0, 39, 21, 7, 46, 2, 160, 0, 91, 42, 180, 0, 39, 21, 7, 42]
abbrev dktX0_spread_4 : List UInt8 := dkwX0_spread_4 ++ dktX0_spread_5
def dkwX0_spread_3 : List UInt8 := [54, 5, 3, 54, 6, 21, 6, 28, 162, 0, 125, 42, 180, 0, 12, 180, 0, 165, 21, 6, 50, 21, 5]
abbrev dktX0_spread_3 : List UInt8 := dkwX0_spread_3 ++ dktX0_spread_4
def dkwX0_spread_2 : List UInt8 := [182, 0, 148, 27, 79, 4, 62, 3, 54, 4, 21, 4, 29, 162, 0, 149, 42, 180, 0, 42, 21, 4, 46]
abbrev dktX0_spread_2 : List UInt8 := dkwX0_spread_2 ++ dktX0_spread_3
def dkwX0_spread_1 : List UInt8 := [184, 0, 196, 42, 180, 0, 39, 27, 3, 79, 42, 180, 0, 42, 3, 27, 79, 42, 180, 0, 51, 42, 27]
abbrev dktX0_spread_1 : List UInt8 := dkwX0_spread_1 ++ dktX0_spread_2
def dkwX0_spread_0 : List UInt8 := [42, 180, 0, 39, 3, 42, 180, 0, 12, 180, 0, 119, 182, 0, 187, 2, 184, 0, 190, 42, 180, 0, 51, 2]
abbrev dktX0_spread_0 : List UInt8 := dkwX0_spread_0 ++ dktX0_spread_1
theorem dksX0_spread_0 : cX0_spread.data.toList.drop 0 = dktX0_spread_0 := by decide +kernel
theorem dksX0_spread_1 : cX0_spread.data.toList.drop 24 = dktX0_spread_1 := dk_seg dksX0_spread_0 24 rfl rfl
theorem dksX0_spread_2 : cX0_spread.data.toList.drop 47 = dktX0_spread_2 := dk_seg dksX0_spread_1 23 rfl rfl
theorem dksX0_spread_3 : cX0_spread.data.toList.drop 70 = dktX0_spread_3 := dk_seg dksX0_spread_2 23 rfl rfl
theorem dksX0_spread_4 : cX0_spread.data.toList.drop 93 = dktX0_spread_4 := dk_seg dksX0_spread_3 23 rfl rfl
theorem dksX0_spread_5 : cX0_spread.data.toList.drop 116 = dktX0_spread_5 := dk_seg dksX0_spread_4 23 rfl rfl
theorem dksX0_spread_6 : cX0_spread.data.toList.drop 140 = dktX0_spread_6 := dk_seg dksX0_spread_5 24 rfl rfl
theorem dksX0_spread_7 : cX0_spread.data.toList.drop 162 = dktX0_spread_7 := dk_seg dksX0_spread_6 22 rfl rfl
theorem dksX0_spread_8 : cX0_spread.data.toList.drop 186 = dktX0_spread_8 := dk_seg dksX0_spread_7 24 rfl rfl
theorem dX0_spread_0 : decode cX0_spread 0 = .ok (.aload_n 0, 1) := dk_42 (dk_at dksX0_spread_0 0 rfl rfl)
theorem dX0_spread_1 : decode cX0_spread 1 = .ok (.getfield 39, 3) := dk_180 0 39 (dk_at dksX0_spread_0 1 rfl rfl)
theorem dX0_spread_4 : decode cX0_spread 4 = .ok (.iconst 0, 1) := dk_3 (dk_at dksX0_spread_0 4 rfl rfl)
theorem dX0_spread_5 : decode cX0_spread 5 = .ok (.aload_n 0, 1) := dk_42 (dk_at dksX0_spread_0 5 rfl rfl)
theorem dX0_spread_6 : decode cX0_spread 6 = .ok (.getfield 12, 3) := dk_180 0 12 (dk_at dksX0_spread_0 6 rfl rfl)
theorem dX0_spread_9 : decode cX0_spread 9 = .ok (.getfield 119, 3) := dk_180 0 119 (dk_at dksX0_spread_0 9 rfl rfl)
theorem dX0_spread_12 : decode cX0_spread 12 = .ok (.invokevirtual 187, 3) := dk_182 0 187 (dk_at dksX0_spread_0 12 rfl rfl)
theorem dX0_spread_15 : decode cX0_spread 15 = .ok (.iconst (-1), 1) := dk_2 (dk_at dksX0_spread_0 15 rfl rfl)
theorem dX0_spread_16 : decode cX0_spread 16 = .ok (.invokestatic 190, 3) := dk_184 0 190 (dk_at dksX0_spread_0 16 rfl rfl)
theorem dX0_spread_19 : decode cX0_spread 19 = .ok (.aload_n 0, 1) := dk_42 (dk_at dksX0_spread_0 19 rfl rfl)
theorem dX0_spread_20 : decode cX0_spread 20 = .ok (.getfield 51, 3) := dk_180 0 51 (dk_at dksX0_spread_0 20 rfl rfl)
theorem dX0_spread_23 : decode cX0_spread 23 = .ok (.iconst (-1), 1) := dk_2 (dk_at dksX0_spread_0 23 rfl rfl)
theorem dX0_spread_24 : decode cX0_spread 24 = .ok (.invokestatic 196, 3) := dk_184 0 196 (dk_at dksX0_spread_1 0 rfl rfl)
theorem dX0_spread_27 : decode cX0_spread 27 = .ok (.aload_n 0, 1) := dk_42 (dk_at dksX0_spread_1 3 rfl rfl)
theorem dX0_spread_28 : decode cX0_spread 28 = .ok (.getfield 39, 3) := dk_180 0 39 (dk_at dksX0_spread_1 4 rfl rfl)
theorem dX0_spread_31 : decode cX0_spread 31 = .ok (.iload_n 1, 1) := dk_27 (dk_at dksX0_spread_1 7 rfl rfl)
theorem dX0_spread_32 : decode cX0_spread 32 = .ok (.iconst 0, 1) := dk_3 (dk_at dksX0_spread_1 8 rfl rfl)
theorem dX0_spread_33 : decode cX0_spread 33 = .ok (.iastore, 1) := dk_79 (dk_at dksX0_spread_1 9 rfl rfl)
theorem dX0_spread_34 : decode cX0_spread 34 = .ok (.aload_n 0, 1) := dk_42 (dk_at dksX0_spread_1 10 rfl rfl)
theorem dX0_spread_35 : decode cX0_spread 35 = .ok (.getfield 42, 3) := dk_180 0 42 (dk_at dksX0_spread_1 11 rfl rfl)
theorem dX0_spread_38 : decode cX0_spread 38 = .ok (.iconst 0, 1) := dk_3 (dk_at dksX0_spread_1 14 rfl rfl)
theorem dX0_spread_39 : decode cX0_spread 39 = .ok (.iload_n 1, 1) := dk_27 (dk_at dksX0_spread_1 15 rfl rfl)
theorem dX0_spread_40 : decode cX0_spread 40 = .ok (.iastore, 1) := dk_79 (dk_at dksX0_spread_1 16 rfl rfl)
theorem dX0_spread_41 : decode cX0_spread 41 = .ok (.aload_n 0, 1) := dk_42 (dk_at dksX0_spread_1 17 rfl rfl)
theorem dX0_spread_42 : decode cX0_spread 42 = .ok (.getfield 51, 3) := dk_180 0 51 (dk_at dksX0_spread_1 18 rfl rfl)
theorem dX0_spread_45 : decode cX0_spread 45 = .ok (.aload_n 0, 1) := dk_42 (dk_at dksX0_spread_1 21 rfl rfl)
theorem dX0_spread_46 : decode cX0_spread 46 = .ok (.iload_n 1, 1) := dk_27 (dk_at dksX0_spread_1 22 rfl rfl)
theorem dX0_spread_47 : decode cX0_spread 47 = .ok (.invokevirtual 148, 3) := dk_182 0 148 (dk_at dksX0_spread_2 0 rfl rfl)
theorem dX0_spread_50 : decode cX0_spread 50 = .ok (.iload_n 1, 1) := dk_27 (dk_at dksX0_spread_2 3 rfl rfl)
theorem dX0_spread_51 : decode cX0_spread 51 = .ok (.iastore, 1) := dk_79 (dk_at dksX0_spread_2 4 rfl rfl)
theorem dX0_spread_52 : decode cX0_spread 52 = .ok (.iconst 1, 1) := dk_4 (dk_at dksX0_spread_2 5 rfl rfl)
theorem dX0_spread_53 : decode cX0_spread 53 = .ok (.istore_n 3, 1) := dk_62 (dk_at dksX0_spread_2 6 rfl rfl)
theorem dX0_spread_54 : decode cX0_spread 54 = .ok (.iconst 0, 1) := dk_3 (dk_at dksX0_spread_2 7 rfl rfl)
theorem dX0_spread_55 : decode cX0_spread 55 = .ok (.istore 4, 2) := dk_54 4 (dk_at dksX0_spread_2 8 rfl rfl)
theorem dX0_spread_57 : decode cX0_spread 57 = .ok (.iload 4, 2) := dk_21 4 (dk_at dksX0_spread_2 10 rfl rfl)
theorem dX0_spread_59 : decode cX0_spread 59 = .ok (.iload_n 3, 1) := dk_29 (dk_at dksX0_spread_2 12 rfl rfl)
theorem dX0_spread_60 : decode cX0_spread 60 = .ok (.if_icmp .ge 149, 3) := dk_162 0 149 (dk_at dksX0_spread_2 13 rfl rfl)
theorem dX0_spread_63 : decode cX0_spread 63 = .ok (.aload_n 0, 1) := dk_42 (dk_at dksX0_spread_2 16 rfl rfl)
theorem dX0_spread_64 : decode cX0_spread 64 = .ok (.getfield 42, 3) := dk_180 0 42 (dk_at dksX0_spread_2 17 rfl rfl)
theorem dX0_spread_67 : decode cX0_spread 67 = .ok (.iload 4, 2) := dk_21 4 (dk_at dksX0_spread_2 20 rfl rfl)
theorem dX0_spread_69 : decode cX0_spread 69 = .ok (.iaload, 1) := dk_46 (dk_at dksX0_spread_2 22 rfl rfl)
theorem dX0_spread_70 : decode cX0_spread 70 = .ok (.istore 5, 2) := dk_54 5 (dk_at dksX0_spread_3 0 rfl rfl)
theorem dX0_spread_72 : decode cX0_spread 72 = .ok (.iconst 0, 1) := dk_3 (dk_at dksX0_spread_3 2 rfl rfl)
theorem dX0_spread_73 : decode cX0_spread 73 = .ok (.istore 6, 2) := dk_54 6 (dk_at dksX0_spread_3 3 rfl rfl)
theorem dX0_spread_75 : decode cX0_spread 75 = .ok (.iload 6, 2) := dk_21 6 (dk_at dksX0_spread_3 5 rfl rfl)
theorem dX0_spread_77 : decode cX0_spread 77 = .ok (.iload_n 2, 1) := dk_28 (dk_at dksX0_spread_3 7 rfl rfl)
theorem dX0_spread_78 : decode cX0_spread 78 = .ok (.if_icmp .ge 125, 3) := dk_162 0 125 (dk_at dksX0_spread_3 8 rfl rfl)
theorem dX0_spread_81 : decode cX0_spread 81 = .ok (.aload_n 0, 1) := dk_42 (dk_at dksX0_spread_3 11 rfl rfl)
theorem dX0_spread_82 : decode cX0_spread 82 = .ok (.getfield 12, 3) := dk_180 0 12 (dk_at dksX0_spread_3 12 rfl rfl)
theorem dX0_spread_85 : decode cX0_spread 85 = .ok (.getfield 165, 3) := dk_180 0 165 (dk_at dksX0_spread_3 15 rfl rfl)
theorem dX0_spread_88 : decode cX0_spread 88 = .ok (.iload 6, 2) := dk_21 6 (dk_at dksX0_spread_3 18 rfl rfl)
theorem dX0_spread_90 : decode cX0_spread 90 = .ok (.aaload, 1) := dk_50 (dk_at dksX0_spread_3 20 rfl rfl)
theorem dX0_spread_91 : decode cX0_spread 91 = .ok (.iload 5, 2) := dk_21 5 (dk_at dksX0_spread_3 21 rfl rfl)
theorem dX0_spread_93 : decode cX0_spread 93 = .ok (.invokevirtual 180, 3) := dk_182 0 180 (dk_at dksX0_spread_4 0 rfl rfl)
theorem dX0_spread_96 : decode cX0_spread 96 = .ok (.istore 7, 2) := dk_54 7 (dk_at dksX0_spread_4 3 rfl rfl)
theorem dX0_spread_98 : decode cX0_spread 98 = .ok (.aload_n 0, 1) := dk_42 (dk_at dksX0_spread_4 5 rfl rfl)
theorem dX0_spread_99 : decode cX0_spread 99 = .ok (.getfield 39, 3) := dk_180 0 39 (dk_at dksX0_spread_4 6 rfl rfl)
theorem dX0_spread_102 : decode cX0_spread 102 = .ok (.iload 7, 2) := dk_21 7 (dk_at dksX0_spread_4 9 rfl rfl)
theorem dX0_spread_104 : decode cX0_spread 104 = .ok (.iaload, 1) := dk_46 (dk_at dksX0_spread_4 11 rfl rfl)
theorem dX0_spread_105 : decode cX0_spread 105 = .ok (.iconst (-1), 1) := dk_2 (dk_at dksX0_spread_4 12 rfl rfl)
theorem dX0_spread_106 : decode cX0_spread 106 = .ok (.if_icmp .ne 91, 3) := dk_160 0 91 (dk_at dksX0_spread_4 13 rfl rfl)
theorem dX0_spread_109 : decode cX0_spread 109 = .ok (.aload_n 0, 1) := dk_42 (dk_at dksX0_spread_4 16 rfl rfl)
theorem dX0_spread_110 : decode cX0_spread 110 = .ok (.getfield 39, 3) := dk_180 0 39 (dk_at dksX0_spread_4 17 rfl rfl)
theorem dX0_spread_113 : decode cX0_spread 113 = .ok (.iload 7, 2) := dk_21 7 (dk_at dksX0_spread_4 20 rfl rfl)
theorem dX0_spread_115 : decode cX0_spread 115 = .ok (.aload_n 0, 1) := dk_42 (dk_at dksX0_spread_4 22 rfl rfl)
theorem dX0_spread_116 : decode cX0_spread 116 = .ok (.getfield 39, 3) := dk_180 0 39 (dk_at dksX0_spread_5 0 rfl rfl)
theorem dX0_spread_119 : decode cX0_spread 119 = .ok (.iload 5, 2) := dk_21 5 (dk_at dksX0_spread_5 3 rfl rfl)
theorem dX0_spread_121 : decode cX0_spread 121 = .ok (.iaload, 1) := dk_46 (dk_at dksX0_spread_5 5 rfl rfl)
theorem dX0_spread_122 : decode cX0_spread 122 = .ok (.iconst 1, 1) := dk_4 (dk_at dksX0_spread_5 6 rfl rfl)
theorem dX0_spread_123 : decode cX0_spread 123 = .ok (.iadd, 1) := dk_96 (dk_at dksX0_spread_5 7 rfl rfl)
theorem dX0_spread_124 : decode cX0_spread 124 = .ok (.iastore, 1) := dk_79 (dk_at dksX0_spread_5 8 rfl rfl)
theorem dX0_spread_125 : decode cX0_spread 125 = .ok (.aload_n 0, 1) := dk_42 (dk_at dksX0_spread_5 9 rfl rfl)
theorem dX0_spread_126 : decode cX0_spread 126 = .ok (.getfield 45, 3) := dk_180 0 45 (dk_at dksX0_spread_5 10 rfl rfl)
theorem dX0_spread_129 : decode cX0_spread 129 = .ok (.iload 7, 2) := dk_21 7 (dk_at dksX0_spread_5 13 rfl rfl)
theorem dX0_spread_131 : decode cX0_spread 131 = .ok (.iload 5, 2) := dk_21 5 (dk_at dksX0_spread_5 15 rfl rfl)
theorem dX0_spread_133 : decode cX0_spread 133 = .ok (.iastore, 1) := dk_79 (dk_at dksX0_spread_5 17 rfl rfl)
theorem dX0_spread_134 : decode cX0_spread 134 = .ok (.aload_n 0, 1) := dk_42 (dk_at dksX0_spread_5 18 rfl rfl)
theorem dX0_spread_135 : decode cX0_spread 135 = .ok (.getfield 48, 3) := dk_180 0 48 (dk_at dksX0_spread_5 19 rfl rfl)
theorem dX0_spread_138 : decode cX0_spread 138 = .ok (.iload 7, 2) := dk_21 7 (dk_at dksX0_spread_5 22 rfl rfl)
theorem dX0_spread_140 : decode cX0_spread 140 = .ok (.iload 6, 2) := dk_21 6 (dk_at dksX0_spread_6 0 rfl rfl)
theorem dX0_spread_142 : decode cX0_spread 142 = .ok (.i2b, 1) := dk_145 (dk_at dksX0_spread_6 2 rfl rfl)
theorem dX0_spread_143 : decode cX0_spread 143 = .ok (.bastore, 1) := dk_84 (dk_at dksX0_spread_6 3 rfl rfl)
theorem dX0_spread_144 : decode cX0_spread 144 = .ok (.aload_n 0, 1) := dk_42 (dk_at dksX0_spread_6 4 rfl rfl)
theorem dX0_spread_145 : decode cX0_spread 145 = .ok (.getfield 42, 3) := dk_180 0 42 (dk_at dksX0_spread_6 5 rfl rfl)
theorem dX0_spread_148 : decode cX0_spread 148 = .ok (.iload_n 3, 1) := dk_29 (dk_at dksX0_spread_6 8 rfl rfl)
theorem dX0_spread_149 : decode cX0_spread 149 = .ok (.iload 7, 2) := dk_21 7 (dk_at dksX0_spread_6 9 rfl rfl)
theorem dX0_spread_151 : decode cX0_spread 151 = .ok (.iastore, 1) := dk_79 (dk_at dksX0_spread_6 11 rfl rfl)
theorem dX0_spread_152 : decode cX0_spread 152 = .ok (.iinc 3 1, 3) := dk_132 3 1 (dk_at dksX0_spread_6 12 rfl rfl)
theorem dX0_spread_155 : decode cX0_spread 155 = .ok (.aload_n 0, 1) := dk_42 (dk_at dksX0_spread_6 15 rfl rfl)
theorem dX0_spread_156 : decode cX0_spread 156 = .ok (.getfield 51, 3) := dk_180 0 51 (dk_at dksX0_spread_6 16 rfl rfl)
theorem dX0_spread_159 : decode cX0_spread 159 = .ok (.aload_n 0, 1) := dk_42 (dk_at dksX0_spread_6 19 rfl rfl)
theorem dX0_spread_160 : decode cX0_spread 160 = .ok (.iload 7, 2) := dk_21 7 (dk_at dksX0_spread_6 20 rfl rfl)
theorem dX0_spread_162 : decode cX0_spread 162 = .ok (.invokevirtual 148, 3) := dk_182 0 148 (dk_at dksX0_spread_7 0 rfl rfl)
theorem dX0_spread_165 : decode cX0_spread 165 = .ok (.aload_n 0, 1) := dk_42 (dk_at dksX0_spread_7 3 rfl rfl)
theorem dX0_spread_166 : decode cX0_spread 166 = .ok (.getfield 51, 3) := dk_180 0 51 (dk_at dksX0_spread_7 4 rfl rfl)
theorem dX0_spread_169 : decode cX0_spread 169 = .ok (.aload_n 0, 1) := dk_42 (dk_at dksX0_spread_7 7 rfl rfl)
theorem dX0_spread_170 : decode cX0_spread 170 = .ok (.iload 7, 2) := dk_21 7 (dk_at dksX0_spread_7 8 rfl rfl)
theorem dX0_spread_172 : decode cX0_spread 172 = .ok (.invokevirtual 148, 3) := dk_182 0 148 (dk_at dksX0_spread_7 10 rfl rfl)
theorem dX0_spread_175 : decode cX0_spread 175 = .ok (.iaload, 1) := dk_46 (dk_at dksX0_spread_7 13 rfl rfl)
theorem dX0_spread_176 : decode cX0_spread 176 = .ok (.iconst (-1), 1) := dk_2 (dk_at dksX0_spread_7 14 rfl rfl)
theorem dX0_spread_177 : decode cX0_spread 177 = .ok (.if_icmp .ne 8, 3) := dk_160 0 8 (dk_at dksX0_spread_7 15 rfl rfl)
theorem dX0_spread_180 : decode cX0_spread 180 = .ok (.iload 7, 2) := dk_21 7 (dk_at dksX0_spread_7 18 rfl rfl)
theorem dX0_spread_182 : decode cX0_spread 182 = .ok (.goto 14, 3) := dk_167 0 14 (dk_at dksX0_spread_7 20 rfl rfl)
theorem dX0_spread_185 : decode cX0_spread 185 = .ok (.aload_n 0, 1) := dk_42 (dk_at dksX0_spread_7 23 rfl rfl)
theorem dX0_spread_186 : decode cX0_spread 186 = .ok (.getfield 51, 3) := dk_180 0 51 (dk_at dksX0_spread_8 0 rfl rfl)
theorem dX0_spread_189 : decode cX0_spread 189 = .ok (.aload_n 0, 1) := dk_42 (dk_at dksX0_spread_8 3 rfl rfl)
theorem dX0_spread_190 : decode cX0_spread 190 = .ok (.iload 7, 2) := dk_21 7 (dk_at dksX0_spread_8 4 rfl rfl)
theorem dX0_spread_192 : decode cX0_spread 192 = .ok (.invokevirtual 148, 3) := dk_182 0 148 (dk_at dksX0_spread_8 6 rfl rfl)
theorem dX0_spread_195 : decode cX0_spread 195 = .ok (.iaload, 1) := dk_46 (dk_at dksX0_spread_8 9 rfl rfl)
theorem dX0_spread_196 : decode cX0_spread 196 = .ok (.iastore, 1) := dk_79 (dk_at dksX0_spread_8 10 rfl rfl)
theorem dX0_spread_197 : decode cX0_spread 197 = .ok (.iinc 6 1, 3) := dk_132 6 1 (dk_at dksX0_spread_8 11 rfl rfl)
theorem dX0_spread_200 : decode cX0_spread 200 = .ok (.goto (-125), 3) := dk_167 255 131 (dk_at dksX0_spread_8 14 rfl rfl)
theorem dX0_spread_203 : decode cX0_spread 203 = .ok (.iinc 4 1, 3) := dk_132 4 1 (dk_at dksX0_spread_8 17 rfl rfl)
theorem dX0_spread_206 : decode cX0_spread 206 = .ok (.goto (-149), 3) := dk_167 255 107 (dk_at dksX0_spread_8 20 rfl rfl)
theorem dX0_spread_209 : decode cX0_spread 209 = .ok (.return_, 1) := dk_177 (dk_at dksX0_spread_8 23 rfl rfl)
abbrev cX0_fewestTo : ByteArray := prog_1_method_18_code
def yX0_fewestTo : MethodName := ⟨RX0, "fewestTo", "(I)I"⟩
def dkwX0_fewestTo_1 : List UInt8 := [46, 172]
abbrev dktX0_fewestTo_1 : List UInt8 := dkwX0_fewestTo_1 ++ []
def dkwX0_fewestTo_0 : List UInt8 := [42, 180, 0, 51, 27, 46, 2, 160, 0, 7, 2, 167, 0, 14, 42, 180, 0, 39, 42, 180, 0, 51, 27, 46]
abbrev dktX0_fewestTo_0 : List UInt8 := dkwX0_fewestTo_0 ++ dktX0_fewestTo_1
theorem dksX0_fewestTo_0 : cX0_fewestTo.data.toList.drop 0 = dktX0_fewestTo_0 := by decide +kernel
theorem dksX0_fewestTo_1 : cX0_fewestTo.data.toList.drop 24 = dktX0_fewestTo_1 := dk_seg dksX0_fewestTo_0 24 rfl rfl
theorem dX0_fewestTo_0 : decode cX0_fewestTo 0 = .ok (.aload_n 0, 1) := dk_42 (dk_at dksX0_fewestTo_0 0 rfl rfl)
theorem dX0_fewestTo_1 : decode cX0_fewestTo 1 = .ok (.getfield 51, 3) := dk_180 0 51 (dk_at dksX0_fewestTo_0 1 rfl rfl)
theorem dX0_fewestTo_4 : decode cX0_fewestTo 4 = .ok (.iload_n 1, 1) := dk_27 (dk_at dksX0_fewestTo_0 4 rfl rfl)
theorem dX0_fewestTo_5 : decode cX0_fewestTo 5 = .ok (.iaload, 1) := dk_46 (dk_at dksX0_fewestTo_0 5 rfl rfl)
theorem dX0_fewestTo_6 : decode cX0_fewestTo 6 = .ok (.iconst (-1), 1) := dk_2 (dk_at dksX0_fewestTo_0 6 rfl rfl)
theorem dX0_fewestTo_7 : decode cX0_fewestTo 7 = .ok (.if_icmp .ne 7, 3) := dk_160 0 7 (dk_at dksX0_fewestTo_0 7 rfl rfl)
theorem dX0_fewestTo_10 : decode cX0_fewestTo 10 = .ok (.iconst (-1), 1) := dk_2 (dk_at dksX0_fewestTo_0 10 rfl rfl)
theorem dX0_fewestTo_11 : decode cX0_fewestTo 11 = .ok (.goto 14, 3) := dk_167 0 14 (dk_at dksX0_fewestTo_0 11 rfl rfl)
theorem dX0_fewestTo_14 : decode cX0_fewestTo 14 = .ok (.aload_n 0, 1) := dk_42 (dk_at dksX0_fewestTo_0 14 rfl rfl)
theorem dX0_fewestTo_15 : decode cX0_fewestTo 15 = .ok (.getfield 39, 3) := dk_180 0 39 (dk_at dksX0_fewestTo_0 15 rfl rfl)
theorem dX0_fewestTo_18 : decode cX0_fewestTo 18 = .ok (.aload_n 0, 1) := dk_42 (dk_at dksX0_fewestTo_0 18 rfl rfl)
theorem dX0_fewestTo_19 : decode cX0_fewestTo 19 = .ok (.getfield 51, 3) := dk_180 0 51 (dk_at dksX0_fewestTo_0 19 rfl rfl)
theorem dX0_fewestTo_22 : decode cX0_fewestTo 22 = .ok (.iload_n 1, 1) := dk_27 (dk_at dksX0_fewestTo_0 22 rfl rfl)
theorem dX0_fewestTo_23 : decode cX0_fewestTo 23 = .ok (.iaload, 1) := dk_46 (dk_at dksX0_fewestTo_0 23 rfl rfl)
theorem dX0_fewestTo_24 : decode cX0_fewestTo 24 = .ok (.iaload, 1) := dk_46 (dk_at dksX0_fewestTo_1 0 rfl rfl)
theorem dX0_fewestTo_25 : decode cX0_fewestTo 25 = .ok (.ireturn, 1) := dk_172 (dk_at dksX0_fewestTo_1 1 rfl rfl)
abbrev cX0_way : ByteArray := prog_1_method_20_code
def yX0_way : MethodName := ⟨RX0, "way", "(II)I"⟩
def dkwX0_way_3 : List UInt8 := [21, 4, 46, 54, 4, 132, 5, 255, 167, 255, 238, 42, 180, 0, 48, 21, 4, 51, 172]
abbrev dktX0_way_3 : List UInt8 := dkwX0_way_3 ++ []
def dkwX0_way_2 : List UInt8 := [172, 42, 180, 0, 51, 27, 46, 54, 4, 29, 4, 100, 54, 5, 21, 5, 28, 164, 0, 18, 42, 180, 0, 45]
abbrev dktX0_way_2 : List UInt8 := dkwX0_way_2 ++ dktX0_way_3
def dkwX0_way_1 : List UInt8 := [180, 0, 131, 182, 0, 202, 42, 27, 182, 0, 206, 62, 28, 3, 29, 4, 100, 184, 0, 79, 154, 0, 5, 2]
abbrev dktX0_way_1 : List UInt8 := dkwX0_way_1 ++ dktX0_way_2
def dkwX0_way_0 : List UInt8 := [42, 27, 182, 0, 199, 154, 0, 6, 18, 83, 172, 42, 42, 180, 0, 19, 180, 0, 145, 42, 180, 0, 12]
abbrev dktX0_way_0 : List UInt8 := dkwX0_way_0 ++ dktX0_way_1
theorem dksX0_way_0 : cX0_way.data.toList.drop 0 = dktX0_way_0 := by decide +kernel
theorem dksX0_way_1 : cX0_way.data.toList.drop 23 = dktX0_way_1 := dk_seg dksX0_way_0 23 rfl rfl
theorem dksX0_way_2 : cX0_way.data.toList.drop 47 = dktX0_way_2 := dk_seg dksX0_way_1 24 rfl rfl
theorem dksX0_way_3 : cX0_way.data.toList.drop 71 = dktX0_way_3 := dk_seg dksX0_way_2 24 rfl rfl
theorem dX0_way_0 : decode cX0_way 0 = .ok (.aload_n 0, 1) := dk_42 (dk_at dksX0_way_0 0 rfl rfl)
theorem dX0_way_1 : decode cX0_way 1 = .ok (.iload_n 1, 1) := dk_27 (dk_at dksX0_way_0 1 rfl rfl)
theorem dX0_way_2 : decode cX0_way 2 = .ok (.invokevirtual 199, 3) := dk_182 0 199 (dk_at dksX0_way_0 2 rfl rfl)
theorem dX0_way_5 : decode cX0_way 5 = .ok (.ifCond .ne 6, 3) := dk_154 0 6 (dk_at dksX0_way_0 5 rfl rfl)
theorem dX0_way_8 : decode cX0_way 8 = .ok (.ldc 83, 2) := dk_18 83 (dk_at dksX0_way_0 8 rfl rfl)
theorem dX0_way_10 : decode cX0_way 10 = .ok (.ireturn, 1) := dk_172 (dk_at dksX0_way_0 10 rfl rfl)
theorem dX0_way_11 : decode cX0_way 11 = .ok (.aload_n 0, 1) := dk_42 (dk_at dksX0_way_0 11 rfl rfl)
theorem dX0_way_12 : decode cX0_way 12 = .ok (.aload_n 0, 1) := dk_42 (dk_at dksX0_way_0 12 rfl rfl)
theorem dX0_way_13 : decode cX0_way 13 = .ok (.getfield 19, 3) := dk_180 0 19 (dk_at dksX0_way_0 13 rfl rfl)
theorem dX0_way_16 : decode cX0_way 16 = .ok (.getfield 145, 3) := dk_180 0 145 (dk_at dksX0_way_0 16 rfl rfl)
theorem dX0_way_19 : decode cX0_way 19 = .ok (.aload_n 0, 1) := dk_42 (dk_at dksX0_way_0 19 rfl rfl)
theorem dX0_way_20 : decode cX0_way 20 = .ok (.getfield 12, 3) := dk_180 0 12 (dk_at dksX0_way_0 20 rfl rfl)
theorem dX0_way_23 : decode cX0_way 23 = .ok (.getfield 131, 3) := dk_180 0 131 (dk_at dksX0_way_1 0 rfl rfl)
theorem dX0_way_26 : decode cX0_way 26 = .ok (.invokevirtual 202, 3) := dk_182 0 202 (dk_at dksX0_way_1 3 rfl rfl)
theorem dX0_way_29 : decode cX0_way 29 = .ok (.aload_n 0, 1) := dk_42 (dk_at dksX0_way_1 6 rfl rfl)
theorem dX0_way_30 : decode cX0_way 30 = .ok (.iload_n 1, 1) := dk_27 (dk_at dksX0_way_1 7 rfl rfl)
theorem dX0_way_31 : decode cX0_way 31 = .ok (.invokevirtual 206, 3) := dk_182 0 206 (dk_at dksX0_way_1 8 rfl rfl)
theorem dX0_way_34 : decode cX0_way 34 = .ok (.istore_n 3, 1) := dk_62 (dk_at dksX0_way_1 11 rfl rfl)
theorem dX0_way_35 : decode cX0_way 35 = .ok (.iload_n 2, 1) := dk_28 (dk_at dksX0_way_1 12 rfl rfl)
theorem dX0_way_36 : decode cX0_way 36 = .ok (.iconst 0, 1) := dk_3 (dk_at dksX0_way_1 13 rfl rfl)
theorem dX0_way_37 : decode cX0_way 37 = .ok (.iload_n 3, 1) := dk_29 (dk_at dksX0_way_1 14 rfl rfl)
theorem dX0_way_38 : decode cX0_way 38 = .ok (.iconst 1, 1) := dk_4 (dk_at dksX0_way_1 15 rfl rfl)
theorem dX0_way_39 : decode cX0_way 39 = .ok (.isub, 1) := dk_100 (dk_at dksX0_way_1 16 rfl rfl)
theorem dX0_way_40 : decode cX0_way 40 = .ok (.invokestatic 79, 3) := dk_184 0 79 (dk_at dksX0_way_1 17 rfl rfl)
theorem dX0_way_43 : decode cX0_way 43 = .ok (.ifCond .ne 5, 3) := dk_154 0 5 (dk_at dksX0_way_1 20 rfl rfl)
theorem dX0_way_46 : decode cX0_way 46 = .ok (.iconst (-1), 1) := dk_2 (dk_at dksX0_way_1 23 rfl rfl)
theorem dX0_way_47 : decode cX0_way 47 = .ok (.ireturn, 1) := dk_172 (dk_at dksX0_way_2 0 rfl rfl)
theorem dX0_way_48 : decode cX0_way 48 = .ok (.aload_n 0, 1) := dk_42 (dk_at dksX0_way_2 1 rfl rfl)
theorem dX0_way_49 : decode cX0_way 49 = .ok (.getfield 51, 3) := dk_180 0 51 (dk_at dksX0_way_2 2 rfl rfl)
theorem dX0_way_52 : decode cX0_way 52 = .ok (.iload_n 1, 1) := dk_27 (dk_at dksX0_way_2 5 rfl rfl)
theorem dX0_way_53 : decode cX0_way 53 = .ok (.iaload, 1) := dk_46 (dk_at dksX0_way_2 6 rfl rfl)
theorem dX0_way_54 : decode cX0_way 54 = .ok (.istore 4, 2) := dk_54 4 (dk_at dksX0_way_2 7 rfl rfl)
theorem dX0_way_56 : decode cX0_way 56 = .ok (.iload_n 3, 1) := dk_29 (dk_at dksX0_way_2 9 rfl rfl)
theorem dX0_way_57 : decode cX0_way 57 = .ok (.iconst 1, 1) := dk_4 (dk_at dksX0_way_2 10 rfl rfl)
theorem dX0_way_58 : decode cX0_way 58 = .ok (.isub, 1) := dk_100 (dk_at dksX0_way_2 11 rfl rfl)
theorem dX0_way_59 : decode cX0_way 59 = .ok (.istore 5, 2) := dk_54 5 (dk_at dksX0_way_2 12 rfl rfl)
theorem dX0_way_61 : decode cX0_way 61 = .ok (.iload 5, 2) := dk_21 5 (dk_at dksX0_way_2 14 rfl rfl)
theorem dX0_way_63 : decode cX0_way 63 = .ok (.iload_n 2, 1) := dk_28 (dk_at dksX0_way_2 16 rfl rfl)
theorem dX0_way_64 : decode cX0_way 64 = .ok (.if_icmp .le 18, 3) := dk_164 0 18 (dk_at dksX0_way_2 17 rfl rfl)
theorem dX0_way_67 : decode cX0_way 67 = .ok (.aload_n 0, 1) := dk_42 (dk_at dksX0_way_2 20 rfl rfl)
theorem dX0_way_68 : decode cX0_way 68 = .ok (.getfield 45, 3) := dk_180 0 45 (dk_at dksX0_way_2 21 rfl rfl)
theorem dX0_way_71 : decode cX0_way 71 = .ok (.iload 4, 2) := dk_21 4 (dk_at dksX0_way_3 0 rfl rfl)
theorem dX0_way_73 : decode cX0_way 73 = .ok (.iaload, 1) := dk_46 (dk_at dksX0_way_3 2 rfl rfl)
theorem dX0_way_74 : decode cX0_way 74 = .ok (.istore 4, 2) := dk_54 4 (dk_at dksX0_way_3 3 rfl rfl)
theorem dX0_way_76 : decode cX0_way 76 = .ok (.iinc 5 (-1), 3) := dk_132 5 255 (dk_at dksX0_way_3 5 rfl rfl)
theorem dX0_way_79 : decode cX0_way 79 = .ok (.goto (-18), 3) := dk_167 255 238 (dk_at dksX0_way_3 8 rfl rfl)
theorem dX0_way_82 : decode cX0_way 82 = .ok (.aload_n 0, 1) := dk_42 (dk_at dksX0_way_3 11 rfl rfl)
theorem dX0_way_83 : decode cX0_way 83 = .ok (.getfield 48, 3) := dk_180 0 48 (dk_at dksX0_way_3 12 rfl rfl)
theorem dX0_way_86 : decode cX0_way 86 = .ok (.iload 4, 2) := dk_21 4 (dk_at dksX0_way_3 15 rfl rfl)
theorem dX0_way_88 : decode cX0_way 88 = .ok (.baload, 1) := dk_51 (dk_at dksX0_way_3 17 rfl rfl)
theorem dX0_way_89 : decode cX0_way 89 = .ok (.ireturn, 1) := dk_172 (dk_at dksX0_way_3 18 rfl rfl)
abbrev cX0_least : ByteArray := prog_1_method_22_code
def yX0_least : MethodName := ⟨RX0, "least", "(I)I"⟩
def dkwX0_least_3 : List UInt8 := [160, 0, 7, 2, 167, 0, 4, 28, 172]
abbrev dktX0_least_3 : List UInt8 := dkwX0_least_3 ++ []
def dkwX0_least_2 : List UInt8 := [180, 0, 54, 29, 46, 184, 0, 216, 167, 0, 4, 28, 61, 132, 3, 1, 167, 255, 215, 28, 18, 209]
abbrev dktX0_least_2 : List UInt8 := dkwX0_least_2 ++ dktX0_least_3
def dkwX0_least_1 : List UInt8 := [180, 0, 12, 180, 0, 119, 182, 0, 187, 162, 0, 33, 42, 29, 182, 0, 148, 27, 160, 0, 16, 28, 42]
abbrev dktX0_least_1 : List UInt8 := dkwX0_least_1 ++ dktX0_least_2
def dkwX0_least_0 : List UInt8 := [42, 27, 182, 0, 199, 154, 0, 6, 18, 83, 172, 42, 182, 0, 213, 18, 209, 61, 3, 62, 29, 42]
abbrev dktX0_least_0 : List UInt8 := dkwX0_least_0 ++ dktX0_least_1
theorem dksX0_least_0 : cX0_least.data.toList.drop 0 = dktX0_least_0 := by decide +kernel
theorem dksX0_least_1 : cX0_least.data.toList.drop 22 = dktX0_least_1 := dk_seg dksX0_least_0 22 rfl rfl
theorem dksX0_least_2 : cX0_least.data.toList.drop 45 = dktX0_least_2 := dk_seg dksX0_least_1 23 rfl rfl
theorem dksX0_least_3 : cX0_least.data.toList.drop 67 = dktX0_least_3 := dk_seg dksX0_least_2 22 rfl rfl
theorem dX0_least_0 : decode cX0_least 0 = .ok (.aload_n 0, 1) := dk_42 (dk_at dksX0_least_0 0 rfl rfl)
theorem dX0_least_1 : decode cX0_least 1 = .ok (.iload_n 1, 1) := dk_27 (dk_at dksX0_least_0 1 rfl rfl)
theorem dX0_least_2 : decode cX0_least 2 = .ok (.invokevirtual 199, 3) := dk_182 0 199 (dk_at dksX0_least_0 2 rfl rfl)
theorem dX0_least_5 : decode cX0_least 5 = .ok (.ifCond .ne 6, 3) := dk_154 0 6 (dk_at dksX0_least_0 5 rfl rfl)
theorem dX0_least_8 : decode cX0_least 8 = .ok (.ldc 83, 2) := dk_18 83 (dk_at dksX0_least_0 8 rfl rfl)
theorem dX0_least_10 : decode cX0_least 10 = .ok (.ireturn, 1) := dk_172 (dk_at dksX0_least_0 10 rfl rfl)
theorem dX0_least_11 : decode cX0_least 11 = .ok (.aload_n 0, 1) := dk_42 (dk_at dksX0_least_0 11 rfl rfl)
theorem dX0_least_12 : decode cX0_least 12 = .ok (.invokevirtual 213, 3) := dk_182 0 213 (dk_at dksX0_least_0 12 rfl rfl)
theorem dX0_least_15 : decode cX0_least 15 = .ok (.ldc 209, 2) := dk_18 209 (dk_at dksX0_least_0 15 rfl rfl)
theorem dX0_least_17 : decode cX0_least 17 = .ok (.istore_n 2, 1) := dk_61 (dk_at dksX0_least_0 17 rfl rfl)
theorem dX0_least_18 : decode cX0_least 18 = .ok (.iconst 0, 1) := dk_3 (dk_at dksX0_least_0 18 rfl rfl)
theorem dX0_least_19 : decode cX0_least 19 = .ok (.istore_n 3, 1) := dk_62 (dk_at dksX0_least_0 19 rfl rfl)
theorem dX0_least_20 : decode cX0_least 20 = .ok (.iload_n 3, 1) := dk_29 (dk_at dksX0_least_0 20 rfl rfl)
theorem dX0_least_21 : decode cX0_least 21 = .ok (.aload_n 0, 1) := dk_42 (dk_at dksX0_least_0 21 rfl rfl)
theorem dX0_least_22 : decode cX0_least 22 = .ok (.getfield 12, 3) := dk_180 0 12 (dk_at dksX0_least_1 0 rfl rfl)
theorem dX0_least_25 : decode cX0_least 25 = .ok (.getfield 119, 3) := dk_180 0 119 (dk_at dksX0_least_1 3 rfl rfl)
theorem dX0_least_28 : decode cX0_least 28 = .ok (.invokevirtual 187, 3) := dk_182 0 187 (dk_at dksX0_least_1 6 rfl rfl)
theorem dX0_least_31 : decode cX0_least 31 = .ok (.if_icmp .ge 33, 3) := dk_162 0 33 (dk_at dksX0_least_1 9 rfl rfl)
theorem dX0_least_34 : decode cX0_least 34 = .ok (.aload_n 0, 1) := dk_42 (dk_at dksX0_least_1 12 rfl rfl)
theorem dX0_least_35 : decode cX0_least 35 = .ok (.iload_n 3, 1) := dk_29 (dk_at dksX0_least_1 13 rfl rfl)
theorem dX0_least_36 : decode cX0_least 36 = .ok (.invokevirtual 148, 3) := dk_182 0 148 (dk_at dksX0_least_1 14 rfl rfl)
theorem dX0_least_39 : decode cX0_least 39 = .ok (.iload_n 1, 1) := dk_27 (dk_at dksX0_least_1 17 rfl rfl)
theorem dX0_least_40 : decode cX0_least 40 = .ok (.if_icmp .ne 16, 3) := dk_160 0 16 (dk_at dksX0_least_1 18 rfl rfl)
theorem dX0_least_43 : decode cX0_least 43 = .ok (.iload_n 2, 1) := dk_28 (dk_at dksX0_least_1 21 rfl rfl)
theorem dX0_least_44 : decode cX0_least 44 = .ok (.aload_n 0, 1) := dk_42 (dk_at dksX0_least_1 22 rfl rfl)
theorem dX0_least_45 : decode cX0_least 45 = .ok (.getfield 54, 3) := dk_180 0 54 (dk_at dksX0_least_2 0 rfl rfl)
theorem dX0_least_48 : decode cX0_least 48 = .ok (.iload_n 3, 1) := dk_29 (dk_at dksX0_least_2 3 rfl rfl)
theorem dX0_least_49 : decode cX0_least 49 = .ok (.iaload, 1) := dk_46 (dk_at dksX0_least_2 4 rfl rfl)
theorem dX0_least_50 : decode cX0_least 50 = .ok (.invokestatic 216, 3) := dk_184 0 216 (dk_at dksX0_least_2 5 rfl rfl)
theorem dX0_least_53 : decode cX0_least 53 = .ok (.goto 4, 3) := dk_167 0 4 (dk_at dksX0_least_2 8 rfl rfl)
theorem dX0_least_56 : decode cX0_least 56 = .ok (.iload_n 2, 1) := dk_28 (dk_at dksX0_least_2 11 rfl rfl)
theorem dX0_least_57 : decode cX0_least 57 = .ok (.istore_n 2, 1) := dk_61 (dk_at dksX0_least_2 12 rfl rfl)
theorem dX0_least_58 : decode cX0_least 58 = .ok (.iinc 3 1, 3) := dk_132 3 1 (dk_at dksX0_least_2 13 rfl rfl)
theorem dX0_least_61 : decode cX0_least 61 = .ok (.goto (-41), 3) := dk_167 255 215 (dk_at dksX0_least_2 16 rfl rfl)
theorem dX0_least_64 : decode cX0_least 64 = .ok (.iload_n 2, 1) := dk_28 (dk_at dksX0_least_2 19 rfl rfl)
theorem dX0_least_65 : decode cX0_least 65 = .ok (.ldc 209, 2) := dk_18 209 (dk_at dksX0_least_2 20 rfl rfl)
theorem dX0_least_67 : decode cX0_least 67 = .ok (.if_icmp .ne 7, 3) := dk_160 0 7 (dk_at dksX0_least_3 0 rfl rfl)
theorem dX0_least_70 : decode cX0_least 70 = .ok (.iconst (-1), 1) := dk_2 (dk_at dksX0_least_3 3 rfl rfl)
theorem dX0_least_71 : decode cX0_least 71 = .ok (.goto 4, 3) := dk_167 0 4 (dk_at dksX0_least_3 4 rfl rfl)
theorem dX0_least_74 : decode cX0_least 74 = .ok (.iload_n 2, 1) := dk_28 (dk_at dksX0_least_3 7 rfl rfl)
theorem dX0_least_75 : decode cX0_least 75 = .ok (.ireturn, 1) := dk_172 (dk_at dksX0_least_3 8 rfl rfl)
abbrev cX0_spreadCosts : ByteArray := prog_1_method_21_code
def yX0_spreadCosts : MethodName := ⟨RX0, "spreadCosts", "()V"⟩
def dkwX0_spreadCosts_9 : List UInt8 := [167, 255, 148, 167, 255, 114, 177]
abbrev dktX0_spreadCosts_9 : List UInt8 := dkwX0_spreadCosts_9 ++ []
def dkwX0_spreadCosts_8 : List UInt8 := [21, 5, 4, 84, 42, 180, 0, 42, 27, 28, 96, 18, 38, 112, 21, 5, 79, 132, 2, 1, 132, 4, 1]
abbrev dktX0_spreadCosts_8 : List UInt8 := dkwX0_spreadCosts_8 ++ dktX0_spreadCosts_9
def dkwX0_spreadCosts_7 : List UInt8 := [42, 180, 0, 54, 21, 5, 21, 6, 79, 42, 180, 0, 57, 21, 5, 51, 154, 0, 27, 42, 180, 0, 57]
abbrev dktX0_spreadCosts_7 : List UInt8 := dkwX0_spreadCosts_7 ++ dktX0_spreadCosts_8
def dkwX0_spreadCosts_6 : List UInt8 := [180, 0, 165, 21, 4, 50, 180, 0, 173, 96, 54, 6, 21, 6, 42, 180, 0, 54, 21, 5, 46, 162, 0, 46]
abbrev dktX0_spreadCosts_6 : List UInt8 := dkwX0_spreadCosts_6 ++ dktX0_spreadCosts_7
def dkwX0_spreadCosts_5 : List UInt8 := [180, 0, 165, 21, 4, 50, 29, 182, 0, 180, 54, 5, 42, 180, 0, 54, 29, 46, 42, 180, 0, 12]
abbrev dktX0_spreadCosts_5 : List UInt8 := dkwX0_spreadCosts_5 ++ dktX0_spreadCosts_6
def dkwX0_spreadCosts_4 : List UInt8 := [29, 3, 84, 3, 54, 4, 21, 4, 42, 180, 0, 12, 180, 0, 131, 162, 0, 102, 42, 180, 0, 12]
abbrev dktX0_spreadCosts_4 : List UInt8 := dkwX0_spreadCosts_4 ++ dktX0_spreadCosts_5
def dkwX0_spreadCosts_3 : List UInt8 := [158, 0, 144, 42, 180, 0, 42, 27, 46, 62, 27, 4, 96, 18, 38, 112, 60, 132, 2, 255, 42, 180, 0, 57]
abbrev dktX0_spreadCosts_3 : List UInt8 := dkwX0_spreadCosts_3 ++ dktX0_spreadCosts_4
def dkwX0_spreadCosts_2 : List UInt8 := [180, 0, 145, 3, 79, 42, 180, 0, 42, 3, 42, 180, 0, 19, 180, 0, 145, 79, 3, 60, 4, 61, 28]
abbrev dktX0_spreadCosts_2 : List UInt8 := dkwX0_spreadCosts_2 ++ dktX0_spreadCosts_3
def dkwX0_spreadCosts_1 : List UInt8 := [3, 42, 180, 0, 12, 180, 0, 119, 182, 0, 187, 3, 184, 0, 210, 42, 180, 0, 54, 42, 180, 0, 19]
abbrev dktX0_spreadCosts_1 : List UInt8 := dkwX0_spreadCosts_1 ++ dktX0_spreadCosts_2
def dkwX0_spreadCosts_0 : List UInt8 := [42, 180, 0, 54, 3, 42, 180, 0, 12, 180, 0, 119, 182, 0, 187, 18, 209, 184, 0, 190, 42, 180, 0, 57]
abbrev dktX0_spreadCosts_0 : List UInt8 := dkwX0_spreadCosts_0 ++ dktX0_spreadCosts_1
theorem dksX0_spreadCosts_0 : cX0_spreadCosts.data.toList.drop 0 = dktX0_spreadCosts_0 := by decide +kernel
theorem dksX0_spreadCosts_1 : cX0_spreadCosts.data.toList.drop 24 = dktX0_spreadCosts_1 := dk_seg dksX0_spreadCosts_0 24 rfl rfl
theorem dksX0_spreadCosts_2 : cX0_spreadCosts.data.toList.drop 47 = dktX0_spreadCosts_2 := dk_seg dksX0_spreadCosts_1 23 rfl rfl
theorem dksX0_spreadCosts_3 : cX0_spreadCosts.data.toList.drop 70 = dktX0_spreadCosts_3 := dk_seg dksX0_spreadCosts_2 23 rfl rfl
theorem dksX0_spreadCosts_4 : cX0_spreadCosts.data.toList.drop 94 = dktX0_spreadCosts_4 := dk_seg dksX0_spreadCosts_3 24 rfl rfl
theorem dksX0_spreadCosts_5 : cX0_spreadCosts.data.toList.drop 116 = dktX0_spreadCosts_5 := dk_seg dksX0_spreadCosts_4 22 rfl rfl
theorem dksX0_spreadCosts_6 : cX0_spreadCosts.data.toList.drop 138 = dktX0_spreadCosts_6 := dk_seg dksX0_spreadCosts_5 22 rfl rfl
theorem dksX0_spreadCosts_7 : cX0_spreadCosts.data.toList.drop 162 = dktX0_spreadCosts_7 := dk_seg dksX0_spreadCosts_6 24 rfl rfl
theorem dksX0_spreadCosts_8 : cX0_spreadCosts.data.toList.drop 185 = dktX0_spreadCosts_8 := dk_seg dksX0_spreadCosts_7 23 rfl rfl
theorem dksX0_spreadCosts_9 : cX0_spreadCosts.data.toList.drop 208 = dktX0_spreadCosts_9 := dk_seg dksX0_spreadCosts_8 23 rfl rfl
theorem dX0_spreadCosts_0 : decode cX0_spreadCosts 0 = .ok (.aload_n 0, 1) := dk_42 (dk_at dksX0_spreadCosts_0 0 rfl rfl)
theorem dX0_spreadCosts_1 : decode cX0_spreadCosts 1 = .ok (.getfield 54, 3) := dk_180 0 54 (dk_at dksX0_spreadCosts_0 1 rfl rfl)
theorem dX0_spreadCosts_4 : decode cX0_spreadCosts 4 = .ok (.iconst 0, 1) := dk_3 (dk_at dksX0_spreadCosts_0 4 rfl rfl)
theorem dX0_spreadCosts_5 : decode cX0_spreadCosts 5 = .ok (.aload_n 0, 1) := dk_42 (dk_at dksX0_spreadCosts_0 5 rfl rfl)
theorem dX0_spreadCosts_6 : decode cX0_spreadCosts 6 = .ok (.getfield 12, 3) := dk_180 0 12 (dk_at dksX0_spreadCosts_0 6 rfl rfl)
theorem dX0_spreadCosts_9 : decode cX0_spreadCosts 9 = .ok (.getfield 119, 3) := dk_180 0 119 (dk_at dksX0_spreadCosts_0 9 rfl rfl)
theorem dX0_spreadCosts_12 : decode cX0_spreadCosts 12 = .ok (.invokevirtual 187, 3) := dk_182 0 187 (dk_at dksX0_spreadCosts_0 12 rfl rfl)
theorem dX0_spreadCosts_15 : decode cX0_spreadCosts 15 = .ok (.ldc 209, 2) := dk_18 209 (dk_at dksX0_spreadCosts_0 15 rfl rfl)
theorem dX0_spreadCosts_17 : decode cX0_spreadCosts 17 = .ok (.invokestatic 190, 3) := dk_184 0 190 (dk_at dksX0_spreadCosts_0 17 rfl rfl)
theorem dX0_spreadCosts_20 : decode cX0_spreadCosts 20 = .ok (.aload_n 0, 1) := dk_42 (dk_at dksX0_spreadCosts_0 20 rfl rfl)
theorem dX0_spreadCosts_21 : decode cX0_spreadCosts 21 = .ok (.getfield 57, 3) := dk_180 0 57 (dk_at dksX0_spreadCosts_0 21 rfl rfl)
theorem dX0_spreadCosts_24 : decode cX0_spreadCosts 24 = .ok (.iconst 0, 1) := dk_3 (dk_at dksX0_spreadCosts_1 0 rfl rfl)
theorem dX0_spreadCosts_25 : decode cX0_spreadCosts 25 = .ok (.aload_n 0, 1) := dk_42 (dk_at dksX0_spreadCosts_1 1 rfl rfl)
theorem dX0_spreadCosts_26 : decode cX0_spreadCosts 26 = .ok (.getfield 12, 3) := dk_180 0 12 (dk_at dksX0_spreadCosts_1 2 rfl rfl)
theorem dX0_spreadCosts_29 : decode cX0_spreadCosts 29 = .ok (.getfield 119, 3) := dk_180 0 119 (dk_at dksX0_spreadCosts_1 5 rfl rfl)
theorem dX0_spreadCosts_32 : decode cX0_spreadCosts 32 = .ok (.invokevirtual 187, 3) := dk_182 0 187 (dk_at dksX0_spreadCosts_1 8 rfl rfl)
theorem dX0_spreadCosts_35 : decode cX0_spreadCosts 35 = .ok (.iconst 0, 1) := dk_3 (dk_at dksX0_spreadCosts_1 11 rfl rfl)
theorem dX0_spreadCosts_36 : decode cX0_spreadCosts 36 = .ok (.invokestatic 210, 3) := dk_184 0 210 (dk_at dksX0_spreadCosts_1 12 rfl rfl)
theorem dX0_spreadCosts_39 : decode cX0_spreadCosts 39 = .ok (.aload_n 0, 1) := dk_42 (dk_at dksX0_spreadCosts_1 15 rfl rfl)
theorem dX0_spreadCosts_40 : decode cX0_spreadCosts 40 = .ok (.getfield 54, 3) := dk_180 0 54 (dk_at dksX0_spreadCosts_1 16 rfl rfl)
theorem dX0_spreadCosts_43 : decode cX0_spreadCosts 43 = .ok (.aload_n 0, 1) := dk_42 (dk_at dksX0_spreadCosts_1 19 rfl rfl)
theorem dX0_spreadCosts_44 : decode cX0_spreadCosts 44 = .ok (.getfield 19, 3) := dk_180 0 19 (dk_at dksX0_spreadCosts_1 20 rfl rfl)
theorem dX0_spreadCosts_47 : decode cX0_spreadCosts 47 = .ok (.getfield 145, 3) := dk_180 0 145 (dk_at dksX0_spreadCosts_2 0 rfl rfl)
theorem dX0_spreadCosts_50 : decode cX0_spreadCosts 50 = .ok (.iconst 0, 1) := dk_3 (dk_at dksX0_spreadCosts_2 3 rfl rfl)
theorem dX0_spreadCosts_51 : decode cX0_spreadCosts 51 = .ok (.iastore, 1) := dk_79 (dk_at dksX0_spreadCosts_2 4 rfl rfl)
theorem dX0_spreadCosts_52 : decode cX0_spreadCosts 52 = .ok (.aload_n 0, 1) := dk_42 (dk_at dksX0_spreadCosts_2 5 rfl rfl)
theorem dX0_spreadCosts_53 : decode cX0_spreadCosts 53 = .ok (.getfield 42, 3) := dk_180 0 42 (dk_at dksX0_spreadCosts_2 6 rfl rfl)
theorem dX0_spreadCosts_56 : decode cX0_spreadCosts 56 = .ok (.iconst 0, 1) := dk_3 (dk_at dksX0_spreadCosts_2 9 rfl rfl)
theorem dX0_spreadCosts_57 : decode cX0_spreadCosts 57 = .ok (.aload_n 0, 1) := dk_42 (dk_at dksX0_spreadCosts_2 10 rfl rfl)
theorem dX0_spreadCosts_58 : decode cX0_spreadCosts 58 = .ok (.getfield 19, 3) := dk_180 0 19 (dk_at dksX0_spreadCosts_2 11 rfl rfl)
theorem dX0_spreadCosts_61 : decode cX0_spreadCosts 61 = .ok (.getfield 145, 3) := dk_180 0 145 (dk_at dksX0_spreadCosts_2 14 rfl rfl)
theorem dX0_spreadCosts_64 : decode cX0_spreadCosts 64 = .ok (.iastore, 1) := dk_79 (dk_at dksX0_spreadCosts_2 17 rfl rfl)
theorem dX0_spreadCosts_65 : decode cX0_spreadCosts 65 = .ok (.iconst 0, 1) := dk_3 (dk_at dksX0_spreadCosts_2 18 rfl rfl)
theorem dX0_spreadCosts_66 : decode cX0_spreadCosts 66 = .ok (.istore_n 1, 1) := dk_60 (dk_at dksX0_spreadCosts_2 19 rfl rfl)
theorem dX0_spreadCosts_67 : decode cX0_spreadCosts 67 = .ok (.iconst 1, 1) := dk_4 (dk_at dksX0_spreadCosts_2 20 rfl rfl)
theorem dX0_spreadCosts_68 : decode cX0_spreadCosts 68 = .ok (.istore_n 2, 1) := dk_61 (dk_at dksX0_spreadCosts_2 21 rfl rfl)
theorem dX0_spreadCosts_69 : decode cX0_spreadCosts 69 = .ok (.iload_n 2, 1) := dk_28 (dk_at dksX0_spreadCosts_2 22 rfl rfl)
theorem dX0_spreadCosts_70 : decode cX0_spreadCosts 70 = .ok (.ifCond .le 144, 3) := dk_158 0 144 (dk_at dksX0_spreadCosts_3 0 rfl rfl)
theorem dX0_spreadCosts_73 : decode cX0_spreadCosts 73 = .ok (.aload_n 0, 1) := dk_42 (dk_at dksX0_spreadCosts_3 3 rfl rfl)
theorem dX0_spreadCosts_74 : decode cX0_spreadCosts 74 = .ok (.getfield 42, 3) := dk_180 0 42 (dk_at dksX0_spreadCosts_3 4 rfl rfl)
theorem dX0_spreadCosts_77 : decode cX0_spreadCosts 77 = .ok (.iload_n 1, 1) := dk_27 (dk_at dksX0_spreadCosts_3 7 rfl rfl)
theorem dX0_spreadCosts_78 : decode cX0_spreadCosts 78 = .ok (.iaload, 1) := dk_46 (dk_at dksX0_spreadCosts_3 8 rfl rfl)
theorem dX0_spreadCosts_79 : decode cX0_spreadCosts 79 = .ok (.istore_n 3, 1) := dk_62 (dk_at dksX0_spreadCosts_3 9 rfl rfl)
theorem dX0_spreadCosts_80 : decode cX0_spreadCosts 80 = .ok (.iload_n 1, 1) := dk_27 (dk_at dksX0_spreadCosts_3 10 rfl rfl)
theorem dX0_spreadCosts_81 : decode cX0_spreadCosts 81 = .ok (.iconst 1, 1) := dk_4 (dk_at dksX0_spreadCosts_3 11 rfl rfl)
theorem dX0_spreadCosts_82 : decode cX0_spreadCosts 82 = .ok (.iadd, 1) := dk_96 (dk_at dksX0_spreadCosts_3 12 rfl rfl)
theorem dX0_spreadCosts_83 : decode cX0_spreadCosts 83 = .ok (.ldc 38, 2) := dk_18 38 (dk_at dksX0_spreadCosts_3 13 rfl rfl)
theorem dX0_spreadCosts_85 : decode cX0_spreadCosts 85 = .ok (.irem, 1) := dk_112 (dk_at dksX0_spreadCosts_3 15 rfl rfl)
theorem dX0_spreadCosts_86 : decode cX0_spreadCosts 86 = .ok (.istore_n 1, 1) := dk_60 (dk_at dksX0_spreadCosts_3 16 rfl rfl)
theorem dX0_spreadCosts_87 : decode cX0_spreadCosts 87 = .ok (.iinc 2 (-1), 3) := dk_132 2 255 (dk_at dksX0_spreadCosts_3 17 rfl rfl)
theorem dX0_spreadCosts_90 : decode cX0_spreadCosts 90 = .ok (.aload_n 0, 1) := dk_42 (dk_at dksX0_spreadCosts_3 20 rfl rfl)
theorem dX0_spreadCosts_91 : decode cX0_spreadCosts 91 = .ok (.getfield 57, 3) := dk_180 0 57 (dk_at dksX0_spreadCosts_3 21 rfl rfl)
theorem dX0_spreadCosts_94 : decode cX0_spreadCosts 94 = .ok (.iload_n 3, 1) := dk_29 (dk_at dksX0_spreadCosts_4 0 rfl rfl)
theorem dX0_spreadCosts_95 : decode cX0_spreadCosts 95 = .ok (.iconst 0, 1) := dk_3 (dk_at dksX0_spreadCosts_4 1 rfl rfl)
theorem dX0_spreadCosts_96 : decode cX0_spreadCosts 96 = .ok (.bastore, 1) := dk_84 (dk_at dksX0_spreadCosts_4 2 rfl rfl)
theorem dX0_spreadCosts_97 : decode cX0_spreadCosts 97 = .ok (.iconst 0, 1) := dk_3 (dk_at dksX0_spreadCosts_4 3 rfl rfl)
theorem dX0_spreadCosts_98 : decode cX0_spreadCosts 98 = .ok (.istore 4, 2) := dk_54 4 (dk_at dksX0_spreadCosts_4 4 rfl rfl)
theorem dX0_spreadCosts_100 : decode cX0_spreadCosts 100 = .ok (.iload 4, 2) := dk_21 4 (dk_at dksX0_spreadCosts_4 6 rfl rfl)
theorem dX0_spreadCosts_102 : decode cX0_spreadCosts 102 = .ok (.aload_n 0, 1) := dk_42 (dk_at dksX0_spreadCosts_4 8 rfl rfl)
theorem dX0_spreadCosts_103 : decode cX0_spreadCosts 103 = .ok (.getfield 12, 3) := dk_180 0 12 (dk_at dksX0_spreadCosts_4 9 rfl rfl)
theorem dX0_spreadCosts_106 : decode cX0_spreadCosts 106 = .ok (.getfield 131, 3) := dk_180 0 131 (dk_at dksX0_spreadCosts_4 12 rfl rfl)
theorem dX0_spreadCosts_109 : decode cX0_spreadCosts 109 = .ok (.if_icmp .ge 102, 3) := dk_162 0 102 (dk_at dksX0_spreadCosts_4 15 rfl rfl)
theorem dX0_spreadCosts_112 : decode cX0_spreadCosts 112 = .ok (.aload_n 0, 1) := dk_42 (dk_at dksX0_spreadCosts_4 18 rfl rfl)
theorem dX0_spreadCosts_113 : decode cX0_spreadCosts 113 = .ok (.getfield 12, 3) := dk_180 0 12 (dk_at dksX0_spreadCosts_4 19 rfl rfl)
theorem dX0_spreadCosts_116 : decode cX0_spreadCosts 116 = .ok (.getfield 165, 3) := dk_180 0 165 (dk_at dksX0_spreadCosts_5 0 rfl rfl)
theorem dX0_spreadCosts_119 : decode cX0_spreadCosts 119 = .ok (.iload 4, 2) := dk_21 4 (dk_at dksX0_spreadCosts_5 3 rfl rfl)
theorem dX0_spreadCosts_121 : decode cX0_spreadCosts 121 = .ok (.aaload, 1) := dk_50 (dk_at dksX0_spreadCosts_5 5 rfl rfl)
theorem dX0_spreadCosts_122 : decode cX0_spreadCosts 122 = .ok (.iload_n 3, 1) := dk_29 (dk_at dksX0_spreadCosts_5 6 rfl rfl)
theorem dX0_spreadCosts_123 : decode cX0_spreadCosts 123 = .ok (.invokevirtual 180, 3) := dk_182 0 180 (dk_at dksX0_spreadCosts_5 7 rfl rfl)
theorem dX0_spreadCosts_126 : decode cX0_spreadCosts 126 = .ok (.istore 5, 2) := dk_54 5 (dk_at dksX0_spreadCosts_5 10 rfl rfl)
theorem dX0_spreadCosts_128 : decode cX0_spreadCosts 128 = .ok (.aload_n 0, 1) := dk_42 (dk_at dksX0_spreadCosts_5 12 rfl rfl)
theorem dX0_spreadCosts_129 : decode cX0_spreadCosts 129 = .ok (.getfield 54, 3) := dk_180 0 54 (dk_at dksX0_spreadCosts_5 13 rfl rfl)
theorem dX0_spreadCosts_132 : decode cX0_spreadCosts 132 = .ok (.iload_n 3, 1) := dk_29 (dk_at dksX0_spreadCosts_5 16 rfl rfl)
theorem dX0_spreadCosts_133 : decode cX0_spreadCosts 133 = .ok (.iaload, 1) := dk_46 (dk_at dksX0_spreadCosts_5 17 rfl rfl)
theorem dX0_spreadCosts_134 : decode cX0_spreadCosts 134 = .ok (.aload_n 0, 1) := dk_42 (dk_at dksX0_spreadCosts_5 18 rfl rfl)
theorem dX0_spreadCosts_135 : decode cX0_spreadCosts 135 = .ok (.getfield 12, 3) := dk_180 0 12 (dk_at dksX0_spreadCosts_5 19 rfl rfl)
theorem dX0_spreadCosts_138 : decode cX0_spreadCosts 138 = .ok (.getfield 165, 3) := dk_180 0 165 (dk_at dksX0_spreadCosts_6 0 rfl rfl)
theorem dX0_spreadCosts_141 : decode cX0_spreadCosts 141 = .ok (.iload 4, 2) := dk_21 4 (dk_at dksX0_spreadCosts_6 3 rfl rfl)
theorem dX0_spreadCosts_143 : decode cX0_spreadCosts 143 = .ok (.aaload, 1) := dk_50 (dk_at dksX0_spreadCosts_6 5 rfl rfl)
theorem dX0_spreadCosts_144 : decode cX0_spreadCosts 144 = .ok (.getfield 173, 3) := dk_180 0 173 (dk_at dksX0_spreadCosts_6 6 rfl rfl)
theorem dX0_spreadCosts_147 : decode cX0_spreadCosts 147 = .ok (.iadd, 1) := dk_96 (dk_at dksX0_spreadCosts_6 9 rfl rfl)
theorem dX0_spreadCosts_148 : decode cX0_spreadCosts 148 = .ok (.istore 6, 2) := dk_54 6 (dk_at dksX0_spreadCosts_6 10 rfl rfl)
theorem dX0_spreadCosts_150 : decode cX0_spreadCosts 150 = .ok (.iload 6, 2) := dk_21 6 (dk_at dksX0_spreadCosts_6 12 rfl rfl)
theorem dX0_spreadCosts_152 : decode cX0_spreadCosts 152 = .ok (.aload_n 0, 1) := dk_42 (dk_at dksX0_spreadCosts_6 14 rfl rfl)
theorem dX0_spreadCosts_153 : decode cX0_spreadCosts 153 = .ok (.getfield 54, 3) := dk_180 0 54 (dk_at dksX0_spreadCosts_6 15 rfl rfl)
theorem dX0_spreadCosts_156 : decode cX0_spreadCosts 156 = .ok (.iload 5, 2) := dk_21 5 (dk_at dksX0_spreadCosts_6 18 rfl rfl)
theorem dX0_spreadCosts_158 : decode cX0_spreadCosts 158 = .ok (.iaload, 1) := dk_46 (dk_at dksX0_spreadCosts_6 20 rfl rfl)
theorem dX0_spreadCosts_159 : decode cX0_spreadCosts 159 = .ok (.if_icmp .ge 46, 3) := dk_162 0 46 (dk_at dksX0_spreadCosts_6 21 rfl rfl)
theorem dX0_spreadCosts_162 : decode cX0_spreadCosts 162 = .ok (.aload_n 0, 1) := dk_42 (dk_at dksX0_spreadCosts_7 0 rfl rfl)
theorem dX0_spreadCosts_163 : decode cX0_spreadCosts 163 = .ok (.getfield 54, 3) := dk_180 0 54 (dk_at dksX0_spreadCosts_7 1 rfl rfl)
theorem dX0_spreadCosts_166 : decode cX0_spreadCosts 166 = .ok (.iload 5, 2) := dk_21 5 (dk_at dksX0_spreadCosts_7 4 rfl rfl)
theorem dX0_spreadCosts_168 : decode cX0_spreadCosts 168 = .ok (.iload 6, 2) := dk_21 6 (dk_at dksX0_spreadCosts_7 6 rfl rfl)
theorem dX0_spreadCosts_170 : decode cX0_spreadCosts 170 = .ok (.iastore, 1) := dk_79 (dk_at dksX0_spreadCosts_7 8 rfl rfl)
theorem dX0_spreadCosts_171 : decode cX0_spreadCosts 171 = .ok (.aload_n 0, 1) := dk_42 (dk_at dksX0_spreadCosts_7 9 rfl rfl)
theorem dX0_spreadCosts_172 : decode cX0_spreadCosts 172 = .ok (.getfield 57, 3) := dk_180 0 57 (dk_at dksX0_spreadCosts_7 10 rfl rfl)
theorem dX0_spreadCosts_175 : decode cX0_spreadCosts 175 = .ok (.iload 5, 2) := dk_21 5 (dk_at dksX0_spreadCosts_7 13 rfl rfl)
theorem dX0_spreadCosts_177 : decode cX0_spreadCosts 177 = .ok (.baload, 1) := dk_51 (dk_at dksX0_spreadCosts_7 15 rfl rfl)
theorem dX0_spreadCosts_178 : decode cX0_spreadCosts 178 = .ok (.ifCond .ne 27, 3) := dk_154 0 27 (dk_at dksX0_spreadCosts_7 16 rfl rfl)
theorem dX0_spreadCosts_181 : decode cX0_spreadCosts 181 = .ok (.aload_n 0, 1) := dk_42 (dk_at dksX0_spreadCosts_7 19 rfl rfl)
theorem dX0_spreadCosts_182 : decode cX0_spreadCosts 182 = .ok (.getfield 57, 3) := dk_180 0 57 (dk_at dksX0_spreadCosts_7 20 rfl rfl)
theorem dX0_spreadCosts_185 : decode cX0_spreadCosts 185 = .ok (.iload 5, 2) := dk_21 5 (dk_at dksX0_spreadCosts_8 0 rfl rfl)
theorem dX0_spreadCosts_187 : decode cX0_spreadCosts 187 = .ok (.iconst 1, 1) := dk_4 (dk_at dksX0_spreadCosts_8 2 rfl rfl)
theorem dX0_spreadCosts_188 : decode cX0_spreadCosts 188 = .ok (.bastore, 1) := dk_84 (dk_at dksX0_spreadCosts_8 3 rfl rfl)
theorem dX0_spreadCosts_189 : decode cX0_spreadCosts 189 = .ok (.aload_n 0, 1) := dk_42 (dk_at dksX0_spreadCosts_8 4 rfl rfl)
theorem dX0_spreadCosts_190 : decode cX0_spreadCosts 190 = .ok (.getfield 42, 3) := dk_180 0 42 (dk_at dksX0_spreadCosts_8 5 rfl rfl)
theorem dX0_spreadCosts_193 : decode cX0_spreadCosts 193 = .ok (.iload_n 1, 1) := dk_27 (dk_at dksX0_spreadCosts_8 8 rfl rfl)
theorem dX0_spreadCosts_194 : decode cX0_spreadCosts 194 = .ok (.iload_n 2, 1) := dk_28 (dk_at dksX0_spreadCosts_8 9 rfl rfl)
theorem dX0_spreadCosts_195 : decode cX0_spreadCosts 195 = .ok (.iadd, 1) := dk_96 (dk_at dksX0_spreadCosts_8 10 rfl rfl)
theorem dX0_spreadCosts_196 : decode cX0_spreadCosts 196 = .ok (.ldc 38, 2) := dk_18 38 (dk_at dksX0_spreadCosts_8 11 rfl rfl)
theorem dX0_spreadCosts_198 : decode cX0_spreadCosts 198 = .ok (.irem, 1) := dk_112 (dk_at dksX0_spreadCosts_8 13 rfl rfl)
theorem dX0_spreadCosts_199 : decode cX0_spreadCosts 199 = .ok (.iload 5, 2) := dk_21 5 (dk_at dksX0_spreadCosts_8 14 rfl rfl)
theorem dX0_spreadCosts_201 : decode cX0_spreadCosts 201 = .ok (.iastore, 1) := dk_79 (dk_at dksX0_spreadCosts_8 16 rfl rfl)
theorem dX0_spreadCosts_202 : decode cX0_spreadCosts 202 = .ok (.iinc 2 1, 3) := dk_132 2 1 (dk_at dksX0_spreadCosts_8 17 rfl rfl)
theorem dX0_spreadCosts_205 : decode cX0_spreadCosts 205 = .ok (.iinc 4 1, 3) := dk_132 4 1 (dk_at dksX0_spreadCosts_8 20 rfl rfl)
theorem dX0_spreadCosts_208 : decode cX0_spreadCosts 208 = .ok (.goto (-108), 3) := dk_167 255 148 (dk_at dksX0_spreadCosts_9 0 rfl rfl)
theorem dX0_spreadCosts_211 : decode cX0_spreadCosts 211 = .ok (.goto (-142), 3) := dk_167 255 114 (dk_at dksX0_spreadCosts_9 3 rfl rfl)
theorem dX0_spreadCosts_214 : decode cX0_spreadCosts 214 = .ok (.return_, 1) := dk_177 (dk_at dksX0_spreadCosts_9 6 rfl rfl)
abbrev cX0_never : ByteArray := prog_1_method_23_code
def yX0_never : MethodName := ⟨RX0, "never", "(I)I"⟩
def dkwX0_never_3 : List UInt8 := [132, 3, 1, 167, 255, 225, 27, 2, 160, 0, 7, 28, 167, 0, 4, 2, 172]
abbrev dktX0_never_3 : List UInt8 := dkwX0_never_3 ++ []
def dkwX0_never_2 : List UInt8 := [162, 0, 29, 42, 180, 0, 51, 29, 46, 2, 160, 0, 13, 28, 27, 160, 0, 5, 29, 172, 132, 2, 1]
abbrev dktX0_never_2 : List UInt8 := dkwX0_never_2 ++ dktX0_never_3
def dkwX0_never_1 : List UInt8 := [180, 0, 145, 42, 180, 0, 12, 180, 0, 131, 182, 0, 202, 3, 61, 3, 62, 29, 42, 182, 0, 115]
abbrev dktX0_never_1 : List UInt8 := dkwX0_never_1 ++ dktX0_never_2
def dkwX0_never_0 : List UInt8 := [42, 182, 0, 123, 153, 0, 14, 27, 2, 160, 0, 7, 3, 167, 0, 4, 2, 172, 42, 42, 180, 0, 19]
abbrev dktX0_never_0 : List UInt8 := dkwX0_never_0 ++ dktX0_never_1
theorem dksX0_never_0 : cX0_never.data.toList.drop 0 = dktX0_never_0 := by decide +kernel
theorem dksX0_never_1 : cX0_never.data.toList.drop 23 = dktX0_never_1 := dk_seg dksX0_never_0 23 rfl rfl
theorem dksX0_never_2 : cX0_never.data.toList.drop 45 = dktX0_never_2 := dk_seg dksX0_never_1 22 rfl rfl
theorem dksX0_never_3 : cX0_never.data.toList.drop 68 = dktX0_never_3 := dk_seg dksX0_never_2 23 rfl rfl
theorem dX0_never_0 : decode cX0_never 0 = .ok (.aload_n 0, 1) := dk_42 (dk_at dksX0_never_0 0 rfl rfl)
theorem dX0_never_1 : decode cX0_never 1 = .ok (.invokevirtual 123, 3) := dk_182 0 123 (dk_at dksX0_never_0 1 rfl rfl)
theorem dX0_never_4 : decode cX0_never 4 = .ok (.ifCond .eq 14, 3) := dk_153 0 14 (dk_at dksX0_never_0 4 rfl rfl)
theorem dX0_never_7 : decode cX0_never 7 = .ok (.iload_n 1, 1) := dk_27 (dk_at dksX0_never_0 7 rfl rfl)
theorem dX0_never_8 : decode cX0_never 8 = .ok (.iconst (-1), 1) := dk_2 (dk_at dksX0_never_0 8 rfl rfl)
theorem dX0_never_9 : decode cX0_never 9 = .ok (.if_icmp .ne 7, 3) := dk_160 0 7 (dk_at dksX0_never_0 9 rfl rfl)
theorem dX0_never_12 : decode cX0_never 12 = .ok (.iconst 0, 1) := dk_3 (dk_at dksX0_never_0 12 rfl rfl)
theorem dX0_never_13 : decode cX0_never 13 = .ok (.goto 4, 3) := dk_167 0 4 (dk_at dksX0_never_0 13 rfl rfl)
theorem dX0_never_16 : decode cX0_never 16 = .ok (.iconst (-1), 1) := dk_2 (dk_at dksX0_never_0 16 rfl rfl)
theorem dX0_never_17 : decode cX0_never 17 = .ok (.ireturn, 1) := dk_172 (dk_at dksX0_never_0 17 rfl rfl)
theorem dX0_never_18 : decode cX0_never 18 = .ok (.aload_n 0, 1) := dk_42 (dk_at dksX0_never_0 18 rfl rfl)
theorem dX0_never_19 : decode cX0_never 19 = .ok (.aload_n 0, 1) := dk_42 (dk_at dksX0_never_0 19 rfl rfl)
theorem dX0_never_20 : decode cX0_never 20 = .ok (.getfield 19, 3) := dk_180 0 19 (dk_at dksX0_never_0 20 rfl rfl)
theorem dX0_never_23 : decode cX0_never 23 = .ok (.getfield 145, 3) := dk_180 0 145 (dk_at dksX0_never_1 0 rfl rfl)
theorem dX0_never_26 : decode cX0_never 26 = .ok (.aload_n 0, 1) := dk_42 (dk_at dksX0_never_1 3 rfl rfl)
theorem dX0_never_27 : decode cX0_never 27 = .ok (.getfield 12, 3) := dk_180 0 12 (dk_at dksX0_never_1 4 rfl rfl)
theorem dX0_never_30 : decode cX0_never 30 = .ok (.getfield 131, 3) := dk_180 0 131 (dk_at dksX0_never_1 7 rfl rfl)
theorem dX0_never_33 : decode cX0_never 33 = .ok (.invokevirtual 202, 3) := dk_182 0 202 (dk_at dksX0_never_1 10 rfl rfl)
theorem dX0_never_36 : decode cX0_never 36 = .ok (.iconst 0, 1) := dk_3 (dk_at dksX0_never_1 13 rfl rfl)
theorem dX0_never_37 : decode cX0_never 37 = .ok (.istore_n 2, 1) := dk_61 (dk_at dksX0_never_1 14 rfl rfl)
theorem dX0_never_38 : decode cX0_never 38 = .ok (.iconst 0, 1) := dk_3 (dk_at dksX0_never_1 15 rfl rfl)
theorem dX0_never_39 : decode cX0_never 39 = .ok (.istore_n 3, 1) := dk_62 (dk_at dksX0_never_1 16 rfl rfl)
theorem dX0_never_40 : decode cX0_never 40 = .ok (.iload_n 3, 1) := dk_29 (dk_at dksX0_never_1 17 rfl rfl)
theorem dX0_never_41 : decode cX0_never 41 = .ok (.aload_n 0, 1) := dk_42 (dk_at dksX0_never_1 18 rfl rfl)
theorem dX0_never_42 : decode cX0_never 42 = .ok (.invokevirtual 115, 3) := dk_182 0 115 (dk_at dksX0_never_1 19 rfl rfl)
theorem dX0_never_45 : decode cX0_never 45 = .ok (.if_icmp .ge 29, 3) := dk_162 0 29 (dk_at dksX0_never_2 0 rfl rfl)
theorem dX0_never_48 : decode cX0_never 48 = .ok (.aload_n 0, 1) := dk_42 (dk_at dksX0_never_2 3 rfl rfl)
theorem dX0_never_49 : decode cX0_never 49 = .ok (.getfield 51, 3) := dk_180 0 51 (dk_at dksX0_never_2 4 rfl rfl)
theorem dX0_never_52 : decode cX0_never 52 = .ok (.iload_n 3, 1) := dk_29 (dk_at dksX0_never_2 7 rfl rfl)
theorem dX0_never_53 : decode cX0_never 53 = .ok (.iaload, 1) := dk_46 (dk_at dksX0_never_2 8 rfl rfl)
theorem dX0_never_54 : decode cX0_never 54 = .ok (.iconst (-1), 1) := dk_2 (dk_at dksX0_never_2 9 rfl rfl)
theorem dX0_never_55 : decode cX0_never 55 = .ok (.if_icmp .ne 13, 3) := dk_160 0 13 (dk_at dksX0_never_2 10 rfl rfl)
theorem dX0_never_58 : decode cX0_never 58 = .ok (.iload_n 2, 1) := dk_28 (dk_at dksX0_never_2 13 rfl rfl)
theorem dX0_never_59 : decode cX0_never 59 = .ok (.iload_n 1, 1) := dk_27 (dk_at dksX0_never_2 14 rfl rfl)
theorem dX0_never_60 : decode cX0_never 60 = .ok (.if_icmp .ne 5, 3) := dk_160 0 5 (dk_at dksX0_never_2 15 rfl rfl)
theorem dX0_never_63 : decode cX0_never 63 = .ok (.iload_n 3, 1) := dk_29 (dk_at dksX0_never_2 18 rfl rfl)
theorem dX0_never_64 : decode cX0_never 64 = .ok (.ireturn, 1) := dk_172 (dk_at dksX0_never_2 19 rfl rfl)
theorem dX0_never_65 : decode cX0_never 65 = .ok (.iinc 2 1, 3) := dk_132 2 1 (dk_at dksX0_never_2 20 rfl rfl)
theorem dX0_never_68 : decode cX0_never 68 = .ok (.iinc 3 1, 3) := dk_132 3 1 (dk_at dksX0_never_3 0 rfl rfl)
theorem dX0_never_71 : decode cX0_never 71 = .ok (.goto (-31), 3) := dk_167 255 225 (dk_at dksX0_never_3 3 rfl rfl)
theorem dX0_never_74 : decode cX0_never 74 = .ok (.iload_n 1, 1) := dk_27 (dk_at dksX0_never_3 6 rfl rfl)
theorem dX0_never_75 : decode cX0_never 75 = .ok (.iconst (-1), 1) := dk_2 (dk_at dksX0_never_3 7 rfl rfl)
theorem dX0_never_76 : decode cX0_never 76 = .ok (.if_icmp .ne 7, 3) := dk_160 0 7 (dk_at dksX0_never_3 8 rfl rfl)
theorem dX0_never_79 : decode cX0_never 79 = .ok (.iload_n 2, 1) := dk_28 (dk_at dksX0_never_3 11 rfl rfl)
theorem dX0_never_80 : decode cX0_never 80 = .ok (.goto 4, 3) := dk_167 0 4 (dk_at dksX0_never_3 12 rfl rfl)
theorem dX0_never_83 : decode cX0_never 83 = .ok (.iconst (-1), 1) := dk_2 (dk_at dksX0_never_3 15 rfl rfl)
theorem dX0_never_84 : decode cX0_never 84 = .ok (.ireturn, 1) := dk_172 (dk_at dksX0_never_3 16 rfl rfl)
abbrev cX0_farthest : ByteArray := prog_1_method_24_code
def yX0_farthest : MethodName := ⟨RX0, "farthest", "(I)I"⟩
def dkwX0_farthest_5 : List UInt8 := [172]
abbrev dktX0_farthest_5 : List UInt8 := dkwX0_farthest_5 ++ []
def dkwX0_farthest_4 : List UInt8 := [167, 0, 4, 28, 61, 132, 3, 1, 167, 255, 207, 27, 154, 0, 7, 28, 167, 0, 8, 42, 28, 182, 0, 206]
abbrev dktX0_farthest_4 : List UInt8 := dkwX0_farthest_4 ++ dktX0_farthest_5
def dkwX0_farthest_3 : List UInt8 := [28, 182, 0, 206, 163, 0, 18, 21, 4, 42, 28, 182, 0, 206, 160, 0, 12, 29, 28, 162, 0, 7, 29]
abbrev dktX0_farthest_3 : List UInt8 := dkwX0_farthest_3 ++ dktX0_farthest_4
def dkwX0_farthest_2 : List UInt8 := [182, 0, 148, 61, 3, 62, 29, 42, 182, 0, 115, 162, 0, 47, 42, 29, 182, 0, 206, 54, 4, 21, 4, 42]
abbrev dktX0_farthest_2 : List UInt8 := dkwX0_farthest_2 ++ dktX0_farthest_3
def dkwX0_farthest_1 : List UInt8 := [180, 0, 19, 180, 0, 145, 42, 180, 0, 12, 180, 0, 131, 182, 0, 202, 42, 42, 180, 0, 19, 180, 0, 145]
abbrev dktX0_farthest_1 : List UInt8 := dkwX0_farthest_1 ++ dktX0_farthest_2
def dkwX0_farthest_0 : List UInt8 := [27, 3, 4, 184, 0, 79, 154, 0, 6, 18, 83, 172, 42, 182, 0, 123, 153, 0, 6, 18, 222, 172, 42, 42]
abbrev dktX0_farthest_0 : List UInt8 := dkwX0_farthest_0 ++ dktX0_farthest_1
theorem dksX0_farthest_0 : cX0_farthest.data.toList.drop 0 = dktX0_farthest_0 := by decide +kernel
theorem dksX0_farthest_1 : cX0_farthest.data.toList.drop 24 = dktX0_farthest_1 := dk_seg dksX0_farthest_0 24 rfl rfl
theorem dksX0_farthest_2 : cX0_farthest.data.toList.drop 48 = dktX0_farthest_2 := dk_seg dksX0_farthest_1 24 rfl rfl
theorem dksX0_farthest_3 : cX0_farthest.data.toList.drop 72 = dktX0_farthest_3 := dk_seg dksX0_farthest_2 24 rfl rfl
theorem dksX0_farthest_4 : cX0_farthest.data.toList.drop 95 = dktX0_farthest_4 := dk_seg dksX0_farthest_3 23 rfl rfl
theorem dksX0_farthest_5 : cX0_farthest.data.toList.drop 119 = dktX0_farthest_5 := dk_seg dksX0_farthest_4 24 rfl rfl
theorem dX0_farthest_0 : decode cX0_farthest 0 = .ok (.iload_n 1, 1) := dk_27 (dk_at dksX0_farthest_0 0 rfl rfl)
theorem dX0_farthest_1 : decode cX0_farthest 1 = .ok (.iconst 0, 1) := dk_3 (dk_at dksX0_farthest_0 1 rfl rfl)
theorem dX0_farthest_2 : decode cX0_farthest 2 = .ok (.iconst 1, 1) := dk_4 (dk_at dksX0_farthest_0 2 rfl rfl)
theorem dX0_farthest_3 : decode cX0_farthest 3 = .ok (.invokestatic 79, 3) := dk_184 0 79 (dk_at dksX0_farthest_0 3 rfl rfl)
theorem dX0_farthest_6 : decode cX0_farthest 6 = .ok (.ifCond .ne 6, 3) := dk_154 0 6 (dk_at dksX0_farthest_0 6 rfl rfl)
theorem dX0_farthest_9 : decode cX0_farthest 9 = .ok (.ldc 83, 2) := dk_18 83 (dk_at dksX0_farthest_0 9 rfl rfl)
theorem dX0_farthest_11 : decode cX0_farthest 11 = .ok (.ireturn, 1) := dk_172 (dk_at dksX0_farthest_0 11 rfl rfl)
theorem dX0_farthest_12 : decode cX0_farthest 12 = .ok (.aload_n 0, 1) := dk_42 (dk_at dksX0_farthest_0 12 rfl rfl)
theorem dX0_farthest_13 : decode cX0_farthest 13 = .ok (.invokevirtual 123, 3) := dk_182 0 123 (dk_at dksX0_farthest_0 13 rfl rfl)
theorem dX0_farthest_16 : decode cX0_farthest 16 = .ok (.ifCond .eq 6, 3) := dk_153 0 6 (dk_at dksX0_farthest_0 16 rfl rfl)
theorem dX0_farthest_19 : decode cX0_farthest 19 = .ok (.ldc 222, 2) := dk_18 222 (dk_at dksX0_farthest_0 19 rfl rfl)
theorem dX0_farthest_21 : decode cX0_farthest 21 = .ok (.ireturn, 1) := dk_172 (dk_at dksX0_farthest_0 21 rfl rfl)
theorem dX0_farthest_22 : decode cX0_farthest 22 = .ok (.aload_n 0, 1) := dk_42 (dk_at dksX0_farthest_0 22 rfl rfl)
theorem dX0_farthest_23 : decode cX0_farthest 23 = .ok (.aload_n 0, 1) := dk_42 (dk_at dksX0_farthest_0 23 rfl rfl)
theorem dX0_farthest_24 : decode cX0_farthest 24 = .ok (.getfield 19, 3) := dk_180 0 19 (dk_at dksX0_farthest_1 0 rfl rfl)
theorem dX0_farthest_27 : decode cX0_farthest 27 = .ok (.getfield 145, 3) := dk_180 0 145 (dk_at dksX0_farthest_1 3 rfl rfl)
theorem dX0_farthest_30 : decode cX0_farthest 30 = .ok (.aload_n 0, 1) := dk_42 (dk_at dksX0_farthest_1 6 rfl rfl)
theorem dX0_farthest_31 : decode cX0_farthest 31 = .ok (.getfield 12, 3) := dk_180 0 12 (dk_at dksX0_farthest_1 7 rfl rfl)
theorem dX0_farthest_34 : decode cX0_farthest 34 = .ok (.getfield 131, 3) := dk_180 0 131 (dk_at dksX0_farthest_1 10 rfl rfl)
theorem dX0_farthest_37 : decode cX0_farthest 37 = .ok (.invokevirtual 202, 3) := dk_182 0 202 (dk_at dksX0_farthest_1 13 rfl rfl)
theorem dX0_farthest_40 : decode cX0_farthest 40 = .ok (.aload_n 0, 1) := dk_42 (dk_at dksX0_farthest_1 16 rfl rfl)
theorem dX0_farthest_41 : decode cX0_farthest 41 = .ok (.aload_n 0, 1) := dk_42 (dk_at dksX0_farthest_1 17 rfl rfl)
theorem dX0_farthest_42 : decode cX0_farthest 42 = .ok (.getfield 19, 3) := dk_180 0 19 (dk_at dksX0_farthest_1 18 rfl rfl)
theorem dX0_farthest_45 : decode cX0_farthest 45 = .ok (.getfield 145, 3) := dk_180 0 145 (dk_at dksX0_farthest_1 21 rfl rfl)
theorem dX0_farthest_48 : decode cX0_farthest 48 = .ok (.invokevirtual 148, 3) := dk_182 0 148 (dk_at dksX0_farthest_2 0 rfl rfl)
theorem dX0_farthest_51 : decode cX0_farthest 51 = .ok (.istore_n 2, 1) := dk_61 (dk_at dksX0_farthest_2 3 rfl rfl)
theorem dX0_farthest_52 : decode cX0_farthest 52 = .ok (.iconst 0, 1) := dk_3 (dk_at dksX0_farthest_2 4 rfl rfl)
theorem dX0_farthest_53 : decode cX0_farthest 53 = .ok (.istore_n 3, 1) := dk_62 (dk_at dksX0_farthest_2 5 rfl rfl)
theorem dX0_farthest_54 : decode cX0_farthest 54 = .ok (.iload_n 3, 1) := dk_29 (dk_at dksX0_farthest_2 6 rfl rfl)
theorem dX0_farthest_55 : decode cX0_farthest 55 = .ok (.aload_n 0, 1) := dk_42 (dk_at dksX0_farthest_2 7 rfl rfl)
theorem dX0_farthest_56 : decode cX0_farthest 56 = .ok (.invokevirtual 115, 3) := dk_182 0 115 (dk_at dksX0_farthest_2 8 rfl rfl)
theorem dX0_farthest_59 : decode cX0_farthest 59 = .ok (.if_icmp .ge 47, 3) := dk_162 0 47 (dk_at dksX0_farthest_2 11 rfl rfl)
theorem dX0_farthest_62 : decode cX0_farthest 62 = .ok (.aload_n 0, 1) := dk_42 (dk_at dksX0_farthest_2 14 rfl rfl)
theorem dX0_farthest_63 : decode cX0_farthest 63 = .ok (.iload_n 3, 1) := dk_29 (dk_at dksX0_farthest_2 15 rfl rfl)
theorem dX0_farthest_64 : decode cX0_farthest 64 = .ok (.invokevirtual 206, 3) := dk_182 0 206 (dk_at dksX0_farthest_2 16 rfl rfl)
theorem dX0_farthest_67 : decode cX0_farthest 67 = .ok (.istore 4, 2) := dk_54 4 (dk_at dksX0_farthest_2 19 rfl rfl)
theorem dX0_farthest_69 : decode cX0_farthest 69 = .ok (.iload 4, 2) := dk_21 4 (dk_at dksX0_farthest_2 21 rfl rfl)
theorem dX0_farthest_71 : decode cX0_farthest 71 = .ok (.aload_n 0, 1) := dk_42 (dk_at dksX0_farthest_2 23 rfl rfl)
theorem dX0_farthest_72 : decode cX0_farthest 72 = .ok (.iload_n 2, 1) := dk_28 (dk_at dksX0_farthest_3 0 rfl rfl)
theorem dX0_farthest_73 : decode cX0_farthest 73 = .ok (.invokevirtual 206, 3) := dk_182 0 206 (dk_at dksX0_farthest_3 1 rfl rfl)
theorem dX0_farthest_76 : decode cX0_farthest 76 = .ok (.if_icmp .gt 18, 3) := dk_163 0 18 (dk_at dksX0_farthest_3 4 rfl rfl)
theorem dX0_farthest_79 : decode cX0_farthest 79 = .ok (.iload 4, 2) := dk_21 4 (dk_at dksX0_farthest_3 7 rfl rfl)
theorem dX0_farthest_81 : decode cX0_farthest 81 = .ok (.aload_n 0, 1) := dk_42 (dk_at dksX0_farthest_3 9 rfl rfl)
theorem dX0_farthest_82 : decode cX0_farthest 82 = .ok (.iload_n 2, 1) := dk_28 (dk_at dksX0_farthest_3 10 rfl rfl)
theorem dX0_farthest_83 : decode cX0_farthest 83 = .ok (.invokevirtual 206, 3) := dk_182 0 206 (dk_at dksX0_farthest_3 11 rfl rfl)
theorem dX0_farthest_86 : decode cX0_farthest 86 = .ok (.if_icmp .ne 12, 3) := dk_160 0 12 (dk_at dksX0_farthest_3 14 rfl rfl)
theorem dX0_farthest_89 : decode cX0_farthest 89 = .ok (.iload_n 3, 1) := dk_29 (dk_at dksX0_farthest_3 17 rfl rfl)
theorem dX0_farthest_90 : decode cX0_farthest 90 = .ok (.iload_n 2, 1) := dk_28 (dk_at dksX0_farthest_3 18 rfl rfl)
theorem dX0_farthest_91 : decode cX0_farthest 91 = .ok (.if_icmp .ge 7, 3) := dk_162 0 7 (dk_at dksX0_farthest_3 19 rfl rfl)
theorem dX0_farthest_94 : decode cX0_farthest 94 = .ok (.iload_n 3, 1) := dk_29 (dk_at dksX0_farthest_3 22 rfl rfl)
theorem dX0_farthest_95 : decode cX0_farthest 95 = .ok (.goto 4, 3) := dk_167 0 4 (dk_at dksX0_farthest_4 0 rfl rfl)
theorem dX0_farthest_98 : decode cX0_farthest 98 = .ok (.iload_n 2, 1) := dk_28 (dk_at dksX0_farthest_4 3 rfl rfl)
theorem dX0_farthest_99 : decode cX0_farthest 99 = .ok (.istore_n 2, 1) := dk_61 (dk_at dksX0_farthest_4 4 rfl rfl)
theorem dX0_farthest_100 : decode cX0_farthest 100 = .ok (.iinc 3 1, 3) := dk_132 3 1 (dk_at dksX0_farthest_4 5 rfl rfl)
theorem dX0_farthest_103 : decode cX0_farthest 103 = .ok (.goto (-49), 3) := dk_167 255 207 (dk_at dksX0_farthest_4 8 rfl rfl)
theorem dX0_farthest_106 : decode cX0_farthest 106 = .ok (.iload_n 1, 1) := dk_27 (dk_at dksX0_farthest_4 11 rfl rfl)
theorem dX0_farthest_107 : decode cX0_farthest 107 = .ok (.ifCond .ne 7, 3) := dk_154 0 7 (dk_at dksX0_farthest_4 12 rfl rfl)
theorem dX0_farthest_110 : decode cX0_farthest 110 = .ok (.iload_n 2, 1) := dk_28 (dk_at dksX0_farthest_4 15 rfl rfl)
theorem dX0_farthest_111 : decode cX0_farthest 111 = .ok (.goto 8, 3) := dk_167 0 8 (dk_at dksX0_farthest_4 16 rfl rfl)
theorem dX0_farthest_114 : decode cX0_farthest 114 = .ok (.aload_n 0, 1) := dk_42 (dk_at dksX0_farthest_4 19 rfl rfl)
theorem dX0_farthest_115 : decode cX0_farthest 115 = .ok (.iload_n 2, 1) := dk_28 (dk_at dksX0_farthest_4 20 rfl rfl)
theorem dX0_farthest_116 : decode cX0_farthest 116 = .ok (.invokevirtual 206, 3) := dk_182 0 206 (dk_at dksX0_farthest_4 21 rfl rfl)
theorem dX0_farthest_119 : decode cX0_farthest 119 = .ok (.ireturn, 1) := dk_172 (dk_at dksX0_farthest_5 0 rfl rfl)
abbrev cX0_target : ByteArray := prog_1_method_25_code
def yX0_target : MethodName := ⟨RX0, "target", "(I)I"⟩
def dkwX0_target_2 : List UInt8 := [180, 0, 157, 4, 96, 181, 0, 157, 42, 180, 0, 19, 180, 0, 157, 172]
abbrev dktX0_target_2 : List UInt8 := dkwX0_target_2 ++ []
def dkwX0_target_1 : List UInt8 := [18, 87, 172, 42, 180, 0, 19, 180, 0, 223, 42, 180, 0, 19, 180, 0, 157, 27, 79, 42, 180, 0, 19, 89]
abbrev dktX0_target_1 : List UInt8 := dkwX0_target_1 ++ dktX0_target_2
def dkwX0_target_0 : List UInt8 := [42, 27, 182, 0, 199, 154, 0, 6, 18, 83, 172, 42, 180, 0, 19, 180, 0, 157, 16, 6, 160, 0, 6]
abbrev dktX0_target_0 : List UInt8 := dkwX0_target_0 ++ dktX0_target_1
theorem dksX0_target_0 : cX0_target.data.toList.drop 0 = dktX0_target_0 := by decide +kernel
theorem dksX0_target_1 : cX0_target.data.toList.drop 23 = dktX0_target_1 := dk_seg dksX0_target_0 23 rfl rfl
theorem dksX0_target_2 : cX0_target.data.toList.drop 47 = dktX0_target_2 := dk_seg dksX0_target_1 24 rfl rfl
theorem dX0_target_0 : decode cX0_target 0 = .ok (.aload_n 0, 1) := dk_42 (dk_at dksX0_target_0 0 rfl rfl)
theorem dX0_target_1 : decode cX0_target 1 = .ok (.iload_n 1, 1) := dk_27 (dk_at dksX0_target_0 1 rfl rfl)
theorem dX0_target_2 : decode cX0_target 2 = .ok (.invokevirtual 199, 3) := dk_182 0 199 (dk_at dksX0_target_0 2 rfl rfl)
theorem dX0_target_5 : decode cX0_target 5 = .ok (.ifCond .ne 6, 3) := dk_154 0 6 (dk_at dksX0_target_0 5 rfl rfl)
theorem dX0_target_8 : decode cX0_target 8 = .ok (.ldc 83, 2) := dk_18 83 (dk_at dksX0_target_0 8 rfl rfl)
theorem dX0_target_10 : decode cX0_target 10 = .ok (.ireturn, 1) := dk_172 (dk_at dksX0_target_0 10 rfl rfl)
theorem dX0_target_11 : decode cX0_target 11 = .ok (.aload_n 0, 1) := dk_42 (dk_at dksX0_target_0 11 rfl rfl)
theorem dX0_target_12 : decode cX0_target 12 = .ok (.getfield 19, 3) := dk_180 0 19 (dk_at dksX0_target_0 12 rfl rfl)
theorem dX0_target_15 : decode cX0_target 15 = .ok (.getfield 157, 3) := dk_180 0 157 (dk_at dksX0_target_0 15 rfl rfl)
theorem dX0_target_18 : decode cX0_target 18 = .ok (.bipush 6, 2) := dk_16 6 (dk_at dksX0_target_0 18 rfl rfl)
theorem dX0_target_20 : decode cX0_target 20 = .ok (.if_icmp .ne 6, 3) := dk_160 0 6 (dk_at dksX0_target_0 20 rfl rfl)
theorem dX0_target_23 : decode cX0_target 23 = .ok (.ldc 87, 2) := dk_18 87 (dk_at dksX0_target_1 0 rfl rfl)
theorem dX0_target_25 : decode cX0_target 25 = .ok (.ireturn, 1) := dk_172 (dk_at dksX0_target_1 2 rfl rfl)
theorem dX0_target_26 : decode cX0_target 26 = .ok (.aload_n 0, 1) := dk_42 (dk_at dksX0_target_1 3 rfl rfl)
theorem dX0_target_27 : decode cX0_target 27 = .ok (.getfield 19, 3) := dk_180 0 19 (dk_at dksX0_target_1 4 rfl rfl)
theorem dX0_target_30 : decode cX0_target 30 = .ok (.getfield 223, 3) := dk_180 0 223 (dk_at dksX0_target_1 7 rfl rfl)
theorem dX0_target_33 : decode cX0_target 33 = .ok (.aload_n 0, 1) := dk_42 (dk_at dksX0_target_1 10 rfl rfl)
theorem dX0_target_34 : decode cX0_target 34 = .ok (.getfield 19, 3) := dk_180 0 19 (dk_at dksX0_target_1 11 rfl rfl)
theorem dX0_target_37 : decode cX0_target 37 = .ok (.getfield 157, 3) := dk_180 0 157 (dk_at dksX0_target_1 14 rfl rfl)
theorem dX0_target_40 : decode cX0_target 40 = .ok (.iload_n 1, 1) := dk_27 (dk_at dksX0_target_1 17 rfl rfl)
theorem dX0_target_41 : decode cX0_target 41 = .ok (.iastore, 1) := dk_79 (dk_at dksX0_target_1 18 rfl rfl)
theorem dX0_target_42 : decode cX0_target 42 = .ok (.aload_n 0, 1) := dk_42 (dk_at dksX0_target_1 19 rfl rfl)
theorem dX0_target_43 : decode cX0_target 43 = .ok (.getfield 19, 3) := dk_180 0 19 (dk_at dksX0_target_1 20 rfl rfl)
theorem dX0_target_46 : decode cX0_target 46 = .ok (.dup, 1) := dk_89 (dk_at dksX0_target_1 23 rfl rfl)
theorem dX0_target_47 : decode cX0_target 47 = .ok (.getfield 157, 3) := dk_180 0 157 (dk_at dksX0_target_2 0 rfl rfl)
theorem dX0_target_50 : decode cX0_target 50 = .ok (.iconst 1, 1) := dk_4 (dk_at dksX0_target_2 3 rfl rfl)
theorem dX0_target_51 : decode cX0_target 51 = .ok (.iadd, 1) := dk_96 (dk_at dksX0_target_2 4 rfl rfl)
theorem dX0_target_52 : decode cX0_target 52 = .ok (.putfield 157, 3) := dk_181 0 157 (dk_at dksX0_target_2 5 rfl rfl)
theorem dX0_target_55 : decode cX0_target 55 = .ok (.aload_n 0, 1) := dk_42 (dk_at dksX0_target_2 8 rfl rfl)
theorem dX0_target_56 : decode cX0_target 56 = .ok (.getfield 19, 3) := dk_180 0 19 (dk_at dksX0_target_2 9 rfl rfl)
theorem dX0_target_59 : decode cX0_target 59 = .ok (.getfield 157, 3) := dk_180 0 157 (dk_at dksX0_target_2 12 rfl rfl)
theorem dX0_target_62 : decode cX0_target 62 = .ok (.ireturn, 1) := dk_172 (dk_at dksX0_target_2 15 rfl rfl)
abbrev cX0_targetAt : ByteArray := prog_1_method_26_code
def yX0_targetAt : MethodName := ⟨RX0, "targetAt", "(I)I"⟩
def dkwX0_targetAt_1 : List UInt8 := [27, 46, 167, 0, 5, 18, 164, 172]
abbrev dktX0_targetAt_1 : List UInt8 := dkwX0_targetAt_1 ++ []
def dkwX0_targetAt_0 : List UInt8 := [27, 3, 42, 180, 0, 19, 180, 0, 157, 4, 100, 184, 0, 79, 153, 0, 15, 42, 180, 0, 19, 180, 0, 223]
abbrev dktX0_targetAt_0 : List UInt8 := dkwX0_targetAt_0 ++ dktX0_targetAt_1
theorem dksX0_targetAt_0 : cX0_targetAt.data.toList.drop 0 = dktX0_targetAt_0 := by decide +kernel
theorem dksX0_targetAt_1 : cX0_targetAt.data.toList.drop 24 = dktX0_targetAt_1 := dk_seg dksX0_targetAt_0 24 rfl rfl
theorem dX0_targetAt_0 : decode cX0_targetAt 0 = .ok (.iload_n 1, 1) := dk_27 (dk_at dksX0_targetAt_0 0 rfl rfl)
theorem dX0_targetAt_1 : decode cX0_targetAt 1 = .ok (.iconst 0, 1) := dk_3 (dk_at dksX0_targetAt_0 1 rfl rfl)
theorem dX0_targetAt_2 : decode cX0_targetAt 2 = .ok (.aload_n 0, 1) := dk_42 (dk_at dksX0_targetAt_0 2 rfl rfl)
theorem dX0_targetAt_3 : decode cX0_targetAt 3 = .ok (.getfield 19, 3) := dk_180 0 19 (dk_at dksX0_targetAt_0 3 rfl rfl)
theorem dX0_targetAt_6 : decode cX0_targetAt 6 = .ok (.getfield 157, 3) := dk_180 0 157 (dk_at dksX0_targetAt_0 6 rfl rfl)
theorem dX0_targetAt_9 : decode cX0_targetAt 9 = .ok (.iconst 1, 1) := dk_4 (dk_at dksX0_targetAt_0 9 rfl rfl)
theorem dX0_targetAt_10 : decode cX0_targetAt 10 = .ok (.isub, 1) := dk_100 (dk_at dksX0_targetAt_0 10 rfl rfl)
theorem dX0_targetAt_11 : decode cX0_targetAt 11 = .ok (.invokestatic 79, 3) := dk_184 0 79 (dk_at dksX0_targetAt_0 11 rfl rfl)
theorem dX0_targetAt_14 : decode cX0_targetAt 14 = .ok (.ifCond .eq 15, 3) := dk_153 0 15 (dk_at dksX0_targetAt_0 14 rfl rfl)
theorem dX0_targetAt_17 : decode cX0_targetAt 17 = .ok (.aload_n 0, 1) := dk_42 (dk_at dksX0_targetAt_0 17 rfl rfl)
theorem dX0_targetAt_18 : decode cX0_targetAt 18 = .ok (.getfield 19, 3) := dk_180 0 19 (dk_at dksX0_targetAt_0 18 rfl rfl)
theorem dX0_targetAt_21 : decode cX0_targetAt 21 = .ok (.getfield 223, 3) := dk_180 0 223 (dk_at dksX0_targetAt_0 21 rfl rfl)
theorem dX0_targetAt_24 : decode cX0_targetAt 24 = .ok (.iload_n 1, 1) := dk_27 (dk_at dksX0_targetAt_1 0 rfl rfl)
theorem dX0_targetAt_25 : decode cX0_targetAt 25 = .ok (.iaload, 1) := dk_46 (dk_at dksX0_targetAt_1 1 rfl rfl)
theorem dX0_targetAt_26 : decode cX0_targetAt 26 = .ok (.goto 5, 3) := dk_167 0 5 (dk_at dksX0_targetAt_1 2 rfl rfl)
theorem dX0_targetAt_29 : decode cX0_targetAt 29 = .ok (.ldc 164, 2) := dk_18 164 (dk_at dksX0_targetAt_1 5 rfl rfl)
theorem dX0_targetAt_31 : decode cX0_targetAt 31 = .ok (.ireturn, 1) := dk_172 (dk_at dksX0_targetAt_1 7 rfl rfl)
abbrev cX0_forget : ByteArray := prog_1_method_27_code
def yX0_forget : MethodName := ⟨RX0, "forget", "()I"⟩
def dkwX0_forget_0 : List UInt8 := [42, 180, 0, 19, 180, 0, 157, 60, 42, 180, 0, 19, 3, 181, 0, 157, 27, 172]
abbrev dktX0_forget_0 : List UInt8 := dkwX0_forget_0 ++ []
theorem dksX0_forget_0 : cX0_forget.data.toList.drop 0 = dktX0_forget_0 := by decide +kernel
theorem dX0_forget_0 : decode cX0_forget 0 = .ok (.aload_n 0, 1) := dk_42 (dk_at dksX0_forget_0 0 rfl rfl)
theorem dX0_forget_1 : decode cX0_forget 1 = .ok (.getfield 19, 3) := dk_180 0 19 (dk_at dksX0_forget_0 1 rfl rfl)
theorem dX0_forget_4 : decode cX0_forget 4 = .ok (.getfield 157, 3) := dk_180 0 157 (dk_at dksX0_forget_0 4 rfl rfl)
theorem dX0_forget_7 : decode cX0_forget 7 = .ok (.istore_n 1, 1) := dk_60 (dk_at dksX0_forget_0 7 rfl rfl)
theorem dX0_forget_8 : decode cX0_forget 8 = .ok (.aload_n 0, 1) := dk_42 (dk_at dksX0_forget_0 8 rfl rfl)
theorem dX0_forget_9 : decode cX0_forget 9 = .ok (.getfield 19, 3) := dk_180 0 19 (dk_at dksX0_forget_0 9 rfl rfl)
theorem dX0_forget_12 : decode cX0_forget 12 = .ok (.iconst 0, 1) := dk_3 (dk_at dksX0_forget_0 12 rfl rfl)
theorem dX0_forget_13 : decode cX0_forget 13 = .ok (.putfield 157, 3) := dk_181 0 157 (dk_at dksX0_forget_0 13 rfl rfl)
theorem dX0_forget_16 : decode cX0_forget 16 = .ok (.iload_n 1, 1) := dk_27 (dk_at dksX0_forget_0 16 rfl rfl)
theorem dX0_forget_17 : decode cX0_forget 17 = .ok (.ireturn, 1) := dk_172 (dk_at dksX0_forget_0 17 rfl rfl)
abbrev cX0_more : ByteArray := prog_1_method_30_code
def yX0_more : MethodName := ⟨RX0, "more", "(I)I"⟩
def dkwX0_more_6 : List UInt8 := [29, 172]
abbrev dktX0_more_6 : List UInt8 := dkwX0_more_6 ++ []
def dkwX0_more_5 : List UInt8 := [154, 0, 11, 25, 4, 182, 0, 169, 167, 0, 17, 27, 4, 160, 0, 11, 25, 4, 182, 0, 175, 167, 0, 4]
abbrev dktX0_more_5 : List UInt8 := dkwX0_more_5 ++ dktX0_more_6
def dkwX0_more_4 : List UInt8 := [28, 61, 29, 21, 5, 184, 0, 216, 62, 132, 4, 1, 167, 255, 180, 42, 28, 182, 0, 239, 58, 4, 27]
abbrev dktX0_more_4 : List UInt8 := dkwX0_more_4 ++ dktX0_more_5
def dkwX0_more_3 : List UInt8 := [180, 0, 12, 180, 0, 131, 4, 96, 182, 0, 243, 54, 5, 21, 5, 29, 162, 0, 8, 21, 4, 167, 0, 4]
abbrev dktX0_more_3 : List UInt8 := dkwX0_more_3 ++ dktX0_more_4
def dkwX0_more_2 : List UInt8 := [180, 0, 12, 180, 0, 165, 42, 180, 0, 12, 180, 0, 131, 42, 21, 4, 182, 0, 239, 83, 42, 42]
abbrev dktX0_more_2 : List UInt8 := dkwX0_more_2 ++ dktX0_more_3
def dkwX0_more_1 : List UInt8 := [18, 209, 62, 3, 54, 4, 21, 4, 42, 180, 0, 12, 180, 0, 119, 180, 0, 139, 7, 96, 162, 0, 65, 42]
abbrev dktX0_more_1 : List UInt8 := dkwX0_more_1 ++ dktX0_more_2
def dkwX0_more_0 : List UInt8 := [27, 3, 5, 184, 0, 79, 154, 0, 6, 18, 83, 172, 42, 182, 0, 123, 153, 0, 6, 18, 222, 172, 3, 61]
abbrev dktX0_more_0 : List UInt8 := dkwX0_more_0 ++ dktX0_more_1
theorem dksX0_more_0 : cX0_more.data.toList.drop 0 = dktX0_more_0 := by decide +kernel
theorem dksX0_more_1 : cX0_more.data.toList.drop 24 = dktX0_more_1 := dk_seg dksX0_more_0 24 rfl rfl
theorem dksX0_more_2 : cX0_more.data.toList.drop 48 = dktX0_more_2 := dk_seg dksX0_more_1 24 rfl rfl
theorem dksX0_more_3 : cX0_more.data.toList.drop 70 = dktX0_more_3 := dk_seg dksX0_more_2 22 rfl rfl
theorem dksX0_more_4 : cX0_more.data.toList.drop 94 = dktX0_more_4 := dk_seg dksX0_more_3 24 rfl rfl
theorem dksX0_more_5 : cX0_more.data.toList.drop 117 = dktX0_more_5 := dk_seg dksX0_more_4 23 rfl rfl
theorem dksX0_more_6 : cX0_more.data.toList.drop 141 = dktX0_more_6 := dk_seg dksX0_more_5 24 rfl rfl
theorem dX0_more_0 : decode cX0_more 0 = .ok (.iload_n 1, 1) := dk_27 (dk_at dksX0_more_0 0 rfl rfl)
theorem dX0_more_1 : decode cX0_more 1 = .ok (.iconst 0, 1) := dk_3 (dk_at dksX0_more_0 1 rfl rfl)
theorem dX0_more_2 : decode cX0_more 2 = .ok (.iconst 2, 1) := dk_5 (dk_at dksX0_more_0 2 rfl rfl)
theorem dX0_more_3 : decode cX0_more 3 = .ok (.invokestatic 79, 3) := dk_184 0 79 (dk_at dksX0_more_0 3 rfl rfl)
theorem dX0_more_6 : decode cX0_more 6 = .ok (.ifCond .ne 6, 3) := dk_154 0 6 (dk_at dksX0_more_0 6 rfl rfl)
theorem dX0_more_9 : decode cX0_more 9 = .ok (.ldc 83, 2) := dk_18 83 (dk_at dksX0_more_0 9 rfl rfl)
theorem dX0_more_11 : decode cX0_more 11 = .ok (.ireturn, 1) := dk_172 (dk_at dksX0_more_0 11 rfl rfl)
theorem dX0_more_12 : decode cX0_more 12 = .ok (.aload_n 0, 1) := dk_42 (dk_at dksX0_more_0 12 rfl rfl)
theorem dX0_more_13 : decode cX0_more 13 = .ok (.invokevirtual 123, 3) := dk_182 0 123 (dk_at dksX0_more_0 13 rfl rfl)
theorem dX0_more_16 : decode cX0_more 16 = .ok (.ifCond .eq 6, 3) := dk_153 0 6 (dk_at dksX0_more_0 16 rfl rfl)
theorem dX0_more_19 : decode cX0_more 19 = .ok (.ldc 222, 2) := dk_18 222 (dk_at dksX0_more_0 19 rfl rfl)
theorem dX0_more_21 : decode cX0_more 21 = .ok (.ireturn, 1) := dk_172 (dk_at dksX0_more_0 21 rfl rfl)
theorem dX0_more_22 : decode cX0_more 22 = .ok (.iconst 0, 1) := dk_3 (dk_at dksX0_more_0 22 rfl rfl)
theorem dX0_more_23 : decode cX0_more 23 = .ok (.istore_n 2, 1) := dk_61 (dk_at dksX0_more_0 23 rfl rfl)
theorem dX0_more_24 : decode cX0_more 24 = .ok (.ldc 209, 2) := dk_18 209 (dk_at dksX0_more_1 0 rfl rfl)
theorem dX0_more_26 : decode cX0_more 26 = .ok (.istore_n 3, 1) := dk_62 (dk_at dksX0_more_1 2 rfl rfl)
theorem dX0_more_27 : decode cX0_more 27 = .ok (.iconst 0, 1) := dk_3 (dk_at dksX0_more_1 3 rfl rfl)
theorem dX0_more_28 : decode cX0_more 28 = .ok (.istore 4, 2) := dk_54 4 (dk_at dksX0_more_1 4 rfl rfl)
theorem dX0_more_30 : decode cX0_more 30 = .ok (.iload 4, 2) := dk_21 4 (dk_at dksX0_more_1 6 rfl rfl)
theorem dX0_more_32 : decode cX0_more 32 = .ok (.aload_n 0, 1) := dk_42 (dk_at dksX0_more_1 8 rfl rfl)
theorem dX0_more_33 : decode cX0_more 33 = .ok (.getfield 12, 3) := dk_180 0 12 (dk_at dksX0_more_1 9 rfl rfl)
theorem dX0_more_36 : decode cX0_more 36 = .ok (.getfield 119, 3) := dk_180 0 119 (dk_at dksX0_more_1 12 rfl rfl)
theorem dX0_more_39 : decode cX0_more 39 = .ok (.getfield 139, 3) := dk_180 0 139 (dk_at dksX0_more_1 15 rfl rfl)
theorem dX0_more_42 : decode cX0_more 42 = .ok (.iconst 4, 1) := dk_7 (dk_at dksX0_more_1 18 rfl rfl)
theorem dX0_more_43 : decode cX0_more 43 = .ok (.iadd, 1) := dk_96 (dk_at dksX0_more_1 19 rfl rfl)
theorem dX0_more_44 : decode cX0_more 44 = .ok (.if_icmp .ge 65, 3) := dk_162 0 65 (dk_at dksX0_more_1 20 rfl rfl)
theorem dX0_more_47 : decode cX0_more 47 = .ok (.aload_n 0, 1) := dk_42 (dk_at dksX0_more_1 23 rfl rfl)
theorem dX0_more_48 : decode cX0_more 48 = .ok (.getfield 12, 3) := dk_180 0 12 (dk_at dksX0_more_2 0 rfl rfl)
theorem dX0_more_51 : decode cX0_more 51 = .ok (.getfield 165, 3) := dk_180 0 165 (dk_at dksX0_more_2 3 rfl rfl)
theorem dX0_more_54 : decode cX0_more 54 = .ok (.aload_n 0, 1) := dk_42 (dk_at dksX0_more_2 6 rfl rfl)
theorem dX0_more_55 : decode cX0_more 55 = .ok (.getfield 12, 3) := dk_180 0 12 (dk_at dksX0_more_2 7 rfl rfl)
theorem dX0_more_58 : decode cX0_more 58 = .ok (.getfield 131, 3) := dk_180 0 131 (dk_at dksX0_more_2 10 rfl rfl)
theorem dX0_more_61 : decode cX0_more 61 = .ok (.aload_n 0, 1) := dk_42 (dk_at dksX0_more_2 13 rfl rfl)
theorem dX0_more_62 : decode cX0_more 62 = .ok (.iload 4, 2) := dk_21 4 (dk_at dksX0_more_2 14 rfl rfl)
theorem dX0_more_64 : decode cX0_more 64 = .ok (.invokevirtual 239, 3) := dk_182 0 239 (dk_at dksX0_more_2 16 rfl rfl)
theorem dX0_more_67 : decode cX0_more 67 = .ok (.aastore, 1) := dk_83 (dk_at dksX0_more_2 19 rfl rfl)
theorem dX0_more_68 : decode cX0_more 68 = .ok (.aload_n 0, 1) := dk_42 (dk_at dksX0_more_2 20 rfl rfl)
theorem dX0_more_69 : decode cX0_more 69 = .ok (.aload_n 0, 1) := dk_42 (dk_at dksX0_more_2 21 rfl rfl)
theorem dX0_more_70 : decode cX0_more 70 = .ok (.getfield 12, 3) := dk_180 0 12 (dk_at dksX0_more_3 0 rfl rfl)
theorem dX0_more_73 : decode cX0_more 73 = .ok (.getfield 131, 3) := dk_180 0 131 (dk_at dksX0_more_3 3 rfl rfl)
theorem dX0_more_76 : decode cX0_more 76 = .ok (.iconst 1, 1) := dk_4 (dk_at dksX0_more_3 6 rfl rfl)
theorem dX0_more_77 : decode cX0_more 77 = .ok (.iadd, 1) := dk_96 (dk_at dksX0_more_3 7 rfl rfl)
theorem dX0_more_78 : decode cX0_more 78 = .ok (.invokevirtual 243, 3) := dk_182 0 243 (dk_at dksX0_more_3 8 rfl rfl)
theorem dX0_more_81 : decode cX0_more 81 = .ok (.istore 5, 2) := dk_54 5 (dk_at dksX0_more_3 11 rfl rfl)
theorem dX0_more_83 : decode cX0_more 83 = .ok (.iload 5, 2) := dk_21 5 (dk_at dksX0_more_3 13 rfl rfl)
theorem dX0_more_85 : decode cX0_more 85 = .ok (.iload_n 3, 1) := dk_29 (dk_at dksX0_more_3 15 rfl rfl)
theorem dX0_more_86 : decode cX0_more 86 = .ok (.if_icmp .ge 8, 3) := dk_162 0 8 (dk_at dksX0_more_3 16 rfl rfl)
theorem dX0_more_89 : decode cX0_more 89 = .ok (.iload 4, 2) := dk_21 4 (dk_at dksX0_more_3 19 rfl rfl)
theorem dX0_more_91 : decode cX0_more 91 = .ok (.goto 4, 3) := dk_167 0 4 (dk_at dksX0_more_3 21 rfl rfl)
theorem dX0_more_94 : decode cX0_more 94 = .ok (.iload_n 2, 1) := dk_28 (dk_at dksX0_more_4 0 rfl rfl)
theorem dX0_more_95 : decode cX0_more 95 = .ok (.istore_n 2, 1) := dk_61 (dk_at dksX0_more_4 1 rfl rfl)
theorem dX0_more_96 : decode cX0_more 96 = .ok (.iload_n 3, 1) := dk_29 (dk_at dksX0_more_4 2 rfl rfl)
theorem dX0_more_97 : decode cX0_more 97 = .ok (.iload 5, 2) := dk_21 5 (dk_at dksX0_more_4 3 rfl rfl)
theorem dX0_more_99 : decode cX0_more 99 = .ok (.invokestatic 216, 3) := dk_184 0 216 (dk_at dksX0_more_4 5 rfl rfl)
theorem dX0_more_102 : decode cX0_more 102 = .ok (.istore_n 3, 1) := dk_62 (dk_at dksX0_more_4 8 rfl rfl)
theorem dX0_more_103 : decode cX0_more 103 = .ok (.iinc 4 1, 3) := dk_132 4 1 (dk_at dksX0_more_4 9 rfl rfl)
theorem dX0_more_106 : decode cX0_more 106 = .ok (.goto (-76), 3) := dk_167 255 180 (dk_at dksX0_more_4 12 rfl rfl)
theorem dX0_more_109 : decode cX0_more 109 = .ok (.aload_n 0, 1) := dk_42 (dk_at dksX0_more_4 15 rfl rfl)
theorem dX0_more_110 : decode cX0_more 110 = .ok (.iload_n 2, 1) := dk_28 (dk_at dksX0_more_4 16 rfl rfl)
theorem dX0_more_111 : decode cX0_more 111 = .ok (.invokevirtual 239, 3) := dk_182 0 239 (dk_at dksX0_more_4 17 rfl rfl)
theorem dX0_more_114 : decode cX0_more 114 = .ok (.astore 4, 2) := dk_58 4 (dk_at dksX0_more_4 20 rfl rfl)
theorem dX0_more_116 : decode cX0_more 116 = .ok (.iload_n 1, 1) := dk_27 (dk_at dksX0_more_4 22 rfl rfl)
theorem dX0_more_117 : decode cX0_more 117 = .ok (.ifCond .ne 11, 3) := dk_154 0 11 (dk_at dksX0_more_5 0 rfl rfl)
theorem dX0_more_120 : decode cX0_more 120 = .ok (.aload 4, 2) := dk_25 4 (dk_at dksX0_more_5 3 rfl rfl)
theorem dX0_more_122 : decode cX0_more 122 = .ok (.invokevirtual 169, 3) := dk_182 0 169 (dk_at dksX0_more_5 5 rfl rfl)
theorem dX0_more_125 : decode cX0_more 125 = .ok (.goto 17, 3) := dk_167 0 17 (dk_at dksX0_more_5 8 rfl rfl)
theorem dX0_more_128 : decode cX0_more 128 = .ok (.iload_n 1, 1) := dk_27 (dk_at dksX0_more_5 11 rfl rfl)
theorem dX0_more_129 : decode cX0_more 129 = .ok (.iconst 1, 1) := dk_4 (dk_at dksX0_more_5 12 rfl rfl)
theorem dX0_more_130 : decode cX0_more 130 = .ok (.if_icmp .ne 11, 3) := dk_160 0 11 (dk_at dksX0_more_5 13 rfl rfl)
theorem dX0_more_133 : decode cX0_more 133 = .ok (.aload 4, 2) := dk_25 4 (dk_at dksX0_more_5 16 rfl rfl)
theorem dX0_more_135 : decode cX0_more 135 = .ok (.invokevirtual 175, 3) := dk_182 0 175 (dk_at dksX0_more_5 18 rfl rfl)
theorem dX0_more_138 : decode cX0_more 138 = .ok (.goto 4, 3) := dk_167 0 4 (dk_at dksX0_more_5 21 rfl rfl)
theorem dX0_more_141 : decode cX0_more 141 = .ok (.iload_n 3, 1) := dk_29 (dk_at dksX0_more_6 0 rfl rfl)
theorem dX0_more_142 : decode cX0_more 142 = .ok (.ireturn, 1) := dk_172 (dk_at dksX0_more_6 1 rfl rfl)
abbrev cX0_candidate : ByteArray := prog_1_method_29_code
def yX0_candidate : MethodName := ⟨RX0, "candidate", "(I)LFewKeys$Key;"⟩
def dkwX0_candidate_2 : List UInt8 := [4, 183, 0, 233, 167, 0, 12, 187, 0, 234, 89, 44, 4, 183, 0, 236, 176]
abbrev dktX0_candidate_2 : List UInt8 := dkwX0_candidate_2 ++ []
def dkwX0_candidate_1 : List UInt8 := [4, 183, 0, 228, 167, 0, 36, 27, 29, 6, 96, 162, 0, 20, 187, 0, 231, 89, 44, 27, 29, 100, 4, 96]
abbrev dktX0_candidate_1 : List UInt8 := dkwX0_candidate_1 ++ dktX0_candidate_2
def dkwX0_candidate_0 : List UInt8 := [42, 180, 0, 12, 180, 0, 119, 77, 44, 180, 0, 139, 62, 27, 29, 162, 0, 16, 187, 0, 226, 89, 44, 27]
abbrev dktX0_candidate_0 : List UInt8 := dkwX0_candidate_0 ++ dktX0_candidate_1
theorem dksX0_candidate_0 : cX0_candidate.data.toList.drop 0 = dktX0_candidate_0 := by decide +kernel
theorem dksX0_candidate_1 : cX0_candidate.data.toList.drop 24 = dktX0_candidate_1 := dk_seg dksX0_candidate_0 24 rfl rfl
theorem dksX0_candidate_2 : cX0_candidate.data.toList.drop 48 = dktX0_candidate_2 := dk_seg dksX0_candidate_1 24 rfl rfl
theorem dX0_candidate_0 : decode cX0_candidate 0 = .ok (.aload_n 0, 1) := dk_42 (dk_at dksX0_candidate_0 0 rfl rfl)
theorem dX0_candidate_1 : decode cX0_candidate 1 = .ok (.getfield 12, 3) := dk_180 0 12 (dk_at dksX0_candidate_0 1 rfl rfl)
theorem dX0_candidate_4 : decode cX0_candidate 4 = .ok (.getfield 119, 3) := dk_180 0 119 (dk_at dksX0_candidate_0 4 rfl rfl)
theorem dX0_candidate_7 : decode cX0_candidate 7 = .ok (.astore_n 2, 1) := dk_77 (dk_at dksX0_candidate_0 7 rfl rfl)
theorem dX0_candidate_8 : decode cX0_candidate 8 = .ok (.aload_n 2, 1) := dk_44 (dk_at dksX0_candidate_0 8 rfl rfl)
theorem dX0_candidate_9 : decode cX0_candidate 9 = .ok (.getfield 139, 3) := dk_180 0 139 (dk_at dksX0_candidate_0 9 rfl rfl)
theorem dX0_candidate_12 : decode cX0_candidate 12 = .ok (.istore_n 3, 1) := dk_62 (dk_at dksX0_candidate_0 12 rfl rfl)
theorem dX0_candidate_13 : decode cX0_candidate 13 = .ok (.iload_n 1, 1) := dk_27 (dk_at dksX0_candidate_0 13 rfl rfl)
theorem dX0_candidate_14 : decode cX0_candidate 14 = .ok (.iload_n 3, 1) := dk_29 (dk_at dksX0_candidate_0 14 rfl rfl)
theorem dX0_candidate_15 : decode cX0_candidate 15 = .ok (.if_icmp .ge 16, 3) := dk_162 0 16 (dk_at dksX0_candidate_0 15 rfl rfl)
theorem dX0_candidate_18 : decode cX0_candidate 18 = .ok (.new 226, 3) := dk_187 0 226 (dk_at dksX0_candidate_0 18 rfl rfl)
theorem dX0_candidate_21 : decode cX0_candidate 21 = .ok (.dup, 1) := dk_89 (dk_at dksX0_candidate_0 21 rfl rfl)
theorem dX0_candidate_22 : decode cX0_candidate 22 = .ok (.aload_n 2, 1) := dk_44 (dk_at dksX0_candidate_0 22 rfl rfl)
theorem dX0_candidate_23 : decode cX0_candidate 23 = .ok (.iload_n 1, 1) := dk_27 (dk_at dksX0_candidate_0 23 rfl rfl)
theorem dX0_candidate_24 : decode cX0_candidate 24 = .ok (.iconst 1, 1) := dk_4 (dk_at dksX0_candidate_1 0 rfl rfl)
theorem dX0_candidate_25 : decode cX0_candidate 25 = .ok (.invokespecial 228, 3) := dk_183 0 228 (dk_at dksX0_candidate_1 1 rfl rfl)
theorem dX0_candidate_28 : decode cX0_candidate 28 = .ok (.goto 36, 3) := dk_167 0 36 (dk_at dksX0_candidate_1 4 rfl rfl)
theorem dX0_candidate_31 : decode cX0_candidate 31 = .ok (.iload_n 1, 1) := dk_27 (dk_at dksX0_candidate_1 7 rfl rfl)
theorem dX0_candidate_32 : decode cX0_candidate 32 = .ok (.iload_n 3, 1) := dk_29 (dk_at dksX0_candidate_1 8 rfl rfl)
theorem dX0_candidate_33 : decode cX0_candidate 33 = .ok (.iconst 3, 1) := dk_6 (dk_at dksX0_candidate_1 9 rfl rfl)
theorem dX0_candidate_34 : decode cX0_candidate 34 = .ok (.iadd, 1) := dk_96 (dk_at dksX0_candidate_1 10 rfl rfl)
theorem dX0_candidate_35 : decode cX0_candidate 35 = .ok (.if_icmp .ge 20, 3) := dk_162 0 20 (dk_at dksX0_candidate_1 11 rfl rfl)
theorem dX0_candidate_38 : decode cX0_candidate 38 = .ok (.new 231, 3) := dk_187 0 231 (dk_at dksX0_candidate_1 14 rfl rfl)
theorem dX0_candidate_41 : decode cX0_candidate 41 = .ok (.dup, 1) := dk_89 (dk_at dksX0_candidate_1 17 rfl rfl)
theorem dX0_candidate_42 : decode cX0_candidate 42 = .ok (.aload_n 2, 1) := dk_44 (dk_at dksX0_candidate_1 18 rfl rfl)
theorem dX0_candidate_43 : decode cX0_candidate 43 = .ok (.iload_n 1, 1) := dk_27 (dk_at dksX0_candidate_1 19 rfl rfl)
theorem dX0_candidate_44 : decode cX0_candidate 44 = .ok (.iload_n 3, 1) := dk_29 (dk_at dksX0_candidate_1 20 rfl rfl)
theorem dX0_candidate_45 : decode cX0_candidate 45 = .ok (.isub, 1) := dk_100 (dk_at dksX0_candidate_1 21 rfl rfl)
theorem dX0_candidate_46 : decode cX0_candidate 46 = .ok (.iconst 1, 1) := dk_4 (dk_at dksX0_candidate_1 22 rfl rfl)
theorem dX0_candidate_47 : decode cX0_candidate 47 = .ok (.iadd, 1) := dk_96 (dk_at dksX0_candidate_1 23 rfl rfl)
theorem dX0_candidate_48 : decode cX0_candidate 48 = .ok (.iconst 1, 1) := dk_4 (dk_at dksX0_candidate_2 0 rfl rfl)
theorem dX0_candidate_49 : decode cX0_candidate 49 = .ok (.invokespecial 233, 3) := dk_183 0 233 (dk_at dksX0_candidate_2 1 rfl rfl)
theorem dX0_candidate_52 : decode cX0_candidate 52 = .ok (.goto 12, 3) := dk_167 0 12 (dk_at dksX0_candidate_2 4 rfl rfl)
theorem dX0_candidate_55 : decode cX0_candidate 55 = .ok (.new 234, 3) := dk_187 0 234 (dk_at dksX0_candidate_2 7 rfl rfl)
theorem dX0_candidate_58 : decode cX0_candidate 58 = .ok (.dup, 1) := dk_89 (dk_at dksX0_candidate_2 10 rfl rfl)
theorem dX0_candidate_59 : decode cX0_candidate 59 = .ok (.aload_n 2, 1) := dk_44 (dk_at dksX0_candidate_2 11 rfl rfl)
theorem dX0_candidate_60 : decode cX0_candidate 60 = .ok (.iconst 1, 1) := dk_4 (dk_at dksX0_candidate_2 12 rfl rfl)
theorem dX0_candidate_61 : decode cX0_candidate 61 = .ok (.invokespecial 236, 3) := dk_183 0 236 (dk_at dksX0_candidate_2 13 rfl rfl)
theorem dX0_candidate_64 : decode cX0_candidate 64 = .ok (.areturn, 1) := dk_176 (dk_at dksX0_candidate_2 16 rfl rfl)
abbrev cX0_sumWith : ByteArray := prog_1_method_28_code
def yX0_sumWith : MethodName := ⟨RX0, "sumWith", "(I)I"⟩
def dkwX0_sumWith_2 : List UInt8 := [160, 0, 8, 16, 99, 167, 0, 5, 21, 4, 96, 61, 132, 3, 1, 167, 255, 211, 28, 172]
abbrev dktX0_sumWith_2 : List UInt8 := dkwX0_sumWith_2 ++ []
def dkwX0_sumWith_1 : List UInt8 := [162, 0, 40, 42, 42, 180, 0, 19, 180, 0, 223, 29, 46, 182, 0, 206, 54, 4, 28, 21, 4, 2]
abbrev dktX0_sumWith_1 : List UInt8 := dkwX0_sumWith_1 ++ dktX0_sumWith_2
def dkwX0_sumWith_0 : List UInt8 := [42, 42, 180, 0, 19, 180, 0, 145, 27, 182, 0, 202, 3, 61, 3, 62, 29, 42, 180, 0, 19, 180, 0, 157]
abbrev dktX0_sumWith_0 : List UInt8 := dkwX0_sumWith_0 ++ dktX0_sumWith_1
theorem dksX0_sumWith_0 : cX0_sumWith.data.toList.drop 0 = dktX0_sumWith_0 := by decide +kernel
theorem dksX0_sumWith_1 : cX0_sumWith.data.toList.drop 24 = dktX0_sumWith_1 := dk_seg dksX0_sumWith_0 24 rfl rfl
theorem dksX0_sumWith_2 : cX0_sumWith.data.toList.drop 46 = dktX0_sumWith_2 := dk_seg dksX0_sumWith_1 22 rfl rfl
theorem dX0_sumWith_0 : decode cX0_sumWith 0 = .ok (.aload_n 0, 1) := dk_42 (dk_at dksX0_sumWith_0 0 rfl rfl)
theorem dX0_sumWith_1 : decode cX0_sumWith 1 = .ok (.aload_n 0, 1) := dk_42 (dk_at dksX0_sumWith_0 1 rfl rfl)
theorem dX0_sumWith_2 : decode cX0_sumWith 2 = .ok (.getfield 19, 3) := dk_180 0 19 (dk_at dksX0_sumWith_0 2 rfl rfl)
theorem dX0_sumWith_5 : decode cX0_sumWith 5 = .ok (.getfield 145, 3) := dk_180 0 145 (dk_at dksX0_sumWith_0 5 rfl rfl)
theorem dX0_sumWith_8 : decode cX0_sumWith 8 = .ok (.iload_n 1, 1) := dk_27 (dk_at dksX0_sumWith_0 8 rfl rfl)
theorem dX0_sumWith_9 : decode cX0_sumWith 9 = .ok (.invokevirtual 202, 3) := dk_182 0 202 (dk_at dksX0_sumWith_0 9 rfl rfl)
theorem dX0_sumWith_12 : decode cX0_sumWith 12 = .ok (.iconst 0, 1) := dk_3 (dk_at dksX0_sumWith_0 12 rfl rfl)
theorem dX0_sumWith_13 : decode cX0_sumWith 13 = .ok (.istore_n 2, 1) := dk_61 (dk_at dksX0_sumWith_0 13 rfl rfl)
theorem dX0_sumWith_14 : decode cX0_sumWith 14 = .ok (.iconst 0, 1) := dk_3 (dk_at dksX0_sumWith_0 14 rfl rfl)
theorem dX0_sumWith_15 : decode cX0_sumWith 15 = .ok (.istore_n 3, 1) := dk_62 (dk_at dksX0_sumWith_0 15 rfl rfl)
theorem dX0_sumWith_16 : decode cX0_sumWith 16 = .ok (.iload_n 3, 1) := dk_29 (dk_at dksX0_sumWith_0 16 rfl rfl)
theorem dX0_sumWith_17 : decode cX0_sumWith 17 = .ok (.aload_n 0, 1) := dk_42 (dk_at dksX0_sumWith_0 17 rfl rfl)
theorem dX0_sumWith_18 : decode cX0_sumWith 18 = .ok (.getfield 19, 3) := dk_180 0 19 (dk_at dksX0_sumWith_0 18 rfl rfl)
theorem dX0_sumWith_21 : decode cX0_sumWith 21 = .ok (.getfield 157, 3) := dk_180 0 157 (dk_at dksX0_sumWith_0 21 rfl rfl)
theorem dX0_sumWith_24 : decode cX0_sumWith 24 = .ok (.if_icmp .ge 40, 3) := dk_162 0 40 (dk_at dksX0_sumWith_1 0 rfl rfl)
theorem dX0_sumWith_27 : decode cX0_sumWith 27 = .ok (.aload_n 0, 1) := dk_42 (dk_at dksX0_sumWith_1 3 rfl rfl)
theorem dX0_sumWith_28 : decode cX0_sumWith 28 = .ok (.aload_n 0, 1) := dk_42 (dk_at dksX0_sumWith_1 4 rfl rfl)
theorem dX0_sumWith_29 : decode cX0_sumWith 29 = .ok (.getfield 19, 3) := dk_180 0 19 (dk_at dksX0_sumWith_1 5 rfl rfl)
theorem dX0_sumWith_32 : decode cX0_sumWith 32 = .ok (.getfield 223, 3) := dk_180 0 223 (dk_at dksX0_sumWith_1 8 rfl rfl)
theorem dX0_sumWith_35 : decode cX0_sumWith 35 = .ok (.iload_n 3, 1) := dk_29 (dk_at dksX0_sumWith_1 11 rfl rfl)
theorem dX0_sumWith_36 : decode cX0_sumWith 36 = .ok (.iaload, 1) := dk_46 (dk_at dksX0_sumWith_1 12 rfl rfl)
theorem dX0_sumWith_37 : decode cX0_sumWith 37 = .ok (.invokevirtual 206, 3) := dk_182 0 206 (dk_at dksX0_sumWith_1 13 rfl rfl)
theorem dX0_sumWith_40 : decode cX0_sumWith 40 = .ok (.istore 4, 2) := dk_54 4 (dk_at dksX0_sumWith_1 16 rfl rfl)
theorem dX0_sumWith_42 : decode cX0_sumWith 42 = .ok (.iload_n 2, 1) := dk_28 (dk_at dksX0_sumWith_1 18 rfl rfl)
theorem dX0_sumWith_43 : decode cX0_sumWith 43 = .ok (.iload 4, 2) := dk_21 4 (dk_at dksX0_sumWith_1 19 rfl rfl)
theorem dX0_sumWith_45 : decode cX0_sumWith 45 = .ok (.iconst (-1), 1) := dk_2 (dk_at dksX0_sumWith_1 21 rfl rfl)
theorem dX0_sumWith_46 : decode cX0_sumWith 46 = .ok (.if_icmp .ne 8, 3) := dk_160 0 8 (dk_at dksX0_sumWith_2 0 rfl rfl)
theorem dX0_sumWith_49 : decode cX0_sumWith 49 = .ok (.bipush 99, 2) := dk_16 99 (dk_at dksX0_sumWith_2 3 rfl rfl)
theorem dX0_sumWith_51 : decode cX0_sumWith 51 = .ok (.goto 5, 3) := dk_167 0 5 (dk_at dksX0_sumWith_2 5 rfl rfl)
theorem dX0_sumWith_54 : decode cX0_sumWith 54 = .ok (.iload 4, 2) := dk_21 4 (dk_at dksX0_sumWith_2 8 rfl rfl)
theorem dX0_sumWith_56 : decode cX0_sumWith 56 = .ok (.iadd, 1) := dk_96 (dk_at dksX0_sumWith_2 10 rfl rfl)
theorem dX0_sumWith_57 : decode cX0_sumWith 57 = .ok (.istore_n 2, 1) := dk_61 (dk_at dksX0_sumWith_2 11 rfl rfl)
theorem dX0_sumWith_58 : decode cX0_sumWith 58 = .ok (.iinc 3 1, 3) := dk_132 3 1 (dk_at dksX0_sumWith_2 12 rfl rfl)
theorem dX0_sumWith_61 : decode cX0_sumWith 61 = .ok (.goto (-45), 3) := dk_167 255 211 (dk_at dksX0_sumWith_2 15 rfl rfl)
theorem dX0_sumWith_64 : decode cX0_sumWith 64 = .ok (.iload_n 2, 1) := dk_28 (dk_at dksX0_sumWith_2 18 rfl rfl)
theorem dX0_sumWith_65 : decode cX0_sumWith 65 = .ok (.ireturn, 1) := dk_172 (dk_at dksX0_sumWith_2 19 rfl rfl)
abbrev cX0_list : ByteArray := prog_1_method_32_code
def yX0_list : MethodName := ⟨RX0, "list", "()I"⟩
def dkwX0_list_7 : List UInt8 := [160, 0, 7, 2, 167, 0, 4, 27, 172]
abbrev dktX0_list_7 : List UInt8 := dkwX0_list_7 ++ []
def dkwX0_list_6 : List UInt8 := [162, 0, 20, 27, 42, 180, 0, 54, 28, 46, 184, 0, 216, 60, 132, 2, 1, 167, 255, 228, 27, 18, 209]
abbrev dktX0_list_6 : List UInt8 := dkwX0_list_6 ++ dktX0_list_7
def dkwX0_list_5 : List UInt8 := [132, 1, 1, 167, 255, 182, 18, 209, 60, 3, 61, 28, 42, 180, 0, 12, 180, 0, 119, 182, 0, 187]
abbrev dktX0_list_5 : List UInt8 := dkwX0_list_5 ++ dktX0_list_6
def dkwX0_list_4 : List UInt8 := [46, 160, 0, 12, 42, 180, 0, 54, 28, 46, 167, 0, 5, 18, 209, 79, 132, 2, 1, 167, 255, 205]
abbrev dktX0_list_4 : List UInt8 := dkwX0_list_4 ++ dktX0_list_5
def dkwX0_list_3 : List UInt8 := [182, 0, 187, 162, 0, 43, 42, 180, 0, 54, 28, 42, 28, 182, 0, 148, 42, 180, 0, 19, 180, 0, 223, 27]
abbrev dktX0_list_3 : List UInt8 := dkwX0_list_3 ++ dktX0_list_4
def dkwX0_list_2 : List UInt8 := [180, 0, 19, 180, 0, 157, 162, 0, 69, 42, 182, 0, 246, 3, 61, 28, 42, 180, 0, 12, 180, 0, 119]
abbrev dktX0_list_2 : List UInt8 := dkwX0_list_2 ++ dktX0_list_3
def dkwX0_list_1 : List UInt8 := [18, 209, 184, 0, 190, 42, 180, 0, 54, 42, 180, 0, 19, 180, 0, 145, 3, 79, 3, 60, 27, 42]
abbrev dktX0_list_1 : List UInt8 := dkwX0_list_1 ++ dktX0_list_2
def dkwX0_list_0 : List UInt8 := [42, 182, 0, 123, 153, 0, 5, 3, 172, 42, 180, 0, 54, 3, 42, 180, 0, 12, 180, 0, 119, 182, 0, 187]
abbrev dktX0_list_0 : List UInt8 := dkwX0_list_0 ++ dktX0_list_1
theorem dksX0_list_0 : cX0_list.data.toList.drop 0 = dktX0_list_0 := by decide +kernel
theorem dksX0_list_1 : cX0_list.data.toList.drop 24 = dktX0_list_1 := dk_seg dksX0_list_0 24 rfl rfl
theorem dksX0_list_2 : cX0_list.data.toList.drop 46 = dktX0_list_2 := dk_seg dksX0_list_1 22 rfl rfl
theorem dksX0_list_3 : cX0_list.data.toList.drop 69 = dktX0_list_3 := dk_seg dksX0_list_2 23 rfl rfl
theorem dksX0_list_4 : cX0_list.data.toList.drop 93 = dktX0_list_4 := dk_seg dksX0_list_3 24 rfl rfl
theorem dksX0_list_5 : cX0_list.data.toList.drop 115 = dktX0_list_5 := dk_seg dksX0_list_4 22 rfl rfl
theorem dksX0_list_6 : cX0_list.data.toList.drop 137 = dktX0_list_6 := dk_seg dksX0_list_5 22 rfl rfl
theorem dksX0_list_7 : cX0_list.data.toList.drop 160 = dktX0_list_7 := dk_seg dksX0_list_6 23 rfl rfl
theorem dX0_list_0 : decode cX0_list 0 = .ok (.aload_n 0, 1) := dk_42 (dk_at dksX0_list_0 0 rfl rfl)
theorem dX0_list_1 : decode cX0_list 1 = .ok (.invokevirtual 123, 3) := dk_182 0 123 (dk_at dksX0_list_0 1 rfl rfl)
theorem dX0_list_4 : decode cX0_list 4 = .ok (.ifCond .eq 5, 3) := dk_153 0 5 (dk_at dksX0_list_0 4 rfl rfl)
theorem dX0_list_7 : decode cX0_list 7 = .ok (.iconst 0, 1) := dk_3 (dk_at dksX0_list_0 7 rfl rfl)
theorem dX0_list_8 : decode cX0_list 8 = .ok (.ireturn, 1) := dk_172 (dk_at dksX0_list_0 8 rfl rfl)
theorem dX0_list_9 : decode cX0_list 9 = .ok (.aload_n 0, 1) := dk_42 (dk_at dksX0_list_0 9 rfl rfl)
theorem dX0_list_10 : decode cX0_list 10 = .ok (.getfield 54, 3) := dk_180 0 54 (dk_at dksX0_list_0 10 rfl rfl)
theorem dX0_list_13 : decode cX0_list 13 = .ok (.iconst 0, 1) := dk_3 (dk_at dksX0_list_0 13 rfl rfl)
theorem dX0_list_14 : decode cX0_list 14 = .ok (.aload_n 0, 1) := dk_42 (dk_at dksX0_list_0 14 rfl rfl)
theorem dX0_list_15 : decode cX0_list 15 = .ok (.getfield 12, 3) := dk_180 0 12 (dk_at dksX0_list_0 15 rfl rfl)
theorem dX0_list_18 : decode cX0_list 18 = .ok (.getfield 119, 3) := dk_180 0 119 (dk_at dksX0_list_0 18 rfl rfl)
theorem dX0_list_21 : decode cX0_list 21 = .ok (.invokevirtual 187, 3) := dk_182 0 187 (dk_at dksX0_list_0 21 rfl rfl)
theorem dX0_list_24 : decode cX0_list 24 = .ok (.ldc 209, 2) := dk_18 209 (dk_at dksX0_list_1 0 rfl rfl)
theorem dX0_list_26 : decode cX0_list 26 = .ok (.invokestatic 190, 3) := dk_184 0 190 (dk_at dksX0_list_1 2 rfl rfl)
theorem dX0_list_29 : decode cX0_list 29 = .ok (.aload_n 0, 1) := dk_42 (dk_at dksX0_list_1 5 rfl rfl)
theorem dX0_list_30 : decode cX0_list 30 = .ok (.getfield 54, 3) := dk_180 0 54 (dk_at dksX0_list_1 6 rfl rfl)
theorem dX0_list_33 : decode cX0_list 33 = .ok (.aload_n 0, 1) := dk_42 (dk_at dksX0_list_1 9 rfl rfl)
theorem dX0_list_34 : decode cX0_list 34 = .ok (.getfield 19, 3) := dk_180 0 19 (dk_at dksX0_list_1 10 rfl rfl)
theorem dX0_list_37 : decode cX0_list 37 = .ok (.getfield 145, 3) := dk_180 0 145 (dk_at dksX0_list_1 13 rfl rfl)
theorem dX0_list_40 : decode cX0_list 40 = .ok (.iconst 0, 1) := dk_3 (dk_at dksX0_list_1 16 rfl rfl)
theorem dX0_list_41 : decode cX0_list 41 = .ok (.iastore, 1) := dk_79 (dk_at dksX0_list_1 17 rfl rfl)
theorem dX0_list_42 : decode cX0_list 42 = .ok (.iconst 0, 1) := dk_3 (dk_at dksX0_list_1 18 rfl rfl)
theorem dX0_list_43 : decode cX0_list 43 = .ok (.istore_n 1, 1) := dk_60 (dk_at dksX0_list_1 19 rfl rfl)
theorem dX0_list_44 : decode cX0_list 44 = .ok (.iload_n 1, 1) := dk_27 (dk_at dksX0_list_1 20 rfl rfl)
theorem dX0_list_45 : decode cX0_list 45 = .ok (.aload_n 0, 1) := dk_42 (dk_at dksX0_list_1 21 rfl rfl)
theorem dX0_list_46 : decode cX0_list 46 = .ok (.getfield 19, 3) := dk_180 0 19 (dk_at dksX0_list_2 0 rfl rfl)
theorem dX0_list_49 : decode cX0_list 49 = .ok (.getfield 157, 3) := dk_180 0 157 (dk_at dksX0_list_2 3 rfl rfl)
theorem dX0_list_52 : decode cX0_list 52 = .ok (.if_icmp .ge 69, 3) := dk_162 0 69 (dk_at dksX0_list_2 6 rfl rfl)
theorem dX0_list_55 : decode cX0_list 55 = .ok (.aload_n 0, 1) := dk_42 (dk_at dksX0_list_2 9 rfl rfl)
theorem dX0_list_56 : decode cX0_list 56 = .ok (.invokevirtual 246, 3) := dk_182 0 246 (dk_at dksX0_list_2 10 rfl rfl)
theorem dX0_list_59 : decode cX0_list 59 = .ok (.iconst 0, 1) := dk_3 (dk_at dksX0_list_2 13 rfl rfl)
theorem dX0_list_60 : decode cX0_list 60 = .ok (.istore_n 2, 1) := dk_61 (dk_at dksX0_list_2 14 rfl rfl)
theorem dX0_list_61 : decode cX0_list 61 = .ok (.iload_n 2, 1) := dk_28 (dk_at dksX0_list_2 15 rfl rfl)
theorem dX0_list_62 : decode cX0_list 62 = .ok (.aload_n 0, 1) := dk_42 (dk_at dksX0_list_2 16 rfl rfl)
theorem dX0_list_63 : decode cX0_list 63 = .ok (.getfield 12, 3) := dk_180 0 12 (dk_at dksX0_list_2 17 rfl rfl)
theorem dX0_list_66 : decode cX0_list 66 = .ok (.getfield 119, 3) := dk_180 0 119 (dk_at dksX0_list_2 20 rfl rfl)
theorem dX0_list_69 : decode cX0_list 69 = .ok (.invokevirtual 187, 3) := dk_182 0 187 (dk_at dksX0_list_3 0 rfl rfl)
theorem dX0_list_72 : decode cX0_list 72 = .ok (.if_icmp .ge 43, 3) := dk_162 0 43 (dk_at dksX0_list_3 3 rfl rfl)
theorem dX0_list_75 : decode cX0_list 75 = .ok (.aload_n 0, 1) := dk_42 (dk_at dksX0_list_3 6 rfl rfl)
theorem dX0_list_76 : decode cX0_list 76 = .ok (.getfield 54, 3) := dk_180 0 54 (dk_at dksX0_list_3 7 rfl rfl)
theorem dX0_list_79 : decode cX0_list 79 = .ok (.iload_n 2, 1) := dk_28 (dk_at dksX0_list_3 10 rfl rfl)
theorem dX0_list_80 : decode cX0_list 80 = .ok (.aload_n 0, 1) := dk_42 (dk_at dksX0_list_3 11 rfl rfl)
theorem dX0_list_81 : decode cX0_list 81 = .ok (.iload_n 2, 1) := dk_28 (dk_at dksX0_list_3 12 rfl rfl)
theorem dX0_list_82 : decode cX0_list 82 = .ok (.invokevirtual 148, 3) := dk_182 0 148 (dk_at dksX0_list_3 13 rfl rfl)
theorem dX0_list_85 : decode cX0_list 85 = .ok (.aload_n 0, 1) := dk_42 (dk_at dksX0_list_3 16 rfl rfl)
theorem dX0_list_86 : decode cX0_list 86 = .ok (.getfield 19, 3) := dk_180 0 19 (dk_at dksX0_list_3 17 rfl rfl)
theorem dX0_list_89 : decode cX0_list 89 = .ok (.getfield 223, 3) := dk_180 0 223 (dk_at dksX0_list_3 20 rfl rfl)
theorem dX0_list_92 : decode cX0_list 92 = .ok (.iload_n 1, 1) := dk_27 (dk_at dksX0_list_3 23 rfl rfl)
theorem dX0_list_93 : decode cX0_list 93 = .ok (.iaload, 1) := dk_46 (dk_at dksX0_list_4 0 rfl rfl)
theorem dX0_list_94 : decode cX0_list 94 = .ok (.if_icmp .ne 12, 3) := dk_160 0 12 (dk_at dksX0_list_4 1 rfl rfl)
theorem dX0_list_97 : decode cX0_list 97 = .ok (.aload_n 0, 1) := dk_42 (dk_at dksX0_list_4 4 rfl rfl)
theorem dX0_list_98 : decode cX0_list 98 = .ok (.getfield 54, 3) := dk_180 0 54 (dk_at dksX0_list_4 5 rfl rfl)
theorem dX0_list_101 : decode cX0_list 101 = .ok (.iload_n 2, 1) := dk_28 (dk_at dksX0_list_4 8 rfl rfl)
theorem dX0_list_102 : decode cX0_list 102 = .ok (.iaload, 1) := dk_46 (dk_at dksX0_list_4 9 rfl rfl)
theorem dX0_list_103 : decode cX0_list 103 = .ok (.goto 5, 3) := dk_167 0 5 (dk_at dksX0_list_4 10 rfl rfl)
theorem dX0_list_106 : decode cX0_list 106 = .ok (.ldc 209, 2) := dk_18 209 (dk_at dksX0_list_4 13 rfl rfl)
theorem dX0_list_108 : decode cX0_list 108 = .ok (.iastore, 1) := dk_79 (dk_at dksX0_list_4 15 rfl rfl)
theorem dX0_list_109 : decode cX0_list 109 = .ok (.iinc 2 1, 3) := dk_132 2 1 (dk_at dksX0_list_4 16 rfl rfl)
theorem dX0_list_112 : decode cX0_list 112 = .ok (.goto (-51), 3) := dk_167 255 205 (dk_at dksX0_list_4 19 rfl rfl)
theorem dX0_list_115 : decode cX0_list 115 = .ok (.iinc 1 1, 3) := dk_132 1 1 (dk_at dksX0_list_5 0 rfl rfl)
theorem dX0_list_118 : decode cX0_list 118 = .ok (.goto (-74), 3) := dk_167 255 182 (dk_at dksX0_list_5 3 rfl rfl)
theorem dX0_list_121 : decode cX0_list 121 = .ok (.ldc 209, 2) := dk_18 209 (dk_at dksX0_list_5 6 rfl rfl)
theorem dX0_list_123 : decode cX0_list 123 = .ok (.istore_n 1, 1) := dk_60 (dk_at dksX0_list_5 8 rfl rfl)
theorem dX0_list_124 : decode cX0_list 124 = .ok (.iconst 0, 1) := dk_3 (dk_at dksX0_list_5 9 rfl rfl)
theorem dX0_list_125 : decode cX0_list 125 = .ok (.istore_n 2, 1) := dk_61 (dk_at dksX0_list_5 10 rfl rfl)
theorem dX0_list_126 : decode cX0_list 126 = .ok (.iload_n 2, 1) := dk_28 (dk_at dksX0_list_5 11 rfl rfl)
theorem dX0_list_127 : decode cX0_list 127 = .ok (.aload_n 0, 1) := dk_42 (dk_at dksX0_list_5 12 rfl rfl)
theorem dX0_list_128 : decode cX0_list 128 = .ok (.getfield 12, 3) := dk_180 0 12 (dk_at dksX0_list_5 13 rfl rfl)
theorem dX0_list_131 : decode cX0_list 131 = .ok (.getfield 119, 3) := dk_180 0 119 (dk_at dksX0_list_5 16 rfl rfl)
theorem dX0_list_134 : decode cX0_list 134 = .ok (.invokevirtual 187, 3) := dk_182 0 187 (dk_at dksX0_list_5 19 rfl rfl)
theorem dX0_list_137 : decode cX0_list 137 = .ok (.if_icmp .ge 20, 3) := dk_162 0 20 (dk_at dksX0_list_6 0 rfl rfl)
theorem dX0_list_140 : decode cX0_list 140 = .ok (.iload_n 1, 1) := dk_27 (dk_at dksX0_list_6 3 rfl rfl)
theorem dX0_list_141 : decode cX0_list 141 = .ok (.aload_n 0, 1) := dk_42 (dk_at dksX0_list_6 4 rfl rfl)
theorem dX0_list_142 : decode cX0_list 142 = .ok (.getfield 54, 3) := dk_180 0 54 (dk_at dksX0_list_6 5 rfl rfl)
theorem dX0_list_145 : decode cX0_list 145 = .ok (.iload_n 2, 1) := dk_28 (dk_at dksX0_list_6 8 rfl rfl)
theorem dX0_list_146 : decode cX0_list 146 = .ok (.iaload, 1) := dk_46 (dk_at dksX0_list_6 9 rfl rfl)
theorem dX0_list_147 : decode cX0_list 147 = .ok (.invokestatic 216, 3) := dk_184 0 216 (dk_at dksX0_list_6 10 rfl rfl)
theorem dX0_list_150 : decode cX0_list 150 = .ok (.istore_n 1, 1) := dk_60 (dk_at dksX0_list_6 13 rfl rfl)
theorem dX0_list_151 : decode cX0_list 151 = .ok (.iinc 2 1, 3) := dk_132 2 1 (dk_at dksX0_list_6 14 rfl rfl)
theorem dX0_list_154 : decode cX0_list 154 = .ok (.goto (-28), 3) := dk_167 255 228 (dk_at dksX0_list_6 17 rfl rfl)
theorem dX0_list_157 : decode cX0_list 157 = .ok (.iload_n 1, 1) := dk_27 (dk_at dksX0_list_6 20 rfl rfl)
theorem dX0_list_158 : decode cX0_list 158 = .ok (.ldc 209, 2) := dk_18 209 (dk_at dksX0_list_6 21 rfl rfl)
theorem dX0_list_160 : decode cX0_list 160 = .ok (.if_icmp .ne 7, 3) := dk_160 0 7 (dk_at dksX0_list_7 0 rfl rfl)
theorem dX0_list_163 : decode cX0_list 163 = .ok (.iconst (-1), 1) := dk_2 (dk_at dksX0_list_7 3 rfl rfl)
theorem dX0_list_164 : decode cX0_list 164 = .ok (.goto 4, 3) := dk_167 0 4 (dk_at dksX0_list_7 4 rfl rfl)
theorem dX0_list_167 : decode cX0_list 167 = .ok (.iload_n 1, 1) := dk_27 (dk_at dksX0_list_7 7 rfl rfl)
theorem dX0_list_168 : decode cX0_list 168 = .ok (.ireturn, 1) := dk_172 (dk_at dksX0_list_7 8 rfl rfl)
abbrev cX0_goOn : ByteArray := prog_1_method_31_code
def yX0_goOn : MethodName := ⟨RX0, "goOn", "()V"⟩
def dkwX0_goOn_8 : List UInt8 := [96, 18, 38, 112, 21, 5, 79, 132, 2, 1, 132, 4, 1, 167, 255, 158, 167, 255, 124, 177]
abbrev dktX0_goOn_8 : List UInt8 := dkwX0_goOn_8 ++ []
def dkwX0_goOn_7 : List UInt8 := [42, 180, 0, 57, 21, 5, 51, 154, 0, 27, 42, 180, 0, 57, 21, 5, 4, 84, 42, 180, 0, 42, 27, 28]
abbrev dktX0_goOn_7 : List UInt8 := dkwX0_goOn_7 ++ dktX0_goOn_8
def dkwX0_goOn_6 : List UInt8 := [180, 0, 54, 21, 5, 46, 162, 0, 52, 42, 180, 0, 54, 21, 5, 42, 180, 0, 54, 29, 46, 4, 96, 79]
abbrev dktX0_goOn_6 : List UInt8 := dkwX0_goOn_6 ++ dktX0_goOn_7
def dkwX0_goOn_5 : List UInt8 := [180, 0, 12, 180, 0, 165, 21, 4, 50, 29, 182, 0, 180, 54, 5, 42, 180, 0, 54, 29, 46, 4, 96, 42]
abbrev dktX0_goOn_5 : List UInt8 := dkwX0_goOn_5 ++ dktX0_goOn_6
def dkwX0_goOn_4 : List UInt8 := [42, 180, 0, 57, 29, 3, 84, 3, 54, 4, 21, 4, 42, 180, 0, 12, 180, 0, 131, 162, 0, 92, 42]
abbrev dktX0_goOn_4 : List UInt8 := dkwX0_goOn_4 ++ dktX0_goOn_5
def dkwX0_goOn_3 : List UInt8 := [167, 255, 211, 28, 158, 0, 134, 42, 180, 0, 42, 27, 46, 62, 27, 4, 96, 18, 38, 112, 60, 132, 2, 255]
abbrev dktX0_goOn_3 : List UInt8 := dkwX0_goOn_3 ++ dktX0_goOn_4
def dkwX0_goOn_2 : List UInt8 := [162, 0, 20, 42, 180, 0, 42, 28, 29, 79, 42, 180, 0, 57, 29, 4, 84, 132, 2, 1, 132, 3, 1]
abbrev dktX0_goOn_2 : List UInt8 := dkwX0_goOn_2 ++ dktX0_goOn_3
def dkwX0_goOn_1 : List UInt8 := [62, 29, 42, 180, 0, 12, 180, 0, 119, 182, 0, 187, 162, 0, 37, 42, 180, 0, 54, 29, 46, 18, 209]
abbrev dktX0_goOn_1 : List UInt8 := dkwX0_goOn_1 ++ dktX0_goOn_2
def dkwX0_goOn_0 : List UInt8 := [3, 60, 3, 61, 42, 180, 0, 57, 3, 42, 180, 0, 12, 180, 0, 119, 182, 0, 187, 3, 184, 0, 210, 3]
abbrev dktX0_goOn_0 : List UInt8 := dkwX0_goOn_0 ++ dktX0_goOn_1
theorem dksX0_goOn_0 : cX0_goOn.data.toList.drop 0 = dktX0_goOn_0 := by decide +kernel
theorem dksX0_goOn_1 : cX0_goOn.data.toList.drop 24 = dktX0_goOn_1 := dk_seg dksX0_goOn_0 24 rfl rfl
theorem dksX0_goOn_2 : cX0_goOn.data.toList.drop 47 = dktX0_goOn_2 := dk_seg dksX0_goOn_1 23 rfl rfl
theorem dksX0_goOn_3 : cX0_goOn.data.toList.drop 70 = dktX0_goOn_3 := dk_seg dksX0_goOn_2 23 rfl rfl
theorem dksX0_goOn_4 : cX0_goOn.data.toList.drop 94 = dktX0_goOn_4 := dk_seg dksX0_goOn_3 24 rfl rfl
theorem dksX0_goOn_5 : cX0_goOn.data.toList.drop 117 = dktX0_goOn_5 := dk_seg dksX0_goOn_4 23 rfl rfl
theorem dksX0_goOn_6 : cX0_goOn.data.toList.drop 141 = dktX0_goOn_6 := dk_seg dksX0_goOn_5 24 rfl rfl
theorem dksX0_goOn_7 : cX0_goOn.data.toList.drop 165 = dktX0_goOn_7 := dk_seg dksX0_goOn_6 24 rfl rfl
theorem dksX0_goOn_8 : cX0_goOn.data.toList.drop 189 = dktX0_goOn_8 := dk_seg dksX0_goOn_7 24 rfl rfl
theorem dX0_goOn_0 : decode cX0_goOn 0 = .ok (.iconst 0, 1) := dk_3 (dk_at dksX0_goOn_0 0 rfl rfl)
theorem dX0_goOn_1 : decode cX0_goOn 1 = .ok (.istore_n 1, 1) := dk_60 (dk_at dksX0_goOn_0 1 rfl rfl)
theorem dX0_goOn_2 : decode cX0_goOn 2 = .ok (.iconst 0, 1) := dk_3 (dk_at dksX0_goOn_0 2 rfl rfl)
theorem dX0_goOn_3 : decode cX0_goOn 3 = .ok (.istore_n 2, 1) := dk_61 (dk_at dksX0_goOn_0 3 rfl rfl)
theorem dX0_goOn_4 : decode cX0_goOn 4 = .ok (.aload_n 0, 1) := dk_42 (dk_at dksX0_goOn_0 4 rfl rfl)
theorem dX0_goOn_5 : decode cX0_goOn 5 = .ok (.getfield 57, 3) := dk_180 0 57 (dk_at dksX0_goOn_0 5 rfl rfl)
theorem dX0_goOn_8 : decode cX0_goOn 8 = .ok (.iconst 0, 1) := dk_3 (dk_at dksX0_goOn_0 8 rfl rfl)
theorem dX0_goOn_9 : decode cX0_goOn 9 = .ok (.aload_n 0, 1) := dk_42 (dk_at dksX0_goOn_0 9 rfl rfl)
theorem dX0_goOn_10 : decode cX0_goOn 10 = .ok (.getfield 12, 3) := dk_180 0 12 (dk_at dksX0_goOn_0 10 rfl rfl)
theorem dX0_goOn_13 : decode cX0_goOn 13 = .ok (.getfield 119, 3) := dk_180 0 119 (dk_at dksX0_goOn_0 13 rfl rfl)
theorem dX0_goOn_16 : decode cX0_goOn 16 = .ok (.invokevirtual 187, 3) := dk_182 0 187 (dk_at dksX0_goOn_0 16 rfl rfl)
theorem dX0_goOn_19 : decode cX0_goOn 19 = .ok (.iconst 0, 1) := dk_3 (dk_at dksX0_goOn_0 19 rfl rfl)
theorem dX0_goOn_20 : decode cX0_goOn 20 = .ok (.invokestatic 210, 3) := dk_184 0 210 (dk_at dksX0_goOn_0 20 rfl rfl)
theorem dX0_goOn_23 : decode cX0_goOn 23 = .ok (.iconst 0, 1) := dk_3 (dk_at dksX0_goOn_0 23 rfl rfl)
theorem dX0_goOn_24 : decode cX0_goOn 24 = .ok (.istore_n 3, 1) := dk_62 (dk_at dksX0_goOn_1 0 rfl rfl)
theorem dX0_goOn_25 : decode cX0_goOn 25 = .ok (.iload_n 3, 1) := dk_29 (dk_at dksX0_goOn_1 1 rfl rfl)
theorem dX0_goOn_26 : decode cX0_goOn 26 = .ok (.aload_n 0, 1) := dk_42 (dk_at dksX0_goOn_1 2 rfl rfl)
theorem dX0_goOn_27 : decode cX0_goOn 27 = .ok (.getfield 12, 3) := dk_180 0 12 (dk_at dksX0_goOn_1 3 rfl rfl)
theorem dX0_goOn_30 : decode cX0_goOn 30 = .ok (.getfield 119, 3) := dk_180 0 119 (dk_at dksX0_goOn_1 6 rfl rfl)
theorem dX0_goOn_33 : decode cX0_goOn 33 = .ok (.invokevirtual 187, 3) := dk_182 0 187 (dk_at dksX0_goOn_1 9 rfl rfl)
theorem dX0_goOn_36 : decode cX0_goOn 36 = .ok (.if_icmp .ge 37, 3) := dk_162 0 37 (dk_at dksX0_goOn_1 12 rfl rfl)
theorem dX0_goOn_39 : decode cX0_goOn 39 = .ok (.aload_n 0, 1) := dk_42 (dk_at dksX0_goOn_1 15 rfl rfl)
theorem dX0_goOn_40 : decode cX0_goOn 40 = .ok (.getfield 54, 3) := dk_180 0 54 (dk_at dksX0_goOn_1 16 rfl rfl)
theorem dX0_goOn_43 : decode cX0_goOn 43 = .ok (.iload_n 3, 1) := dk_29 (dk_at dksX0_goOn_1 19 rfl rfl)
theorem dX0_goOn_44 : decode cX0_goOn 44 = .ok (.iaload, 1) := dk_46 (dk_at dksX0_goOn_1 20 rfl rfl)
theorem dX0_goOn_45 : decode cX0_goOn 45 = .ok (.ldc 209, 2) := dk_18 209 (dk_at dksX0_goOn_1 21 rfl rfl)
theorem dX0_goOn_47 : decode cX0_goOn 47 = .ok (.if_icmp .ge 20, 3) := dk_162 0 20 (dk_at dksX0_goOn_2 0 rfl rfl)
theorem dX0_goOn_50 : decode cX0_goOn 50 = .ok (.aload_n 0, 1) := dk_42 (dk_at dksX0_goOn_2 3 rfl rfl)
theorem dX0_goOn_51 : decode cX0_goOn 51 = .ok (.getfield 42, 3) := dk_180 0 42 (dk_at dksX0_goOn_2 4 rfl rfl)
theorem dX0_goOn_54 : decode cX0_goOn 54 = .ok (.iload_n 2, 1) := dk_28 (dk_at dksX0_goOn_2 7 rfl rfl)
theorem dX0_goOn_55 : decode cX0_goOn 55 = .ok (.iload_n 3, 1) := dk_29 (dk_at dksX0_goOn_2 8 rfl rfl)
theorem dX0_goOn_56 : decode cX0_goOn 56 = .ok (.iastore, 1) := dk_79 (dk_at dksX0_goOn_2 9 rfl rfl)
theorem dX0_goOn_57 : decode cX0_goOn 57 = .ok (.aload_n 0, 1) := dk_42 (dk_at dksX0_goOn_2 10 rfl rfl)
theorem dX0_goOn_58 : decode cX0_goOn 58 = .ok (.getfield 57, 3) := dk_180 0 57 (dk_at dksX0_goOn_2 11 rfl rfl)
theorem dX0_goOn_61 : decode cX0_goOn 61 = .ok (.iload_n 3, 1) := dk_29 (dk_at dksX0_goOn_2 14 rfl rfl)
theorem dX0_goOn_62 : decode cX0_goOn 62 = .ok (.iconst 1, 1) := dk_4 (dk_at dksX0_goOn_2 15 rfl rfl)
theorem dX0_goOn_63 : decode cX0_goOn 63 = .ok (.bastore, 1) := dk_84 (dk_at dksX0_goOn_2 16 rfl rfl)
theorem dX0_goOn_64 : decode cX0_goOn 64 = .ok (.iinc 2 1, 3) := dk_132 2 1 (dk_at dksX0_goOn_2 17 rfl rfl)
theorem dX0_goOn_67 : decode cX0_goOn 67 = .ok (.iinc 3 1, 3) := dk_132 3 1 (dk_at dksX0_goOn_2 20 rfl rfl)
theorem dX0_goOn_70 : decode cX0_goOn 70 = .ok (.goto (-45), 3) := dk_167 255 211 (dk_at dksX0_goOn_3 0 rfl rfl)
theorem dX0_goOn_73 : decode cX0_goOn 73 = .ok (.iload_n 2, 1) := dk_28 (dk_at dksX0_goOn_3 3 rfl rfl)
theorem dX0_goOn_74 : decode cX0_goOn 74 = .ok (.ifCond .le 134, 3) := dk_158 0 134 (dk_at dksX0_goOn_3 4 rfl rfl)
theorem dX0_goOn_77 : decode cX0_goOn 77 = .ok (.aload_n 0, 1) := dk_42 (dk_at dksX0_goOn_3 7 rfl rfl)
theorem dX0_goOn_78 : decode cX0_goOn 78 = .ok (.getfield 42, 3) := dk_180 0 42 (dk_at dksX0_goOn_3 8 rfl rfl)
theorem dX0_goOn_81 : decode cX0_goOn 81 = .ok (.iload_n 1, 1) := dk_27 (dk_at dksX0_goOn_3 11 rfl rfl)
theorem dX0_goOn_82 : decode cX0_goOn 82 = .ok (.iaload, 1) := dk_46 (dk_at dksX0_goOn_3 12 rfl rfl)
theorem dX0_goOn_83 : decode cX0_goOn 83 = .ok (.istore_n 3, 1) := dk_62 (dk_at dksX0_goOn_3 13 rfl rfl)
theorem dX0_goOn_84 : decode cX0_goOn 84 = .ok (.iload_n 1, 1) := dk_27 (dk_at dksX0_goOn_3 14 rfl rfl)
theorem dX0_goOn_85 : decode cX0_goOn 85 = .ok (.iconst 1, 1) := dk_4 (dk_at dksX0_goOn_3 15 rfl rfl)
theorem dX0_goOn_86 : decode cX0_goOn 86 = .ok (.iadd, 1) := dk_96 (dk_at dksX0_goOn_3 16 rfl rfl)
theorem dX0_goOn_87 : decode cX0_goOn 87 = .ok (.ldc 38, 2) := dk_18 38 (dk_at dksX0_goOn_3 17 rfl rfl)
theorem dX0_goOn_89 : decode cX0_goOn 89 = .ok (.irem, 1) := dk_112 (dk_at dksX0_goOn_3 19 rfl rfl)
theorem dX0_goOn_90 : decode cX0_goOn 90 = .ok (.istore_n 1, 1) := dk_60 (dk_at dksX0_goOn_3 20 rfl rfl)
theorem dX0_goOn_91 : decode cX0_goOn 91 = .ok (.iinc 2 (-1), 3) := dk_132 2 255 (dk_at dksX0_goOn_3 21 rfl rfl)
theorem dX0_goOn_94 : decode cX0_goOn 94 = .ok (.aload_n 0, 1) := dk_42 (dk_at dksX0_goOn_4 0 rfl rfl)
theorem dX0_goOn_95 : decode cX0_goOn 95 = .ok (.getfield 57, 3) := dk_180 0 57 (dk_at dksX0_goOn_4 1 rfl rfl)
theorem dX0_goOn_98 : decode cX0_goOn 98 = .ok (.iload_n 3, 1) := dk_29 (dk_at dksX0_goOn_4 4 rfl rfl)
theorem dX0_goOn_99 : decode cX0_goOn 99 = .ok (.iconst 0, 1) := dk_3 (dk_at dksX0_goOn_4 5 rfl rfl)
theorem dX0_goOn_100 : decode cX0_goOn 100 = .ok (.bastore, 1) := dk_84 (dk_at dksX0_goOn_4 6 rfl rfl)
theorem dX0_goOn_101 : decode cX0_goOn 101 = .ok (.iconst 0, 1) := dk_3 (dk_at dksX0_goOn_4 7 rfl rfl)
theorem dX0_goOn_102 : decode cX0_goOn 102 = .ok (.istore 4, 2) := dk_54 4 (dk_at dksX0_goOn_4 8 rfl rfl)
theorem dX0_goOn_104 : decode cX0_goOn 104 = .ok (.iload 4, 2) := dk_21 4 (dk_at dksX0_goOn_4 10 rfl rfl)
theorem dX0_goOn_106 : decode cX0_goOn 106 = .ok (.aload_n 0, 1) := dk_42 (dk_at dksX0_goOn_4 12 rfl rfl)
theorem dX0_goOn_107 : decode cX0_goOn 107 = .ok (.getfield 12, 3) := dk_180 0 12 (dk_at dksX0_goOn_4 13 rfl rfl)
theorem dX0_goOn_110 : decode cX0_goOn 110 = .ok (.getfield 131, 3) := dk_180 0 131 (dk_at dksX0_goOn_4 16 rfl rfl)
theorem dX0_goOn_113 : decode cX0_goOn 113 = .ok (.if_icmp .ge 92, 3) := dk_162 0 92 (dk_at dksX0_goOn_4 19 rfl rfl)
theorem dX0_goOn_116 : decode cX0_goOn 116 = .ok (.aload_n 0, 1) := dk_42 (dk_at dksX0_goOn_4 22 rfl rfl)
theorem dX0_goOn_117 : decode cX0_goOn 117 = .ok (.getfield 12, 3) := dk_180 0 12 (dk_at dksX0_goOn_5 0 rfl rfl)
theorem dX0_goOn_120 : decode cX0_goOn 120 = .ok (.getfield 165, 3) := dk_180 0 165 (dk_at dksX0_goOn_5 3 rfl rfl)
theorem dX0_goOn_123 : decode cX0_goOn 123 = .ok (.iload 4, 2) := dk_21 4 (dk_at dksX0_goOn_5 6 rfl rfl)
theorem dX0_goOn_125 : decode cX0_goOn 125 = .ok (.aaload, 1) := dk_50 (dk_at dksX0_goOn_5 8 rfl rfl)
theorem dX0_goOn_126 : decode cX0_goOn 126 = .ok (.iload_n 3, 1) := dk_29 (dk_at dksX0_goOn_5 9 rfl rfl)
theorem dX0_goOn_127 : decode cX0_goOn 127 = .ok (.invokevirtual 180, 3) := dk_182 0 180 (dk_at dksX0_goOn_5 10 rfl rfl)
theorem dX0_goOn_130 : decode cX0_goOn 130 = .ok (.istore 5, 2) := dk_54 5 (dk_at dksX0_goOn_5 13 rfl rfl)
theorem dX0_goOn_132 : decode cX0_goOn 132 = .ok (.aload_n 0, 1) := dk_42 (dk_at dksX0_goOn_5 15 rfl rfl)
theorem dX0_goOn_133 : decode cX0_goOn 133 = .ok (.getfield 54, 3) := dk_180 0 54 (dk_at dksX0_goOn_5 16 rfl rfl)
theorem dX0_goOn_136 : decode cX0_goOn 136 = .ok (.iload_n 3, 1) := dk_29 (dk_at dksX0_goOn_5 19 rfl rfl)
theorem dX0_goOn_137 : decode cX0_goOn 137 = .ok (.iaload, 1) := dk_46 (dk_at dksX0_goOn_5 20 rfl rfl)
theorem dX0_goOn_138 : decode cX0_goOn 138 = .ok (.iconst 1, 1) := dk_4 (dk_at dksX0_goOn_5 21 rfl rfl)
theorem dX0_goOn_139 : decode cX0_goOn 139 = .ok (.iadd, 1) := dk_96 (dk_at dksX0_goOn_5 22 rfl rfl)
theorem dX0_goOn_140 : decode cX0_goOn 140 = .ok (.aload_n 0, 1) := dk_42 (dk_at dksX0_goOn_5 23 rfl rfl)
theorem dX0_goOn_141 : decode cX0_goOn 141 = .ok (.getfield 54, 3) := dk_180 0 54 (dk_at dksX0_goOn_6 0 rfl rfl)
theorem dX0_goOn_144 : decode cX0_goOn 144 = .ok (.iload 5, 2) := dk_21 5 (dk_at dksX0_goOn_6 3 rfl rfl)
theorem dX0_goOn_146 : decode cX0_goOn 146 = .ok (.iaload, 1) := dk_46 (dk_at dksX0_goOn_6 5 rfl rfl)
theorem dX0_goOn_147 : decode cX0_goOn 147 = .ok (.if_icmp .ge 52, 3) := dk_162 0 52 (dk_at dksX0_goOn_6 6 rfl rfl)
theorem dX0_goOn_150 : decode cX0_goOn 150 = .ok (.aload_n 0, 1) := dk_42 (dk_at dksX0_goOn_6 9 rfl rfl)
theorem dX0_goOn_151 : decode cX0_goOn 151 = .ok (.getfield 54, 3) := dk_180 0 54 (dk_at dksX0_goOn_6 10 rfl rfl)
theorem dX0_goOn_154 : decode cX0_goOn 154 = .ok (.iload 5, 2) := dk_21 5 (dk_at dksX0_goOn_6 13 rfl rfl)
theorem dX0_goOn_156 : decode cX0_goOn 156 = .ok (.aload_n 0, 1) := dk_42 (dk_at dksX0_goOn_6 15 rfl rfl)
theorem dX0_goOn_157 : decode cX0_goOn 157 = .ok (.getfield 54, 3) := dk_180 0 54 (dk_at dksX0_goOn_6 16 rfl rfl)
theorem dX0_goOn_160 : decode cX0_goOn 160 = .ok (.iload_n 3, 1) := dk_29 (dk_at dksX0_goOn_6 19 rfl rfl)
theorem dX0_goOn_161 : decode cX0_goOn 161 = .ok (.iaload, 1) := dk_46 (dk_at dksX0_goOn_6 20 rfl rfl)
theorem dX0_goOn_162 : decode cX0_goOn 162 = .ok (.iconst 1, 1) := dk_4 (dk_at dksX0_goOn_6 21 rfl rfl)
theorem dX0_goOn_163 : decode cX0_goOn 163 = .ok (.iadd, 1) := dk_96 (dk_at dksX0_goOn_6 22 rfl rfl)
theorem dX0_goOn_164 : decode cX0_goOn 164 = .ok (.iastore, 1) := dk_79 (dk_at dksX0_goOn_6 23 rfl rfl)
theorem dX0_goOn_165 : decode cX0_goOn 165 = .ok (.aload_n 0, 1) := dk_42 (dk_at dksX0_goOn_7 0 rfl rfl)
theorem dX0_goOn_166 : decode cX0_goOn 166 = .ok (.getfield 57, 3) := dk_180 0 57 (dk_at dksX0_goOn_7 1 rfl rfl)
theorem dX0_goOn_169 : decode cX0_goOn 169 = .ok (.iload 5, 2) := dk_21 5 (dk_at dksX0_goOn_7 4 rfl rfl)
theorem dX0_goOn_171 : decode cX0_goOn 171 = .ok (.baload, 1) := dk_51 (dk_at dksX0_goOn_7 6 rfl rfl)
theorem dX0_goOn_172 : decode cX0_goOn 172 = .ok (.ifCond .ne 27, 3) := dk_154 0 27 (dk_at dksX0_goOn_7 7 rfl rfl)
theorem dX0_goOn_175 : decode cX0_goOn 175 = .ok (.aload_n 0, 1) := dk_42 (dk_at dksX0_goOn_7 10 rfl rfl)
theorem dX0_goOn_176 : decode cX0_goOn 176 = .ok (.getfield 57, 3) := dk_180 0 57 (dk_at dksX0_goOn_7 11 rfl rfl)
theorem dX0_goOn_179 : decode cX0_goOn 179 = .ok (.iload 5, 2) := dk_21 5 (dk_at dksX0_goOn_7 14 rfl rfl)
theorem dX0_goOn_181 : decode cX0_goOn 181 = .ok (.iconst 1, 1) := dk_4 (dk_at dksX0_goOn_7 16 rfl rfl)
theorem dX0_goOn_182 : decode cX0_goOn 182 = .ok (.bastore, 1) := dk_84 (dk_at dksX0_goOn_7 17 rfl rfl)
theorem dX0_goOn_183 : decode cX0_goOn 183 = .ok (.aload_n 0, 1) := dk_42 (dk_at dksX0_goOn_7 18 rfl rfl)
theorem dX0_goOn_184 : decode cX0_goOn 184 = .ok (.getfield 42, 3) := dk_180 0 42 (dk_at dksX0_goOn_7 19 rfl rfl)
theorem dX0_goOn_187 : decode cX0_goOn 187 = .ok (.iload_n 1, 1) := dk_27 (dk_at dksX0_goOn_7 22 rfl rfl)
theorem dX0_goOn_188 : decode cX0_goOn 188 = .ok (.iload_n 2, 1) := dk_28 (dk_at dksX0_goOn_7 23 rfl rfl)
theorem dX0_goOn_189 : decode cX0_goOn 189 = .ok (.iadd, 1) := dk_96 (dk_at dksX0_goOn_8 0 rfl rfl)
theorem dX0_goOn_190 : decode cX0_goOn 190 = .ok (.ldc 38, 2) := dk_18 38 (dk_at dksX0_goOn_8 1 rfl rfl)
theorem dX0_goOn_192 : decode cX0_goOn 192 = .ok (.irem, 1) := dk_112 (dk_at dksX0_goOn_8 3 rfl rfl)
theorem dX0_goOn_193 : decode cX0_goOn 193 = .ok (.iload 5, 2) := dk_21 5 (dk_at dksX0_goOn_8 4 rfl rfl)
theorem dX0_goOn_195 : decode cX0_goOn 195 = .ok (.iastore, 1) := dk_79 (dk_at dksX0_goOn_8 6 rfl rfl)
theorem dX0_goOn_196 : decode cX0_goOn 196 = .ok (.iinc 2 1, 3) := dk_132 2 1 (dk_at dksX0_goOn_8 7 rfl rfl)
theorem dX0_goOn_199 : decode cX0_goOn 199 = .ok (.iinc 4 1, 3) := dk_132 4 1 (dk_at dksX0_goOn_8 10 rfl rfl)
theorem dX0_goOn_202 : decode cX0_goOn 202 = .ok (.goto (-98), 3) := dk_167 255 158 (dk_at dksX0_goOn_8 13 rfl rfl)
theorem dX0_goOn_205 : decode cX0_goOn 205 = .ok (.goto (-132), 3) := dk_167 255 124 (dk_at dksX0_goOn_8 16 rfl rfl)
theorem dX0_goOn_208 : decode cX0_goOn 208 = .ok (.return_, 1) := dk_177 (dk_at dksX0_goOn_8 19 rfl rfl)
abbrev cX0_quick : ByteArray := prog_1_method_33_code
def yX0_quick : MethodName := ⟨RX0, "quick", "(II)I"⟩
def dkwX0_quick_7 : List UInt8 := [132, 4, 1, 167, 255, 148, 29, 172]
abbrev dktX0_quick_7 : List UInt8 := dkwX0_quick_7 ++ []
def dkwX0_quick_6 : List UInt8 := [4, 167, 0, 4, 3, 54, 8, 21, 7, 153, 0, 13, 21, 8, 153, 0, 8, 21, 4, 167, 0, 4, 29, 62]
abbrev dktX0_quick_6 : List UInt8 := dkwX0_quick_6 ++ dktX0_quick_7
def dkwX0_quick_5 : List UInt8 := [161, 0, 24, 21, 6, 42, 29, 182, 0, 206, 160, 0, 18, 21, 5, 29, 27, 100, 184, 0, 249, 162, 0, 7]
abbrev dktX0_quick_5 : List UInt8 := dkwX0_quick_5 ++ dktX0_quick_6
def dkwX0_quick_4 : List UInt8 := [163, 0, 7, 4, 167, 0, 4, 3, 54, 7, 29, 2, 159, 0, 34, 21, 6, 42, 29, 182, 0, 206]
abbrev dktX0_quick_4 : List UInt8 := dkwX0_quick_4 ++ dktX0_quick_5
def dkwX0_quick_3 : List UInt8 := [184, 0, 249, 54, 5, 42, 21, 4, 182, 0, 206, 54, 6, 21, 6, 2, 159, 0, 13, 21, 5, 28]
abbrev dktX0_quick_3 : List UInt8 := dkwX0_quick_3 ++ dktX0_quick_4
def dkwX0_quick_2 : List UInt8 := [180, 0, 131, 182, 0, 202, 2, 62, 3, 54, 4, 21, 4, 42, 182, 0, 115, 162, 0, 105, 21, 4, 27, 100]
abbrev dktX0_quick_2 : List UInt8 := dkwX0_quick_2 ++ dktX0_quick_3
def dkwX0_quick_1 : List UInt8 := [172, 42, 182, 0, 123, 153, 0, 5, 2, 172, 42, 42, 180, 0, 19, 180, 0, 145, 42, 180, 0, 12]
abbrev dktX0_quick_1 : List UInt8 := dkwX0_quick_1 ++ dktX0_quick_2
def dkwX0_quick_0 : List UInt8 := [27, 3, 17, 3, 231, 184, 0, 79, 153, 0, 14, 28, 3, 17, 3, 231, 184, 0, 79, 154, 0, 6, 18, 83]
abbrev dktX0_quick_0 : List UInt8 := dkwX0_quick_0 ++ dktX0_quick_1
theorem dksX0_quick_0 : cX0_quick.data.toList.drop 0 = dktX0_quick_0 := by decide +kernel
theorem dksX0_quick_1 : cX0_quick.data.toList.drop 24 = dktX0_quick_1 := dk_seg dksX0_quick_0 24 rfl rfl
theorem dksX0_quick_2 : cX0_quick.data.toList.drop 46 = dktX0_quick_2 := dk_seg dksX0_quick_1 22 rfl rfl
theorem dksX0_quick_3 : cX0_quick.data.toList.drop 70 = dktX0_quick_3 := dk_seg dksX0_quick_2 24 rfl rfl
theorem dksX0_quick_4 : cX0_quick.data.toList.drop 92 = dktX0_quick_4 := dk_seg dksX0_quick_3 22 rfl rfl
theorem dksX0_quick_5 : cX0_quick.data.toList.drop 114 = dktX0_quick_5 := dk_seg dksX0_quick_4 22 rfl rfl
theorem dksX0_quick_6 : cX0_quick.data.toList.drop 138 = dktX0_quick_6 := dk_seg dksX0_quick_5 24 rfl rfl
theorem dksX0_quick_7 : cX0_quick.data.toList.drop 162 = dktX0_quick_7 := dk_seg dksX0_quick_6 24 rfl rfl
theorem dX0_quick_0 : decode cX0_quick 0 = .ok (.iload_n 1, 1) := dk_27 (dk_at dksX0_quick_0 0 rfl rfl)
theorem dX0_quick_1 : decode cX0_quick 1 = .ok (.iconst 0, 1) := dk_3 (dk_at dksX0_quick_0 1 rfl rfl)
theorem dX0_quick_2 : decode cX0_quick 2 = .ok (.sipush 999, 3) := dk_17 3 231 (dk_at dksX0_quick_0 2 rfl rfl)
theorem dX0_quick_5 : decode cX0_quick 5 = .ok (.invokestatic 79, 3) := dk_184 0 79 (dk_at dksX0_quick_0 5 rfl rfl)
theorem dX0_quick_8 : decode cX0_quick 8 = .ok (.ifCond .eq 14, 3) := dk_153 0 14 (dk_at dksX0_quick_0 8 rfl rfl)
theorem dX0_quick_11 : decode cX0_quick 11 = .ok (.iload_n 2, 1) := dk_28 (dk_at dksX0_quick_0 11 rfl rfl)
theorem dX0_quick_12 : decode cX0_quick 12 = .ok (.iconst 0, 1) := dk_3 (dk_at dksX0_quick_0 12 rfl rfl)
theorem dX0_quick_13 : decode cX0_quick 13 = .ok (.sipush 999, 3) := dk_17 3 231 (dk_at dksX0_quick_0 13 rfl rfl)
theorem dX0_quick_16 : decode cX0_quick 16 = .ok (.invokestatic 79, 3) := dk_184 0 79 (dk_at dksX0_quick_0 16 rfl rfl)
theorem dX0_quick_19 : decode cX0_quick 19 = .ok (.ifCond .ne 6, 3) := dk_154 0 6 (dk_at dksX0_quick_0 19 rfl rfl)
theorem dX0_quick_22 : decode cX0_quick 22 = .ok (.ldc 83, 2) := dk_18 83 (dk_at dksX0_quick_0 22 rfl rfl)
theorem dX0_quick_24 : decode cX0_quick 24 = .ok (.ireturn, 1) := dk_172 (dk_at dksX0_quick_1 0 rfl rfl)
theorem dX0_quick_25 : decode cX0_quick 25 = .ok (.aload_n 0, 1) := dk_42 (dk_at dksX0_quick_1 1 rfl rfl)
theorem dX0_quick_26 : decode cX0_quick 26 = .ok (.invokevirtual 123, 3) := dk_182 0 123 (dk_at dksX0_quick_1 2 rfl rfl)
theorem dX0_quick_29 : decode cX0_quick 29 = .ok (.ifCond .eq 5, 3) := dk_153 0 5 (dk_at dksX0_quick_1 5 rfl rfl)
theorem dX0_quick_32 : decode cX0_quick 32 = .ok (.iconst (-1), 1) := dk_2 (dk_at dksX0_quick_1 8 rfl rfl)
theorem dX0_quick_33 : decode cX0_quick 33 = .ok (.ireturn, 1) := dk_172 (dk_at dksX0_quick_1 9 rfl rfl)
theorem dX0_quick_34 : decode cX0_quick 34 = .ok (.aload_n 0, 1) := dk_42 (dk_at dksX0_quick_1 10 rfl rfl)
theorem dX0_quick_35 : decode cX0_quick 35 = .ok (.aload_n 0, 1) := dk_42 (dk_at dksX0_quick_1 11 rfl rfl)
theorem dX0_quick_36 : decode cX0_quick 36 = .ok (.getfield 19, 3) := dk_180 0 19 (dk_at dksX0_quick_1 12 rfl rfl)
theorem dX0_quick_39 : decode cX0_quick 39 = .ok (.getfield 145, 3) := dk_180 0 145 (dk_at dksX0_quick_1 15 rfl rfl)
theorem dX0_quick_42 : decode cX0_quick 42 = .ok (.aload_n 0, 1) := dk_42 (dk_at dksX0_quick_1 18 rfl rfl)
theorem dX0_quick_43 : decode cX0_quick 43 = .ok (.getfield 12, 3) := dk_180 0 12 (dk_at dksX0_quick_1 19 rfl rfl)
theorem dX0_quick_46 : decode cX0_quick 46 = .ok (.getfield 131, 3) := dk_180 0 131 (dk_at dksX0_quick_2 0 rfl rfl)
theorem dX0_quick_49 : decode cX0_quick 49 = .ok (.invokevirtual 202, 3) := dk_182 0 202 (dk_at dksX0_quick_2 3 rfl rfl)
theorem dX0_quick_52 : decode cX0_quick 52 = .ok (.iconst (-1), 1) := dk_2 (dk_at dksX0_quick_2 6 rfl rfl)
theorem dX0_quick_53 : decode cX0_quick 53 = .ok (.istore_n 3, 1) := dk_62 (dk_at dksX0_quick_2 7 rfl rfl)
theorem dX0_quick_54 : decode cX0_quick 54 = .ok (.iconst 0, 1) := dk_3 (dk_at dksX0_quick_2 8 rfl rfl)
theorem dX0_quick_55 : decode cX0_quick 55 = .ok (.istore 4, 2) := dk_54 4 (dk_at dksX0_quick_2 9 rfl rfl)
theorem dX0_quick_57 : decode cX0_quick 57 = .ok (.iload 4, 2) := dk_21 4 (dk_at dksX0_quick_2 11 rfl rfl)
theorem dX0_quick_59 : decode cX0_quick 59 = .ok (.aload_n 0, 1) := dk_42 (dk_at dksX0_quick_2 13 rfl rfl)
theorem dX0_quick_60 : decode cX0_quick 60 = .ok (.invokevirtual 115, 3) := dk_182 0 115 (dk_at dksX0_quick_2 14 rfl rfl)
theorem dX0_quick_63 : decode cX0_quick 63 = .ok (.if_icmp .ge 105, 3) := dk_162 0 105 (dk_at dksX0_quick_2 17 rfl rfl)
theorem dX0_quick_66 : decode cX0_quick 66 = .ok (.iload 4, 2) := dk_21 4 (dk_at dksX0_quick_2 20 rfl rfl)
theorem dX0_quick_68 : decode cX0_quick 68 = .ok (.iload_n 1, 1) := dk_27 (dk_at dksX0_quick_2 22 rfl rfl)
theorem dX0_quick_69 : decode cX0_quick 69 = .ok (.isub, 1) := dk_100 (dk_at dksX0_quick_2 23 rfl rfl)
theorem dX0_quick_70 : decode cX0_quick 70 = .ok (.invokestatic 249, 3) := dk_184 0 249 (dk_at dksX0_quick_3 0 rfl rfl)
theorem dX0_quick_73 : decode cX0_quick 73 = .ok (.istore 5, 2) := dk_54 5 (dk_at dksX0_quick_3 3 rfl rfl)
theorem dX0_quick_75 : decode cX0_quick 75 = .ok (.aload_n 0, 1) := dk_42 (dk_at dksX0_quick_3 5 rfl rfl)
theorem dX0_quick_76 : decode cX0_quick 76 = .ok (.iload 4, 2) := dk_21 4 (dk_at dksX0_quick_3 6 rfl rfl)
theorem dX0_quick_78 : decode cX0_quick 78 = .ok (.invokevirtual 206, 3) := dk_182 0 206 (dk_at dksX0_quick_3 8 rfl rfl)
theorem dX0_quick_81 : decode cX0_quick 81 = .ok (.istore 6, 2) := dk_54 6 (dk_at dksX0_quick_3 11 rfl rfl)
theorem dX0_quick_83 : decode cX0_quick 83 = .ok (.iload 6, 2) := dk_21 6 (dk_at dksX0_quick_3 13 rfl rfl)
theorem dX0_quick_85 : decode cX0_quick 85 = .ok (.iconst (-1), 1) := dk_2 (dk_at dksX0_quick_3 15 rfl rfl)
theorem dX0_quick_86 : decode cX0_quick 86 = .ok (.if_icmp .eq 13, 3) := dk_159 0 13 (dk_at dksX0_quick_3 16 rfl rfl)
theorem dX0_quick_89 : decode cX0_quick 89 = .ok (.iload 5, 2) := dk_21 5 (dk_at dksX0_quick_3 19 rfl rfl)
theorem dX0_quick_91 : decode cX0_quick 91 = .ok (.iload_n 2, 1) := dk_28 (dk_at dksX0_quick_3 21 rfl rfl)
theorem dX0_quick_92 : decode cX0_quick 92 = .ok (.if_icmp .gt 7, 3) := dk_163 0 7 (dk_at dksX0_quick_4 0 rfl rfl)
theorem dX0_quick_95 : decode cX0_quick 95 = .ok (.iconst 1, 1) := dk_4 (dk_at dksX0_quick_4 3 rfl rfl)
theorem dX0_quick_96 : decode cX0_quick 96 = .ok (.goto 4, 3) := dk_167 0 4 (dk_at dksX0_quick_4 4 rfl rfl)
theorem dX0_quick_99 : decode cX0_quick 99 = .ok (.iconst 0, 1) := dk_3 (dk_at dksX0_quick_4 7 rfl rfl)
theorem dX0_quick_100 : decode cX0_quick 100 = .ok (.istore 7, 2) := dk_54 7 (dk_at dksX0_quick_4 8 rfl rfl)
theorem dX0_quick_102 : decode cX0_quick 102 = .ok (.iload_n 3, 1) := dk_29 (dk_at dksX0_quick_4 10 rfl rfl)
theorem dX0_quick_103 : decode cX0_quick 103 = .ok (.iconst (-1), 1) := dk_2 (dk_at dksX0_quick_4 11 rfl rfl)
theorem dX0_quick_104 : decode cX0_quick 104 = .ok (.if_icmp .eq 34, 3) := dk_159 0 34 (dk_at dksX0_quick_4 12 rfl rfl)
theorem dX0_quick_107 : decode cX0_quick 107 = .ok (.iload 6, 2) := dk_21 6 (dk_at dksX0_quick_4 15 rfl rfl)
theorem dX0_quick_109 : decode cX0_quick 109 = .ok (.aload_n 0, 1) := dk_42 (dk_at dksX0_quick_4 17 rfl rfl)
theorem dX0_quick_110 : decode cX0_quick 110 = .ok (.iload_n 3, 1) := dk_29 (dk_at dksX0_quick_4 18 rfl rfl)
theorem dX0_quick_111 : decode cX0_quick 111 = .ok (.invokevirtual 206, 3) := dk_182 0 206 (dk_at dksX0_quick_4 19 rfl rfl)
theorem dX0_quick_114 : decode cX0_quick 114 = .ok (.if_icmp .lt 24, 3) := dk_161 0 24 (dk_at dksX0_quick_5 0 rfl rfl)
theorem dX0_quick_117 : decode cX0_quick 117 = .ok (.iload 6, 2) := dk_21 6 (dk_at dksX0_quick_5 3 rfl rfl)
theorem dX0_quick_119 : decode cX0_quick 119 = .ok (.aload_n 0, 1) := dk_42 (dk_at dksX0_quick_5 5 rfl rfl)
theorem dX0_quick_120 : decode cX0_quick 120 = .ok (.iload_n 3, 1) := dk_29 (dk_at dksX0_quick_5 6 rfl rfl)
theorem dX0_quick_121 : decode cX0_quick 121 = .ok (.invokevirtual 206, 3) := dk_182 0 206 (dk_at dksX0_quick_5 7 rfl rfl)
theorem dX0_quick_124 : decode cX0_quick 124 = .ok (.if_icmp .ne 18, 3) := dk_160 0 18 (dk_at dksX0_quick_5 10 rfl rfl)
theorem dX0_quick_127 : decode cX0_quick 127 = .ok (.iload 5, 2) := dk_21 5 (dk_at dksX0_quick_5 13 rfl rfl)
theorem dX0_quick_129 : decode cX0_quick 129 = .ok (.iload_n 3, 1) := dk_29 (dk_at dksX0_quick_5 15 rfl rfl)
theorem dX0_quick_130 : decode cX0_quick 130 = .ok (.iload_n 1, 1) := dk_27 (dk_at dksX0_quick_5 16 rfl rfl)
theorem dX0_quick_131 : decode cX0_quick 131 = .ok (.isub, 1) := dk_100 (dk_at dksX0_quick_5 17 rfl rfl)
theorem dX0_quick_132 : decode cX0_quick 132 = .ok (.invokestatic 249, 3) := dk_184 0 249 (dk_at dksX0_quick_5 18 rfl rfl)
theorem dX0_quick_135 : decode cX0_quick 135 = .ok (.if_icmp .ge 7, 3) := dk_162 0 7 (dk_at dksX0_quick_5 21 rfl rfl)
theorem dX0_quick_138 : decode cX0_quick 138 = .ok (.iconst 1, 1) := dk_4 (dk_at dksX0_quick_6 0 rfl rfl)
theorem dX0_quick_139 : decode cX0_quick 139 = .ok (.goto 4, 3) := dk_167 0 4 (dk_at dksX0_quick_6 1 rfl rfl)
theorem dX0_quick_142 : decode cX0_quick 142 = .ok (.iconst 0, 1) := dk_3 (dk_at dksX0_quick_6 4 rfl rfl)
theorem dX0_quick_143 : decode cX0_quick 143 = .ok (.istore 8, 2) := dk_54 8 (dk_at dksX0_quick_6 5 rfl rfl)
theorem dX0_quick_145 : decode cX0_quick 145 = .ok (.iload 7, 2) := dk_21 7 (dk_at dksX0_quick_6 7 rfl rfl)
theorem dX0_quick_147 : decode cX0_quick 147 = .ok (.ifCond .eq 13, 3) := dk_153 0 13 (dk_at dksX0_quick_6 9 rfl rfl)
theorem dX0_quick_150 : decode cX0_quick 150 = .ok (.iload 8, 2) := dk_21 8 (dk_at dksX0_quick_6 12 rfl rfl)
theorem dX0_quick_152 : decode cX0_quick 152 = .ok (.ifCond .eq 8, 3) := dk_153 0 8 (dk_at dksX0_quick_6 14 rfl rfl)
theorem dX0_quick_155 : decode cX0_quick 155 = .ok (.iload 4, 2) := dk_21 4 (dk_at dksX0_quick_6 17 rfl rfl)
theorem dX0_quick_157 : decode cX0_quick 157 = .ok (.goto 4, 3) := dk_167 0 4 (dk_at dksX0_quick_6 19 rfl rfl)
theorem dX0_quick_160 : decode cX0_quick 160 = .ok (.iload_n 3, 1) := dk_29 (dk_at dksX0_quick_6 22 rfl rfl)
theorem dX0_quick_161 : decode cX0_quick 161 = .ok (.istore_n 3, 1) := dk_62 (dk_at dksX0_quick_6 23 rfl rfl)
theorem dX0_quick_162 : decode cX0_quick 162 = .ok (.iinc 4 1, 3) := dk_132 4 1 (dk_at dksX0_quick_7 0 rfl rfl)
theorem dX0_quick_165 : decode cX0_quick 165 = .ok (.goto (-108), 3) := dk_167 255 148 (dk_at dksX0_quick_7 3 rfl rfl)
theorem dX0_quick_168 : decode cX0_quick 168 = .ok (.iload_n 3, 1) := dk_29 (dk_at dksX0_quick_7 6 rfl rfl)
theorem dX0_quick_169 : decode cX0_quick 169 = .ok (.ireturn, 1) := dk_172 (dk_at dksX0_quick_7 7 rfl rfl)
abbrev cX0_struck : ByteArray := prog_1_method_35_code
def yX0_struck : MethodName := ⟨RX0, "struck", "(III)I"⟩
def dkwX0_struck_4 : List UInt8 := [132, 6, 1, 167, 255, 212, 21, 5, 172]
abbrev dktX0_struck_4 : List UInt8 := dkwX0_struck_4 ++ []
def dkwX0_struck_3 : List UInt8 := [42, 27, 28, 21, 6, 182, 1, 2, 154, 0, 10, 4, 21, 6, 120, 167, 0, 4, 3, 128, 54, 5]
abbrev dktX0_struck_3 : List UInt8 := dkwX0_struck_3 ++ dktX0_struck_4
def dkwX0_struck_2 : List UInt8 := [54, 5, 3, 54, 6, 21, 6, 42, 180, 0, 12, 180, 0, 131, 162, 0, 38, 21, 4, 158, 0, 33, 21, 5]
abbrev dktX0_struck_2 : List UInt8 := dkwX0_struck_2 ++ dktX0_struck_3
def dkwX0_struck_1 : List UInt8 := [154, 0, 6, 18, 83, 172, 42, 27, 28, 2, 182, 1, 2, 54, 4, 29, 154, 0, 6, 21, 4, 172, 3]
abbrev dktX0_struck_1 : List UInt8 := dkwX0_struck_1 ++ dktX0_struck_2
def dkwX0_struck_0 : List UInt8 := [27, 3, 16, 8, 184, 0, 79, 153, 0, 20, 42, 28, 182, 0, 199, 153, 0, 12, 29, 3, 4, 184, 0, 79]
abbrev dktX0_struck_0 : List UInt8 := dkwX0_struck_0 ++ dktX0_struck_1
theorem dksX0_struck_0 : cX0_struck.data.toList.drop 0 = dktX0_struck_0 := by decide +kernel
theorem dksX0_struck_1 : cX0_struck.data.toList.drop 24 = dktX0_struck_1 := dk_seg dksX0_struck_0 24 rfl rfl
theorem dksX0_struck_2 : cX0_struck.data.toList.drop 47 = dktX0_struck_2 := dk_seg dksX0_struck_1 23 rfl rfl
theorem dksX0_struck_3 : cX0_struck.data.toList.drop 71 = dktX0_struck_3 := dk_seg dksX0_struck_2 24 rfl rfl
theorem dksX0_struck_4 : cX0_struck.data.toList.drop 93 = dktX0_struck_4 := dk_seg dksX0_struck_3 22 rfl rfl
theorem dX0_struck_0 : decode cX0_struck 0 = .ok (.iload_n 1, 1) := dk_27 (dk_at dksX0_struck_0 0 rfl rfl)
theorem dX0_struck_1 : decode cX0_struck 1 = .ok (.iconst 0, 1) := dk_3 (dk_at dksX0_struck_0 1 rfl rfl)
theorem dX0_struck_2 : decode cX0_struck 2 = .ok (.bipush 8, 2) := dk_16 8 (dk_at dksX0_struck_0 2 rfl rfl)
theorem dX0_struck_4 : decode cX0_struck 4 = .ok (.invokestatic 79, 3) := dk_184 0 79 (dk_at dksX0_struck_0 4 rfl rfl)
theorem dX0_struck_7 : decode cX0_struck 7 = .ok (.ifCond .eq 20, 3) := dk_153 0 20 (dk_at dksX0_struck_0 7 rfl rfl)
theorem dX0_struck_10 : decode cX0_struck 10 = .ok (.aload_n 0, 1) := dk_42 (dk_at dksX0_struck_0 10 rfl rfl)
theorem dX0_struck_11 : decode cX0_struck 11 = .ok (.iload_n 2, 1) := dk_28 (dk_at dksX0_struck_0 11 rfl rfl)
theorem dX0_struck_12 : decode cX0_struck 12 = .ok (.invokevirtual 199, 3) := dk_182 0 199 (dk_at dksX0_struck_0 12 rfl rfl)
theorem dX0_struck_15 : decode cX0_struck 15 = .ok (.ifCond .eq 12, 3) := dk_153 0 12 (dk_at dksX0_struck_0 15 rfl rfl)
theorem dX0_struck_18 : decode cX0_struck 18 = .ok (.iload_n 3, 1) := dk_29 (dk_at dksX0_struck_0 18 rfl rfl)
theorem dX0_struck_19 : decode cX0_struck 19 = .ok (.iconst 0, 1) := dk_3 (dk_at dksX0_struck_0 19 rfl rfl)
theorem dX0_struck_20 : decode cX0_struck 20 = .ok (.iconst 1, 1) := dk_4 (dk_at dksX0_struck_0 20 rfl rfl)
theorem dX0_struck_21 : decode cX0_struck 21 = .ok (.invokestatic 79, 3) := dk_184 0 79 (dk_at dksX0_struck_0 21 rfl rfl)
theorem dX0_struck_24 : decode cX0_struck 24 = .ok (.ifCond .ne 6, 3) := dk_154 0 6 (dk_at dksX0_struck_1 0 rfl rfl)
theorem dX0_struck_27 : decode cX0_struck 27 = .ok (.ldc 83, 2) := dk_18 83 (dk_at dksX0_struck_1 3 rfl rfl)
theorem dX0_struck_29 : decode cX0_struck 29 = .ok (.ireturn, 1) := dk_172 (dk_at dksX0_struck_1 5 rfl rfl)
theorem dX0_struck_30 : decode cX0_struck 30 = .ok (.aload_n 0, 1) := dk_42 (dk_at dksX0_struck_1 6 rfl rfl)
theorem dX0_struck_31 : decode cX0_struck 31 = .ok (.iload_n 1, 1) := dk_27 (dk_at dksX0_struck_1 7 rfl rfl)
theorem dX0_struck_32 : decode cX0_struck 32 = .ok (.iload_n 2, 1) := dk_28 (dk_at dksX0_struck_1 8 rfl rfl)
theorem dX0_struck_33 : decode cX0_struck 33 = .ok (.iconst (-1), 1) := dk_2 (dk_at dksX0_struck_1 9 rfl rfl)
theorem dX0_struck_34 : decode cX0_struck 34 = .ok (.invokevirtual 258, 3) := dk_182 1 2 (dk_at dksX0_struck_1 10 rfl rfl)
theorem dX0_struck_37 : decode cX0_struck 37 = .ok (.istore 4, 2) := dk_54 4 (dk_at dksX0_struck_1 13 rfl rfl)
theorem dX0_struck_39 : decode cX0_struck 39 = .ok (.iload_n 3, 1) := dk_29 (dk_at dksX0_struck_1 15 rfl rfl)
theorem dX0_struck_40 : decode cX0_struck 40 = .ok (.ifCond .ne 6, 3) := dk_154 0 6 (dk_at dksX0_struck_1 16 rfl rfl)
theorem dX0_struck_43 : decode cX0_struck 43 = .ok (.iload 4, 2) := dk_21 4 (dk_at dksX0_struck_1 19 rfl rfl)
theorem dX0_struck_45 : decode cX0_struck 45 = .ok (.ireturn, 1) := dk_172 (dk_at dksX0_struck_1 21 rfl rfl)
theorem dX0_struck_46 : decode cX0_struck 46 = .ok (.iconst 0, 1) := dk_3 (dk_at dksX0_struck_1 22 rfl rfl)
theorem dX0_struck_47 : decode cX0_struck 47 = .ok (.istore 5, 2) := dk_54 5 (dk_at dksX0_struck_2 0 rfl rfl)
theorem dX0_struck_49 : decode cX0_struck 49 = .ok (.iconst 0, 1) := dk_3 (dk_at dksX0_struck_2 2 rfl rfl)
theorem dX0_struck_50 : decode cX0_struck 50 = .ok (.istore 6, 2) := dk_54 6 (dk_at dksX0_struck_2 3 rfl rfl)
theorem dX0_struck_52 : decode cX0_struck 52 = .ok (.iload 6, 2) := dk_21 6 (dk_at dksX0_struck_2 5 rfl rfl)
theorem dX0_struck_54 : decode cX0_struck 54 = .ok (.aload_n 0, 1) := dk_42 (dk_at dksX0_struck_2 7 rfl rfl)
theorem dX0_struck_55 : decode cX0_struck 55 = .ok (.getfield 12, 3) := dk_180 0 12 (dk_at dksX0_struck_2 8 rfl rfl)
theorem dX0_struck_58 : decode cX0_struck 58 = .ok (.getfield 131, 3) := dk_180 0 131 (dk_at dksX0_struck_2 11 rfl rfl)
theorem dX0_struck_61 : decode cX0_struck 61 = .ok (.if_icmp .ge 38, 3) := dk_162 0 38 (dk_at dksX0_struck_2 14 rfl rfl)
theorem dX0_struck_64 : decode cX0_struck 64 = .ok (.iload 4, 2) := dk_21 4 (dk_at dksX0_struck_2 17 rfl rfl)
theorem dX0_struck_66 : decode cX0_struck 66 = .ok (.ifCond .le 33, 3) := dk_158 0 33 (dk_at dksX0_struck_2 19 rfl rfl)
theorem dX0_struck_69 : decode cX0_struck 69 = .ok (.iload 5, 2) := dk_21 5 (dk_at dksX0_struck_2 22 rfl rfl)
theorem dX0_struck_71 : decode cX0_struck 71 = .ok (.aload_n 0, 1) := dk_42 (dk_at dksX0_struck_3 0 rfl rfl)
theorem dX0_struck_72 : decode cX0_struck 72 = .ok (.iload_n 1, 1) := dk_27 (dk_at dksX0_struck_3 1 rfl rfl)
theorem dX0_struck_73 : decode cX0_struck 73 = .ok (.iload_n 2, 1) := dk_28 (dk_at dksX0_struck_3 2 rfl rfl)
theorem dX0_struck_74 : decode cX0_struck 74 = .ok (.iload 6, 2) := dk_21 6 (dk_at dksX0_struck_3 3 rfl rfl)
theorem dX0_struck_76 : decode cX0_struck 76 = .ok (.invokevirtual 258, 3) := dk_182 1 2 (dk_at dksX0_struck_3 5 rfl rfl)
theorem dX0_struck_79 : decode cX0_struck 79 = .ok (.ifCond .ne 10, 3) := dk_154 0 10 (dk_at dksX0_struck_3 8 rfl rfl)
theorem dX0_struck_82 : decode cX0_struck 82 = .ok (.iconst 1, 1) := dk_4 (dk_at dksX0_struck_3 11 rfl rfl)
theorem dX0_struck_83 : decode cX0_struck 83 = .ok (.iload 6, 2) := dk_21 6 (dk_at dksX0_struck_3 12 rfl rfl)
theorem dX0_struck_85 : decode cX0_struck 85 = .ok (.ishl, 1) := dk_120 (dk_at dksX0_struck_3 14 rfl rfl)
theorem dX0_struck_86 : decode cX0_struck 86 = .ok (.goto 4, 3) := dk_167 0 4 (dk_at dksX0_struck_3 15 rfl rfl)
theorem dX0_struck_89 : decode cX0_struck 89 = .ok (.iconst 0, 1) := dk_3 (dk_at dksX0_struck_3 18 rfl rfl)
theorem dX0_struck_90 : decode cX0_struck 90 = .ok (.ior, 1) := dk_128 (dk_at dksX0_struck_3 19 rfl rfl)
theorem dX0_struck_91 : decode cX0_struck 91 = .ok (.istore 5, 2) := dk_54 5 (dk_at dksX0_struck_3 20 rfl rfl)
theorem dX0_struck_93 : decode cX0_struck 93 = .ok (.iinc 6 1, 3) := dk_132 6 1 (dk_at dksX0_struck_4 0 rfl rfl)
theorem dX0_struck_96 : decode cX0_struck 96 = .ok (.goto (-44), 3) := dk_167 255 212 (dk_at dksX0_struck_4 3 rfl rfl)
theorem dX0_struck_99 : decode cX0_struck 99 = .ok (.iload 5, 2) := dk_21 5 (dk_at dksX0_struck_4 6 rfl rfl)
theorem dX0_struck_101 : decode cX0_struck 101 = .ok (.ireturn, 1) := dk_172 (dk_at dksX0_struck_4 8 rfl rfl)
abbrev cX0_rowsTo : ByteArray := prog_1_method_34_code
def yX0_rowsTo : MethodName := ⟨RX0, "rowsTo", "(III)I"⟩
def dkwX0_rowsTo_10 : List UInt8 := [54, 4, 132, 5, 1, 167, 255, 212, 21, 4, 172]
abbrev dktX0_rowsTo_10 : List UInt8 := dkwX0_rowsTo_10 ++ []
def dkwX0_rowsTo_9 : List UInt8 := [21, 4, 42, 21, 5, 182, 0, 148, 28, 160, 0, 13, 42, 180, 0, 61, 21, 5, 46, 167, 0, 4, 3, 96]
abbrev dktX0_rowsTo_9 : List UInt8 := dkwX0_rowsTo_9 ++ dktX0_rowsTo_10
def dkwX0_rowsTo_8 : List UInt8 := [167, 255, 106, 3, 54, 4, 3, 54, 5, 21, 5, 42, 180, 0, 12, 180, 0, 119, 182, 0, 187, 162, 0, 35]
abbrev dktX0_rowsTo_8 : List UInt8 := dkwX0_rowsTo_8 ++ dktX0_rowsTo_9
def dkwX0_rowsTo_7 : List UInt8 := [3, 42, 180, 0, 61, 3, 42, 180, 0, 12, 180, 0, 119, 182, 0, 187, 184, 0, 252, 132, 4, 1]
abbrev dktX0_rowsTo_7 : List UInt8 := dkwX0_rowsTo_7 ++ dktX0_rowsTo_8
def dkwX0_rowsTo_6 : List UInt8 := [180, 0, 61, 21, 5, 46, 96, 79, 132, 6, 1, 167, 255, 187, 132, 5, 1, 167, 255, 163, 42, 180, 0, 64]
abbrev dktX0_rowsTo_6 : List UInt8 := dkwX0_rowsTo_6 ++ dktX0_rowsTo_7
def dkwX0_rowsTo_5 : List UInt8 := [182, 0, 180, 54, 7, 42, 180, 0, 64, 21, 7, 92, 46, 21, 6, 29, 160, 0, 7, 3, 167, 0, 10, 42]
abbrev dktX0_rowsTo_5 : List UInt8 := dkwX0_rowsTo_5 ++ dktX0_rowsTo_6
def dkwX0_rowsTo_4 : List UInt8 := [42, 180, 0, 61, 21, 5, 46, 158, 0, 53, 42, 180, 0, 12, 180, 0, 165, 21, 6, 50, 21, 5]
abbrev dktX0_rowsTo_4 : List UInt8 := dkwX0_rowsTo_4 ++ dktX0_rowsTo_5
def dkwX0_rowsTo_3 : List UInt8 := [180, 0, 119, 182, 0, 187, 162, 0, 84, 3, 54, 6, 21, 6, 42, 180, 0, 12, 180, 0, 131, 162, 0, 63]
abbrev dktX0_rowsTo_3 : List UInt8 := dkwX0_rowsTo_3 ++ dktX0_rowsTo_4
def dkwX0_rowsTo_2 : List UInt8 := [180, 0, 12, 180, 0, 119, 182, 0, 187, 3, 184, 0, 190, 3, 54, 5, 21, 5, 42, 180, 0, 12]
abbrev dktX0_rowsTo_2 : List UInt8 := dkwX0_rowsTo_2 ++ dktX0_rowsTo_3
def dkwX0_rowsTo_1 : List UInt8 := [180, 0, 19, 180, 0, 145, 4, 79, 3, 54, 4, 21, 4, 27, 162, 0, 150, 42, 180, 0, 64, 3, 42]
abbrev dktX0_rowsTo_1 : List UInt8 := dkwX0_rowsTo_1 ++ dktX0_rowsTo_2
def dkwX0_rowsTo_0 : List UInt8 := [42, 180, 0, 61, 3, 42, 180, 0, 12, 180, 0, 119, 182, 0, 187, 3, 184, 0, 190, 42, 180, 0, 61, 42]
abbrev dktX0_rowsTo_0 : List UInt8 := dkwX0_rowsTo_0 ++ dktX0_rowsTo_1
theorem dksX0_rowsTo_0 : cX0_rowsTo.data.toList.drop 0 = dktX0_rowsTo_0 := by decide +kernel
theorem dksX0_rowsTo_1 : cX0_rowsTo.data.toList.drop 24 = dktX0_rowsTo_1 := dk_seg dksX0_rowsTo_0 24 rfl rfl
theorem dksX0_rowsTo_2 : cX0_rowsTo.data.toList.drop 47 = dktX0_rowsTo_2 := dk_seg dksX0_rowsTo_1 23 rfl rfl
theorem dksX0_rowsTo_3 : cX0_rowsTo.data.toList.drop 69 = dktX0_rowsTo_3 := dk_seg dksX0_rowsTo_2 22 rfl rfl
theorem dksX0_rowsTo_4 : cX0_rowsTo.data.toList.drop 93 = dktX0_rowsTo_4 := dk_seg dksX0_rowsTo_3 24 rfl rfl
theorem dksX0_rowsTo_5 : cX0_rowsTo.data.toList.drop 115 = dktX0_rowsTo_5 := dk_seg dksX0_rowsTo_4 22 rfl rfl
theorem dksX0_rowsTo_6 : cX0_rowsTo.data.toList.drop 139 = dktX0_rowsTo_6 := dk_seg dksX0_rowsTo_5 24 rfl rfl
theorem dksX0_rowsTo_7 : cX0_rowsTo.data.toList.drop 163 = dktX0_rowsTo_7 := dk_seg dksX0_rowsTo_6 24 rfl rfl
theorem dksX0_rowsTo_8 : cX0_rowsTo.data.toList.drop 185 = dktX0_rowsTo_8 := dk_seg dksX0_rowsTo_7 22 rfl rfl
theorem dksX0_rowsTo_9 : cX0_rowsTo.data.toList.drop 209 = dktX0_rowsTo_9 := dk_seg dksX0_rowsTo_8 24 rfl rfl
theorem dksX0_rowsTo_10 : cX0_rowsTo.data.toList.drop 233 = dktX0_rowsTo_10 := dk_seg dksX0_rowsTo_9 24 rfl rfl
theorem dX0_rowsTo_0 : decode cX0_rowsTo 0 = .ok (.aload_n 0, 1) := dk_42 (dk_at dksX0_rowsTo_0 0 rfl rfl)
theorem dX0_rowsTo_1 : decode cX0_rowsTo 1 = .ok (.getfield 61, 3) := dk_180 0 61 (dk_at dksX0_rowsTo_0 1 rfl rfl)
theorem dX0_rowsTo_4 : decode cX0_rowsTo 4 = .ok (.iconst 0, 1) := dk_3 (dk_at dksX0_rowsTo_0 4 rfl rfl)
theorem dX0_rowsTo_5 : decode cX0_rowsTo 5 = .ok (.aload_n 0, 1) := dk_42 (dk_at dksX0_rowsTo_0 5 rfl rfl)
theorem dX0_rowsTo_6 : decode cX0_rowsTo 6 = .ok (.getfield 12, 3) := dk_180 0 12 (dk_at dksX0_rowsTo_0 6 rfl rfl)
theorem dX0_rowsTo_9 : decode cX0_rowsTo 9 = .ok (.getfield 119, 3) := dk_180 0 119 (dk_at dksX0_rowsTo_0 9 rfl rfl)
theorem dX0_rowsTo_12 : decode cX0_rowsTo 12 = .ok (.invokevirtual 187, 3) := dk_182 0 187 (dk_at dksX0_rowsTo_0 12 rfl rfl)
theorem dX0_rowsTo_15 : decode cX0_rowsTo 15 = .ok (.iconst 0, 1) := dk_3 (dk_at dksX0_rowsTo_0 15 rfl rfl)
theorem dX0_rowsTo_16 : decode cX0_rowsTo 16 = .ok (.invokestatic 190, 3) := dk_184 0 190 (dk_at dksX0_rowsTo_0 16 rfl rfl)
theorem dX0_rowsTo_19 : decode cX0_rowsTo 19 = .ok (.aload_n 0, 1) := dk_42 (dk_at dksX0_rowsTo_0 19 rfl rfl)
theorem dX0_rowsTo_20 : decode cX0_rowsTo 20 = .ok (.getfield 61, 3) := dk_180 0 61 (dk_at dksX0_rowsTo_0 20 rfl rfl)
theorem dX0_rowsTo_23 : decode cX0_rowsTo 23 = .ok (.aload_n 0, 1) := dk_42 (dk_at dksX0_rowsTo_0 23 rfl rfl)
theorem dX0_rowsTo_24 : decode cX0_rowsTo 24 = .ok (.getfield 19, 3) := dk_180 0 19 (dk_at dksX0_rowsTo_1 0 rfl rfl)
theorem dX0_rowsTo_27 : decode cX0_rowsTo 27 = .ok (.getfield 145, 3) := dk_180 0 145 (dk_at dksX0_rowsTo_1 3 rfl rfl)
theorem dX0_rowsTo_30 : decode cX0_rowsTo 30 = .ok (.iconst 1, 1) := dk_4 (dk_at dksX0_rowsTo_1 6 rfl rfl)
theorem dX0_rowsTo_31 : decode cX0_rowsTo 31 = .ok (.iastore, 1) := dk_79 (dk_at dksX0_rowsTo_1 7 rfl rfl)
theorem dX0_rowsTo_32 : decode cX0_rowsTo 32 = .ok (.iconst 0, 1) := dk_3 (dk_at dksX0_rowsTo_1 8 rfl rfl)
theorem dX0_rowsTo_33 : decode cX0_rowsTo 33 = .ok (.istore 4, 2) := dk_54 4 (dk_at dksX0_rowsTo_1 9 rfl rfl)
theorem dX0_rowsTo_35 : decode cX0_rowsTo 35 = .ok (.iload 4, 2) := dk_21 4 (dk_at dksX0_rowsTo_1 11 rfl rfl)
theorem dX0_rowsTo_37 : decode cX0_rowsTo 37 = .ok (.iload_n 1, 1) := dk_27 (dk_at dksX0_rowsTo_1 13 rfl rfl)
theorem dX0_rowsTo_38 : decode cX0_rowsTo 38 = .ok (.if_icmp .ge 150, 3) := dk_162 0 150 (dk_at dksX0_rowsTo_1 14 rfl rfl)
theorem dX0_rowsTo_41 : decode cX0_rowsTo 41 = .ok (.aload_n 0, 1) := dk_42 (dk_at dksX0_rowsTo_1 17 rfl rfl)
theorem dX0_rowsTo_42 : decode cX0_rowsTo 42 = .ok (.getfield 64, 3) := dk_180 0 64 (dk_at dksX0_rowsTo_1 18 rfl rfl)
theorem dX0_rowsTo_45 : decode cX0_rowsTo 45 = .ok (.iconst 0, 1) := dk_3 (dk_at dksX0_rowsTo_1 21 rfl rfl)
theorem dX0_rowsTo_46 : decode cX0_rowsTo 46 = .ok (.aload_n 0, 1) := dk_42 (dk_at dksX0_rowsTo_1 22 rfl rfl)
theorem dX0_rowsTo_47 : decode cX0_rowsTo 47 = .ok (.getfield 12, 3) := dk_180 0 12 (dk_at dksX0_rowsTo_2 0 rfl rfl)
theorem dX0_rowsTo_50 : decode cX0_rowsTo 50 = .ok (.getfield 119, 3) := dk_180 0 119 (dk_at dksX0_rowsTo_2 3 rfl rfl)
theorem dX0_rowsTo_53 : decode cX0_rowsTo 53 = .ok (.invokevirtual 187, 3) := dk_182 0 187 (dk_at dksX0_rowsTo_2 6 rfl rfl)
theorem dX0_rowsTo_56 : decode cX0_rowsTo 56 = .ok (.iconst 0, 1) := dk_3 (dk_at dksX0_rowsTo_2 9 rfl rfl)
theorem dX0_rowsTo_57 : decode cX0_rowsTo 57 = .ok (.invokestatic 190, 3) := dk_184 0 190 (dk_at dksX0_rowsTo_2 10 rfl rfl)
theorem dX0_rowsTo_60 : decode cX0_rowsTo 60 = .ok (.iconst 0, 1) := dk_3 (dk_at dksX0_rowsTo_2 13 rfl rfl)
theorem dX0_rowsTo_61 : decode cX0_rowsTo 61 = .ok (.istore 5, 2) := dk_54 5 (dk_at dksX0_rowsTo_2 14 rfl rfl)
theorem dX0_rowsTo_63 : decode cX0_rowsTo 63 = .ok (.iload 5, 2) := dk_21 5 (dk_at dksX0_rowsTo_2 16 rfl rfl)
theorem dX0_rowsTo_65 : decode cX0_rowsTo 65 = .ok (.aload_n 0, 1) := dk_42 (dk_at dksX0_rowsTo_2 18 rfl rfl)
theorem dX0_rowsTo_66 : decode cX0_rowsTo 66 = .ok (.getfield 12, 3) := dk_180 0 12 (dk_at dksX0_rowsTo_2 19 rfl rfl)
theorem dX0_rowsTo_69 : decode cX0_rowsTo 69 = .ok (.getfield 119, 3) := dk_180 0 119 (dk_at dksX0_rowsTo_3 0 rfl rfl)
theorem dX0_rowsTo_72 : decode cX0_rowsTo 72 = .ok (.invokevirtual 187, 3) := dk_182 0 187 (dk_at dksX0_rowsTo_3 3 rfl rfl)
theorem dX0_rowsTo_75 : decode cX0_rowsTo 75 = .ok (.if_icmp .ge 84, 3) := dk_162 0 84 (dk_at dksX0_rowsTo_3 6 rfl rfl)
theorem dX0_rowsTo_78 : decode cX0_rowsTo 78 = .ok (.iconst 0, 1) := dk_3 (dk_at dksX0_rowsTo_3 9 rfl rfl)
theorem dX0_rowsTo_79 : decode cX0_rowsTo 79 = .ok (.istore 6, 2) := dk_54 6 (dk_at dksX0_rowsTo_3 10 rfl rfl)
theorem dX0_rowsTo_81 : decode cX0_rowsTo 81 = .ok (.iload 6, 2) := dk_21 6 (dk_at dksX0_rowsTo_3 12 rfl rfl)
theorem dX0_rowsTo_83 : decode cX0_rowsTo 83 = .ok (.aload_n 0, 1) := dk_42 (dk_at dksX0_rowsTo_3 14 rfl rfl)
theorem dX0_rowsTo_84 : decode cX0_rowsTo 84 = .ok (.getfield 12, 3) := dk_180 0 12 (dk_at dksX0_rowsTo_3 15 rfl rfl)
theorem dX0_rowsTo_87 : decode cX0_rowsTo 87 = .ok (.getfield 131, 3) := dk_180 0 131 (dk_at dksX0_rowsTo_3 18 rfl rfl)
theorem dX0_rowsTo_90 : decode cX0_rowsTo 90 = .ok (.if_icmp .ge 63, 3) := dk_162 0 63 (dk_at dksX0_rowsTo_3 21 rfl rfl)
theorem dX0_rowsTo_93 : decode cX0_rowsTo 93 = .ok (.aload_n 0, 1) := dk_42 (dk_at dksX0_rowsTo_4 0 rfl rfl)
theorem dX0_rowsTo_94 : decode cX0_rowsTo 94 = .ok (.getfield 61, 3) := dk_180 0 61 (dk_at dksX0_rowsTo_4 1 rfl rfl)
theorem dX0_rowsTo_97 : decode cX0_rowsTo 97 = .ok (.iload 5, 2) := dk_21 5 (dk_at dksX0_rowsTo_4 4 rfl rfl)
theorem dX0_rowsTo_99 : decode cX0_rowsTo 99 = .ok (.iaload, 1) := dk_46 (dk_at dksX0_rowsTo_4 6 rfl rfl)
theorem dX0_rowsTo_100 : decode cX0_rowsTo 100 = .ok (.ifCond .le 53, 3) := dk_158 0 53 (dk_at dksX0_rowsTo_4 7 rfl rfl)
theorem dX0_rowsTo_103 : decode cX0_rowsTo 103 = .ok (.aload_n 0, 1) := dk_42 (dk_at dksX0_rowsTo_4 10 rfl rfl)
theorem dX0_rowsTo_104 : decode cX0_rowsTo 104 = .ok (.getfield 12, 3) := dk_180 0 12 (dk_at dksX0_rowsTo_4 11 rfl rfl)
theorem dX0_rowsTo_107 : decode cX0_rowsTo 107 = .ok (.getfield 165, 3) := dk_180 0 165 (dk_at dksX0_rowsTo_4 14 rfl rfl)
theorem dX0_rowsTo_110 : decode cX0_rowsTo 110 = .ok (.iload 6, 2) := dk_21 6 (dk_at dksX0_rowsTo_4 17 rfl rfl)
theorem dX0_rowsTo_112 : decode cX0_rowsTo 112 = .ok (.aaload, 1) := dk_50 (dk_at dksX0_rowsTo_4 19 rfl rfl)
theorem dX0_rowsTo_113 : decode cX0_rowsTo 113 = .ok (.iload 5, 2) := dk_21 5 (dk_at dksX0_rowsTo_4 20 rfl rfl)
theorem dX0_rowsTo_115 : decode cX0_rowsTo 115 = .ok (.invokevirtual 180, 3) := dk_182 0 180 (dk_at dksX0_rowsTo_5 0 rfl rfl)
theorem dX0_rowsTo_118 : decode cX0_rowsTo 118 = .ok (.istore 7, 2) := dk_54 7 (dk_at dksX0_rowsTo_5 3 rfl rfl)
theorem dX0_rowsTo_120 : decode cX0_rowsTo 120 = .ok (.aload_n 0, 1) := dk_42 (dk_at dksX0_rowsTo_5 5 rfl rfl)
theorem dX0_rowsTo_121 : decode cX0_rowsTo 121 = .ok (.getfield 64, 3) := dk_180 0 64 (dk_at dksX0_rowsTo_5 6 rfl rfl)
theorem dX0_rowsTo_124 : decode cX0_rowsTo 124 = .ok (.iload 7, 2) := dk_21 7 (dk_at dksX0_rowsTo_5 9 rfl rfl)
theorem dX0_rowsTo_126 : decode cX0_rowsTo 126 = .ok (.dup2, 1) := dk_92 (dk_at dksX0_rowsTo_5 11 rfl rfl)
theorem dX0_rowsTo_127 : decode cX0_rowsTo 127 = .ok (.iaload, 1) := dk_46 (dk_at dksX0_rowsTo_5 12 rfl rfl)
theorem dX0_rowsTo_128 : decode cX0_rowsTo 128 = .ok (.iload 6, 2) := dk_21 6 (dk_at dksX0_rowsTo_5 13 rfl rfl)
theorem dX0_rowsTo_130 : decode cX0_rowsTo 130 = .ok (.iload_n 3, 1) := dk_29 (dk_at dksX0_rowsTo_5 15 rfl rfl)
theorem dX0_rowsTo_131 : decode cX0_rowsTo 131 = .ok (.if_icmp .ne 7, 3) := dk_160 0 7 (dk_at dksX0_rowsTo_5 16 rfl rfl)
theorem dX0_rowsTo_134 : decode cX0_rowsTo 134 = .ok (.iconst 0, 1) := dk_3 (dk_at dksX0_rowsTo_5 19 rfl rfl)
theorem dX0_rowsTo_135 : decode cX0_rowsTo 135 = .ok (.goto 10, 3) := dk_167 0 10 (dk_at dksX0_rowsTo_5 20 rfl rfl)
theorem dX0_rowsTo_138 : decode cX0_rowsTo 138 = .ok (.aload_n 0, 1) := dk_42 (dk_at dksX0_rowsTo_5 23 rfl rfl)
theorem dX0_rowsTo_139 : decode cX0_rowsTo 139 = .ok (.getfield 61, 3) := dk_180 0 61 (dk_at dksX0_rowsTo_6 0 rfl rfl)
theorem dX0_rowsTo_142 : decode cX0_rowsTo 142 = .ok (.iload 5, 2) := dk_21 5 (dk_at dksX0_rowsTo_6 3 rfl rfl)
theorem dX0_rowsTo_144 : decode cX0_rowsTo 144 = .ok (.iaload, 1) := dk_46 (dk_at dksX0_rowsTo_6 5 rfl rfl)
theorem dX0_rowsTo_145 : decode cX0_rowsTo 145 = .ok (.iadd, 1) := dk_96 (dk_at dksX0_rowsTo_6 6 rfl rfl)
theorem dX0_rowsTo_146 : decode cX0_rowsTo 146 = .ok (.iastore, 1) := dk_79 (dk_at dksX0_rowsTo_6 7 rfl rfl)
theorem dX0_rowsTo_147 : decode cX0_rowsTo 147 = .ok (.iinc 6 1, 3) := dk_132 6 1 (dk_at dksX0_rowsTo_6 8 rfl rfl)
theorem dX0_rowsTo_150 : decode cX0_rowsTo 150 = .ok (.goto (-69), 3) := dk_167 255 187 (dk_at dksX0_rowsTo_6 11 rfl rfl)
theorem dX0_rowsTo_153 : decode cX0_rowsTo 153 = .ok (.iinc 5 1, 3) := dk_132 5 1 (dk_at dksX0_rowsTo_6 14 rfl rfl)
theorem dX0_rowsTo_156 : decode cX0_rowsTo 156 = .ok (.goto (-93), 3) := dk_167 255 163 (dk_at dksX0_rowsTo_6 17 rfl rfl)
theorem dX0_rowsTo_159 : decode cX0_rowsTo 159 = .ok (.aload_n 0, 1) := dk_42 (dk_at dksX0_rowsTo_6 20 rfl rfl)
theorem dX0_rowsTo_160 : decode cX0_rowsTo 160 = .ok (.getfield 64, 3) := dk_180 0 64 (dk_at dksX0_rowsTo_6 21 rfl rfl)
theorem dX0_rowsTo_163 : decode cX0_rowsTo 163 = .ok (.iconst 0, 1) := dk_3 (dk_at dksX0_rowsTo_7 0 rfl rfl)
theorem dX0_rowsTo_164 : decode cX0_rowsTo 164 = .ok (.aload_n 0, 1) := dk_42 (dk_at dksX0_rowsTo_7 1 rfl rfl)
theorem dX0_rowsTo_165 : decode cX0_rowsTo 165 = .ok (.getfield 61, 3) := dk_180 0 61 (dk_at dksX0_rowsTo_7 2 rfl rfl)
theorem dX0_rowsTo_168 : decode cX0_rowsTo 168 = .ok (.iconst 0, 1) := dk_3 (dk_at dksX0_rowsTo_7 5 rfl rfl)
theorem dX0_rowsTo_169 : decode cX0_rowsTo 169 = .ok (.aload_n 0, 1) := dk_42 (dk_at dksX0_rowsTo_7 6 rfl rfl)
theorem dX0_rowsTo_170 : decode cX0_rowsTo 170 = .ok (.getfield 12, 3) := dk_180 0 12 (dk_at dksX0_rowsTo_7 7 rfl rfl)
theorem dX0_rowsTo_173 : decode cX0_rowsTo 173 = .ok (.getfield 119, 3) := dk_180 0 119 (dk_at dksX0_rowsTo_7 10 rfl rfl)
theorem dX0_rowsTo_176 : decode cX0_rowsTo 176 = .ok (.invokevirtual 187, 3) := dk_182 0 187 (dk_at dksX0_rowsTo_7 13 rfl rfl)
theorem dX0_rowsTo_179 : decode cX0_rowsTo 179 = .ok (.invokestatic 252, 3) := dk_184 0 252 (dk_at dksX0_rowsTo_7 16 rfl rfl)
theorem dX0_rowsTo_182 : decode cX0_rowsTo 182 = .ok (.iinc 4 1, 3) := dk_132 4 1 (dk_at dksX0_rowsTo_7 19 rfl rfl)
theorem dX0_rowsTo_185 : decode cX0_rowsTo 185 = .ok (.goto (-150), 3) := dk_167 255 106 (dk_at dksX0_rowsTo_8 0 rfl rfl)
theorem dX0_rowsTo_188 : decode cX0_rowsTo 188 = .ok (.iconst 0, 1) := dk_3 (dk_at dksX0_rowsTo_8 3 rfl rfl)
theorem dX0_rowsTo_189 : decode cX0_rowsTo 189 = .ok (.istore 4, 2) := dk_54 4 (dk_at dksX0_rowsTo_8 4 rfl rfl)
theorem dX0_rowsTo_191 : decode cX0_rowsTo 191 = .ok (.iconst 0, 1) := dk_3 (dk_at dksX0_rowsTo_8 6 rfl rfl)
theorem dX0_rowsTo_192 : decode cX0_rowsTo 192 = .ok (.istore 5, 2) := dk_54 5 (dk_at dksX0_rowsTo_8 7 rfl rfl)
theorem dX0_rowsTo_194 : decode cX0_rowsTo 194 = .ok (.iload 5, 2) := dk_21 5 (dk_at dksX0_rowsTo_8 9 rfl rfl)
theorem dX0_rowsTo_196 : decode cX0_rowsTo 196 = .ok (.aload_n 0, 1) := dk_42 (dk_at dksX0_rowsTo_8 11 rfl rfl)
theorem dX0_rowsTo_197 : decode cX0_rowsTo 197 = .ok (.getfield 12, 3) := dk_180 0 12 (dk_at dksX0_rowsTo_8 12 rfl rfl)
theorem dX0_rowsTo_200 : decode cX0_rowsTo 200 = .ok (.getfield 119, 3) := dk_180 0 119 (dk_at dksX0_rowsTo_8 15 rfl rfl)
theorem dX0_rowsTo_203 : decode cX0_rowsTo 203 = .ok (.invokevirtual 187, 3) := dk_182 0 187 (dk_at dksX0_rowsTo_8 18 rfl rfl)
theorem dX0_rowsTo_206 : decode cX0_rowsTo 206 = .ok (.if_icmp .ge 35, 3) := dk_162 0 35 (dk_at dksX0_rowsTo_8 21 rfl rfl)
theorem dX0_rowsTo_209 : decode cX0_rowsTo 209 = .ok (.iload 4, 2) := dk_21 4 (dk_at dksX0_rowsTo_9 0 rfl rfl)
theorem dX0_rowsTo_211 : decode cX0_rowsTo 211 = .ok (.aload_n 0, 1) := dk_42 (dk_at dksX0_rowsTo_9 2 rfl rfl)
theorem dX0_rowsTo_212 : decode cX0_rowsTo 212 = .ok (.iload 5, 2) := dk_21 5 (dk_at dksX0_rowsTo_9 3 rfl rfl)
theorem dX0_rowsTo_214 : decode cX0_rowsTo 214 = .ok (.invokevirtual 148, 3) := dk_182 0 148 (dk_at dksX0_rowsTo_9 5 rfl rfl)
theorem dX0_rowsTo_217 : decode cX0_rowsTo 217 = .ok (.iload_n 2, 1) := dk_28 (dk_at dksX0_rowsTo_9 8 rfl rfl)
theorem dX0_rowsTo_218 : decode cX0_rowsTo 218 = .ok (.if_icmp .ne 13, 3) := dk_160 0 13 (dk_at dksX0_rowsTo_9 9 rfl rfl)
theorem dX0_rowsTo_221 : decode cX0_rowsTo 221 = .ok (.aload_n 0, 1) := dk_42 (dk_at dksX0_rowsTo_9 12 rfl rfl)
theorem dX0_rowsTo_222 : decode cX0_rowsTo 222 = .ok (.getfield 61, 3) := dk_180 0 61 (dk_at dksX0_rowsTo_9 13 rfl rfl)
theorem dX0_rowsTo_225 : decode cX0_rowsTo 225 = .ok (.iload 5, 2) := dk_21 5 (dk_at dksX0_rowsTo_9 16 rfl rfl)
theorem dX0_rowsTo_227 : decode cX0_rowsTo 227 = .ok (.iaload, 1) := dk_46 (dk_at dksX0_rowsTo_9 18 rfl rfl)
theorem dX0_rowsTo_228 : decode cX0_rowsTo 228 = .ok (.goto 4, 3) := dk_167 0 4 (dk_at dksX0_rowsTo_9 19 rfl rfl)
theorem dX0_rowsTo_231 : decode cX0_rowsTo 231 = .ok (.iconst 0, 1) := dk_3 (dk_at dksX0_rowsTo_9 22 rfl rfl)
theorem dX0_rowsTo_232 : decode cX0_rowsTo 232 = .ok (.iadd, 1) := dk_96 (dk_at dksX0_rowsTo_9 23 rfl rfl)
theorem dX0_rowsTo_233 : decode cX0_rowsTo 233 = .ok (.istore 4, 2) := dk_54 4 (dk_at dksX0_rowsTo_10 0 rfl rfl)
theorem dX0_rowsTo_235 : decode cX0_rowsTo 235 = .ok (.iinc 5 1, 3) := dk_132 5 1 (dk_at dksX0_rowsTo_10 2 rfl rfl)
theorem dX0_rowsTo_238 : decode cX0_rowsTo 238 = .ok (.goto (-44), 3) := dk_167 255 212 (dk_at dksX0_rowsTo_10 5 rfl rfl)
theorem dX0_rowsTo_241 : decode cX0_rowsTo 241 = .ok (.iload 4, 2) := dk_21 4 (dk_at dksX0_rowsTo_10 8 rfl rfl)
theorem dX0_rowsTo_243 : decode cX0_rowsTo 243 = .ok (.ireturn, 1) := dk_172 (dk_at dksX0_rowsTo_10 10 rfl rfl)
abbrev cX0_lost : ByteArray := prog_1_method_37_code
def yX0_lost : MethodName := ⟨RX0, "lost", "(I)I"⟩
def dkwX0_lost_4 : List UInt8 := [163, 0, 21, 42, 27, 3, 28, 182, 1, 15, 153, 0, 5, 28, 172, 132, 2, 1, 167, 255, 236, 2, 172]
abbrev dktX0_lost_4 : List UInt8 := dkwX0_lost_4 ++ []
def dkwX0_lost_3 : List UInt8 := [184, 1, 6, 153, 0, 7, 27, 167, 0, 4, 3, 79, 132, 2, 1, 167, 255, 206, 4, 61, 28, 7]
abbrev dktX0_lost_3 : List UInt8 := dkwX0_lost_3 ++ dktX0_lost_4
def dkwX0_lost_2 : List UInt8 := [180, 0, 69, 3, 50, 28, 42, 180, 0, 19, 180, 0, 145, 79, 42, 180, 0, 72, 3, 50, 28, 27, 28]
abbrev dktX0_lost_2 : List UInt8 := dkwX0_lost_2 ++ dktX0_lost_3
def dkwX0_lost_1 : List UInt8 := [184, 1, 10, 5, 162, 0, 6, 18, 83, 172, 3, 61, 28, 42, 180, 0, 12, 180, 0, 131, 162, 0, 45, 42]
abbrev dktX0_lost_1 : List UInt8 := dkwX0_lost_1 ++ dktX0_lost_2
def dkwX0_lost_0 : List UInt8 := [27, 3, 4, 42, 180, 0, 12, 180, 0, 131, 120, 4, 100, 184, 0, 79, 154, 0, 6, 18, 164, 172, 27]
abbrev dktX0_lost_0 : List UInt8 := dkwX0_lost_0 ++ dktX0_lost_1
theorem dksX0_lost_0 : cX0_lost.data.toList.drop 0 = dktX0_lost_0 := by decide +kernel
theorem dksX0_lost_1 : cX0_lost.data.toList.drop 23 = dktX0_lost_1 := dk_seg dksX0_lost_0 23 rfl rfl
theorem dksX0_lost_2 : cX0_lost.data.toList.drop 47 = dktX0_lost_2 := dk_seg dksX0_lost_1 24 rfl rfl
theorem dksX0_lost_3 : cX0_lost.data.toList.drop 70 = dktX0_lost_3 := dk_seg dksX0_lost_2 23 rfl rfl
theorem dksX0_lost_4 : cX0_lost.data.toList.drop 92 = dktX0_lost_4 := dk_seg dksX0_lost_3 22 rfl rfl
theorem dX0_lost_0 : decode cX0_lost 0 = .ok (.iload_n 1, 1) := dk_27 (dk_at dksX0_lost_0 0 rfl rfl)
theorem dX0_lost_1 : decode cX0_lost 1 = .ok (.iconst 0, 1) := dk_3 (dk_at dksX0_lost_0 1 rfl rfl)
theorem dX0_lost_2 : decode cX0_lost 2 = .ok (.iconst 1, 1) := dk_4 (dk_at dksX0_lost_0 2 rfl rfl)
theorem dX0_lost_3 : decode cX0_lost 3 = .ok (.aload_n 0, 1) := dk_42 (dk_at dksX0_lost_0 3 rfl rfl)
theorem dX0_lost_4 : decode cX0_lost 4 = .ok (.getfield 12, 3) := dk_180 0 12 (dk_at dksX0_lost_0 4 rfl rfl)
theorem dX0_lost_7 : decode cX0_lost 7 = .ok (.getfield 131, 3) := dk_180 0 131 (dk_at dksX0_lost_0 7 rfl rfl)
theorem dX0_lost_10 : decode cX0_lost 10 = .ok (.ishl, 1) := dk_120 (dk_at dksX0_lost_0 10 rfl rfl)
theorem dX0_lost_11 : decode cX0_lost 11 = .ok (.iconst 1, 1) := dk_4 (dk_at dksX0_lost_0 11 rfl rfl)
theorem dX0_lost_12 : decode cX0_lost 12 = .ok (.isub, 1) := dk_100 (dk_at dksX0_lost_0 12 rfl rfl)
theorem dX0_lost_13 : decode cX0_lost 13 = .ok (.invokestatic 79, 3) := dk_184 0 79 (dk_at dksX0_lost_0 13 rfl rfl)
theorem dX0_lost_16 : decode cX0_lost 16 = .ok (.ifCond .ne 6, 3) := dk_154 0 6 (dk_at dksX0_lost_0 16 rfl rfl)
theorem dX0_lost_19 : decode cX0_lost 19 = .ok (.ldc 164, 2) := dk_18 164 (dk_at dksX0_lost_0 19 rfl rfl)
theorem dX0_lost_21 : decode cX0_lost 21 = .ok (.ireturn, 1) := dk_172 (dk_at dksX0_lost_0 21 rfl rfl)
theorem dX0_lost_22 : decode cX0_lost 22 = .ok (.iload_n 1, 1) := dk_27 (dk_at dksX0_lost_0 22 rfl rfl)
theorem dX0_lost_23 : decode cX0_lost 23 = .ok (.invokestatic 266, 3) := dk_184 1 10 (dk_at dksX0_lost_1 0 rfl rfl)
theorem dX0_lost_26 : decode cX0_lost 26 = .ok (.iconst 2, 1) := dk_5 (dk_at dksX0_lost_1 3 rfl rfl)
theorem dX0_lost_27 : decode cX0_lost 27 = .ok (.if_icmp .ge 6, 3) := dk_162 0 6 (dk_at dksX0_lost_1 4 rfl rfl)
theorem dX0_lost_30 : decode cX0_lost 30 = .ok (.ldc 83, 2) := dk_18 83 (dk_at dksX0_lost_1 7 rfl rfl)
theorem dX0_lost_32 : decode cX0_lost 32 = .ok (.ireturn, 1) := dk_172 (dk_at dksX0_lost_1 9 rfl rfl)
theorem dX0_lost_33 : decode cX0_lost 33 = .ok (.iconst 0, 1) := dk_3 (dk_at dksX0_lost_1 10 rfl rfl)
theorem dX0_lost_34 : decode cX0_lost 34 = .ok (.istore_n 2, 1) := dk_61 (dk_at dksX0_lost_1 11 rfl rfl)
theorem dX0_lost_35 : decode cX0_lost 35 = .ok (.iload_n 2, 1) := dk_28 (dk_at dksX0_lost_1 12 rfl rfl)
theorem dX0_lost_36 : decode cX0_lost 36 = .ok (.aload_n 0, 1) := dk_42 (dk_at dksX0_lost_1 13 rfl rfl)
theorem dX0_lost_37 : decode cX0_lost 37 = .ok (.getfield 12, 3) := dk_180 0 12 (dk_at dksX0_lost_1 14 rfl rfl)
theorem dX0_lost_40 : decode cX0_lost 40 = .ok (.getfield 131, 3) := dk_180 0 131 (dk_at dksX0_lost_1 17 rfl rfl)
theorem dX0_lost_43 : decode cX0_lost 43 = .ok (.if_icmp .ge 45, 3) := dk_162 0 45 (dk_at dksX0_lost_1 20 rfl rfl)
theorem dX0_lost_46 : decode cX0_lost 46 = .ok (.aload_n 0, 1) := dk_42 (dk_at dksX0_lost_1 23 rfl rfl)
theorem dX0_lost_47 : decode cX0_lost 47 = .ok (.getfield 69, 3) := dk_180 0 69 (dk_at dksX0_lost_2 0 rfl rfl)
theorem dX0_lost_50 : decode cX0_lost 50 = .ok (.iconst 0, 1) := dk_3 (dk_at dksX0_lost_2 3 rfl rfl)
theorem dX0_lost_51 : decode cX0_lost 51 = .ok (.aaload, 1) := dk_50 (dk_at dksX0_lost_2 4 rfl rfl)
theorem dX0_lost_52 : decode cX0_lost 52 = .ok (.iload_n 2, 1) := dk_28 (dk_at dksX0_lost_2 5 rfl rfl)
theorem dX0_lost_53 : decode cX0_lost 53 = .ok (.aload_n 0, 1) := dk_42 (dk_at dksX0_lost_2 6 rfl rfl)
theorem dX0_lost_54 : decode cX0_lost 54 = .ok (.getfield 19, 3) := dk_180 0 19 (dk_at dksX0_lost_2 7 rfl rfl)
theorem dX0_lost_57 : decode cX0_lost 57 = .ok (.getfield 145, 3) := dk_180 0 145 (dk_at dksX0_lost_2 10 rfl rfl)
theorem dX0_lost_60 : decode cX0_lost 60 = .ok (.iastore, 1) := dk_79 (dk_at dksX0_lost_2 13 rfl rfl)
theorem dX0_lost_61 : decode cX0_lost 61 = .ok (.aload_n 0, 1) := dk_42 (dk_at dksX0_lost_2 14 rfl rfl)
theorem dX0_lost_62 : decode cX0_lost 62 = .ok (.getfield 72, 3) := dk_180 0 72 (dk_at dksX0_lost_2 15 rfl rfl)
theorem dX0_lost_65 : decode cX0_lost 65 = .ok (.iconst 0, 1) := dk_3 (dk_at dksX0_lost_2 18 rfl rfl)
theorem dX0_lost_66 : decode cX0_lost 66 = .ok (.aaload, 1) := dk_50 (dk_at dksX0_lost_2 19 rfl rfl)
theorem dX0_lost_67 : decode cX0_lost 67 = .ok (.iload_n 2, 1) := dk_28 (dk_at dksX0_lost_2 20 rfl rfl)
theorem dX0_lost_68 : decode cX0_lost 68 = .ok (.iload_n 1, 1) := dk_27 (dk_at dksX0_lost_2 21 rfl rfl)
theorem dX0_lost_69 : decode cX0_lost 69 = .ok (.iload_n 2, 1) := dk_28 (dk_at dksX0_lost_2 22 rfl rfl)
theorem dX0_lost_70 : decode cX0_lost 70 = .ok (.invokestatic 262, 3) := dk_184 1 6 (dk_at dksX0_lost_3 0 rfl rfl)
theorem dX0_lost_73 : decode cX0_lost 73 = .ok (.ifCond .eq 7, 3) := dk_153 0 7 (dk_at dksX0_lost_3 3 rfl rfl)
theorem dX0_lost_76 : decode cX0_lost 76 = .ok (.iload_n 1, 1) := dk_27 (dk_at dksX0_lost_3 6 rfl rfl)
theorem dX0_lost_77 : decode cX0_lost 77 = .ok (.goto 4, 3) := dk_167 0 4 (dk_at dksX0_lost_3 7 rfl rfl)
theorem dX0_lost_80 : decode cX0_lost 80 = .ok (.iconst 0, 1) := dk_3 (dk_at dksX0_lost_3 10 rfl rfl)
theorem dX0_lost_81 : decode cX0_lost 81 = .ok (.iastore, 1) := dk_79 (dk_at dksX0_lost_3 11 rfl rfl)
theorem dX0_lost_82 : decode cX0_lost 82 = .ok (.iinc 2 1, 3) := dk_132 2 1 (dk_at dksX0_lost_3 12 rfl rfl)
theorem dX0_lost_85 : decode cX0_lost 85 = .ok (.goto (-50), 3) := dk_167 255 206 (dk_at dksX0_lost_3 15 rfl rfl)
theorem dX0_lost_88 : decode cX0_lost 88 = .ok (.iconst 1, 1) := dk_4 (dk_at dksX0_lost_3 18 rfl rfl)
theorem dX0_lost_89 : decode cX0_lost 89 = .ok (.istore_n 2, 1) := dk_61 (dk_at dksX0_lost_3 19 rfl rfl)
theorem dX0_lost_90 : decode cX0_lost 90 = .ok (.iload_n 2, 1) := dk_28 (dk_at dksX0_lost_3 20 rfl rfl)
theorem dX0_lost_91 : decode cX0_lost 91 = .ok (.iconst 4, 1) := dk_7 (dk_at dksX0_lost_3 21 rfl rfl)
theorem dX0_lost_92 : decode cX0_lost 92 = .ok (.if_icmp .gt 21, 3) := dk_163 0 21 (dk_at dksX0_lost_4 0 rfl rfl)
theorem dX0_lost_95 : decode cX0_lost 95 = .ok (.aload_n 0, 1) := dk_42 (dk_at dksX0_lost_4 3 rfl rfl)
theorem dX0_lost_96 : decode cX0_lost 96 = .ok (.iload_n 1, 1) := dk_27 (dk_at dksX0_lost_4 4 rfl rfl)
theorem dX0_lost_97 : decode cX0_lost 97 = .ok (.iconst 0, 1) := dk_3 (dk_at dksX0_lost_4 5 rfl rfl)
theorem dX0_lost_98 : decode cX0_lost 98 = .ok (.iload_n 2, 1) := dk_28 (dk_at dksX0_lost_4 6 rfl rfl)
theorem dX0_lost_99 : decode cX0_lost 99 = .ok (.invokevirtual 271, 3) := dk_182 1 15 (dk_at dksX0_lost_4 7 rfl rfl)
theorem dX0_lost_102 : decode cX0_lost 102 = .ok (.ifCond .eq 5, 3) := dk_153 0 5 (dk_at dksX0_lost_4 10 rfl rfl)
theorem dX0_lost_105 : decode cX0_lost 105 = .ok (.iload_n 2, 1) := dk_28 (dk_at dksX0_lost_4 13 rfl rfl)
theorem dX0_lost_106 : decode cX0_lost 106 = .ok (.ireturn, 1) := dk_172 (dk_at dksX0_lost_4 14 rfl rfl)
theorem dX0_lost_107 : decode cX0_lost 107 = .ok (.iinc 2 1, 3) := dk_132 2 1 (dk_at dksX0_lost_4 15 rfl rfl)
theorem dX0_lost_110 : decode cX0_lost 110 = .ok (.goto (-20), 3) := dk_167 255 236 (dk_at dksX0_lost_4 18 rfl rfl)
theorem dX0_lost_113 : decode cX0_lost 113 = .ok (.iconst (-1), 1) := dk_2 (dk_at dksX0_lost_4 21 rfl rfl)
theorem dX0_lost_114 : decode cX0_lost 114 = .ok (.ireturn, 1) := dk_172 (dk_at dksX0_lost_4 22 rfl rfl)
abbrev cX0_has : ByteArray := prog_1_method_2_code
def yX0_has : MethodName := ⟨RX0, "has", "(II)Z"⟩
def dkwX0_has_0 : List UInt8 := [26, 27, 122, 4, 126, 4, 160, 0, 7, 4, 167, 0, 4, 3, 172]
abbrev dktX0_has_0 : List UInt8 := dkwX0_has_0 ++ []
theorem dksX0_has_0 : cX0_has.data.toList.drop 0 = dktX0_has_0 := by decide +kernel
theorem dX0_has_0 : decode cX0_has 0 = .ok (.iload_n 0, 1) := dk_26 (dk_at dksX0_has_0 0 rfl rfl)
theorem dX0_has_1 : decode cX0_has 1 = .ok (.iload_n 1, 1) := dk_27 (dk_at dksX0_has_0 1 rfl rfl)
theorem dX0_has_2 : decode cX0_has 2 = .ok (.ishr, 1) := dk_122 (dk_at dksX0_has_0 2 rfl rfl)
theorem dX0_has_3 : decode cX0_has 3 = .ok (.iconst 1, 1) := dk_4 (dk_at dksX0_has_0 3 rfl rfl)
theorem dX0_has_4 : decode cX0_has 4 = .ok (.iand, 1) := dk_126 (dk_at dksX0_has_0 4 rfl rfl)
theorem dX0_has_5 : decode cX0_has 5 = .ok (.iconst 1, 1) := dk_4 (dk_at dksX0_has_0 5 rfl rfl)
theorem dX0_has_6 : decode cX0_has 6 = .ok (.if_icmp .ne 7, 3) := dk_160 0 7 (dk_at dksX0_has_0 6 rfl rfl)
theorem dX0_has_9 : decode cX0_has 9 = .ok (.iconst 1, 1) := dk_4 (dk_at dksX0_has_0 9 rfl rfl)
theorem dX0_has_10 : decode cX0_has 10 = .ok (.goto 4, 3) := dk_167 0 4 (dk_at dksX0_has_0 10 rfl rfl)
theorem dX0_has_13 : decode cX0_has 13 = .ok (.iconst 0, 1) := dk_3 (dk_at dksX0_has_0 13 rfl rfl)
theorem dX0_has_14 : decode cX0_has 14 = .ok (.ireturn, 1) := dk_172 (dk_at dksX0_has_0 14 rfl rfl)
abbrev cX0_parts : ByteArray := prog_1_method_36_code
def yX0_parts : MethodName := ⟨RX0, "parts", "(III)Z"⟩
def dkwX0_parts_13 : List UInt8 := [167, 255, 146, 42, 27, 28, 4, 96, 29, 182, 1, 15, 54, 6, 132, 7, 1, 167, 255, 18, 21, 6, 172]
abbrev dktX0_parts_13 : List UInt8 := dkwX0_parts_13 ++ []
def dkwX0_parts_12 : List UInt8 := [153, 0, 10, 4, 21, 10, 120, 167, 0, 4, 3, 128, 79, 132, 10, 1, 167, 255, 167, 132, 9, 1]
abbrev dktX0_parts_12 : List UInt8 := dkwX0_parts_12 ++ dktX0_parts_13
def dkwX0_parts_11 : List UInt8 := [46, 182, 0, 148, 160, 0, 7, 4, 167, 0, 4, 3, 54, 11, 25, 8, 21, 9, 92, 46, 21, 11]
abbrev dktX0_parts_11 : List UInt8 := dkwX0_parts_11 ++ dktX0_parts_12
def dkwX0_parts_10 : List UInt8 := [180, 0, 69, 28, 4, 96, 50, 21, 9, 46, 182, 0, 148, 42, 42, 180, 0, 69, 28, 4, 96, 50, 21, 10]
abbrev dktX0_parts_10 : List UInt8 := dkwX0_parts_10 ++ dktX0_parts_11
def dkwX0_parts_9 : List UInt8 := [180, 0, 12, 180, 0, 131, 162, 0, 83, 25, 4, 21, 9, 46, 21, 10, 184, 1, 6, 153, 0, 40, 42, 42]
abbrev dktX0_parts_9 : List UInt8 := dkwX0_parts_9 ++ dktX0_parts_10
def dkwX0_parts_8 : List UInt8 := [167, 255, 187, 3, 54, 9, 21, 9, 42, 180, 0, 12, 180, 0, 131, 162, 0, 104, 3, 54, 10, 21, 10, 42]
abbrev dktX0_parts_8 : List UInt8 := dkwX0_parts_8 ++ dktX0_parts_9
def dkwX0_parts_7 : List UInt8 := [180, 0, 165, 21, 10, 50, 42, 180, 0, 69, 28, 50, 21, 9, 46, 182, 0, 180, 79, 132, 9, 1]
abbrev dktX0_parts_7 : List UInt8 := dkwX0_parts_7 ++ dktX0_parts_8
def dkwX0_parts_6 : List UInt8 := [21, 9, 167, 0, 5, 21, 7, 54, 10, 42, 180, 0, 69, 28, 4, 96, 50, 21, 9, 42, 180, 0, 12]
abbrev dktX0_parts_6 : List UInt8 := dkwX0_parts_6 ++ dktX0_parts_7
def dkwX0_parts_5 : List UInt8 := [21, 9, 42, 180, 0, 12, 180, 0, 131, 162, 0, 63, 21, 7, 42, 180, 0, 12, 180, 0, 131, 160, 0, 8]
abbrev dktX0_parts_5 : List UInt8 := dkwX0_parts_5 ++ dktX0_parts_6
def dkwX0_parts_4 : List UInt8 := [21, 6, 154, 0, 227, 42, 180, 0, 72, 28, 4, 96, 50, 58, 8, 25, 8, 3, 184, 0, 196, 3, 54, 9]
abbrev dktX0_parts_4 : List UInt8 := dkwX0_parts_4 ++ dktX0_parts_5
def dkwX0_parts_3 : List UInt8 := [160, 0, 6, 21, 5, 172, 3, 54, 6, 3, 54, 7, 21, 7, 42, 180, 0, 12, 180, 0, 131, 163, 0, 232]
abbrev dktX0_parts_3 : List UInt8 := dkwX0_parts_3 ++ dktX0_parts_4
def dkwX0_parts_2 : List UInt8 := [160, 0, 7, 4, 167, 0, 4, 3, 126, 54, 5, 132, 6, 1, 167, 255, 210, 21, 5, 154, 0, 8, 28, 29]
abbrev dktX0_parts_2 : List UInt8 := dkwX0_parts_2 ++ dktX0_parts_3
def dkwX0_parts_1 : List UInt8 := [162, 0, 40, 21, 5, 27, 21, 6, 184, 1, 6, 153, 0, 15, 25, 4, 21, 6, 46, 184, 1, 10, 4]
abbrev dktX0_parts_1 : List UInt8 := dkwX0_parts_1 ++ dktX0_parts_2
def dkwX0_parts_0 : List UInt8 := [42, 180, 0, 72, 28, 50, 58, 4, 4, 54, 5, 3, 54, 6, 21, 6, 42, 180, 0, 12, 180, 0, 131]
abbrev dktX0_parts_0 : List UInt8 := dkwX0_parts_0 ++ dktX0_parts_1
theorem dksX0_parts_0 : cX0_parts.data.toList.drop 0 = dktX0_parts_0 := by decide +kernel
theorem dksX0_parts_1 : cX0_parts.data.toList.drop 23 = dktX0_parts_1 := dk_seg dksX0_parts_0 23 rfl rfl
theorem dksX0_parts_2 : cX0_parts.data.toList.drop 46 = dktX0_parts_2 := dk_seg dksX0_parts_1 23 rfl rfl
theorem dksX0_parts_3 : cX0_parts.data.toList.drop 70 = dktX0_parts_3 := dk_seg dksX0_parts_2 24 rfl rfl
theorem dksX0_parts_4 : cX0_parts.data.toList.drop 94 = dktX0_parts_4 := dk_seg dksX0_parts_3 24 rfl rfl
theorem dksX0_parts_5 : cX0_parts.data.toList.drop 118 = dktX0_parts_5 := dk_seg dksX0_parts_4 24 rfl rfl
theorem dksX0_parts_6 : cX0_parts.data.toList.drop 142 = dktX0_parts_6 := dk_seg dksX0_parts_5 24 rfl rfl
theorem dksX0_parts_7 : cX0_parts.data.toList.drop 165 = dktX0_parts_7 := dk_seg dksX0_parts_6 23 rfl rfl
theorem dksX0_parts_8 : cX0_parts.data.toList.drop 187 = dktX0_parts_8 := dk_seg dksX0_parts_7 22 rfl rfl
theorem dksX0_parts_9 : cX0_parts.data.toList.drop 211 = dktX0_parts_9 := dk_seg dksX0_parts_8 24 rfl rfl
theorem dksX0_parts_10 : cX0_parts.data.toList.drop 235 = dktX0_parts_10 := dk_seg dksX0_parts_9 24 rfl rfl
theorem dksX0_parts_11 : cX0_parts.data.toList.drop 259 = dktX0_parts_11 := dk_seg dksX0_parts_10 24 rfl rfl
theorem dksX0_parts_12 : cX0_parts.data.toList.drop 281 = dktX0_parts_12 := dk_seg dksX0_parts_11 22 rfl rfl
theorem dksX0_parts_13 : cX0_parts.data.toList.drop 303 = dktX0_parts_13 := dk_seg dksX0_parts_12 22 rfl rfl
theorem dX0_parts_0 : decode cX0_parts 0 = .ok (.aload_n 0, 1) := dk_42 (dk_at dksX0_parts_0 0 rfl rfl)
theorem dX0_parts_1 : decode cX0_parts 1 = .ok (.getfield 72, 3) := dk_180 0 72 (dk_at dksX0_parts_0 1 rfl rfl)
theorem dX0_parts_4 : decode cX0_parts 4 = .ok (.iload_n 2, 1) := dk_28 (dk_at dksX0_parts_0 4 rfl rfl)
theorem dX0_parts_5 : decode cX0_parts 5 = .ok (.aaload, 1) := dk_50 (dk_at dksX0_parts_0 5 rfl rfl)
theorem dX0_parts_6 : decode cX0_parts 6 = .ok (.astore 4, 2) := dk_58 4 (dk_at dksX0_parts_0 6 rfl rfl)
theorem dX0_parts_8 : decode cX0_parts 8 = .ok (.iconst 1, 1) := dk_4 (dk_at dksX0_parts_0 8 rfl rfl)
theorem dX0_parts_9 : decode cX0_parts 9 = .ok (.istore 5, 2) := dk_54 5 (dk_at dksX0_parts_0 9 rfl rfl)
theorem dX0_parts_11 : decode cX0_parts 11 = .ok (.iconst 0, 1) := dk_3 (dk_at dksX0_parts_0 11 rfl rfl)
theorem dX0_parts_12 : decode cX0_parts 12 = .ok (.istore 6, 2) := dk_54 6 (dk_at dksX0_parts_0 12 rfl rfl)
theorem dX0_parts_14 : decode cX0_parts 14 = .ok (.iload 6, 2) := dk_21 6 (dk_at dksX0_parts_0 14 rfl rfl)
theorem dX0_parts_16 : decode cX0_parts 16 = .ok (.aload_n 0, 1) := dk_42 (dk_at dksX0_parts_0 16 rfl rfl)
theorem dX0_parts_17 : decode cX0_parts 17 = .ok (.getfield 12, 3) := dk_180 0 12 (dk_at dksX0_parts_0 17 rfl rfl)
theorem dX0_parts_20 : decode cX0_parts 20 = .ok (.getfield 131, 3) := dk_180 0 131 (dk_at dksX0_parts_0 20 rfl rfl)
theorem dX0_parts_23 : decode cX0_parts 23 = .ok (.if_icmp .ge 40, 3) := dk_162 0 40 (dk_at dksX0_parts_1 0 rfl rfl)
theorem dX0_parts_26 : decode cX0_parts 26 = .ok (.iload 5, 2) := dk_21 5 (dk_at dksX0_parts_1 3 rfl rfl)
theorem dX0_parts_28 : decode cX0_parts 28 = .ok (.iload_n 1, 1) := dk_27 (dk_at dksX0_parts_1 5 rfl rfl)
theorem dX0_parts_29 : decode cX0_parts 29 = .ok (.iload 6, 2) := dk_21 6 (dk_at dksX0_parts_1 6 rfl rfl)
theorem dX0_parts_31 : decode cX0_parts 31 = .ok (.invokestatic 262, 3) := dk_184 1 6 (dk_at dksX0_parts_1 8 rfl rfl)
theorem dX0_parts_34 : decode cX0_parts 34 = .ok (.ifCond .eq 15, 3) := dk_153 0 15 (dk_at dksX0_parts_1 11 rfl rfl)
theorem dX0_parts_37 : decode cX0_parts 37 = .ok (.aload 4, 2) := dk_25 4 (dk_at dksX0_parts_1 14 rfl rfl)
theorem dX0_parts_39 : decode cX0_parts 39 = .ok (.iload 6, 2) := dk_21 6 (dk_at dksX0_parts_1 16 rfl rfl)
theorem dX0_parts_41 : decode cX0_parts 41 = .ok (.iaload, 1) := dk_46 (dk_at dksX0_parts_1 18 rfl rfl)
theorem dX0_parts_42 : decode cX0_parts 42 = .ok (.invokestatic 266, 3) := dk_184 1 10 (dk_at dksX0_parts_1 19 rfl rfl)
theorem dX0_parts_45 : decode cX0_parts 45 = .ok (.iconst 1, 1) := dk_4 (dk_at dksX0_parts_1 22 rfl rfl)
theorem dX0_parts_46 : decode cX0_parts 46 = .ok (.if_icmp .ne 7, 3) := dk_160 0 7 (dk_at dksX0_parts_2 0 rfl rfl)
theorem dX0_parts_49 : decode cX0_parts 49 = .ok (.iconst 1, 1) := dk_4 (dk_at dksX0_parts_2 3 rfl rfl)
theorem dX0_parts_50 : decode cX0_parts 50 = .ok (.goto 4, 3) := dk_167 0 4 (dk_at dksX0_parts_2 4 rfl rfl)
theorem dX0_parts_53 : decode cX0_parts 53 = .ok (.iconst 0, 1) := dk_3 (dk_at dksX0_parts_2 7 rfl rfl)
theorem dX0_parts_54 : decode cX0_parts 54 = .ok (.iand, 1) := dk_126 (dk_at dksX0_parts_2 8 rfl rfl)
theorem dX0_parts_55 : decode cX0_parts 55 = .ok (.istore 5, 2) := dk_54 5 (dk_at dksX0_parts_2 9 rfl rfl)
theorem dX0_parts_57 : decode cX0_parts 57 = .ok (.iinc 6 1, 3) := dk_132 6 1 (dk_at dksX0_parts_2 11 rfl rfl)
theorem dX0_parts_60 : decode cX0_parts 60 = .ok (.goto (-46), 3) := dk_167 255 210 (dk_at dksX0_parts_2 14 rfl rfl)
theorem dX0_parts_63 : decode cX0_parts 63 = .ok (.iload 5, 2) := dk_21 5 (dk_at dksX0_parts_2 17 rfl rfl)
theorem dX0_parts_65 : decode cX0_parts 65 = .ok (.ifCond .ne 8, 3) := dk_154 0 8 (dk_at dksX0_parts_2 19 rfl rfl)
theorem dX0_parts_68 : decode cX0_parts 68 = .ok (.iload_n 2, 1) := dk_28 (dk_at dksX0_parts_2 22 rfl rfl)
theorem dX0_parts_69 : decode cX0_parts 69 = .ok (.iload_n 3, 1) := dk_29 (dk_at dksX0_parts_2 23 rfl rfl)
theorem dX0_parts_70 : decode cX0_parts 70 = .ok (.if_icmp .ne 6, 3) := dk_160 0 6 (dk_at dksX0_parts_3 0 rfl rfl)
theorem dX0_parts_73 : decode cX0_parts 73 = .ok (.iload 5, 2) := dk_21 5 (dk_at dksX0_parts_3 3 rfl rfl)
theorem dX0_parts_75 : decode cX0_parts 75 = .ok (.ireturn, 1) := dk_172 (dk_at dksX0_parts_3 5 rfl rfl)
theorem dX0_parts_76 : decode cX0_parts 76 = .ok (.iconst 0, 1) := dk_3 (dk_at dksX0_parts_3 6 rfl rfl)
theorem dX0_parts_77 : decode cX0_parts 77 = .ok (.istore 6, 2) := dk_54 6 (dk_at dksX0_parts_3 7 rfl rfl)
theorem dX0_parts_79 : decode cX0_parts 79 = .ok (.iconst 0, 1) := dk_3 (dk_at dksX0_parts_3 9 rfl rfl)
theorem dX0_parts_80 : decode cX0_parts 80 = .ok (.istore 7, 2) := dk_54 7 (dk_at dksX0_parts_3 10 rfl rfl)
theorem dX0_parts_82 : decode cX0_parts 82 = .ok (.iload 7, 2) := dk_21 7 (dk_at dksX0_parts_3 12 rfl rfl)
theorem dX0_parts_84 : decode cX0_parts 84 = .ok (.aload_n 0, 1) := dk_42 (dk_at dksX0_parts_3 14 rfl rfl)
theorem dX0_parts_85 : decode cX0_parts 85 = .ok (.getfield 12, 3) := dk_180 0 12 (dk_at dksX0_parts_3 15 rfl rfl)
theorem dX0_parts_88 : decode cX0_parts 88 = .ok (.getfield 131, 3) := dk_180 0 131 (dk_at dksX0_parts_3 18 rfl rfl)
theorem dX0_parts_91 : decode cX0_parts 91 = .ok (.if_icmp .gt 232, 3) := dk_163 0 232 (dk_at dksX0_parts_3 21 rfl rfl)
theorem dX0_parts_94 : decode cX0_parts 94 = .ok (.iload 6, 2) := dk_21 6 (dk_at dksX0_parts_4 0 rfl rfl)
theorem dX0_parts_96 : decode cX0_parts 96 = .ok (.ifCond .ne 227, 3) := dk_154 0 227 (dk_at dksX0_parts_4 2 rfl rfl)
theorem dX0_parts_99 : decode cX0_parts 99 = .ok (.aload_n 0, 1) := dk_42 (dk_at dksX0_parts_4 5 rfl rfl)
theorem dX0_parts_100 : decode cX0_parts 100 = .ok (.getfield 72, 3) := dk_180 0 72 (dk_at dksX0_parts_4 6 rfl rfl)
theorem dX0_parts_103 : decode cX0_parts 103 = .ok (.iload_n 2, 1) := dk_28 (dk_at dksX0_parts_4 9 rfl rfl)
theorem dX0_parts_104 : decode cX0_parts 104 = .ok (.iconst 1, 1) := dk_4 (dk_at dksX0_parts_4 10 rfl rfl)
theorem dX0_parts_105 : decode cX0_parts 105 = .ok (.iadd, 1) := dk_96 (dk_at dksX0_parts_4 11 rfl rfl)
theorem dX0_parts_106 : decode cX0_parts 106 = .ok (.aaload, 1) := dk_50 (dk_at dksX0_parts_4 12 rfl rfl)
theorem dX0_parts_107 : decode cX0_parts 107 = .ok (.astore 8, 2) := dk_58 8 (dk_at dksX0_parts_4 13 rfl rfl)
theorem dX0_parts_109 : decode cX0_parts 109 = .ok (.aload 8, 2) := dk_25 8 (dk_at dksX0_parts_4 15 rfl rfl)
theorem dX0_parts_111 : decode cX0_parts 111 = .ok (.iconst 0, 1) := dk_3 (dk_at dksX0_parts_4 17 rfl rfl)
theorem dX0_parts_112 : decode cX0_parts 112 = .ok (.invokestatic 196, 3) := dk_184 0 196 (dk_at dksX0_parts_4 18 rfl rfl)
theorem dX0_parts_115 : decode cX0_parts 115 = .ok (.iconst 0, 1) := dk_3 (dk_at dksX0_parts_4 21 rfl rfl)
theorem dX0_parts_116 : decode cX0_parts 116 = .ok (.istore 9, 2) := dk_54 9 (dk_at dksX0_parts_4 22 rfl rfl)
theorem dX0_parts_118 : decode cX0_parts 118 = .ok (.iload 9, 2) := dk_21 9 (dk_at dksX0_parts_5 0 rfl rfl)
theorem dX0_parts_120 : decode cX0_parts 120 = .ok (.aload_n 0, 1) := dk_42 (dk_at dksX0_parts_5 2 rfl rfl)
theorem dX0_parts_121 : decode cX0_parts 121 = .ok (.getfield 12, 3) := dk_180 0 12 (dk_at dksX0_parts_5 3 rfl rfl)
theorem dX0_parts_124 : decode cX0_parts 124 = .ok (.getfield 131, 3) := dk_180 0 131 (dk_at dksX0_parts_5 6 rfl rfl)
theorem dX0_parts_127 : decode cX0_parts 127 = .ok (.if_icmp .ge 63, 3) := dk_162 0 63 (dk_at dksX0_parts_5 9 rfl rfl)
theorem dX0_parts_130 : decode cX0_parts 130 = .ok (.iload 7, 2) := dk_21 7 (dk_at dksX0_parts_5 12 rfl rfl)
theorem dX0_parts_132 : decode cX0_parts 132 = .ok (.aload_n 0, 1) := dk_42 (dk_at dksX0_parts_5 14 rfl rfl)
theorem dX0_parts_133 : decode cX0_parts 133 = .ok (.getfield 12, 3) := dk_180 0 12 (dk_at dksX0_parts_5 15 rfl rfl)
theorem dX0_parts_136 : decode cX0_parts 136 = .ok (.getfield 131, 3) := dk_180 0 131 (dk_at dksX0_parts_5 18 rfl rfl)
theorem dX0_parts_139 : decode cX0_parts 139 = .ok (.if_icmp .ne 8, 3) := dk_160 0 8 (dk_at dksX0_parts_5 21 rfl rfl)
theorem dX0_parts_142 : decode cX0_parts 142 = .ok (.iload 9, 2) := dk_21 9 (dk_at dksX0_parts_6 0 rfl rfl)
theorem dX0_parts_144 : decode cX0_parts 144 = .ok (.goto 5, 3) := dk_167 0 5 (dk_at dksX0_parts_6 2 rfl rfl)
theorem dX0_parts_147 : decode cX0_parts 147 = .ok (.iload 7, 2) := dk_21 7 (dk_at dksX0_parts_6 5 rfl rfl)
theorem dX0_parts_149 : decode cX0_parts 149 = .ok (.istore 10, 2) := dk_54 10 (dk_at dksX0_parts_6 7 rfl rfl)
theorem dX0_parts_151 : decode cX0_parts 151 = .ok (.aload_n 0, 1) := dk_42 (dk_at dksX0_parts_6 9 rfl rfl)
theorem dX0_parts_152 : decode cX0_parts 152 = .ok (.getfield 69, 3) := dk_180 0 69 (dk_at dksX0_parts_6 10 rfl rfl)
theorem dX0_parts_155 : decode cX0_parts 155 = .ok (.iload_n 2, 1) := dk_28 (dk_at dksX0_parts_6 13 rfl rfl)
theorem dX0_parts_156 : decode cX0_parts 156 = .ok (.iconst 1, 1) := dk_4 (dk_at dksX0_parts_6 14 rfl rfl)
theorem dX0_parts_157 : decode cX0_parts 157 = .ok (.iadd, 1) := dk_96 (dk_at dksX0_parts_6 15 rfl rfl)
theorem dX0_parts_158 : decode cX0_parts 158 = .ok (.aaload, 1) := dk_50 (dk_at dksX0_parts_6 16 rfl rfl)
theorem dX0_parts_159 : decode cX0_parts 159 = .ok (.iload 9, 2) := dk_21 9 (dk_at dksX0_parts_6 17 rfl rfl)
theorem dX0_parts_161 : decode cX0_parts 161 = .ok (.aload_n 0, 1) := dk_42 (dk_at dksX0_parts_6 19 rfl rfl)
theorem dX0_parts_162 : decode cX0_parts 162 = .ok (.getfield 12, 3) := dk_180 0 12 (dk_at dksX0_parts_6 20 rfl rfl)
theorem dX0_parts_165 : decode cX0_parts 165 = .ok (.getfield 165, 3) := dk_180 0 165 (dk_at dksX0_parts_7 0 rfl rfl)
theorem dX0_parts_168 : decode cX0_parts 168 = .ok (.iload 10, 2) := dk_21 10 (dk_at dksX0_parts_7 3 rfl rfl)
theorem dX0_parts_170 : decode cX0_parts 170 = .ok (.aaload, 1) := dk_50 (dk_at dksX0_parts_7 5 rfl rfl)
theorem dX0_parts_171 : decode cX0_parts 171 = .ok (.aload_n 0, 1) := dk_42 (dk_at dksX0_parts_7 6 rfl rfl)
theorem dX0_parts_172 : decode cX0_parts 172 = .ok (.getfield 69, 3) := dk_180 0 69 (dk_at dksX0_parts_7 7 rfl rfl)
theorem dX0_parts_175 : decode cX0_parts 175 = .ok (.iload_n 2, 1) := dk_28 (dk_at dksX0_parts_7 10 rfl rfl)
theorem dX0_parts_176 : decode cX0_parts 176 = .ok (.aaload, 1) := dk_50 (dk_at dksX0_parts_7 11 rfl rfl)
theorem dX0_parts_177 : decode cX0_parts 177 = .ok (.iload 9, 2) := dk_21 9 (dk_at dksX0_parts_7 12 rfl rfl)
theorem dX0_parts_179 : decode cX0_parts 179 = .ok (.iaload, 1) := dk_46 (dk_at dksX0_parts_7 14 rfl rfl)
theorem dX0_parts_180 : decode cX0_parts 180 = .ok (.invokevirtual 180, 3) := dk_182 0 180 (dk_at dksX0_parts_7 15 rfl rfl)
theorem dX0_parts_183 : decode cX0_parts 183 = .ok (.iastore, 1) := dk_79 (dk_at dksX0_parts_7 18 rfl rfl)
theorem dX0_parts_184 : decode cX0_parts 184 = .ok (.iinc 9 1, 3) := dk_132 9 1 (dk_at dksX0_parts_7 19 rfl rfl)
theorem dX0_parts_187 : decode cX0_parts 187 = .ok (.goto (-69), 3) := dk_167 255 187 (dk_at dksX0_parts_8 0 rfl rfl)
theorem dX0_parts_190 : decode cX0_parts 190 = .ok (.iconst 0, 1) := dk_3 (dk_at dksX0_parts_8 3 rfl rfl)
theorem dX0_parts_191 : decode cX0_parts 191 = .ok (.istore 9, 2) := dk_54 9 (dk_at dksX0_parts_8 4 rfl rfl)
theorem dX0_parts_193 : decode cX0_parts 193 = .ok (.iload 9, 2) := dk_21 9 (dk_at dksX0_parts_8 6 rfl rfl)
theorem dX0_parts_195 : decode cX0_parts 195 = .ok (.aload_n 0, 1) := dk_42 (dk_at dksX0_parts_8 8 rfl rfl)
theorem dX0_parts_196 : decode cX0_parts 196 = .ok (.getfield 12, 3) := dk_180 0 12 (dk_at dksX0_parts_8 9 rfl rfl)
theorem dX0_parts_199 : decode cX0_parts 199 = .ok (.getfield 131, 3) := dk_180 0 131 (dk_at dksX0_parts_8 12 rfl rfl)
theorem dX0_parts_202 : decode cX0_parts 202 = .ok (.if_icmp .ge 104, 3) := dk_162 0 104 (dk_at dksX0_parts_8 15 rfl rfl)
theorem dX0_parts_205 : decode cX0_parts 205 = .ok (.iconst 0, 1) := dk_3 (dk_at dksX0_parts_8 18 rfl rfl)
theorem dX0_parts_206 : decode cX0_parts 206 = .ok (.istore 10, 2) := dk_54 10 (dk_at dksX0_parts_8 19 rfl rfl)
theorem dX0_parts_208 : decode cX0_parts 208 = .ok (.iload 10, 2) := dk_21 10 (dk_at dksX0_parts_8 21 rfl rfl)
theorem dX0_parts_210 : decode cX0_parts 210 = .ok (.aload_n 0, 1) := dk_42 (dk_at dksX0_parts_8 23 rfl rfl)
theorem dX0_parts_211 : decode cX0_parts 211 = .ok (.getfield 12, 3) := dk_180 0 12 (dk_at dksX0_parts_9 0 rfl rfl)
theorem dX0_parts_214 : decode cX0_parts 214 = .ok (.getfield 131, 3) := dk_180 0 131 (dk_at dksX0_parts_9 3 rfl rfl)
theorem dX0_parts_217 : decode cX0_parts 217 = .ok (.if_icmp .ge 83, 3) := dk_162 0 83 (dk_at dksX0_parts_9 6 rfl rfl)
theorem dX0_parts_220 : decode cX0_parts 220 = .ok (.aload 4, 2) := dk_25 4 (dk_at dksX0_parts_9 9 rfl rfl)
theorem dX0_parts_222 : decode cX0_parts 222 = .ok (.iload 9, 2) := dk_21 9 (dk_at dksX0_parts_9 11 rfl rfl)
theorem dX0_parts_224 : decode cX0_parts 224 = .ok (.iaload, 1) := dk_46 (dk_at dksX0_parts_9 13 rfl rfl)
theorem dX0_parts_225 : decode cX0_parts 225 = .ok (.iload 10, 2) := dk_21 10 (dk_at dksX0_parts_9 14 rfl rfl)
theorem dX0_parts_227 : decode cX0_parts 227 = .ok (.invokestatic 262, 3) := dk_184 1 6 (dk_at dksX0_parts_9 16 rfl rfl)
theorem dX0_parts_230 : decode cX0_parts 230 = .ok (.ifCond .eq 40, 3) := dk_153 0 40 (dk_at dksX0_parts_9 19 rfl rfl)
theorem dX0_parts_233 : decode cX0_parts 233 = .ok (.aload_n 0, 1) := dk_42 (dk_at dksX0_parts_9 22 rfl rfl)
theorem dX0_parts_234 : decode cX0_parts 234 = .ok (.aload_n 0, 1) := dk_42 (dk_at dksX0_parts_9 23 rfl rfl)
theorem dX0_parts_235 : decode cX0_parts 235 = .ok (.getfield 69, 3) := dk_180 0 69 (dk_at dksX0_parts_10 0 rfl rfl)
theorem dX0_parts_238 : decode cX0_parts 238 = .ok (.iload_n 2, 1) := dk_28 (dk_at dksX0_parts_10 3 rfl rfl)
theorem dX0_parts_239 : decode cX0_parts 239 = .ok (.iconst 1, 1) := dk_4 (dk_at dksX0_parts_10 4 rfl rfl)
theorem dX0_parts_240 : decode cX0_parts 240 = .ok (.iadd, 1) := dk_96 (dk_at dksX0_parts_10 5 rfl rfl)
theorem dX0_parts_241 : decode cX0_parts 241 = .ok (.aaload, 1) := dk_50 (dk_at dksX0_parts_10 6 rfl rfl)
theorem dX0_parts_242 : decode cX0_parts 242 = .ok (.iload 9, 2) := dk_21 9 (dk_at dksX0_parts_10 7 rfl rfl)
theorem dX0_parts_244 : decode cX0_parts 244 = .ok (.iaload, 1) := dk_46 (dk_at dksX0_parts_10 9 rfl rfl)
theorem dX0_parts_245 : decode cX0_parts 245 = .ok (.invokevirtual 148, 3) := dk_182 0 148 (dk_at dksX0_parts_10 10 rfl rfl)
theorem dX0_parts_248 : decode cX0_parts 248 = .ok (.aload_n 0, 1) := dk_42 (dk_at dksX0_parts_10 13 rfl rfl)
theorem dX0_parts_249 : decode cX0_parts 249 = .ok (.aload_n 0, 1) := dk_42 (dk_at dksX0_parts_10 14 rfl rfl)
theorem dX0_parts_250 : decode cX0_parts 250 = .ok (.getfield 69, 3) := dk_180 0 69 (dk_at dksX0_parts_10 15 rfl rfl)
theorem dX0_parts_253 : decode cX0_parts 253 = .ok (.iload_n 2, 1) := dk_28 (dk_at dksX0_parts_10 18 rfl rfl)
theorem dX0_parts_254 : decode cX0_parts 254 = .ok (.iconst 1, 1) := dk_4 (dk_at dksX0_parts_10 19 rfl rfl)
theorem dX0_parts_255 : decode cX0_parts 255 = .ok (.iadd, 1) := dk_96 (dk_at dksX0_parts_10 20 rfl rfl)
theorem dX0_parts_256 : decode cX0_parts 256 = .ok (.aaload, 1) := dk_50 (dk_at dksX0_parts_10 21 rfl rfl)
theorem dX0_parts_257 : decode cX0_parts 257 = .ok (.iload 10, 2) := dk_21 10 (dk_at dksX0_parts_10 22 rfl rfl)
theorem dX0_parts_259 : decode cX0_parts 259 = .ok (.iaload, 1) := dk_46 (dk_at dksX0_parts_11 0 rfl rfl)
theorem dX0_parts_260 : decode cX0_parts 260 = .ok (.invokevirtual 148, 3) := dk_182 0 148 (dk_at dksX0_parts_11 1 rfl rfl)
theorem dX0_parts_263 : decode cX0_parts 263 = .ok (.if_icmp .ne 7, 3) := dk_160 0 7 (dk_at dksX0_parts_11 4 rfl rfl)
theorem dX0_parts_266 : decode cX0_parts 266 = .ok (.iconst 1, 1) := dk_4 (dk_at dksX0_parts_11 7 rfl rfl)
theorem dX0_parts_267 : decode cX0_parts 267 = .ok (.goto 4, 3) := dk_167 0 4 (dk_at dksX0_parts_11 8 rfl rfl)
theorem dX0_parts_270 : decode cX0_parts 270 = .ok (.iconst 0, 1) := dk_3 (dk_at dksX0_parts_11 11 rfl rfl)
theorem dX0_parts_271 : decode cX0_parts 271 = .ok (.istore 11, 2) := dk_54 11 (dk_at dksX0_parts_11 12 rfl rfl)
theorem dX0_parts_273 : decode cX0_parts 273 = .ok (.aload 8, 2) := dk_25 8 (dk_at dksX0_parts_11 14 rfl rfl)
theorem dX0_parts_275 : decode cX0_parts 275 = .ok (.iload 9, 2) := dk_21 9 (dk_at dksX0_parts_11 16 rfl rfl)
theorem dX0_parts_277 : decode cX0_parts 277 = .ok (.dup2, 1) := dk_92 (dk_at dksX0_parts_11 18 rfl rfl)
theorem dX0_parts_278 : decode cX0_parts 278 = .ok (.iaload, 1) := dk_46 (dk_at dksX0_parts_11 19 rfl rfl)
theorem dX0_parts_279 : decode cX0_parts 279 = .ok (.iload 11, 2) := dk_21 11 (dk_at dksX0_parts_11 20 rfl rfl)
theorem dX0_parts_281 : decode cX0_parts 281 = .ok (.ifCond .eq 10, 3) := dk_153 0 10 (dk_at dksX0_parts_12 0 rfl rfl)
theorem dX0_parts_284 : decode cX0_parts 284 = .ok (.iconst 1, 1) := dk_4 (dk_at dksX0_parts_12 3 rfl rfl)
theorem dX0_parts_285 : decode cX0_parts 285 = .ok (.iload 10, 2) := dk_21 10 (dk_at dksX0_parts_12 4 rfl rfl)
theorem dX0_parts_287 : decode cX0_parts 287 = .ok (.ishl, 1) := dk_120 (dk_at dksX0_parts_12 6 rfl rfl)
theorem dX0_parts_288 : decode cX0_parts 288 = .ok (.goto 4, 3) := dk_167 0 4 (dk_at dksX0_parts_12 7 rfl rfl)
theorem dX0_parts_291 : decode cX0_parts 291 = .ok (.iconst 0, 1) := dk_3 (dk_at dksX0_parts_12 10 rfl rfl)
theorem dX0_parts_292 : decode cX0_parts 292 = .ok (.ior, 1) := dk_128 (dk_at dksX0_parts_12 11 rfl rfl)
theorem dX0_parts_293 : decode cX0_parts 293 = .ok (.iastore, 1) := dk_79 (dk_at dksX0_parts_12 12 rfl rfl)
theorem dX0_parts_294 : decode cX0_parts 294 = .ok (.iinc 10 1, 3) := dk_132 10 1 (dk_at dksX0_parts_12 13 rfl rfl)
theorem dX0_parts_297 : decode cX0_parts 297 = .ok (.goto (-89), 3) := dk_167 255 167 (dk_at dksX0_parts_12 16 rfl rfl)
theorem dX0_parts_300 : decode cX0_parts 300 = .ok (.iinc 9 1, 3) := dk_132 9 1 (dk_at dksX0_parts_12 19 rfl rfl)
theorem dX0_parts_303 : decode cX0_parts 303 = .ok (.goto (-110), 3) := dk_167 255 146 (dk_at dksX0_parts_13 0 rfl rfl)
theorem dX0_parts_306 : decode cX0_parts 306 = .ok (.aload_n 0, 1) := dk_42 (dk_at dksX0_parts_13 3 rfl rfl)
theorem dX0_parts_307 : decode cX0_parts 307 = .ok (.iload_n 1, 1) := dk_27 (dk_at dksX0_parts_13 4 rfl rfl)
theorem dX0_parts_308 : decode cX0_parts 308 = .ok (.iload_n 2, 1) := dk_28 (dk_at dksX0_parts_13 5 rfl rfl)
theorem dX0_parts_309 : decode cX0_parts 309 = .ok (.iconst 1, 1) := dk_4 (dk_at dksX0_parts_13 6 rfl rfl)
theorem dX0_parts_310 : decode cX0_parts 310 = .ok (.iadd, 1) := dk_96 (dk_at dksX0_parts_13 7 rfl rfl)
theorem dX0_parts_311 : decode cX0_parts 311 = .ok (.iload_n 3, 1) := dk_29 (dk_at dksX0_parts_13 8 rfl rfl)
theorem dX0_parts_312 : decode cX0_parts 312 = .ok (.invokevirtual 271, 3) := dk_182 1 15 (dk_at dksX0_parts_13 9 rfl rfl)
theorem dX0_parts_315 : decode cX0_parts 315 = .ok (.istore 6, 2) := dk_54 6 (dk_at dksX0_parts_13 12 rfl rfl)
theorem dX0_parts_317 : decode cX0_parts 317 = .ok (.iinc 7 1, 3) := dk_132 7 1 (dk_at dksX0_parts_13 14 rfl rfl)
theorem dX0_parts_320 : decode cX0_parts 320 = .ok (.goto (-238), 3) := dk_167 255 18 (dk_at dksX0_parts_13 17 rfl rfl)
theorem dX0_parts_323 : decode cX0_parts 323 = .ok (.iload 6, 2) := dk_21 6 (dk_at dksX0_parts_13 20 rfl rfl)
theorem dX0_parts_325 : decode cX0_parts 325 = .ok (.ireturn, 1) := dk_172 (dk_at dksX0_parts_13 22 rfl rfl)
abbrev cX0_game : ByteArray := prog_1_method_39_code
def yX0_game : MethodName := ⟨RX0, "game", "(III)I"⟩
def dkwX0_game_5 : List UInt8 := [182, 1, 18, 116, 21, 4, 160, 0, 6, 21, 5, 172, 132, 5, 1, 167, 255, 182, 2, 172]
abbrev dktX0_game_5 : List UInt8 := dkwX0_game_5 ++ []
def dkwX0_game_4 : List UInt8 := [54, 6, 42, 21, 6, 182, 0, 148, 27, 160, 0, 7, 4, 167, 0, 14, 42, 21, 6, 27, 28, 4, 100]
abbrev dktX0_game_4 : List UInt8 := dkwX0_game_4 ++ dktX0_game_5
def dkwX0_game_3 : List UInt8 := [158, 0, 64, 42, 180, 0, 12, 180, 0, 165, 21, 5, 50, 42, 180, 0, 19, 180, 0, 145, 182, 0, 180]
abbrev dktX0_game_3 : List UInt8 := dkwX0_game_3 ++ dktX0_game_4
def dkwX0_game_2 : List UInt8 := [154, 0, 6, 21, 4, 172, 3, 54, 5, 21, 5, 42, 180, 0, 12, 180, 0, 131, 162, 0, 68, 28]
abbrev dktX0_game_2 : List UInt8 := dkwX0_game_2 ++ dktX0_game_3
def dkwX0_game_1 : List UInt8 := [154, 0, 6, 18, 83, 172, 42, 42, 180, 0, 19, 180, 0, 145, 27, 28, 182, 1, 18, 54, 4, 29]
abbrev dktX0_game_1 : List UInt8 := dkwX0_game_1 ++ dktX0_game_2
def dkwX0_game_0 : List UInt8 := [42, 27, 182, 0, 199, 153, 0, 22, 28, 3, 16, 6, 184, 0, 79, 153, 0, 12, 29, 3, 4, 184, 0, 79]
abbrev dktX0_game_0 : List UInt8 := dkwX0_game_0 ++ dktX0_game_1
theorem dksX0_game_0 : cX0_game.data.toList.drop 0 = dktX0_game_0 := by decide +kernel
theorem dksX0_game_1 : cX0_game.data.toList.drop 24 = dktX0_game_1 := dk_seg dksX0_game_0 24 rfl rfl
theorem dksX0_game_2 : cX0_game.data.toList.drop 46 = dktX0_game_2 := dk_seg dksX0_game_1 22 rfl rfl
theorem dksX0_game_3 : cX0_game.data.toList.drop 68 = dktX0_game_3 := dk_seg dksX0_game_2 22 rfl rfl
theorem dksX0_game_4 : cX0_game.data.toList.drop 91 = dktX0_game_4 := dk_seg dksX0_game_3 23 rfl rfl
theorem dksX0_game_5 : cX0_game.data.toList.drop 114 = dktX0_game_5 := dk_seg dksX0_game_4 23 rfl rfl
theorem dX0_game_0 : decode cX0_game 0 = .ok (.aload_n 0, 1) := dk_42 (dk_at dksX0_game_0 0 rfl rfl)
theorem dX0_game_1 : decode cX0_game 1 = .ok (.iload_n 1, 1) := dk_27 (dk_at dksX0_game_0 1 rfl rfl)
theorem dX0_game_2 : decode cX0_game 2 = .ok (.invokevirtual 199, 3) := dk_182 0 199 (dk_at dksX0_game_0 2 rfl rfl)
theorem dX0_game_5 : decode cX0_game 5 = .ok (.ifCond .eq 22, 3) := dk_153 0 22 (dk_at dksX0_game_0 5 rfl rfl)
theorem dX0_game_8 : decode cX0_game 8 = .ok (.iload_n 2, 1) := dk_28 (dk_at dksX0_game_0 8 rfl rfl)
theorem dX0_game_9 : decode cX0_game 9 = .ok (.iconst 0, 1) := dk_3 (dk_at dksX0_game_0 9 rfl rfl)
theorem dX0_game_10 : decode cX0_game 10 = .ok (.bipush 6, 2) := dk_16 6 (dk_at dksX0_game_0 10 rfl rfl)
theorem dX0_game_12 : decode cX0_game 12 = .ok (.invokestatic 79, 3) := dk_184 0 79 (dk_at dksX0_game_0 12 rfl rfl)
theorem dX0_game_15 : decode cX0_game 15 = .ok (.ifCond .eq 12, 3) := dk_153 0 12 (dk_at dksX0_game_0 15 rfl rfl)
theorem dX0_game_18 : decode cX0_game 18 = .ok (.iload_n 3, 1) := dk_29 (dk_at dksX0_game_0 18 rfl rfl)
theorem dX0_game_19 : decode cX0_game 19 = .ok (.iconst 0, 1) := dk_3 (dk_at dksX0_game_0 19 rfl rfl)
theorem dX0_game_20 : decode cX0_game 20 = .ok (.iconst 1, 1) := dk_4 (dk_at dksX0_game_0 20 rfl rfl)
theorem dX0_game_21 : decode cX0_game 21 = .ok (.invokestatic 79, 3) := dk_184 0 79 (dk_at dksX0_game_0 21 rfl rfl)
theorem dX0_game_24 : decode cX0_game 24 = .ok (.ifCond .ne 6, 3) := dk_154 0 6 (dk_at dksX0_game_1 0 rfl rfl)
theorem dX0_game_27 : decode cX0_game 27 = .ok (.ldc 83, 2) := dk_18 83 (dk_at dksX0_game_1 3 rfl rfl)
theorem dX0_game_29 : decode cX0_game 29 = .ok (.ireturn, 1) := dk_172 (dk_at dksX0_game_1 5 rfl rfl)
theorem dX0_game_30 : decode cX0_game 30 = .ok (.aload_n 0, 1) := dk_42 (dk_at dksX0_game_1 6 rfl rfl)
theorem dX0_game_31 : decode cX0_game 31 = .ok (.aload_n 0, 1) := dk_42 (dk_at dksX0_game_1 7 rfl rfl)
theorem dX0_game_32 : decode cX0_game 32 = .ok (.getfield 19, 3) := dk_180 0 19 (dk_at dksX0_game_1 8 rfl rfl)
theorem dX0_game_35 : decode cX0_game 35 = .ok (.getfield 145, 3) := dk_180 0 145 (dk_at dksX0_game_1 11 rfl rfl)
theorem dX0_game_38 : decode cX0_game 38 = .ok (.iload_n 1, 1) := dk_27 (dk_at dksX0_game_1 14 rfl rfl)
theorem dX0_game_39 : decode cX0_game 39 = .ok (.iload_n 2, 1) := dk_28 (dk_at dksX0_game_1 15 rfl rfl)
theorem dX0_game_40 : decode cX0_game 40 = .ok (.invokevirtual 274, 3) := dk_182 1 18 (dk_at dksX0_game_1 16 rfl rfl)
theorem dX0_game_43 : decode cX0_game 43 = .ok (.istore 4, 2) := dk_54 4 (dk_at dksX0_game_1 19 rfl rfl)
theorem dX0_game_45 : decode cX0_game 45 = .ok (.iload_n 3, 1) := dk_29 (dk_at dksX0_game_1 21 rfl rfl)
theorem dX0_game_46 : decode cX0_game 46 = .ok (.ifCond .ne 6, 3) := dk_154 0 6 (dk_at dksX0_game_2 0 rfl rfl)
theorem dX0_game_49 : decode cX0_game 49 = .ok (.iload 4, 2) := dk_21 4 (dk_at dksX0_game_2 3 rfl rfl)
theorem dX0_game_51 : decode cX0_game 51 = .ok (.ireturn, 1) := dk_172 (dk_at dksX0_game_2 5 rfl rfl)
theorem dX0_game_52 : decode cX0_game 52 = .ok (.iconst 0, 1) := dk_3 (dk_at dksX0_game_2 6 rfl rfl)
theorem dX0_game_53 : decode cX0_game 53 = .ok (.istore 5, 2) := dk_54 5 (dk_at dksX0_game_2 7 rfl rfl)
theorem dX0_game_55 : decode cX0_game 55 = .ok (.iload 5, 2) := dk_21 5 (dk_at dksX0_game_2 9 rfl rfl)
theorem dX0_game_57 : decode cX0_game 57 = .ok (.aload_n 0, 1) := dk_42 (dk_at dksX0_game_2 11 rfl rfl)
theorem dX0_game_58 : decode cX0_game 58 = .ok (.getfield 12, 3) := dk_180 0 12 (dk_at dksX0_game_2 12 rfl rfl)
theorem dX0_game_61 : decode cX0_game 61 = .ok (.getfield 131, 3) := dk_180 0 131 (dk_at dksX0_game_2 15 rfl rfl)
theorem dX0_game_64 : decode cX0_game 64 = .ok (.if_icmp .ge 68, 3) := dk_162 0 68 (dk_at dksX0_game_2 18 rfl rfl)
theorem dX0_game_67 : decode cX0_game 67 = .ok (.iload_n 2, 1) := dk_28 (dk_at dksX0_game_2 21 rfl rfl)
theorem dX0_game_68 : decode cX0_game 68 = .ok (.ifCond .le 64, 3) := dk_158 0 64 (dk_at dksX0_game_3 0 rfl rfl)
theorem dX0_game_71 : decode cX0_game 71 = .ok (.aload_n 0, 1) := dk_42 (dk_at dksX0_game_3 3 rfl rfl)
theorem dX0_game_72 : decode cX0_game 72 = .ok (.getfield 12, 3) := dk_180 0 12 (dk_at dksX0_game_3 4 rfl rfl)
theorem dX0_game_75 : decode cX0_game 75 = .ok (.getfield 165, 3) := dk_180 0 165 (dk_at dksX0_game_3 7 rfl rfl)
theorem dX0_game_78 : decode cX0_game 78 = .ok (.iload 5, 2) := dk_21 5 (dk_at dksX0_game_3 10 rfl rfl)
theorem dX0_game_80 : decode cX0_game 80 = .ok (.aaload, 1) := dk_50 (dk_at dksX0_game_3 12 rfl rfl)
theorem dX0_game_81 : decode cX0_game 81 = .ok (.aload_n 0, 1) := dk_42 (dk_at dksX0_game_3 13 rfl rfl)
theorem dX0_game_82 : decode cX0_game 82 = .ok (.getfield 19, 3) := dk_180 0 19 (dk_at dksX0_game_3 14 rfl rfl)
theorem dX0_game_85 : decode cX0_game 85 = .ok (.getfield 145, 3) := dk_180 0 145 (dk_at dksX0_game_3 17 rfl rfl)
theorem dX0_game_88 : decode cX0_game 88 = .ok (.invokevirtual 180, 3) := dk_182 0 180 (dk_at dksX0_game_3 20 rfl rfl)
theorem dX0_game_91 : decode cX0_game 91 = .ok (.istore 6, 2) := dk_54 6 (dk_at dksX0_game_4 0 rfl rfl)
theorem dX0_game_93 : decode cX0_game 93 = .ok (.aload_n 0, 1) := dk_42 (dk_at dksX0_game_4 2 rfl rfl)
theorem dX0_game_94 : decode cX0_game 94 = .ok (.iload 6, 2) := dk_21 6 (dk_at dksX0_game_4 3 rfl rfl)
theorem dX0_game_96 : decode cX0_game 96 = .ok (.invokevirtual 148, 3) := dk_182 0 148 (dk_at dksX0_game_4 5 rfl rfl)
theorem dX0_game_99 : decode cX0_game 99 = .ok (.iload_n 1, 1) := dk_27 (dk_at dksX0_game_4 8 rfl rfl)
theorem dX0_game_100 : decode cX0_game 100 = .ok (.if_icmp .ne 7, 3) := dk_160 0 7 (dk_at dksX0_game_4 9 rfl rfl)
theorem dX0_game_103 : decode cX0_game 103 = .ok (.iconst 1, 1) := dk_4 (dk_at dksX0_game_4 12 rfl rfl)
theorem dX0_game_104 : decode cX0_game 104 = .ok (.goto 14, 3) := dk_167 0 14 (dk_at dksX0_game_4 13 rfl rfl)
theorem dX0_game_107 : decode cX0_game 107 = .ok (.aload_n 0, 1) := dk_42 (dk_at dksX0_game_4 16 rfl rfl)
theorem dX0_game_108 : decode cX0_game 108 = .ok (.iload 6, 2) := dk_21 6 (dk_at dksX0_game_4 17 rfl rfl)
theorem dX0_game_110 : decode cX0_game 110 = .ok (.iload_n 1, 1) := dk_27 (dk_at dksX0_game_4 19 rfl rfl)
theorem dX0_game_111 : decode cX0_game 111 = .ok (.iload_n 2, 1) := dk_28 (dk_at dksX0_game_4 20 rfl rfl)
theorem dX0_game_112 : decode cX0_game 112 = .ok (.iconst 1, 1) := dk_4 (dk_at dksX0_game_4 21 rfl rfl)
theorem dX0_game_113 : decode cX0_game 113 = .ok (.isub, 1) := dk_100 (dk_at dksX0_game_4 22 rfl rfl)
theorem dX0_game_114 : decode cX0_game 114 = .ok (.invokevirtual 274, 3) := dk_182 1 18 (dk_at dksX0_game_5 0 rfl rfl)
theorem dX0_game_117 : decode cX0_game 117 = .ok (.ineg, 1) := dk_116 (dk_at dksX0_game_5 3 rfl rfl)
theorem dX0_game_118 : decode cX0_game 118 = .ok (.iload 4, 2) := dk_21 4 (dk_at dksX0_game_5 4 rfl rfl)
theorem dX0_game_120 : decode cX0_game 120 = .ok (.if_icmp .ne 6, 3) := dk_160 0 6 (dk_at dksX0_game_5 6 rfl rfl)
theorem dX0_game_123 : decode cX0_game 123 = .ok (.iload 5, 2) := dk_21 5 (dk_at dksX0_game_5 9 rfl rfl)
theorem dX0_game_125 : decode cX0_game 125 = .ok (.ireturn, 1) := dk_172 (dk_at dksX0_game_5 11 rfl rfl)
theorem dX0_game_126 : decode cX0_game 126 = .ok (.iinc 5 1, 3) := dk_132 5 1 (dk_at dksX0_game_5 12 rfl rfl)
theorem dX0_game_129 : decode cX0_game 129 = .ok (.goto (-74), 3) := dk_167 255 182 (dk_at dksX0_game_5 15 rfl rfl)
theorem dX0_game_132 : decode cX0_game 132 = .ok (.iconst (-1), 1) := dk_2 (dk_at dksX0_game_5 18 rfl rfl)
theorem dX0_game_133 : decode cX0_game 133 = .ok (.ireturn, 1) := dk_172 (dk_at dksX0_game_5 19 rfl rfl)
abbrev cX0_worth : ByteArray := prog_1_method_38_code
def yX0_worth : MethodName := ⟨RX0, "worth", "(III)I"⟩
def dkwX0_worth_4 : List UInt8 := [132, 5, 1, 167, 255, 183, 21, 4, 172]
abbrev dktX0_worth_4 : List UInt8 := dkwX0_worth_4 ++ []
def dkwX0_worth_3 : List UInt8 := [160, 0, 7, 4, 167, 0, 14, 42, 21, 6, 28, 29, 4, 100, 182, 1, 18, 116, 184, 1, 21, 54, 4]
abbrev dktX0_worth_3 : List UInt8 := dkwX0_worth_3 ++ dktX0_worth_4
def dkwX0_worth_2 : List UInt8 := [180, 0, 12, 180, 0, 165, 21, 5, 50, 27, 182, 0, 180, 54, 6, 21, 4, 42, 21, 6, 182, 0, 148, 28]
abbrev dktX0_worth_2 : List UInt8 := dkwX0_worth_2 ++ dktX0_worth_3
def dkwX0_worth_1 : List UInt8 := [21, 5, 42, 180, 0, 12, 180, 0, 131, 162, 0, 67, 29, 158, 0, 63, 21, 4, 4, 162, 0, 57, 42]
abbrev dktX0_worth_1 : List UInt8 := dkwX0_worth_1 ++ dktX0_worth_2
def dkwX0_worth_0 : List UInt8 := [29, 153, 0, 13, 42, 180, 0, 12, 180, 0, 131, 154, 0, 7, 3, 167, 0, 4, 2, 54, 4, 3, 54, 5]
abbrev dktX0_worth_0 : List UInt8 := dkwX0_worth_0 ++ dktX0_worth_1
theorem dksX0_worth_0 : cX0_worth.data.toList.drop 0 = dktX0_worth_0 := by decide +kernel
theorem dksX0_worth_1 : cX0_worth.data.toList.drop 24 = dktX0_worth_1 := dk_seg dksX0_worth_0 24 rfl rfl
theorem dksX0_worth_2 : cX0_worth.data.toList.drop 47 = dktX0_worth_2 := dk_seg dksX0_worth_1 23 rfl rfl
theorem dksX0_worth_3 : cX0_worth.data.toList.drop 71 = dktX0_worth_3 := dk_seg dksX0_worth_2 24 rfl rfl
theorem dksX0_worth_4 : cX0_worth.data.toList.drop 94 = dktX0_worth_4 := dk_seg dksX0_worth_3 23 rfl rfl
theorem dX0_worth_0 : decode cX0_worth 0 = .ok (.iload_n 3, 1) := dk_29 (dk_at dksX0_worth_0 0 rfl rfl)
theorem dX0_worth_1 : decode cX0_worth 1 = .ok (.ifCond .eq 13, 3) := dk_153 0 13 (dk_at dksX0_worth_0 1 rfl rfl)
theorem dX0_worth_4 : decode cX0_worth 4 = .ok (.aload_n 0, 1) := dk_42 (dk_at dksX0_worth_0 4 rfl rfl)
theorem dX0_worth_5 : decode cX0_worth 5 = .ok (.getfield 12, 3) := dk_180 0 12 (dk_at dksX0_worth_0 5 rfl rfl)
theorem dX0_worth_8 : decode cX0_worth 8 = .ok (.getfield 131, 3) := dk_180 0 131 (dk_at dksX0_worth_0 8 rfl rfl)
theorem dX0_worth_11 : decode cX0_worth 11 = .ok (.ifCond .ne 7, 3) := dk_154 0 7 (dk_at dksX0_worth_0 11 rfl rfl)
theorem dX0_worth_14 : decode cX0_worth 14 = .ok (.iconst 0, 1) := dk_3 (dk_at dksX0_worth_0 14 rfl rfl)
theorem dX0_worth_15 : decode cX0_worth 15 = .ok (.goto 4, 3) := dk_167 0 4 (dk_at dksX0_worth_0 15 rfl rfl)
theorem dX0_worth_18 : decode cX0_worth 18 = .ok (.iconst (-1), 1) := dk_2 (dk_at dksX0_worth_0 18 rfl rfl)
theorem dX0_worth_19 : decode cX0_worth 19 = .ok (.istore 4, 2) := dk_54 4 (dk_at dksX0_worth_0 19 rfl rfl)
theorem dX0_worth_21 : decode cX0_worth 21 = .ok (.iconst 0, 1) := dk_3 (dk_at dksX0_worth_0 21 rfl rfl)
theorem dX0_worth_22 : decode cX0_worth 22 = .ok (.istore 5, 2) := dk_54 5 (dk_at dksX0_worth_0 22 rfl rfl)
theorem dX0_worth_24 : decode cX0_worth 24 = .ok (.iload 5, 2) := dk_21 5 (dk_at dksX0_worth_1 0 rfl rfl)
theorem dX0_worth_26 : decode cX0_worth 26 = .ok (.aload_n 0, 1) := dk_42 (dk_at dksX0_worth_1 2 rfl rfl)
theorem dX0_worth_27 : decode cX0_worth 27 = .ok (.getfield 12, 3) := dk_180 0 12 (dk_at dksX0_worth_1 3 rfl rfl)
theorem dX0_worth_30 : decode cX0_worth 30 = .ok (.getfield 131, 3) := dk_180 0 131 (dk_at dksX0_worth_1 6 rfl rfl)
theorem dX0_worth_33 : decode cX0_worth 33 = .ok (.if_icmp .ge 67, 3) := dk_162 0 67 (dk_at dksX0_worth_1 9 rfl rfl)
theorem dX0_worth_36 : decode cX0_worth 36 = .ok (.iload_n 3, 1) := dk_29 (dk_at dksX0_worth_1 12 rfl rfl)
theorem dX0_worth_37 : decode cX0_worth 37 = .ok (.ifCond .le 63, 3) := dk_158 0 63 (dk_at dksX0_worth_1 13 rfl rfl)
theorem dX0_worth_40 : decode cX0_worth 40 = .ok (.iload 4, 2) := dk_21 4 (dk_at dksX0_worth_1 16 rfl rfl)
theorem dX0_worth_42 : decode cX0_worth 42 = .ok (.iconst 1, 1) := dk_4 (dk_at dksX0_worth_1 18 rfl rfl)
theorem dX0_worth_43 : decode cX0_worth 43 = .ok (.if_icmp .ge 57, 3) := dk_162 0 57 (dk_at dksX0_worth_1 19 rfl rfl)
theorem dX0_worth_46 : decode cX0_worth 46 = .ok (.aload_n 0, 1) := dk_42 (dk_at dksX0_worth_1 22 rfl rfl)
theorem dX0_worth_47 : decode cX0_worth 47 = .ok (.getfield 12, 3) := dk_180 0 12 (dk_at dksX0_worth_2 0 rfl rfl)
theorem dX0_worth_50 : decode cX0_worth 50 = .ok (.getfield 165, 3) := dk_180 0 165 (dk_at dksX0_worth_2 3 rfl rfl)
theorem dX0_worth_53 : decode cX0_worth 53 = .ok (.iload 5, 2) := dk_21 5 (dk_at dksX0_worth_2 6 rfl rfl)
theorem dX0_worth_55 : decode cX0_worth 55 = .ok (.aaload, 1) := dk_50 (dk_at dksX0_worth_2 8 rfl rfl)
theorem dX0_worth_56 : decode cX0_worth 56 = .ok (.iload_n 1, 1) := dk_27 (dk_at dksX0_worth_2 9 rfl rfl)
theorem dX0_worth_57 : decode cX0_worth 57 = .ok (.invokevirtual 180, 3) := dk_182 0 180 (dk_at dksX0_worth_2 10 rfl rfl)
theorem dX0_worth_60 : decode cX0_worth 60 = .ok (.istore 6, 2) := dk_54 6 (dk_at dksX0_worth_2 13 rfl rfl)
theorem dX0_worth_62 : decode cX0_worth 62 = .ok (.iload 4, 2) := dk_21 4 (dk_at dksX0_worth_2 15 rfl rfl)
theorem dX0_worth_64 : decode cX0_worth 64 = .ok (.aload_n 0, 1) := dk_42 (dk_at dksX0_worth_2 17 rfl rfl)
theorem dX0_worth_65 : decode cX0_worth 65 = .ok (.iload 6, 2) := dk_21 6 (dk_at dksX0_worth_2 18 rfl rfl)
theorem dX0_worth_67 : decode cX0_worth 67 = .ok (.invokevirtual 148, 3) := dk_182 0 148 (dk_at dksX0_worth_2 20 rfl rfl)
theorem dX0_worth_70 : decode cX0_worth 70 = .ok (.iload_n 2, 1) := dk_28 (dk_at dksX0_worth_2 23 rfl rfl)
theorem dX0_worth_71 : decode cX0_worth 71 = .ok (.if_icmp .ne 7, 3) := dk_160 0 7 (dk_at dksX0_worth_3 0 rfl rfl)
theorem dX0_worth_74 : decode cX0_worth 74 = .ok (.iconst 1, 1) := dk_4 (dk_at dksX0_worth_3 3 rfl rfl)
theorem dX0_worth_75 : decode cX0_worth 75 = .ok (.goto 14, 3) := dk_167 0 14 (dk_at dksX0_worth_3 4 rfl rfl)
theorem dX0_worth_78 : decode cX0_worth 78 = .ok (.aload_n 0, 1) := dk_42 (dk_at dksX0_worth_3 7 rfl rfl)
theorem dX0_worth_79 : decode cX0_worth 79 = .ok (.iload 6, 2) := dk_21 6 (dk_at dksX0_worth_3 8 rfl rfl)
theorem dX0_worth_81 : decode cX0_worth 81 = .ok (.iload_n 2, 1) := dk_28 (dk_at dksX0_worth_3 10 rfl rfl)
theorem dX0_worth_82 : decode cX0_worth 82 = .ok (.iload_n 3, 1) := dk_29 (dk_at dksX0_worth_3 11 rfl rfl)
theorem dX0_worth_83 : decode cX0_worth 83 = .ok (.iconst 1, 1) := dk_4 (dk_at dksX0_worth_3 12 rfl rfl)
theorem dX0_worth_84 : decode cX0_worth 84 = .ok (.isub, 1) := dk_100 (dk_at dksX0_worth_3 13 rfl rfl)
theorem dX0_worth_85 : decode cX0_worth 85 = .ok (.invokevirtual 274, 3) := dk_182 1 18 (dk_at dksX0_worth_3 14 rfl rfl)
theorem dX0_worth_88 : decode cX0_worth 88 = .ok (.ineg, 1) := dk_116 (dk_at dksX0_worth_3 17 rfl rfl)
theorem dX0_worth_89 : decode cX0_worth 89 = .ok (.invokestatic 277, 3) := dk_184 1 21 (dk_at dksX0_worth_3 18 rfl rfl)
theorem dX0_worth_92 : decode cX0_worth 92 = .ok (.istore 4, 2) := dk_54 4 (dk_at dksX0_worth_3 21 rfl rfl)
theorem dX0_worth_94 : decode cX0_worth 94 = .ok (.iinc 5 1, 3) := dk_132 5 1 (dk_at dksX0_worth_4 0 rfl rfl)
theorem dX0_worth_97 : decode cX0_worth 97 = .ok (.goto (-73), 3) := dk_167 255 183 (dk_at dksX0_worth_4 3 rfl rfl)
theorem dX0_worth_100 : decode cX0_worth 100 = .ok (.iload 4, 2) := dk_21 4 (dk_at dksX0_worth_4 6 rfl rfl)
theorem dX0_worth_102 : decode cX0_worth 102 = .ok (.ireturn, 1) := dk_172 (dk_at dksX0_worth_4 8 rfl rfl)
abbrev cX0_write : ByteArray := prog_1_method_40_code
def yX0_write : MethodName := ⟨RX0, "write", "(II)I"⟩
def dkwX0_write_2 : List UInt8 := [180, 0, 27, 42, 180, 0, 108, 28, 79, 42, 89, 180, 0, 108, 4, 96, 181, 0, 108, 42, 180, 0, 108, 172]
abbrev dktX0_write_2 : List UInt8 := dkwX0_write_2 ++ []
def dkwX0_write_1 : List UInt8 := [180, 0, 108, 16, 40, 160, 0, 6, 18, 87, 172, 42, 180, 0, 23, 42, 180, 0, 108, 27, 79, 42]
abbrev dktX0_write_1 : List UInt8 := dkwX0_write_1 ++ dktX0_write_2
def dkwX0_write_0 : List UInt8 := [42, 27, 182, 0, 160, 154, 0, 6, 18, 164, 172, 42, 28, 182, 0, 199, 154, 0, 6, 18, 83, 172, 42]
abbrev dktX0_write_0 : List UInt8 := dkwX0_write_0 ++ dktX0_write_1
theorem dksX0_write_0 : cX0_write.data.toList.drop 0 = dktX0_write_0 := by decide +kernel
theorem dksX0_write_1 : cX0_write.data.toList.drop 23 = dktX0_write_1 := dk_seg dksX0_write_0 23 rfl rfl
theorem dksX0_write_2 : cX0_write.data.toList.drop 45 = dktX0_write_2 := dk_seg dksX0_write_1 22 rfl rfl
theorem dX0_write_0 : decode cX0_write 0 = .ok (.aload_n 0, 1) := dk_42 (dk_at dksX0_write_0 0 rfl rfl)
theorem dX0_write_1 : decode cX0_write 1 = .ok (.iload_n 1, 1) := dk_27 (dk_at dksX0_write_0 1 rfl rfl)
theorem dX0_write_2 : decode cX0_write 2 = .ok (.invokevirtual 160, 3) := dk_182 0 160 (dk_at dksX0_write_0 2 rfl rfl)
theorem dX0_write_5 : decode cX0_write 5 = .ok (.ifCond .ne 6, 3) := dk_154 0 6 (dk_at dksX0_write_0 5 rfl rfl)
theorem dX0_write_8 : decode cX0_write 8 = .ok (.ldc 164, 2) := dk_18 164 (dk_at dksX0_write_0 8 rfl rfl)
theorem dX0_write_10 : decode cX0_write 10 = .ok (.ireturn, 1) := dk_172 (dk_at dksX0_write_0 10 rfl rfl)
theorem dX0_write_11 : decode cX0_write 11 = .ok (.aload_n 0, 1) := dk_42 (dk_at dksX0_write_0 11 rfl rfl)
theorem dX0_write_12 : decode cX0_write 12 = .ok (.iload_n 2, 1) := dk_28 (dk_at dksX0_write_0 12 rfl rfl)
theorem dX0_write_13 : decode cX0_write 13 = .ok (.invokevirtual 199, 3) := dk_182 0 199 (dk_at dksX0_write_0 13 rfl rfl)
theorem dX0_write_16 : decode cX0_write 16 = .ok (.ifCond .ne 6, 3) := dk_154 0 6 (dk_at dksX0_write_0 16 rfl rfl)
theorem dX0_write_19 : decode cX0_write 19 = .ok (.ldc 83, 2) := dk_18 83 (dk_at dksX0_write_0 19 rfl rfl)
theorem dX0_write_21 : decode cX0_write 21 = .ok (.ireturn, 1) := dk_172 (dk_at dksX0_write_0 21 rfl rfl)
theorem dX0_write_22 : decode cX0_write 22 = .ok (.aload_n 0, 1) := dk_42 (dk_at dksX0_write_0 22 rfl rfl)
theorem dX0_write_23 : decode cX0_write 23 = .ok (.getfield 108, 3) := dk_180 0 108 (dk_at dksX0_write_1 0 rfl rfl)
theorem dX0_write_26 : decode cX0_write 26 = .ok (.bipush 40, 2) := dk_16 40 (dk_at dksX0_write_1 3 rfl rfl)
theorem dX0_write_28 : decode cX0_write 28 = .ok (.if_icmp .ne 6, 3) := dk_160 0 6 (dk_at dksX0_write_1 5 rfl rfl)
theorem dX0_write_31 : decode cX0_write 31 = .ok (.ldc 87, 2) := dk_18 87 (dk_at dksX0_write_1 8 rfl rfl)
theorem dX0_write_33 : decode cX0_write 33 = .ok (.ireturn, 1) := dk_172 (dk_at dksX0_write_1 10 rfl rfl)
theorem dX0_write_34 : decode cX0_write 34 = .ok (.aload_n 0, 1) := dk_42 (dk_at dksX0_write_1 11 rfl rfl)
theorem dX0_write_35 : decode cX0_write 35 = .ok (.getfield 23, 3) := dk_180 0 23 (dk_at dksX0_write_1 12 rfl rfl)
theorem dX0_write_38 : decode cX0_write 38 = .ok (.aload_n 0, 1) := dk_42 (dk_at dksX0_write_1 15 rfl rfl)
theorem dX0_write_39 : decode cX0_write 39 = .ok (.getfield 108, 3) := dk_180 0 108 (dk_at dksX0_write_1 16 rfl rfl)
theorem dX0_write_42 : decode cX0_write 42 = .ok (.iload_n 1, 1) := dk_27 (dk_at dksX0_write_1 19 rfl rfl)
theorem dX0_write_43 : decode cX0_write 43 = .ok (.iastore, 1) := dk_79 (dk_at dksX0_write_1 20 rfl rfl)
theorem dX0_write_44 : decode cX0_write 44 = .ok (.aload_n 0, 1) := dk_42 (dk_at dksX0_write_1 21 rfl rfl)
theorem dX0_write_45 : decode cX0_write 45 = .ok (.getfield 27, 3) := dk_180 0 27 (dk_at dksX0_write_2 0 rfl rfl)
theorem dX0_write_48 : decode cX0_write 48 = .ok (.aload_n 0, 1) := dk_42 (dk_at dksX0_write_2 3 rfl rfl)
theorem dX0_write_49 : decode cX0_write 49 = .ok (.getfield 108, 3) := dk_180 0 108 (dk_at dksX0_write_2 4 rfl rfl)
theorem dX0_write_52 : decode cX0_write 52 = .ok (.iload_n 2, 1) := dk_28 (dk_at dksX0_write_2 7 rfl rfl)
theorem dX0_write_53 : decode cX0_write 53 = .ok (.iastore, 1) := dk_79 (dk_at dksX0_write_2 8 rfl rfl)
theorem dX0_write_54 : decode cX0_write 54 = .ok (.aload_n 0, 1) := dk_42 (dk_at dksX0_write_2 9 rfl rfl)
theorem dX0_write_55 : decode cX0_write 55 = .ok (.dup, 1) := dk_89 (dk_at dksX0_write_2 10 rfl rfl)
theorem dX0_write_56 : decode cX0_write 56 = .ok (.getfield 108, 3) := dk_180 0 108 (dk_at dksX0_write_2 11 rfl rfl)
theorem dX0_write_59 : decode cX0_write 59 = .ok (.iconst 1, 1) := dk_4 (dk_at dksX0_write_2 14 rfl rfl)
theorem dX0_write_60 : decode cX0_write 60 = .ok (.iadd, 1) := dk_96 (dk_at dksX0_write_2 15 rfl rfl)
theorem dX0_write_61 : decode cX0_write 61 = .ok (.putfield 108, 3) := dk_181 0 108 (dk_at dksX0_write_2 16 rfl rfl)
theorem dX0_write_64 : decode cX0_write 64 = .ok (.aload_n 0, 1) := dk_42 (dk_at dksX0_write_2 19 rfl rfl)
theorem dX0_write_65 : decode cX0_write 65 = .ok (.getfield 108, 3) := dk_180 0 108 (dk_at dksX0_write_2 20 rfl rfl)
theorem dX0_write_68 : decode cX0_write 68 = .ok (.ireturn, 1) := dk_172 (dk_at dksX0_write_2 23 rfl rfl)
abbrev cX0_tear : ByteArray := prog_1_method_41_code
def yX0_tear : MethodName := ⟨RX0, "tear", "()I"⟩
def dkwX0_tear_0 : List UInt8 := [42, 180, 0, 108, 60, 42, 3, 181, 0, 108, 27, 172]
abbrev dktX0_tear_0 : List UInt8 := dkwX0_tear_0 ++ []
theorem dksX0_tear_0 : cX0_tear.data.toList.drop 0 = dktX0_tear_0 := by decide +kernel
theorem dX0_tear_0 : decode cX0_tear 0 = .ok (.aload_n 0, 1) := dk_42 (dk_at dksX0_tear_0 0 rfl rfl)
theorem dX0_tear_1 : decode cX0_tear 1 = .ok (.getfield 108, 3) := dk_180 0 108 (dk_at dksX0_tear_0 1 rfl rfl)
theorem dX0_tear_4 : decode cX0_tear 4 = .ok (.istore_n 1, 1) := dk_60 (dk_at dksX0_tear_0 4 rfl rfl)
theorem dX0_tear_5 : decode cX0_tear 5 = .ok (.aload_n 0, 1) := dk_42 (dk_at dksX0_tear_0 5 rfl rfl)
theorem dX0_tear_6 : decode cX0_tear 6 = .ok (.iconst 0, 1) := dk_3 (dk_at dksX0_tear_0 6 rfl rfl)
theorem dX0_tear_7 : decode cX0_tear 7 = .ok (.putfield 108, 3) := dk_181 0 108 (dk_at dksX0_tear_0 7 rfl rfl)
theorem dX0_tear_10 : decode cX0_tear 10 = .ok (.iload_n 1, 1) := dk_27 (dk_at dksX0_tear_0 10 rfl rfl)
theorem dX0_tear_11 : decode cX0_tear 11 = .ok (.ireturn, 1) := dk_172 (dk_at dksX0_tear_0 11 rfl rfl)
abbrev cX0_judge : ByteArray := prog_1_method_42_code
def yX0_judge : MethodName := ⟨RX0, "judge", "()I"⟩
def dkwX0_judge_2 : List UInt8 := [28, 46, 159, 0, 5, 28, 172, 132, 2, 1, 167, 255, 210, 2, 172]
abbrev dktX0_judge_2 : List UInt8 := dkwX0_judge_2 ++ []
def dkwX0_judge_1 : List UInt8 := [180, 0, 165, 42, 180, 0, 23, 28, 46, 50, 27, 182, 0, 180, 60, 42, 27, 182, 0, 148, 42, 180, 0, 27]
abbrev dktX0_judge_1 : List UInt8 := dkwX0_judge_1 ++ dktX0_judge_2
def dkwX0_judge_0 : List UInt8 := [42, 180, 0, 19, 180, 0, 145, 60, 3, 61, 28, 42, 180, 0, 108, 162, 0, 44, 42, 180, 0, 12]
abbrev dktX0_judge_0 : List UInt8 := dkwX0_judge_0 ++ dktX0_judge_1
theorem dksX0_judge_0 : cX0_judge.data.toList.drop 0 = dktX0_judge_0 := by decide +kernel
theorem dksX0_judge_1 : cX0_judge.data.toList.drop 22 = dktX0_judge_1 := dk_seg dksX0_judge_0 22 rfl rfl
theorem dksX0_judge_2 : cX0_judge.data.toList.drop 46 = dktX0_judge_2 := dk_seg dksX0_judge_1 24 rfl rfl
theorem dX0_judge_0 : decode cX0_judge 0 = .ok (.aload_n 0, 1) := dk_42 (dk_at dksX0_judge_0 0 rfl rfl)
theorem dX0_judge_1 : decode cX0_judge 1 = .ok (.getfield 19, 3) := dk_180 0 19 (dk_at dksX0_judge_0 1 rfl rfl)
theorem dX0_judge_4 : decode cX0_judge 4 = .ok (.getfield 145, 3) := dk_180 0 145 (dk_at dksX0_judge_0 4 rfl rfl)
theorem dX0_judge_7 : decode cX0_judge 7 = .ok (.istore_n 1, 1) := dk_60 (dk_at dksX0_judge_0 7 rfl rfl)
theorem dX0_judge_8 : decode cX0_judge 8 = .ok (.iconst 0, 1) := dk_3 (dk_at dksX0_judge_0 8 rfl rfl)
theorem dX0_judge_9 : decode cX0_judge 9 = .ok (.istore_n 2, 1) := dk_61 (dk_at dksX0_judge_0 9 rfl rfl)
theorem dX0_judge_10 : decode cX0_judge 10 = .ok (.iload_n 2, 1) := dk_28 (dk_at dksX0_judge_0 10 rfl rfl)
theorem dX0_judge_11 : decode cX0_judge 11 = .ok (.aload_n 0, 1) := dk_42 (dk_at dksX0_judge_0 11 rfl rfl)
theorem dX0_judge_12 : decode cX0_judge 12 = .ok (.getfield 108, 3) := dk_180 0 108 (dk_at dksX0_judge_0 12 rfl rfl)
theorem dX0_judge_15 : decode cX0_judge 15 = .ok (.if_icmp .ge 44, 3) := dk_162 0 44 (dk_at dksX0_judge_0 15 rfl rfl)
theorem dX0_judge_18 : decode cX0_judge 18 = .ok (.aload_n 0, 1) := dk_42 (dk_at dksX0_judge_0 18 rfl rfl)
theorem dX0_judge_19 : decode cX0_judge 19 = .ok (.getfield 12, 3) := dk_180 0 12 (dk_at dksX0_judge_0 19 rfl rfl)
theorem dX0_judge_22 : decode cX0_judge 22 = .ok (.getfield 165, 3) := dk_180 0 165 (dk_at dksX0_judge_1 0 rfl rfl)
theorem dX0_judge_25 : decode cX0_judge 25 = .ok (.aload_n 0, 1) := dk_42 (dk_at dksX0_judge_1 3 rfl rfl)
theorem dX0_judge_26 : decode cX0_judge 26 = .ok (.getfield 23, 3) := dk_180 0 23 (dk_at dksX0_judge_1 4 rfl rfl)
theorem dX0_judge_29 : decode cX0_judge 29 = .ok (.iload_n 2, 1) := dk_28 (dk_at dksX0_judge_1 7 rfl rfl)
theorem dX0_judge_30 : decode cX0_judge 30 = .ok (.iaload, 1) := dk_46 (dk_at dksX0_judge_1 8 rfl rfl)
theorem dX0_judge_31 : decode cX0_judge 31 = .ok (.aaload, 1) := dk_50 (dk_at dksX0_judge_1 9 rfl rfl)
theorem dX0_judge_32 : decode cX0_judge 32 = .ok (.iload_n 1, 1) := dk_27 (dk_at dksX0_judge_1 10 rfl rfl)
theorem dX0_judge_33 : decode cX0_judge 33 = .ok (.invokevirtual 180, 3) := dk_182 0 180 (dk_at dksX0_judge_1 11 rfl rfl)
theorem dX0_judge_36 : decode cX0_judge 36 = .ok (.istore_n 1, 1) := dk_60 (dk_at dksX0_judge_1 14 rfl rfl)
theorem dX0_judge_37 : decode cX0_judge 37 = .ok (.aload_n 0, 1) := dk_42 (dk_at dksX0_judge_1 15 rfl rfl)
theorem dX0_judge_38 : decode cX0_judge 38 = .ok (.iload_n 1, 1) := dk_27 (dk_at dksX0_judge_1 16 rfl rfl)
theorem dX0_judge_39 : decode cX0_judge 39 = .ok (.invokevirtual 148, 3) := dk_182 0 148 (dk_at dksX0_judge_1 17 rfl rfl)
theorem dX0_judge_42 : decode cX0_judge 42 = .ok (.aload_n 0, 1) := dk_42 (dk_at dksX0_judge_1 20 rfl rfl)
theorem dX0_judge_43 : decode cX0_judge 43 = .ok (.getfield 27, 3) := dk_180 0 27 (dk_at dksX0_judge_1 21 rfl rfl)
theorem dX0_judge_46 : decode cX0_judge 46 = .ok (.iload_n 2, 1) := dk_28 (dk_at dksX0_judge_2 0 rfl rfl)
theorem dX0_judge_47 : decode cX0_judge 47 = .ok (.iaload, 1) := dk_46 (dk_at dksX0_judge_2 1 rfl rfl)
theorem dX0_judge_48 : decode cX0_judge 48 = .ok (.if_icmp .eq 5, 3) := dk_159 0 5 (dk_at dksX0_judge_2 2 rfl rfl)
theorem dX0_judge_51 : decode cX0_judge 51 = .ok (.iload_n 2, 1) := dk_28 (dk_at dksX0_judge_2 5 rfl rfl)
theorem dX0_judge_52 : decode cX0_judge 52 = .ok (.ireturn, 1) := dk_172 (dk_at dksX0_judge_2 6 rfl rfl)
theorem dX0_judge_53 : decode cX0_judge 53 = .ok (.iinc 2 1, 3) := dk_132 2 1 (dk_at dksX0_judge_2 7 rfl rfl)
theorem dX0_judge_56 : decode cX0_judge 56 = .ok (.goto (-46), 3) := dk_167 255 210 (dk_at dksX0_judge_2 10 rfl rfl)
theorem dX0_judge_59 : decode cX0_judge 59 = .ok (.iconst (-1), 1) := dk_2 (dk_at dksX0_judge_2 13 rfl rfl)
theorem dX0_judge_60 : decode cX0_judge 60 = .ok (.ireturn, 1) := dk_172 (dk_at dksX0_judge_2 14 rfl rfl)
abbrev cX0_drift : ByteArray := prog_1_method_43_code
def yX0_drift : MethodName := ⟨RX0, "drift", "(I)I"⟩
def dkwX0_drift_2 : List UInt8 := [182, 1, 24, 182, 0, 183, 132, 2, 1, 167, 255, 230, 42, 42, 180, 0, 19, 180, 0, 145, 182, 0, 148, 172]
abbrev dktX0_drift_2 : List UInt8 := dkwX0_drift_2 ++ []
def dkwX0_drift_1 : List UInt8 := [18, 222, 172, 3, 61, 28, 27, 162, 0, 27, 42, 42, 180, 0, 19, 42, 180, 0, 12, 180, 0, 131]
abbrev dktX0_drift_1 : List UInt8 := dkwX0_drift_1 ++ dktX0_drift_2
def dkwX0_drift_0 : List UInt8 := [27, 4, 17, 3, 231, 184, 0, 79, 154, 0, 6, 18, 83, 172, 42, 180, 0, 12, 180, 0, 131, 154, 0, 6]
abbrev dktX0_drift_0 : List UInt8 := dkwX0_drift_0 ++ dktX0_drift_1
theorem dksX0_drift_0 : cX0_drift.data.toList.drop 0 = dktX0_drift_0 := by decide +kernel
theorem dksX0_drift_1 : cX0_drift.data.toList.drop 24 = dktX0_drift_1 := dk_seg dksX0_drift_0 24 rfl rfl
theorem dksX0_drift_2 : cX0_drift.data.toList.drop 46 = dktX0_drift_2 := dk_seg dksX0_drift_1 22 rfl rfl
theorem dX0_drift_0 : decode cX0_drift 0 = .ok (.iload_n 1, 1) := dk_27 (dk_at dksX0_drift_0 0 rfl rfl)
theorem dX0_drift_1 : decode cX0_drift 1 = .ok (.iconst 1, 1) := dk_4 (dk_at dksX0_drift_0 1 rfl rfl)
theorem dX0_drift_2 : decode cX0_drift 2 = .ok (.sipush 999, 3) := dk_17 3 231 (dk_at dksX0_drift_0 2 rfl rfl)
theorem dX0_drift_5 : decode cX0_drift 5 = .ok (.invokestatic 79, 3) := dk_184 0 79 (dk_at dksX0_drift_0 5 rfl rfl)
theorem dX0_drift_8 : decode cX0_drift 8 = .ok (.ifCond .ne 6, 3) := dk_154 0 6 (dk_at dksX0_drift_0 8 rfl rfl)
theorem dX0_drift_11 : decode cX0_drift 11 = .ok (.ldc 83, 2) := dk_18 83 (dk_at dksX0_drift_0 11 rfl rfl)
theorem dX0_drift_13 : decode cX0_drift 13 = .ok (.ireturn, 1) := dk_172 (dk_at dksX0_drift_0 13 rfl rfl)
theorem dX0_drift_14 : decode cX0_drift 14 = .ok (.aload_n 0, 1) := dk_42 (dk_at dksX0_drift_0 14 rfl rfl)
theorem dX0_drift_15 : decode cX0_drift 15 = .ok (.getfield 12, 3) := dk_180 0 12 (dk_at dksX0_drift_0 15 rfl rfl)
theorem dX0_drift_18 : decode cX0_drift 18 = .ok (.getfield 131, 3) := dk_180 0 131 (dk_at dksX0_drift_0 18 rfl rfl)
theorem dX0_drift_21 : decode cX0_drift 21 = .ok (.ifCond .ne 6, 3) := dk_154 0 6 (dk_at dksX0_drift_0 21 rfl rfl)
theorem dX0_drift_24 : decode cX0_drift 24 = .ok (.ldc 222, 2) := dk_18 222 (dk_at dksX0_drift_1 0 rfl rfl)
theorem dX0_drift_26 : decode cX0_drift 26 = .ok (.ireturn, 1) := dk_172 (dk_at dksX0_drift_1 2 rfl rfl)
theorem dX0_drift_27 : decode cX0_drift 27 = .ok (.iconst 0, 1) := dk_3 (dk_at dksX0_drift_1 3 rfl rfl)
theorem dX0_drift_28 : decode cX0_drift 28 = .ok (.istore_n 2, 1) := dk_61 (dk_at dksX0_drift_1 4 rfl rfl)
theorem dX0_drift_29 : decode cX0_drift 29 = .ok (.iload_n 2, 1) := dk_28 (dk_at dksX0_drift_1 5 rfl rfl)
theorem dX0_drift_30 : decode cX0_drift 30 = .ok (.iload_n 1, 1) := dk_27 (dk_at dksX0_drift_1 6 rfl rfl)
theorem dX0_drift_31 : decode cX0_drift 31 = .ok (.if_icmp .ge 27, 3) := dk_162 0 27 (dk_at dksX0_drift_1 7 rfl rfl)
theorem dX0_drift_34 : decode cX0_drift 34 = .ok (.aload_n 0, 1) := dk_42 (dk_at dksX0_drift_1 10 rfl rfl)
theorem dX0_drift_35 : decode cX0_drift 35 = .ok (.aload_n 0, 1) := dk_42 (dk_at dksX0_drift_1 11 rfl rfl)
theorem dX0_drift_36 : decode cX0_drift 36 = .ok (.getfield 19, 3) := dk_180 0 19 (dk_at dksX0_drift_1 12 rfl rfl)
theorem dX0_drift_39 : decode cX0_drift 39 = .ok (.aload_n 0, 1) := dk_42 (dk_at dksX0_drift_1 15 rfl rfl)
theorem dX0_drift_40 : decode cX0_drift 40 = .ok (.getfield 12, 3) := dk_180 0 12 (dk_at dksX0_drift_1 16 rfl rfl)
theorem dX0_drift_43 : decode cX0_drift 43 = .ok (.getfield 131, 3) := dk_180 0 131 (dk_at dksX0_drift_1 19 rfl rfl)
theorem dX0_drift_46 : decode cX0_drift 46 = .ok (.invokevirtual 280, 3) := dk_182 1 24 (dk_at dksX0_drift_2 0 rfl rfl)
theorem dX0_drift_49 : decode cX0_drift 49 = .ok (.invokevirtual 183, 3) := dk_182 0 183 (dk_at dksX0_drift_2 3 rfl rfl)
theorem dX0_drift_52 : decode cX0_drift 52 = .ok (.iinc 2 1, 3) := dk_132 2 1 (dk_at dksX0_drift_2 6 rfl rfl)
theorem dX0_drift_55 : decode cX0_drift 55 = .ok (.goto (-26), 3) := dk_167 255 230 (dk_at dksX0_drift_2 9 rfl rfl)
theorem dX0_drift_58 : decode cX0_drift 58 = .ok (.aload_n 0, 1) := dk_42 (dk_at dksX0_drift_2 12 rfl rfl)
theorem dX0_drift_59 : decode cX0_drift 59 = .ok (.aload_n 0, 1) := dk_42 (dk_at dksX0_drift_2 13 rfl rfl)
theorem dX0_drift_60 : decode cX0_drift 60 = .ok (.getfield 19, 3) := dk_180 0 19 (dk_at dksX0_drift_2 14 rfl rfl)
theorem dX0_drift_63 : decode cX0_drift 63 = .ok (.getfield 145, 3) := dk_180 0 145 (dk_at dksX0_drift_2 17 rfl rfl)
theorem dX0_drift_66 : decode cX0_drift 66 = .ok (.invokevirtual 148, 3) := dk_182 0 148 (dk_at dksX0_drift_2 20 rfl rfl)
theorem dX0_drift_69 : decode cX0_drift 69 = .ok (.ireturn, 1) := dk_172 (dk_at dksX0_drift_2 23 rfl rfl)
abbrev cX0_seed : ByteArray := prog_1_method_44_code
def yX0_seed : MethodName := ⟨RX0, "seed", "(I)I"⟩
def dkwX0_seed_1 : List UInt8 := [172]
abbrev dktX0_seed_1 : List UInt8 := dkwX0_seed_1 ++ []
def dkwX0_seed_0 : List UInt8 := [27, 156, 0, 6, 18, 83, 172, 42, 180, 0, 19, 180, 1, 27, 61, 42, 180, 0, 19, 27, 181, 1, 27, 28]
abbrev dktX0_seed_0 : List UInt8 := dkwX0_seed_0 ++ dktX0_seed_1
theorem dksX0_seed_0 : cX0_seed.data.toList.drop 0 = dktX0_seed_0 := by decide +kernel
theorem dksX0_seed_1 : cX0_seed.data.toList.drop 24 = dktX0_seed_1 := dk_seg dksX0_seed_0 24 rfl rfl
theorem dX0_seed_0 : decode cX0_seed 0 = .ok (.iload_n 1, 1) := dk_27 (dk_at dksX0_seed_0 0 rfl rfl)
theorem dX0_seed_1 : decode cX0_seed 1 = .ok (.ifCond .ge 6, 3) := dk_156 0 6 (dk_at dksX0_seed_0 1 rfl rfl)
theorem dX0_seed_4 : decode cX0_seed 4 = .ok (.ldc 83, 2) := dk_18 83 (dk_at dksX0_seed_0 4 rfl rfl)
theorem dX0_seed_6 : decode cX0_seed 6 = .ok (.ireturn, 1) := dk_172 (dk_at dksX0_seed_0 6 rfl rfl)
theorem dX0_seed_7 : decode cX0_seed 7 = .ok (.aload_n 0, 1) := dk_42 (dk_at dksX0_seed_0 7 rfl rfl)
theorem dX0_seed_8 : decode cX0_seed 8 = .ok (.getfield 19, 3) := dk_180 0 19 (dk_at dksX0_seed_0 8 rfl rfl)
theorem dX0_seed_11 : decode cX0_seed 11 = .ok (.getfield 283, 3) := dk_180 1 27 (dk_at dksX0_seed_0 11 rfl rfl)
theorem dX0_seed_14 : decode cX0_seed 14 = .ok (.istore_n 2, 1) := dk_61 (dk_at dksX0_seed_0 14 rfl rfl)
theorem dX0_seed_15 : decode cX0_seed 15 = .ok (.aload_n 0, 1) := dk_42 (dk_at dksX0_seed_0 15 rfl rfl)
theorem dX0_seed_16 : decode cX0_seed 16 = .ok (.getfield 19, 3) := dk_180 0 19 (dk_at dksX0_seed_0 16 rfl rfl)
theorem dX0_seed_19 : decode cX0_seed 19 = .ok (.iload_n 1, 1) := dk_27 (dk_at dksX0_seed_0 19 rfl rfl)
theorem dX0_seed_20 : decode cX0_seed 20 = .ok (.putfield 283, 3) := dk_181 1 27 (dk_at dksX0_seed_0 20 rfl rfl)
theorem dX0_seed_23 : decode cX0_seed 23 = .ok (.iload_n 2, 1) := dk_28 (dk_at dksX0_seed_0 23 rfl rfl)
theorem dX0_seed_24 : decode cX0_seed 24 = .ok (.ireturn, 1) := dk_172 (dk_at dksX0_seed_1 0 rfl rfl)
abbrev cX0_keep : ByteArray := prog_1_method_45_code
def yX0_keep : MethodName := ⟨RX0, "keep", "(I)I"⟩
def dkwX0_keep_1 : List UInt8 := [182, 1, 30, 42, 180, 0, 75, 27, 50, 4, 181, 0, 111, 4, 172]
abbrev dktX0_keep_1 : List UInt8 := dkwX0_keep_1 ++ []
def dkwX0_keep_0 : List UInt8 := [27, 3, 4, 184, 0, 79, 154, 0, 6, 18, 164, 172, 42, 180, 0, 75, 27, 50, 42, 180, 0, 19]
abbrev dktX0_keep_0 : List UInt8 := dkwX0_keep_0 ++ dktX0_keep_1
theorem dksX0_keep_0 : cX0_keep.data.toList.drop 0 = dktX0_keep_0 := by decide +kernel
theorem dksX0_keep_1 : cX0_keep.data.toList.drop 22 = dktX0_keep_1 := dk_seg dksX0_keep_0 22 rfl rfl
theorem dX0_keep_0 : decode cX0_keep 0 = .ok (.iload_n 1, 1) := dk_27 (dk_at dksX0_keep_0 0 rfl rfl)
theorem dX0_keep_1 : decode cX0_keep 1 = .ok (.iconst 0, 1) := dk_3 (dk_at dksX0_keep_0 1 rfl rfl)
theorem dX0_keep_2 : decode cX0_keep 2 = .ok (.iconst 1, 1) := dk_4 (dk_at dksX0_keep_0 2 rfl rfl)
theorem dX0_keep_3 : decode cX0_keep 3 = .ok (.invokestatic 79, 3) := dk_184 0 79 (dk_at dksX0_keep_0 3 rfl rfl)
theorem dX0_keep_6 : decode cX0_keep 6 = .ok (.ifCond .ne 6, 3) := dk_154 0 6 (dk_at dksX0_keep_0 6 rfl rfl)
theorem dX0_keep_9 : decode cX0_keep 9 = .ok (.ldc 164, 2) := dk_18 164 (dk_at dksX0_keep_0 9 rfl rfl)
theorem dX0_keep_11 : decode cX0_keep 11 = .ok (.ireturn, 1) := dk_172 (dk_at dksX0_keep_0 11 rfl rfl)
theorem dX0_keep_12 : decode cX0_keep 12 = .ok (.aload_n 0, 1) := dk_42 (dk_at dksX0_keep_0 12 rfl rfl)
theorem dX0_keep_13 : decode cX0_keep 13 = .ok (.getfield 75, 3) := dk_180 0 75 (dk_at dksX0_keep_0 13 rfl rfl)
theorem dX0_keep_16 : decode cX0_keep 16 = .ok (.iload_n 1, 1) := dk_27 (dk_at dksX0_keep_0 16 rfl rfl)
theorem dX0_keep_17 : decode cX0_keep 17 = .ok (.aaload, 1) := dk_50 (dk_at dksX0_keep_0 17 rfl rfl)
theorem dX0_keep_18 : decode cX0_keep 18 = .ok (.aload_n 0, 1) := dk_42 (dk_at dksX0_keep_0 18 rfl rfl)
theorem dX0_keep_19 : decode cX0_keep 19 = .ok (.getfield 19, 3) := dk_180 0 19 (dk_at dksX0_keep_0 19 rfl rfl)
theorem dX0_keep_22 : decode cX0_keep 22 = .ok (.invokevirtual 286, 3) := dk_182 1 30 (dk_at dksX0_keep_1 0 rfl rfl)
theorem dX0_keep_25 : decode cX0_keep 25 = .ok (.aload_n 0, 1) := dk_42 (dk_at dksX0_keep_1 3 rfl rfl)
theorem dX0_keep_26 : decode cX0_keep 26 = .ok (.getfield 75, 3) := dk_180 0 75 (dk_at dksX0_keep_1 4 rfl rfl)
theorem dX0_keep_29 : decode cX0_keep 29 = .ok (.iload_n 1, 1) := dk_27 (dk_at dksX0_keep_1 7 rfl rfl)
theorem dX0_keep_30 : decode cX0_keep 30 = .ok (.aaload, 1) := dk_50 (dk_at dksX0_keep_1 8 rfl rfl)
theorem dX0_keep_31 : decode cX0_keep 31 = .ok (.iconst 1, 1) := dk_4 (dk_at dksX0_keep_1 9 rfl rfl)
theorem dX0_keep_32 : decode cX0_keep 32 = .ok (.putfield 111, 3) := dk_181 0 111 (dk_at dksX0_keep_1 10 rfl rfl)
theorem dX0_keep_35 : decode cX0_keep 35 = .ok (.iconst 1, 1) := dk_4 (dk_at dksX0_keep_1 13 rfl rfl)
theorem dX0_keep_36 : decode cX0_keep 36 = .ok (.ireturn, 1) := dk_172 (dk_at dksX0_keep_1 14 rfl rfl)
abbrev cX0_goBack : ByteArray := prog_1_method_46_code
def yX0_goBack : MethodName := ⟨RX0, "goBack", "(I)I"⟩
def dkwX0_goBack_1 : List UInt8 := [18, 222, 172, 42, 180, 0, 19, 42, 180, 0, 75, 27, 50, 182, 1, 30, 4, 172]
abbrev dktX0_goBack_1 : List UInt8 := dkwX0_goBack_1 ++ []
def dkwX0_goBack_0 : List UInt8 := [27, 3, 4, 184, 0, 79, 154, 0, 6, 18, 164, 172, 42, 180, 0, 75, 27, 50, 180, 0, 111, 154, 0, 6]
abbrev dktX0_goBack_0 : List UInt8 := dkwX0_goBack_0 ++ dktX0_goBack_1
theorem dksX0_goBack_0 : cX0_goBack.data.toList.drop 0 = dktX0_goBack_0 := by decide +kernel
theorem dksX0_goBack_1 : cX0_goBack.data.toList.drop 24 = dktX0_goBack_1 := dk_seg dksX0_goBack_0 24 rfl rfl
theorem dX0_goBack_0 : decode cX0_goBack 0 = .ok (.iload_n 1, 1) := dk_27 (dk_at dksX0_goBack_0 0 rfl rfl)
theorem dX0_goBack_1 : decode cX0_goBack 1 = .ok (.iconst 0, 1) := dk_3 (dk_at dksX0_goBack_0 1 rfl rfl)
theorem dX0_goBack_2 : decode cX0_goBack 2 = .ok (.iconst 1, 1) := dk_4 (dk_at dksX0_goBack_0 2 rfl rfl)
theorem dX0_goBack_3 : decode cX0_goBack 3 = .ok (.invokestatic 79, 3) := dk_184 0 79 (dk_at dksX0_goBack_0 3 rfl rfl)
theorem dX0_goBack_6 : decode cX0_goBack 6 = .ok (.ifCond .ne 6, 3) := dk_154 0 6 (dk_at dksX0_goBack_0 6 rfl rfl)
theorem dX0_goBack_9 : decode cX0_goBack 9 = .ok (.ldc 164, 2) := dk_18 164 (dk_at dksX0_goBack_0 9 rfl rfl)
theorem dX0_goBack_11 : decode cX0_goBack 11 = .ok (.ireturn, 1) := dk_172 (dk_at dksX0_goBack_0 11 rfl rfl)
theorem dX0_goBack_12 : decode cX0_goBack 12 = .ok (.aload_n 0, 1) := dk_42 (dk_at dksX0_goBack_0 12 rfl rfl)
theorem dX0_goBack_13 : decode cX0_goBack 13 = .ok (.getfield 75, 3) := dk_180 0 75 (dk_at dksX0_goBack_0 13 rfl rfl)
theorem dX0_goBack_16 : decode cX0_goBack 16 = .ok (.iload_n 1, 1) := dk_27 (dk_at dksX0_goBack_0 16 rfl rfl)
theorem dX0_goBack_17 : decode cX0_goBack 17 = .ok (.aaload, 1) := dk_50 (dk_at dksX0_goBack_0 17 rfl rfl)
theorem dX0_goBack_18 : decode cX0_goBack 18 = .ok (.getfield 111, 3) := dk_180 0 111 (dk_at dksX0_goBack_0 18 rfl rfl)
theorem dX0_goBack_21 : decode cX0_goBack 21 = .ok (.ifCond .ne 6, 3) := dk_154 0 6 (dk_at dksX0_goBack_0 21 rfl rfl)
theorem dX0_goBack_24 : decode cX0_goBack 24 = .ok (.ldc 222, 2) := dk_18 222 (dk_at dksX0_goBack_1 0 rfl rfl)
theorem dX0_goBack_26 : decode cX0_goBack 26 = .ok (.ireturn, 1) := dk_172 (dk_at dksX0_goBack_1 2 rfl rfl)
theorem dX0_goBack_27 : decode cX0_goBack 27 = .ok (.aload_n 0, 1) := dk_42 (dk_at dksX0_goBack_1 3 rfl rfl)
theorem dX0_goBack_28 : decode cX0_goBack 28 = .ok (.getfield 19, 3) := dk_180 0 19 (dk_at dksX0_goBack_1 4 rfl rfl)
theorem dX0_goBack_31 : decode cX0_goBack 31 = .ok (.aload_n 0, 1) := dk_42 (dk_at dksX0_goBack_1 7 rfl rfl)
theorem dX0_goBack_32 : decode cX0_goBack 32 = .ok (.getfield 75, 3) := dk_180 0 75 (dk_at dksX0_goBack_1 8 rfl rfl)
theorem dX0_goBack_35 : decode cX0_goBack 35 = .ok (.iload_n 1, 1) := dk_27 (dk_at dksX0_goBack_1 11 rfl rfl)
theorem dX0_goBack_36 : decode cX0_goBack 36 = .ok (.aaload, 1) := dk_50 (dk_at dksX0_goBack_1 12 rfl rfl)
theorem dX0_goBack_37 : decode cX0_goBack 37 = .ok (.invokevirtual 286, 3) := dk_182 1 30 (dk_at dksX0_goBack_1 13 rfl rfl)
theorem dX0_goBack_40 : decode cX0_goBack 40 = .ok (.iconst 1, 1) := dk_4 (dk_at dksX0_goBack_1 16 rfl rfl)
theorem dX0_goBack_41 : decode cX0_goBack 41 = .ok (.ireturn, 1) := dk_172 (dk_at dksX0_goBack_1 17 rfl rfl)
theorem q61 : (Jvm.Cond.initialized "FewKeys") ∈ lw_all := lw_g (lw_at lw_m1 1 rfl) rfl
theorem q89 : (Jvm.Cond.instantiable "FewKeys" (20 : Nat)) ∈ lw_all := lw_g (lw_at lw_m1 29 rfl) rfl
theorem q91 : (Jvm.Cond.instanceMethod ({ cls := "FewKeys", name := "<init>", desc := "()V" } : Jvm.MethodName)) ∈ lw_all := lw_g (lw_at lw_m1 31 rfl) rfl
theorem q92 : (Jvm.Cond.code ({ cls := "FewKeys", name := "<init>", desc := "()V" } : Jvm.MethodName) prog_1_method_3_code (2 : Nat) (Option.none : Option Jvm.ClassFile.FieldType)) ∈ lw_all := lw_g (lw_at lw_m1 32 rfl) rfl
theorem q93 : (Jvm.Cond.methodLink "FewKeys" (3 : Nat) ({ cls := "java/lang/Object", name := "<init>", desc := "()V" } : Jvm.MethodName)) ∈ lw_all := lw_g (lw_at lw_m1 33 rfl) rfl
theorem q96 : (Jvm.Cond.classLink "FewKeys" (9 : Nat) "FewKeys$Reckoner") ∈ lw_all := lw_g (lw_at lw_m1 36 rfl) rfl
theorem q98 : (Jvm.Cond.methodLinkNest "FewKeys" (11 : Nat) ({ cls := "FewKeys$Reckoner", name := "<init>", desc := "()V" } : Jvm.MethodName) "FewKeys") ∈ lw_tbl := lw_at lw_m1 38 rfl
theorem q104 : (Jvm.Cond.fieldLinkNest "FewKeys" (119 : Nat) "FewKeys$Reckoner" "dial" "LFewKeys$Dial;" "FewKeys") ∈ lw_tbl := lw_at lw_m1 44 rfl
theorem q107 : (Jvm.Cond.fieldLinkNest "FewKeys" (165 : Nat) "FewKeys$Reckoner" "keys" "[LFewKeys$Key;" "FewKeys") ∈ lw_tbl := lw_at lw_m1 47 rfl
theorem q109 : (Jvm.Cond.fieldLinkNest "FewKeys" (131 : Nat) "FewKeys$Reckoner" "many" "I" "FewKeys") ∈ lw_tbl := lw_at lw_m1 49 rfl
theorem q118 : (Jvm.Cond.classLink "FewKeys" (16 : Nat) "FewKeys$Desk") ∈ lw_all := lw_g (lw_at lw_m1 58 rfl) rfl
theorem q120 : (Jvm.Cond.methodLinkNest "FewKeys" (18 : Nat) ({ cls := "FewKeys$Desk", name := "<init>", desc := "()V" } : Jvm.MethodName) "FewKeys") ∈ lw_tbl := lw_at lw_m1 60 rfl
theorem q125 : (Jvm.Cond.fieldLinkNest "FewKeys" (145 : Nat) "FewKeys$Desk" "state" "I" "FewKeys") ∈ lw_tbl := lw_at lw_m1 65 rfl
theorem q127 : (Jvm.Cond.fieldLinkNest "FewKeys" (154 : Nat) "FewKeys$Desk" "spent" "I" "FewKeys") ∈ lw_tbl := lw_at lw_m1 67 rfl
theorem q129 : (Jvm.Cond.fieldLinkNest "FewKeys" (223 : Nat) "FewKeys$Desk" "target" "[I" "FewKeys") ∈ lw_tbl := lw_at lw_m1 69 rfl
theorem q131 : (Jvm.Cond.fieldLinkNest "FewKeys" (157 : Nat) "FewKeys$Desk" "targets" "I" "FewKeys") ∈ lw_tbl := lw_at lw_m1 71 rfl
theorem q133 : (Jvm.Cond.fieldLinkNest "FewKeys" (283 : Nat) "FewKeys$Desk" "seed" "I" "FewKeys") ∈ lw_tbl := lw_at lw_m1 73 rfl
theorem q134 : (Jvm.Cond.fieldLinkNest "FewKeys" (111 : Nat) "FewKeys$Desk" "isKept" "Z" "FewKeys") ∈ lw_tbl := lw_at lw_m1 74 rfl
theorem q149 : (Jvm.Cond.constant "FewKeys" (38 : Nat) (80000 : Int32)) ∈ lw_all := lw_g (lw_at lw_m1 89 rfl) rfl
theorem q150 : (Jvm.Cond.classLink "FewKeys" (67 : Nat) "[[I") ∈ lw_all := lw_g (lw_at lw_m1 90 rfl) rfl
theorem q153 : (Jvm.Cond.fieldLink "FewKeys" (12 : Nat) "FewKeys" "reckoner" "LFewKeys$Reckoner;") ∈ lw_all := lw_g (lw_at lw_m1 93 rfl) rfl
theorem q154 : (Jvm.Cond.fieldLink "FewKeys" (19 : Nat) "FewKeys" "now" "LFewKeys$Desk;") ∈ lw_all := lw_g (lw_at lw_m1 94 rfl) rfl
theorem q155 : (Jvm.Cond.fieldLink "FewKeys" (23 : Nat) "FewKeys" "bookKey" "[I") ∈ lw_all := lw_g (lw_at lw_m1 95 rfl) rfl
theorem q156 : (Jvm.Cond.fieldLink "FewKeys" (27 : Nat) "FewKeys" "bookShown" "[I") ∈ lw_all := lw_g (lw_at lw_m1 96 rfl) rfl
theorem q157 : (Jvm.Cond.fieldLink "FewKeys" (108 : Nat) "FewKeys" "written" "I") ∈ lw_all := lw_g (lw_at lw_m1 97 rfl) rfl
theorem q158 : (Jvm.Cond.fieldLink "FewKeys" (30 : Nat) "FewKeys" "text" "[B") ∈ lw_all := lw_g (lw_at lw_m1 98 rfl) rfl
theorem q159 : (Jvm.Cond.fieldLink "FewKeys" (84 : Nat) "FewKeys" "size" "I") ∈ lw_all := lw_g (lw_at lw_m1 99 rfl) rfl
theorem q160 : (Jvm.Cond.fieldLink "FewKeys" (34 : Nat) "FewKeys" "fault" "I") ∈ lw_all := lw_g (lw_at lw_m1 100 rfl) rfl
theorem q161 : (Jvm.Cond.fieldLink "FewKeys" (39 : Nat) "FewKeys" "strokes" "[I") ∈ lw_all := lw_g (lw_at lw_m1 101 rfl) rfl
theorem q162 : (Jvm.Cond.fieldLink "FewKeys" (42 : Nat) "FewKeys" "row" "[I") ∈ lw_all := lw_g (lw_at lw_m1 102 rfl) rfl
theorem q163 : (Jvm.Cond.fieldLink "FewKeys" (45 : Nat) "FewKeys" "before" "[I") ∈ lw_all := lw_g (lw_at lw_m1 103 rfl) rfl
theorem q164 : (Jvm.Cond.fieldLink "FewKeys" (48 : Nat) "FewKeys" "by" "[B") ∈ lw_all := lw_g (lw_at lw_m1 104 rfl) rfl
theorem q165 : (Jvm.Cond.fieldLink "FewKeys" (51 : Nat) "FewKeys" "firstState" "[I") ∈ lw_all := lw_g (lw_at lw_m1 105 rfl) rfl
theorem q166 : (Jvm.Cond.fieldLink "FewKeys" (54 : Nat) "FewKeys" "cost" "[I") ∈ lw_all := lw_g (lw_at lw_m1 106 rfl) rfl
theorem q167 : (Jvm.Cond.fieldLink "FewKeys" (57 : Nat) "FewKeys" "waits" "[Z") ∈ lw_all := lw_g (lw_at lw_m1 107 rfl) rfl
theorem q168 : (Jvm.Cond.fieldLink "FewKeys" (61 : Nat) "FewKeys" "ways" "[I") ∈ lw_all := lw_g (lw_at lw_m1 108 rfl) rfl
theorem q169 : (Jvm.Cond.fieldLink "FewKeys" (64 : Nat) "FewKeys" "then" "[I") ∈ lw_all := lw_g (lw_at lw_m1 109 rfl) rfl
theorem q170 : (Jvm.Cond.fieldLink "FewKeys" (69 : Nat) "FewKeys" "asKey" "[[I") ∈ lw_all := lw_g (lw_at lw_m1 110 rfl) rfl
theorem q171 : (Jvm.Cond.fieldLink "FewKeys" (72 : Nat) "FewKeys" "alikes" "[[I") ∈ lw_all := lw_g (lw_at lw_m1 111 rfl) rfl
theorem q172 : (Jvm.Cond.fieldLink "FewKeys" (75 : Nat) "FewKeys" "images" "[LFewKeys$Desk;") ∈ lw_all := lw_g (lw_at lw_m1 112 rfl) rfl
theorem q173 : (Jvm.Cond.lays "FewKeys" "FewKeys" "reckoner" "LFewKeys$Reckoner;") ∈ lw_all := lw_g (lw_at lw_m1 113 rfl) rfl
theorem q174 : (Jvm.Cond.soleField "FewKeys" "reckoner") ∈ lw_all := lw_g (lw_at lw_m1 114 rfl) rfl
theorem q175 : (Jvm.Cond.laysFinal "FewKeys" "FewKeys" "now" "LFewKeys$Desk;") ∈ lw_all := lw_g (lw_at lw_m1 115 rfl) rfl
theorem q176 : (Jvm.Cond.soleField "FewKeys" "now") ∈ lw_all := lw_g (lw_at lw_m1 116 rfl) rfl
theorem q177 : (Jvm.Cond.laysFinal "FewKeys" "FewKeys" "bookKey" "[I") ∈ lw_all := lw_g (lw_at lw_m1 117 rfl) rfl
theorem q178 : (Jvm.Cond.soleField "FewKeys" "bookKey") ∈ lw_all := lw_g (lw_at lw_m1 118 rfl) rfl
theorem q179 : (Jvm.Cond.laysFinal "FewKeys" "FewKeys" "bookShown" "[I") ∈ lw_all := lw_g (lw_at lw_m1 119 rfl) rfl
theorem q180 : (Jvm.Cond.soleField "FewKeys" "bookShown") ∈ lw_all := lw_g (lw_at lw_m1 120 rfl) rfl
theorem q181 : (Jvm.Cond.lays "FewKeys" "FewKeys" "written" "I") ∈ lw_all := lw_g (lw_at lw_m1 121 rfl) rfl
theorem q182 : (Jvm.Cond.soleField "FewKeys" "written") ∈ lw_all := lw_g (lw_at lw_m1 122 rfl) rfl
theorem q183 : (Jvm.Cond.laysFinal "FewKeys" "FewKeys" "text" "[B") ∈ lw_all := lw_g (lw_at lw_m1 123 rfl) rfl
theorem q184 : (Jvm.Cond.soleField "FewKeys" "text") ∈ lw_all := lw_g (lw_at lw_m1 124 rfl) rfl
theorem q185 : (Jvm.Cond.lays "FewKeys" "FewKeys" "size" "I") ∈ lw_all := lw_g (lw_at lw_m1 125 rfl) rfl
theorem q186 : (Jvm.Cond.soleField "FewKeys" "size") ∈ lw_all := lw_g (lw_at lw_m1 126 rfl) rfl
theorem q187 : (Jvm.Cond.lays "FewKeys" "FewKeys" "fault" "I") ∈ lw_all := lw_g (lw_at lw_m1 127 rfl) rfl
theorem q188 : (Jvm.Cond.soleField "FewKeys" "fault") ∈ lw_all := lw_g (lw_at lw_m1 128 rfl) rfl
theorem q189 : (Jvm.Cond.laysFinal "FewKeys" "FewKeys" "strokes" "[I") ∈ lw_all := lw_g (lw_at lw_m1 129 rfl) rfl
theorem q190 : (Jvm.Cond.soleField "FewKeys" "strokes") ∈ lw_all := lw_g (lw_at lw_m1 130 rfl) rfl
theorem q191 : (Jvm.Cond.laysFinal "FewKeys" "FewKeys" "row" "[I") ∈ lw_all := lw_g (lw_at lw_m1 131 rfl) rfl
theorem q192 : (Jvm.Cond.soleField "FewKeys" "row") ∈ lw_all := lw_g (lw_at lw_m1 132 rfl) rfl
theorem q193 : (Jvm.Cond.laysFinal "FewKeys" "FewKeys" "before" "[I") ∈ lw_all := lw_g (lw_at lw_m1 133 rfl) rfl
theorem q194 : (Jvm.Cond.soleField "FewKeys" "before") ∈ lw_all := lw_g (lw_at lw_m1 134 rfl) rfl
theorem q195 : (Jvm.Cond.laysFinal "FewKeys" "FewKeys" "by" "[B") ∈ lw_all := lw_g (lw_at lw_m1 135 rfl) rfl
theorem q196 : (Jvm.Cond.soleField "FewKeys" "by") ∈ lw_all := lw_g (lw_at lw_m1 136 rfl) rfl
theorem q197 : (Jvm.Cond.laysFinal "FewKeys" "FewKeys" "firstState" "[I") ∈ lw_all := lw_g (lw_at lw_m1 137 rfl) rfl
theorem q198 : (Jvm.Cond.soleField "FewKeys" "firstState") ∈ lw_all := lw_g (lw_at lw_m1 138 rfl) rfl
theorem q199 : (Jvm.Cond.laysFinal "FewKeys" "FewKeys" "cost" "[I") ∈ lw_all := lw_g (lw_at lw_m1 139 rfl) rfl
theorem q200 : (Jvm.Cond.soleField "FewKeys" "cost") ∈ lw_all := lw_g (lw_at lw_m1 140 rfl) rfl
theorem q201 : (Jvm.Cond.laysFinal "FewKeys" "FewKeys" "waits" "[Z") ∈ lw_all := lw_g (lw_at lw_m1 141 rfl) rfl
theorem q202 : (Jvm.Cond.soleField "FewKeys" "waits") ∈ lw_all := lw_g (lw_at lw_m1 142 rfl) rfl
theorem q203 : (Jvm.Cond.laysFinal "FewKeys" "FewKeys" "ways" "[I") ∈ lw_all := lw_g (lw_at lw_m1 143 rfl) rfl
theorem q204 : (Jvm.Cond.soleField "FewKeys" "ways") ∈ lw_all := lw_g (lw_at lw_m1 144 rfl) rfl
theorem q205 : (Jvm.Cond.laysFinal "FewKeys" "FewKeys" "then" "[I") ∈ lw_all := lw_g (lw_at lw_m1 145 rfl) rfl
theorem q206 : (Jvm.Cond.soleField "FewKeys" "then") ∈ lw_all := lw_g (lw_at lw_m1 146 rfl) rfl
theorem q207 : (Jvm.Cond.laysFinal "FewKeys" "FewKeys" "asKey" "[[I") ∈ lw_all := lw_g (lw_at lw_m1 147 rfl) rfl
theorem q208 : (Jvm.Cond.soleField "FewKeys" "asKey") ∈ lw_all := lw_g (lw_at lw_m1 148 rfl) rfl
theorem q209 : (Jvm.Cond.laysFinal "FewKeys" "FewKeys" "alikes" "[[I") ∈ lw_all := lw_g (lw_at lw_m1 149 rfl) rfl
theorem q210 : (Jvm.Cond.soleField "FewKeys" "alikes") ∈ lw_all := lw_g (lw_at lw_m1 150 rfl) rfl
theorem q211 : (Jvm.Cond.laysFinal "FewKeys" "FewKeys" "images" "[LFewKeys$Desk;") ∈ lw_all := lw_g (lw_at lw_m1 151 rfl) rfl
theorem q212 : (Jvm.Cond.soleField "FewKeys" "images") ∈ lw_all := lw_g (lw_at lw_m1 152 rfl) rfl
theorem q213 : (Jvm.Cond.superclass "FewKeys" "java/lang/Object") ∈ lw_all := lw_g (lw_at lw_m1 153 rfl) rfl
theorem q217 : (Jvm.Cond.instanceMethod ({ cls := "FewKeys", name := "feed", desc := "(IJ)I" } : Jvm.MethodName)) ∈ lw_all := lw_g (lw_at lw_m1 157 rfl) rfl
theorem q218 : (Jvm.Cond.selects "FewKeys" ({ cls := "FewKeys", name := "feed", desc := "(IJ)I" } : Jvm.MethodName) ({ cls := "FewKeys", name := "feed", desc := "(IJ)I" } : Jvm.MethodName)) ∈ lw_all := lw_g (lw_at lw_m1 158 rfl) rfl
theorem q219 : (Jvm.Cond.code ({ cls := "FewKeys", name := "feed", desc := "(IJ)I" } : Jvm.MethodName) prog_1_method_4_code (5 : Nat) (Option.some Jvm.ClassFile.FieldType.int)) ∈ lw_all := lw_g (lw_at lw_m1 159 rfl) rfl
theorem q220 : (Jvm.Cond.methodLink "FewKeys" (79 : Nat) ({ cls := "FewKeys", name := "isIn", desc := "(III)Z" } : Jvm.MethodName)) ∈ lw_all := lw_g (lw_at lw_m1 160 rfl) rfl
theorem q221 : (Jvm.Cond.static ({ cls := "FewKeys", name := "isIn", desc := "(III)Z" } : Jvm.MethodName)) ∈ lw_all := lw_g (lw_at lw_m1 161 rfl) rfl
theorem q222 : (Jvm.Cond.code ({ cls := "FewKeys", name := "isIn", desc := "(III)Z" } : Jvm.MethodName) prog_1_method_1_code (3 : Nat) (Option.some Jvm.ClassFile.FieldType.boolean)) ∈ lw_all := lw_g (lw_at lw_m1 162 rfl) rfl
theorem q223 : (Jvm.Cond.constant "FewKeys" (83 : Nat) (-1000000002 : Int32)) ∈ lw_all := lw_g (lw_at lw_m1 163 rfl) rfl
theorem q224 : (Jvm.Cond.constant "FewKeys" (87 : Nat) (-1000000004 : Int32)) ∈ lw_all := lw_g (lw_at lw_m1 164 rfl) rfl
theorem q226 : (Jvm.Cond.instanceMethod ({ cls := "FewKeys", name := "reckoner", desc := "()I" } : Jvm.MethodName)) ∈ lw_all := lw_g (lw_at lw_m1 166 rfl) rfl
theorem q227 : (Jvm.Cond.selects "FewKeys" ({ cls := "FewKeys", name := "reckoner", desc := "()I" } : Jvm.MethodName) ({ cls := "FewKeys", name := "reckoner", desc := "()I" } : Jvm.MethodName)) ∈ lw_all := lw_g (lw_at lw_m1 167 rfl) rfl
theorem q228 : (Jvm.Cond.codeWith ({ cls := "FewKeys", name := "reckoner", desc := "()I" } : Jvm.MethodName) prog_1_method_5_code (4 : Nat) (Option.some Jvm.ClassFile.FieldType.int) [((5 : Nat), (27 : Nat), (35 : Nat), (97 : Nat)), ((5 : Nat), (27 : Nat), (59 : Nat), (0 : Nat)), ((35 : Nat), (52 : Nat), (59 : Nat), (0 : Nat))]) ∈ lw_all := lw_g (lw_at lw_m1 168 rfl) rfl
theorem q229 : (Jvm.Cond.classLink "FewKeys" (97 : Nat) "FewKeys$Fault") ∈ lw_all := lw_g (lw_at lw_m1 169 rfl) rfl
theorem q230 : (Jvm.Cond.classLink "FewKeys" (88 : Nat) "FewKeys$Reader") ∈ lw_all := lw_g (lw_at lw_m1 170 rfl) rfl
theorem q232 : (Jvm.Cond.methodLink "FewKeys" (90 : Nat) ({ cls := "FewKeys$Reader", name := "<init>", desc := "([BI)V" } : Jvm.MethodName)) ∈ lw_all := lw_g (lw_at lw_m1 172 rfl) rfl
theorem q254 : (Jvm.Cond.methodLink "FewKeys" (93 : Nat) ({ cls := "FewKeys$Reader", name := "all", desc := "()LFewKeys$Reckoner;" } : Jvm.MethodName)) ∈ lw_all := lw_g (lw_at lw_m1 194 rfl) rfl
theorem q519 : (Jvm.Cond.fieldLinkNest "FewKeys" (102 : Nat) "FewKeys$Fault" "number" "I" "FewKeys") ∈ lw_tbl := lw_at lw_m2 219 rfl
theorem q521 : (Jvm.Cond.fieldLinkNest "FewKeys" (99 : Nat) "FewKeys$Fault" "place" "I" "FewKeys") ∈ lw_tbl := lw_at lw_m2 221 rfl
theorem q553 : (Jvm.Cond.fieldLinkNest "FewKeys" (136 : Nat) "FewKeys$Dial" "kind" "I" "FewKeys") ∈ lw_tbl := lw_at lw_m3 13 rfl
theorem q556 : (Jvm.Cond.fieldLinkNest "FewKeys" (139 : Nat) "FewKeys$Dial" "base" "I" "FewKeys") ∈ lw_tbl := lw_at lw_m3 16 rfl
theorem q558 : (Jvm.Cond.fieldLinkNest "FewKeys" (142 : Nat) "FewKeys$Dial" "figures" "I" "FewKeys") ∈ lw_tbl := lw_at lw_m3 18 rfl
theorem q560 : (Jvm.Cond.fieldLinkNest "FewKeys" (127 : Nat) "FewKeys$Dial" "many" "I" "FewKeys") ∈ lw_tbl := lw_at lw_m3 20 rfl
theorem q673 : (Jvm.Cond.fieldLink "FewKeys" (173 : Nat) "FewKeys$Key" "cost" "I") ∈ lw_all := lw_g (lw_at lw_m3 133 rfl) rfl
theorem q751 : (Jvm.Cond.methodLink "FewKeys" (105 : Nat) ({ cls := "FewKeys$Desk", name := "begin", desc := "()V" } : Jvm.MethodName)) ∈ lw_all := lw_g (lw_at lw_m3 211 rfl) rfl
theorem q755 : (Jvm.Cond.methodLink "FewKeys" (115 : Nat) ({ cls := "FewKeys", name := "many", desc := "()I" } : Jvm.MethodName)) ∈ lw_all := lw_g (lw_at lw_m3 215 rfl) rfl
theorem q756 : (Jvm.Cond.privateMethod ({ cls := "FewKeys", name := "many", desc := "()I" } : Jvm.MethodName)) ∈ lw_tbl := lw_at lw_m3 216 rfl
theorem q757 : (Jvm.Cond.instanceMethod ({ cls := "FewKeys", name := "many", desc := "()I" } : Jvm.MethodName)) ∈ lw_all := lw_g (lw_at lw_m3 217 rfl) rfl
theorem q758 : (Jvm.Cond.code ({ cls := "FewKeys", name := "many", desc := "()I" } : Jvm.MethodName) prog_1_method_8_code (1 : Nat) (Option.some Jvm.ClassFile.FieldType.int)) ∈ lw_all := lw_g (lw_at lw_m3 218 rfl) rfl
theorem q759 : (Jvm.Cond.methodLink "FewKeys" (123 : Nat) ({ cls := "FewKeys", name := "isNone", desc := "()Z" } : Jvm.MethodName)) ∈ lw_all := lw_g (lw_at lw_m3 219 rfl) rfl
theorem q760 : (Jvm.Cond.privateMethod ({ cls := "FewKeys", name := "isNone", desc := "()Z" } : Jvm.MethodName)) ∈ lw_tbl := lw_at lw_m3 220 rfl
theorem q761 : (Jvm.Cond.instanceMethod ({ cls := "FewKeys", name := "isNone", desc := "()Z" } : Jvm.MethodName)) ∈ lw_all := lw_g (lw_at lw_m3 221 rfl) rfl
theorem q762 : (Jvm.Cond.code ({ cls := "FewKeys", name := "isNone", desc := "()Z" } : Jvm.MethodName) prog_1_method_7_code (1 : Nat) (Option.some Jvm.ClassFile.FieldType.boolean)) ∈ lw_all := lw_g (lw_at lw_m3 222 rfl) rfl
theorem q764 : (Jvm.Cond.instanceMethod ({ cls := "FewKeys", name := "fault", desc := "()I" } : Jvm.MethodName)) ∈ lw_all := lw_g (lw_at lw_m3 224 rfl) rfl
theorem q765 : (Jvm.Cond.selects "FewKeys" ({ cls := "FewKeys", name := "fault", desc := "()I" } : Jvm.MethodName) ({ cls := "FewKeys", name := "fault", desc := "()I" } : Jvm.MethodName)) ∈ lw_all := lw_g (lw_at lw_m3 225 rfl) rfl
theorem q766 : (Jvm.Cond.code ({ cls := "FewKeys", name := "fault", desc := "()I" } : Jvm.MethodName) prog_1_method_6_code (1 : Nat) (Option.some Jvm.ClassFile.FieldType.int)) ∈ lw_all := lw_g (lw_at lw_m3 226 rfl) rfl
theorem q768 : (Jvm.Cond.instanceMethod ({ cls := "FewKeys", name := "told", desc := "(I)I" } : Jvm.MethodName)) ∈ lw_all := lw_g (lw_at lw_m3 228 rfl) rfl
theorem q769 : (Jvm.Cond.selects "FewKeys" ({ cls := "FewKeys", name := "told", desc := "(I)I" } : Jvm.MethodName) ({ cls := "FewKeys", name := "told", desc := "(I)I" } : Jvm.MethodName)) ∈ lw_all := lw_g (lw_at lw_m3 229 rfl) rfl
theorem q770 : (Jvm.Cond.code ({ cls := "FewKeys", name := "told", desc := "(I)I" } : Jvm.MethodName) prog_1_method_12_code (2 : Nat) (Option.some Jvm.ClassFile.FieldType.int)) ∈ lw_all := lw_g (lw_at lw_m3 230 rfl) rfl
theorem q771 : (Jvm.Cond.methodLink "FewKeys" (148 : Nat) ({ cls := "FewKeys", name := "shown", desc := "(I)I" } : Jvm.MethodName)) ∈ lw_all := lw_g (lw_at lw_m3 231 rfl) rfl
theorem q772 : (Jvm.Cond.privateMethod ({ cls := "FewKeys", name := "shown", desc := "(I)I" } : Jvm.MethodName)) ∈ lw_tbl := lw_at lw_m3 232 rfl
theorem q773 : (Jvm.Cond.instanceMethod ({ cls := "FewKeys", name := "shown", desc := "(I)I" } : Jvm.MethodName)) ∈ lw_all := lw_g (lw_at lw_m3 233 rfl) rfl
theorem q774 : (Jvm.Cond.code ({ cls := "FewKeys", name := "shown", desc := "(I)I" } : Jvm.MethodName) prog_1_method_11_code (2 : Nat) (Option.some Jvm.ClassFile.FieldType.int)) ∈ lw_all := lw_g (lw_at lw_m3 234 rfl) rfl
theorem q775 : (Jvm.Cond.methodLink "FewKeys" (132 : Nat) ({ cls := "FewKeys$Dial", name := "shown", desc := "(I)I" } : Jvm.MethodName)) ∈ lw_all := lw_g (lw_at lw_m3 235 rfl) rfl
theorem q779 : (Jvm.Cond.methodLink "FewKeys" (149 : Nat) ({ cls := "FewKeys$Dial", name := "waits", desc := "(I)I" } : Jvm.MethodName)) ∈ lw_all := lw_g (lw_at lw_m3 239 rfl) rfl
theorem q783 : (Jvm.Cond.methodLink "FewKeys" (151 : Nat) ({ cls := "FewKeys$Dial", name := "held", desc := "(I)I" } : Jvm.MethodName)) ∈ lw_all := lw_g (lw_at lw_m4 3 rfl) rfl
theorem q788 : (Jvm.Cond.instanceMethod ({ cls := "FewKeys", name := "key", desc := "(II)I" } : Jvm.MethodName)) ∈ lw_all := lw_g (lw_at lw_m4 8 rfl) rfl
theorem q789 : (Jvm.Cond.selects "FewKeys" ({ cls := "FewKeys", name := "key", desc := "(II)I" } : Jvm.MethodName) ({ cls := "FewKeys", name := "key", desc := "(II)I" } : Jvm.MethodName)) ∈ lw_all := lw_g (lw_at lw_m4 9 rfl) rfl
theorem q790 : (Jvm.Cond.code ({ cls := "FewKeys", name := "key", desc := "(II)I" } : Jvm.MethodName) prog_1_method_13_code (4 : Nat) (Option.some Jvm.ClassFile.FieldType.int)) ∈ lw_all := lw_g (lw_at lw_m4 10 rfl) rfl
theorem q791 : (Jvm.Cond.methodLink "FewKeys" (160 : Nat) ({ cls := "FewKeys", name := "isKey", desc := "(I)Z" } : Jvm.MethodName)) ∈ lw_all := lw_g (lw_at lw_m4 11 rfl) rfl
theorem q792 : (Jvm.Cond.privateMethod ({ cls := "FewKeys", name := "isKey", desc := "(I)Z" } : Jvm.MethodName)) ∈ lw_tbl := lw_at lw_m4 12 rfl
theorem q793 : (Jvm.Cond.instanceMethod ({ cls := "FewKeys", name := "isKey", desc := "(I)Z" } : Jvm.MethodName)) ∈ lw_all := lw_g (lw_at lw_m4 13 rfl) rfl
theorem q794 : (Jvm.Cond.code ({ cls := "FewKeys", name := "isKey", desc := "(I)Z" } : Jvm.MethodName) prog_1_method_10_code (2 : Nat) (Option.some Jvm.ClassFile.FieldType.boolean)) ∈ lw_all := lw_g (lw_at lw_m4 14 rfl) rfl
theorem q795 : (Jvm.Cond.constant "FewKeys" (164 : Nat) (-1000000001 : Int32)) ∈ lw_all := lw_g (lw_at lw_m4 15 rfl) rfl
theorem q796 : (Jvm.Cond.methodLink "FewKeys" (169 : Nat) ({ cls := "FewKeys$Key", name := "kind", desc := "()I" } : Jvm.MethodName)) ∈ lw_all := lw_g (lw_at lw_m4 16 rfl) rfl
theorem q817 : (Jvm.Cond.methodLink "FewKeys" (175 : Nat) ({ cls := "FewKeys$Key", name := "number", desc := "()I" } : Jvm.MethodName)) ∈ lw_all := lw_g (lw_at lw_m4 37 rfl) rfl
theorem q831 : (Jvm.Cond.methodLink "FewKeys" (177 : Nat) ({ cls := "FewKeys$Key", name := "other", desc := "()I" } : Jvm.MethodName)) ∈ lw_all := lw_g (lw_at lw_m4 51 rfl) rfl
theorem q846 : (Jvm.Cond.instanceMethod ({ cls := "FewKeys", name := "strike", desc := "(I)I" } : Jvm.MethodName)) ∈ lw_all := lw_g (lw_at lw_m4 66 rfl) rfl
theorem q847 : (Jvm.Cond.selects "FewKeys" ({ cls := "FewKeys", name := "strike", desc := "(I)I" } : Jvm.MethodName) ({ cls := "FewKeys", name := "strike", desc := "(I)I" } : Jvm.MethodName)) ∈ lw_all := lw_g (lw_at lw_m4 67 rfl) rfl
theorem q848 : (Jvm.Cond.code ({ cls := "FewKeys", name := "strike", desc := "(I)I" } : Jvm.MethodName) prog_1_method_15_code (2 : Nat) (Option.some Jvm.ClassFile.FieldType.int)) ∈ lw_all := lw_g (lw_at lw_m4 68 rfl) rfl
theorem q849 : (Jvm.Cond.methodLink "FewKeys" (183 : Nat) ({ cls := "FewKeys", name := "strikeNow", desc := "(I)V" } : Jvm.MethodName)) ∈ lw_all := lw_g (lw_at lw_m4 69 rfl) rfl
theorem q850 : (Jvm.Cond.privateMethod ({ cls := "FewKeys", name := "strikeNow", desc := "(I)V" } : Jvm.MethodName)) ∈ lw_tbl := lw_at lw_m4 70 rfl
theorem q851 : (Jvm.Cond.instanceMethod ({ cls := "FewKeys", name := "strikeNow", desc := "(I)V" } : Jvm.MethodName)) ∈ lw_all := lw_g (lw_at lw_m4 71 rfl) rfl
theorem q852 : (Jvm.Cond.code ({ cls := "FewKeys", name := "strikeNow", desc := "(I)V" } : Jvm.MethodName) prog_1_method_14_code (2 : Nat) (Option.none : Option Jvm.ClassFile.FieldType)) ∈ lw_all := lw_g (lw_at lw_m4 72 rfl) rfl
theorem q853 : (Jvm.Cond.methodLink "FewKeys" (180 : Nat) ({ cls := "FewKeys$Key", name := "strike", desc := "(I)I" } : Jvm.MethodName)) ∈ lw_all := lw_g (lw_at lw_m4 73 rfl) rfl
theorem q913 : (Jvm.Cond.instanceMethod ({ cls := "FewKeys", name := "begin", desc := "()I" } : Jvm.MethodName)) ∈ lw_all := lw_g (lw_at lw_m4 133 rfl) rfl
theorem q914 : (Jvm.Cond.selects "FewKeys" ({ cls := "FewKeys", name := "begin", desc := "()I" } : Jvm.MethodName) ({ cls := "FewKeys", name := "begin", desc := "()I" } : Jvm.MethodName)) ∈ lw_all := lw_g (lw_at lw_m4 134 rfl) rfl
theorem q915 : (Jvm.Cond.code ({ cls := "FewKeys", name := "begin", desc := "()I" } : Jvm.MethodName) prog_1_method_16_code (2 : Nat) (Option.some Jvm.ClassFile.FieldType.int)) ∈ lw_all := lw_g (lw_at lw_m4 135 rfl) rfl
theorem q917 : (Jvm.Cond.instanceMethod ({ cls := "FewKeys", name := "fewest", desc := "(I)I" } : Jvm.MethodName)) ∈ lw_all := lw_g (lw_at lw_m4 137 rfl) rfl
theorem q918 : (Jvm.Cond.selects "FewKeys" ({ cls := "FewKeys", name := "fewest", desc := "(I)I" } : Jvm.MethodName) ({ cls := "FewKeys", name := "fewest", desc := "(I)I" } : Jvm.MethodName)) ∈ lw_all := lw_g (lw_at lw_m4 138 rfl) rfl
theorem q919 : (Jvm.Cond.code ({ cls := "FewKeys", name := "fewest", desc := "(I)I" } : Jvm.MethodName) prog_1_method_19_code (2 : Nat) (Option.some Jvm.ClassFile.FieldType.int)) ∈ lw_all := lw_g (lw_at lw_m4 139 rfl) rfl
theorem q920 : (Jvm.Cond.methodLink "FewKeys" (199 : Nat) ({ cls := "FewKeys", name := "isNumber", desc := "(I)Z" } : Jvm.MethodName)) ∈ lw_all := lw_g (lw_at lw_m4 140 rfl) rfl
theorem q921 : (Jvm.Cond.privateMethod ({ cls := "FewKeys", name := "isNumber", desc := "(I)Z" } : Jvm.MethodName)) ∈ lw_tbl := lw_at lw_m4 141 rfl
theorem q922 : (Jvm.Cond.instanceMethod ({ cls := "FewKeys", name := "isNumber", desc := "(I)Z" } : Jvm.MethodName)) ∈ lw_all := lw_g (lw_at lw_m4 142 rfl) rfl
theorem q923 : (Jvm.Cond.code ({ cls := "FewKeys", name := "isNumber", desc := "(I)Z" } : Jvm.MethodName) prog_1_method_9_code (2 : Nat) (Option.some Jvm.ClassFile.FieldType.boolean)) ∈ lw_all := lw_g (lw_at lw_m4 143 rfl) rfl
theorem q924 : (Jvm.Cond.methodLink "FewKeys" (202 : Nat) ({ cls := "FewKeys", name := "spread", desc := "(II)V" } : Jvm.MethodName)) ∈ lw_all := lw_g (lw_at lw_m4 144 rfl) rfl
theorem q925 : (Jvm.Cond.privateMethod ({ cls := "FewKeys", name := "spread", desc := "(II)V" } : Jvm.MethodName)) ∈ lw_tbl := lw_at lw_m4 145 rfl
theorem q926 : (Jvm.Cond.instanceMethod ({ cls := "FewKeys", name := "spread", desc := "(II)V" } : Jvm.MethodName)) ∈ lw_all := lw_g (lw_at lw_m4 146 rfl) rfl
theorem q927 : (Jvm.Cond.code ({ cls := "FewKeys", name := "spread", desc := "(II)V" } : Jvm.MethodName) prog_1_method_17_code (8 : Nat) (Option.none : Option Jvm.ClassFile.FieldType)) ∈ lw_all := lw_g (lw_at lw_m4 147 rfl) rfl
theorem q928 : (Jvm.Cond.methodLink "FewKeys" (187 : Nat) ({ cls := "FewKeys$Dial", name := "states", desc := "()I" } : Jvm.MethodName)) ∈ lw_all := lw_g (lw_at lw_m4 148 rfl) rfl
theorem q932 : (Jvm.Cond.methodLink "FewKeys" (190 : Nat) ({ cls := "java/util/Arrays", name := "fill", desc := "([IIII)V" } : Jvm.MethodName)) ∈ lw_all := lw_g (lw_at lw_m4 152 rfl) rfl
theorem q938 : (Jvm.Cond.methodLink "FewKeys" (196 : Nat) ({ cls := "java/util/Arrays", name := "fill", desc := "([II)V" } : Jvm.MethodName)) ∈ lw_all := lw_g (lw_at lw_m4 158 rfl) rfl
theorem q941 : (Jvm.Cond.methodLink "FewKeys" (206 : Nat) ({ cls := "FewKeys", name := "fewestTo", desc := "(I)I" } : Jvm.MethodName)) ∈ lw_all := lw_g (lw_at lw_m4 161 rfl) rfl
theorem q942 : (Jvm.Cond.privateMethod ({ cls := "FewKeys", name := "fewestTo", desc := "(I)I" } : Jvm.MethodName)) ∈ lw_tbl := lw_at lw_m4 162 rfl
theorem q943 : (Jvm.Cond.instanceMethod ({ cls := "FewKeys", name := "fewestTo", desc := "(I)I" } : Jvm.MethodName)) ∈ lw_all := lw_g (lw_at lw_m4 163 rfl) rfl
theorem q944 : (Jvm.Cond.code ({ cls := "FewKeys", name := "fewestTo", desc := "(I)I" } : Jvm.MethodName) prog_1_method_18_code (2 : Nat) (Option.some Jvm.ClassFile.FieldType.int)) ∈ lw_all := lw_g (lw_at lw_m4 164 rfl) rfl
theorem q946 : (Jvm.Cond.instanceMethod ({ cls := "FewKeys", name := "way", desc := "(II)I" } : Jvm.MethodName)) ∈ lw_all := lw_g (lw_at lw_m4 166 rfl) rfl
theorem q947 : (Jvm.Cond.selects "FewKeys" ({ cls := "FewKeys", name := "way", desc := "(II)I" } : Jvm.MethodName) ({ cls := "FewKeys", name := "way", desc := "(II)I" } : Jvm.MethodName)) ∈ lw_all := lw_g (lw_at lw_m4 167 rfl) rfl
theorem q948 : (Jvm.Cond.code ({ cls := "FewKeys", name := "way", desc := "(II)I" } : Jvm.MethodName) prog_1_method_20_code (6 : Nat) (Option.some Jvm.ClassFile.FieldType.int)) ∈ lw_all := lw_g (lw_at lw_m4 168 rfl) rfl
theorem q950 : (Jvm.Cond.instanceMethod ({ cls := "FewKeys", name := "least", desc := "(I)I" } : Jvm.MethodName)) ∈ lw_all := lw_g (lw_at lw_m4 170 rfl) rfl
theorem q951 : (Jvm.Cond.selects "FewKeys" ({ cls := "FewKeys", name := "least", desc := "(I)I" } : Jvm.MethodName) ({ cls := "FewKeys", name := "least", desc := "(I)I" } : Jvm.MethodName)) ∈ lw_all := lw_g (lw_at lw_m4 171 rfl) rfl
theorem q952 : (Jvm.Cond.code ({ cls := "FewKeys", name := "least", desc := "(I)I" } : Jvm.MethodName) prog_1_method_22_code (4 : Nat) (Option.some Jvm.ClassFile.FieldType.int)) ∈ lw_all := lw_g (lw_at lw_m4 172 rfl) rfl
theorem q953 : (Jvm.Cond.methodLink "FewKeys" (213 : Nat) ({ cls := "FewKeys", name := "spreadCosts", desc := "()V" } : Jvm.MethodName)) ∈ lw_all := lw_g (lw_at lw_m4 173 rfl) rfl
theorem q954 : (Jvm.Cond.privateMethod ({ cls := "FewKeys", name := "spreadCosts", desc := "()V" } : Jvm.MethodName)) ∈ lw_tbl := lw_at lw_m4 174 rfl
theorem q955 : (Jvm.Cond.instanceMethod ({ cls := "FewKeys", name := "spreadCosts", desc := "()V" } : Jvm.MethodName)) ∈ lw_all := lw_g (lw_at lw_m4 175 rfl) rfl
theorem q956 : (Jvm.Cond.code ({ cls := "FewKeys", name := "spreadCosts", desc := "()V" } : Jvm.MethodName) prog_1_method_21_code (7 : Nat) (Option.none : Option Jvm.ClassFile.FieldType)) ∈ lw_all := lw_g (lw_at lw_m4 176 rfl) rfl
theorem q957 : (Jvm.Cond.constant "FewKeys" (209 : Nat) (999999 : Int32)) ∈ lw_all := lw_g (lw_at lw_m4 177 rfl) rfl
theorem q958 : (Jvm.Cond.methodLink "FewKeys" (210 : Nat) ({ cls := "java/util/Arrays", name := "fill", desc := "([ZIIZ)V" } : Jvm.MethodName)) ∈ lw_all := lw_g (lw_at lw_m4 178 rfl) rfl
theorem q961 : (Jvm.Cond.methodLink "FewKeys" (216 : Nat) ({ cls := "java/lang/Math", name := "min", desc := "(II)I" } : Jvm.MethodName)) ∈ lw_all := lw_g (lw_at lw_m4 181 rfl) rfl
theorem q963 : (Jvm.Cond.instanceMethod ({ cls := "FewKeys", name := "never", desc := "(I)I" } : Jvm.MethodName)) ∈ lw_all := lw_g (lw_at lw_m4 183 rfl) rfl
theorem q964 : (Jvm.Cond.selects "FewKeys" ({ cls := "FewKeys", name := "never", desc := "(I)I" } : Jvm.MethodName) ({ cls := "FewKeys", name := "never", desc := "(I)I" } : Jvm.MethodName)) ∈ lw_all := lw_g (lw_at lw_m4 184 rfl) rfl
theorem q965 : (Jvm.Cond.code ({ cls := "FewKeys", name := "never", desc := "(I)I" } : Jvm.MethodName) prog_1_method_23_code (4 : Nat) (Option.some Jvm.ClassFile.FieldType.int)) ∈ lw_all := lw_g (lw_at lw_m4 185 rfl) rfl
theorem q967 : (Jvm.Cond.instanceMethod ({ cls := "FewKeys", name := "farthest", desc := "(I)I" } : Jvm.MethodName)) ∈ lw_all := lw_g (lw_at lw_m4 187 rfl) rfl
theorem q968 : (Jvm.Cond.selects "FewKeys" ({ cls := "FewKeys", name := "farthest", desc := "(I)I" } : Jvm.MethodName) ({ cls := "FewKeys", name := "farthest", desc := "(I)I" } : Jvm.MethodName)) ∈ lw_all := lw_g (lw_at lw_m4 188 rfl) rfl
theorem q969 : (Jvm.Cond.code ({ cls := "FewKeys", name := "farthest", desc := "(I)I" } : Jvm.MethodName) prog_1_method_24_code (5 : Nat) (Option.some Jvm.ClassFile.FieldType.int)) ∈ lw_all := lw_g (lw_at lw_m4 189 rfl) rfl
theorem q970 : (Jvm.Cond.constant "FewKeys" (222 : Nat) (-1000000003 : Int32)) ∈ lw_all := lw_g (lw_at lw_m4 190 rfl) rfl
theorem q972 : (Jvm.Cond.instanceMethod ({ cls := "FewKeys", name := "target", desc := "(I)I" } : Jvm.MethodName)) ∈ lw_all := lw_g (lw_at lw_m4 192 rfl) rfl
theorem q973 : (Jvm.Cond.selects "FewKeys" ({ cls := "FewKeys", name := "target", desc := "(I)I" } : Jvm.MethodName) ({ cls := "FewKeys", name := "target", desc := "(I)I" } : Jvm.MethodName)) ∈ lw_all := lw_g (lw_at lw_m4 193 rfl) rfl
theorem q974 : (Jvm.Cond.code ({ cls := "FewKeys", name := "target", desc := "(I)I" } : Jvm.MethodName) prog_1_method_25_code (2 : Nat) (Option.some Jvm.ClassFile.FieldType.int)) ∈ lw_all := lw_g (lw_at lw_m4 194 rfl) rfl
theorem q976 : (Jvm.Cond.instanceMethod ({ cls := "FewKeys", name := "targetAt", desc := "(I)I" } : Jvm.MethodName)) ∈ lw_all := lw_g (lw_at lw_m4 196 rfl) rfl
theorem q977 : (Jvm.Cond.selects "FewKeys" ({ cls := "FewKeys", name := "targetAt", desc := "(I)I" } : Jvm.MethodName) ({ cls := "FewKeys", name := "targetAt", desc := "(I)I" } : Jvm.MethodName)) ∈ lw_all := lw_g (lw_at lw_m4 197 rfl) rfl
theorem q978 : (Jvm.Cond.code ({ cls := "FewKeys", name := "targetAt", desc := "(I)I" } : Jvm.MethodName) prog_1_method_26_code (2 : Nat) (Option.some Jvm.ClassFile.FieldType.int)) ∈ lw_all := lw_g (lw_at lw_m4 198 rfl) rfl
theorem q980 : (Jvm.Cond.instanceMethod ({ cls := "FewKeys", name := "forget", desc := "()I" } : Jvm.MethodName)) ∈ lw_all := lw_g (lw_at lw_m4 200 rfl) rfl
theorem q981 : (Jvm.Cond.selects "FewKeys" ({ cls := "FewKeys", name := "forget", desc := "()I" } : Jvm.MethodName) ({ cls := "FewKeys", name := "forget", desc := "()I" } : Jvm.MethodName)) ∈ lw_all := lw_g (lw_at lw_m4 201 rfl) rfl
theorem q982 : (Jvm.Cond.code ({ cls := "FewKeys", name := "forget", desc := "()I" } : Jvm.MethodName) prog_1_method_27_code (2 : Nat) (Option.some Jvm.ClassFile.FieldType.int)) ∈ lw_all := lw_g (lw_at lw_m4 202 rfl) rfl
theorem q984 : (Jvm.Cond.instanceMethod ({ cls := "FewKeys", name := "more", desc := "(I)I" } : Jvm.MethodName)) ∈ lw_all := lw_g (lw_at lw_m4 204 rfl) rfl
theorem q985 : (Jvm.Cond.selects "FewKeys" ({ cls := "FewKeys", name := "more", desc := "(I)I" } : Jvm.MethodName) ({ cls := "FewKeys", name := "more", desc := "(I)I" } : Jvm.MethodName)) ∈ lw_all := lw_g (lw_at lw_m4 205 rfl) rfl
theorem q986 : (Jvm.Cond.code ({ cls := "FewKeys", name := "more", desc := "(I)I" } : Jvm.MethodName) prog_1_method_30_code (6 : Nat) (Option.some Jvm.ClassFile.FieldType.int)) ∈ lw_all := lw_g (lw_at lw_m4 206 rfl) rfl
theorem q987 : (Jvm.Cond.methodLink "FewKeys" (239 : Nat) ({ cls := "FewKeys", name := "candidate", desc := "(I)LFewKeys$Key;" } : Jvm.MethodName)) ∈ lw_all := lw_g (lw_at lw_m4 207 rfl) rfl
theorem q988 : (Jvm.Cond.privateMethod ({ cls := "FewKeys", name := "candidate", desc := "(I)LFewKeys$Key;" } : Jvm.MethodName)) ∈ lw_tbl := lw_at lw_m4 208 rfl
theorem q989 : (Jvm.Cond.instanceMethod ({ cls := "FewKeys", name := "candidate", desc := "(I)LFewKeys$Key;" } : Jvm.MethodName)) ∈ lw_all := lw_g (lw_at lw_m4 209 rfl) rfl
theorem q990 : (Jvm.Cond.code ({ cls := "FewKeys", name := "candidate", desc := "(I)LFewKeys$Key;" } : Jvm.MethodName) prog_1_method_29_code (4 : Nat) (Option.some (Jvm.ClassFile.FieldType.object "FewKeys$Key"))) ∈ lw_all := lw_g (lw_at lw_m4 210 rfl) rfl
theorem q991 : (Jvm.Cond.classLink "FewKeys" (226 : Nat) "FewKeys$FigureKey") ∈ lw_all := lw_g (lw_at lw_m4 211 rfl) rfl
theorem q992 : (Jvm.Cond.methodLink "FewKeys" (228 : Nat) ({ cls := "FewKeys$FigureKey", name := "<init>", desc := "(LFewKeys$Dial;II)V" } : Jvm.MethodName)) ∈ lw_all := lw_g (lw_at lw_m4 212 rfl) rfl
theorem q993 : (Jvm.Cond.classLink "FewKeys" (231 : Nat) "FewKeys$SignKey") ∈ lw_all := lw_g (lw_at lw_m4 213 rfl) rfl
theorem q994 : (Jvm.Cond.methodLink "FewKeys" (233 : Nat) ({ cls := "FewKeys$SignKey", name := "<init>", desc := "(LFewKeys$Dial;II)V" } : Jvm.MethodName)) ∈ lw_all := lw_g (lw_at lw_m4 214 rfl) rfl
theorem q995 : (Jvm.Cond.classLink "FewKeys" (234 : Nat) "FewKeys$IsKey") ∈ lw_all := lw_g (lw_at lw_m4 215 rfl) rfl
theorem q996 : (Jvm.Cond.methodLink "FewKeys" (236 : Nat) ({ cls := "FewKeys$IsKey", name := "<init>", desc := "(LFewKeys$Dial;I)V" } : Jvm.MethodName)) ∈ lw_all := lw_g (lw_at lw_m4 216 rfl) rfl
theorem q997 : (Jvm.Cond.methodLink "FewKeys" (243 : Nat) ({ cls := "FewKeys", name := "sumWith", desc := "(I)I" } : Jvm.MethodName)) ∈ lw_all := lw_g (lw_at lw_m4 217 rfl) rfl
theorem q998 : (Jvm.Cond.privateMethod ({ cls := "FewKeys", name := "sumWith", desc := "(I)I" } : Jvm.MethodName)) ∈ lw_tbl := lw_at lw_m4 218 rfl
theorem q999 : (Jvm.Cond.instanceMethod ({ cls := "FewKeys", name := "sumWith", desc := "(I)I" } : Jvm.MethodName)) ∈ lw_all := lw_g (lw_at lw_m4 219 rfl) rfl
theorem q1000 : (Jvm.Cond.code ({ cls := "FewKeys", name := "sumWith", desc := "(I)I" } : Jvm.MethodName) prog_1_method_28_code (5 : Nat) (Option.some Jvm.ClassFile.FieldType.int)) ∈ lw_all := lw_g (lw_at lw_m4 220 rfl) rfl
theorem q1002 : (Jvm.Cond.instanceMethod ({ cls := "FewKeys", name := "list", desc := "()I" } : Jvm.MethodName)) ∈ lw_all := lw_g (lw_at lw_m4 222 rfl) rfl
theorem q1003 : (Jvm.Cond.selects "FewKeys" ({ cls := "FewKeys", name := "list", desc := "()I" } : Jvm.MethodName) ({ cls := "FewKeys", name := "list", desc := "()I" } : Jvm.MethodName)) ∈ lw_all := lw_g (lw_at lw_m4 223 rfl) rfl
theorem q1004 : (Jvm.Cond.code ({ cls := "FewKeys", name := "list", desc := "()I" } : Jvm.MethodName) prog_1_method_32_code (3 : Nat) (Option.some Jvm.ClassFile.FieldType.int)) ∈ lw_all := lw_g (lw_at lw_m4 224 rfl) rfl
theorem q1005 : (Jvm.Cond.methodLink "FewKeys" (246 : Nat) ({ cls := "FewKeys", name := "goOn", desc := "()V" } : Jvm.MethodName)) ∈ lw_all := lw_g (lw_at lw_m4 225 rfl) rfl
theorem q1006 : (Jvm.Cond.privateMethod ({ cls := "FewKeys", name := "goOn", desc := "()V" } : Jvm.MethodName)) ∈ lw_tbl := lw_at lw_m4 226 rfl
theorem q1007 : (Jvm.Cond.instanceMethod ({ cls := "FewKeys", name := "goOn", desc := "()V" } : Jvm.MethodName)) ∈ lw_all := lw_g (lw_at lw_m4 227 rfl) rfl
theorem q1008 : (Jvm.Cond.code ({ cls := "FewKeys", name := "goOn", desc := "()V" } : Jvm.MethodName) prog_1_method_31_code (6 : Nat) (Option.none : Option Jvm.ClassFile.FieldType)) ∈ lw_all := lw_g (lw_at lw_m4 228 rfl) rfl
theorem q1010 : (Jvm.Cond.instanceMethod ({ cls := "FewKeys", name := "quick", desc := "(II)I" } : Jvm.MethodName)) ∈ lw_all := lw_g (lw_at lw_m4 230 rfl) rfl
theorem q1011 : (Jvm.Cond.selects "FewKeys" ({ cls := "FewKeys", name := "quick", desc := "(II)I" } : Jvm.MethodName) ({ cls := "FewKeys", name := "quick", desc := "(II)I" } : Jvm.MethodName)) ∈ lw_all := lw_g (lw_at lw_m4 231 rfl) rfl
theorem q1012 : (Jvm.Cond.code ({ cls := "FewKeys", name := "quick", desc := "(II)I" } : Jvm.MethodName) prog_1_method_33_code (9 : Nat) (Option.some Jvm.ClassFile.FieldType.int)) ∈ lw_all := lw_g (lw_at lw_m4 232 rfl) rfl
theorem q1013 : (Jvm.Cond.methodLink "FewKeys" (249 : Nat) ({ cls := "java/lang/Math", name := "abs", desc := "(I)I" } : Jvm.MethodName)) ∈ lw_all := lw_g (lw_at lw_m4 233 rfl) rfl
theorem q1017 : (Jvm.Cond.instanceMethod ({ cls := "FewKeys", name := "struck", desc := "(III)I" } : Jvm.MethodName)) ∈ lw_all := lw_g (lw_at lw_m4 237 rfl) rfl
theorem q1018 : (Jvm.Cond.selects "FewKeys" ({ cls := "FewKeys", name := "struck", desc := "(III)I" } : Jvm.MethodName) ({ cls := "FewKeys", name := "struck", desc := "(III)I" } : Jvm.MethodName)) ∈ lw_all := lw_g (lw_at lw_m4 238 rfl) rfl
theorem q1019 : (Jvm.Cond.code ({ cls := "FewKeys", name := "struck", desc := "(III)I" } : Jvm.MethodName) prog_1_method_35_code (7 : Nat) (Option.some Jvm.ClassFile.FieldType.int)) ∈ lw_all := lw_g (lw_at lw_m4 239 rfl) rfl
theorem q1020 : (Jvm.Cond.methodLink "FewKeys" (258 : Nat) ({ cls := "FewKeys", name := "rowsTo", desc := "(III)I" } : Jvm.MethodName)) ∈ lw_all := lw_g (lw_at lw_m5 0 rfl) rfl
theorem q1021 : (Jvm.Cond.privateMethod ({ cls := "FewKeys", name := "rowsTo", desc := "(III)I" } : Jvm.MethodName)) ∈ lw_tbl := lw_at lw_m5 1 rfl
theorem q1022 : (Jvm.Cond.instanceMethod ({ cls := "FewKeys", name := "rowsTo", desc := "(III)I" } : Jvm.MethodName)) ∈ lw_all := lw_g (lw_at lw_m5 2 rfl) rfl
theorem q1023 : (Jvm.Cond.code ({ cls := "FewKeys", name := "rowsTo", desc := "(III)I" } : Jvm.MethodName) prog_1_method_34_code (8 : Nat) (Option.some Jvm.ClassFile.FieldType.int)) ∈ lw_all := lw_g (lw_at lw_m5 3 rfl) rfl
theorem q1024 : (Jvm.Cond.methodLink "FewKeys" (252 : Nat) ({ cls := "java/lang/System", name := "arraycopy", desc := "(Ljava/lang/Object;ILjava/lang/Object;II)V" } : Jvm.MethodName)) ∈ lw_all := lw_g (lw_at lw_m5 4 rfl) rfl
theorem q1026 : (Jvm.Cond.instanceMethod ({ cls := "FewKeys", name := "lost", desc := "(I)I" } : Jvm.MethodName)) ∈ lw_all := lw_g (lw_at lw_m5 6 rfl) rfl
theorem q1027 : (Jvm.Cond.selects "FewKeys" ({ cls := "FewKeys", name := "lost", desc := "(I)I" } : Jvm.MethodName) ({ cls := "FewKeys", name := "lost", desc := "(I)I" } : Jvm.MethodName)) ∈ lw_all := lw_g (lw_at lw_m5 7 rfl) rfl
theorem q1028 : (Jvm.Cond.code ({ cls := "FewKeys", name := "lost", desc := "(I)I" } : Jvm.MethodName) prog_1_method_37_code (3 : Nat) (Option.some Jvm.ClassFile.FieldType.int)) ∈ lw_all := lw_g (lw_at lw_m5 8 rfl) rfl
theorem q1029 : (Jvm.Cond.methodLink "FewKeys" (266 : Nat) ({ cls := "java/lang/Integer", name := "bitCount", desc := "(I)I" } : Jvm.MethodName)) ∈ lw_all := lw_g (lw_at lw_m5 9 rfl) rfl
theorem q1035 : (Jvm.Cond.methodLink "FewKeys" (262 : Nat) ({ cls := "FewKeys", name := "has", desc := "(II)Z" } : Jvm.MethodName)) ∈ lw_all := lw_g (lw_at lw_m5 15 rfl) rfl
theorem q1036 : (Jvm.Cond.static ({ cls := "FewKeys", name := "has", desc := "(II)Z" } : Jvm.MethodName)) ∈ lw_all := lw_g (lw_at lw_m5 16 rfl) rfl
theorem q1037 : (Jvm.Cond.code ({ cls := "FewKeys", name := "has", desc := "(II)Z" } : Jvm.MethodName) prog_1_method_2_code (2 : Nat) (Option.some Jvm.ClassFile.FieldType.boolean)) ∈ lw_all := lw_g (lw_at lw_m5 17 rfl) rfl
theorem q1038 : (Jvm.Cond.methodLink "FewKeys" (271 : Nat) ({ cls := "FewKeys", name := "parts", desc := "(III)Z" } : Jvm.MethodName)) ∈ lw_all := lw_g (lw_at lw_m5 18 rfl) rfl
theorem q1039 : (Jvm.Cond.privateMethod ({ cls := "FewKeys", name := "parts", desc := "(III)Z" } : Jvm.MethodName)) ∈ lw_tbl := lw_at lw_m5 19 rfl
theorem q1040 : (Jvm.Cond.instanceMethod ({ cls := "FewKeys", name := "parts", desc := "(III)Z" } : Jvm.MethodName)) ∈ lw_all := lw_g (lw_at lw_m5 20 rfl) rfl
theorem q1041 : (Jvm.Cond.code ({ cls := "FewKeys", name := "parts", desc := "(III)Z" } : Jvm.MethodName) prog_1_method_36_code (12 : Nat) (Option.some Jvm.ClassFile.FieldType.boolean)) ∈ lw_all := lw_g (lw_at lw_m5 21 rfl) rfl
theorem q1043 : (Jvm.Cond.instanceMethod ({ cls := "FewKeys", name := "game", desc := "(III)I" } : Jvm.MethodName)) ∈ lw_all := lw_g (lw_at lw_m5 23 rfl) rfl
theorem q1044 : (Jvm.Cond.selects "FewKeys" ({ cls := "FewKeys", name := "game", desc := "(III)I" } : Jvm.MethodName) ({ cls := "FewKeys", name := "game", desc := "(III)I" } : Jvm.MethodName)) ∈ lw_all := lw_g (lw_at lw_m5 24 rfl) rfl
theorem q1045 : (Jvm.Cond.code ({ cls := "FewKeys", name := "game", desc := "(III)I" } : Jvm.MethodName) prog_1_method_39_code (7 : Nat) (Option.some Jvm.ClassFile.FieldType.int)) ∈ lw_all := lw_g (lw_at lw_m5 25 rfl) rfl
theorem q1046 : (Jvm.Cond.methodLink "FewKeys" (274 : Nat) ({ cls := "FewKeys", name := "worth", desc := "(III)I" } : Jvm.MethodName)) ∈ lw_all := lw_g (lw_at lw_m5 26 rfl) rfl
theorem q1047 : (Jvm.Cond.privateMethod ({ cls := "FewKeys", name := "worth", desc := "(III)I" } : Jvm.MethodName)) ∈ lw_tbl := lw_at lw_m5 27 rfl
theorem q1048 : (Jvm.Cond.instanceMethod ({ cls := "FewKeys", name := "worth", desc := "(III)I" } : Jvm.MethodName)) ∈ lw_all := lw_g (lw_at lw_m5 28 rfl) rfl
theorem q1049 : (Jvm.Cond.code ({ cls := "FewKeys", name := "worth", desc := "(III)I" } : Jvm.MethodName) prog_1_method_38_code (7 : Nat) (Option.some Jvm.ClassFile.FieldType.int)) ∈ lw_all := lw_g (lw_at lw_m5 29 rfl) rfl
theorem q1050 : (Jvm.Cond.methodLink "FewKeys" (277 : Nat) ({ cls := "java/lang/Math", name := "max", desc := "(II)I" } : Jvm.MethodName)) ∈ lw_all := lw_g (lw_at lw_m5 30 rfl) rfl
theorem q1052 : (Jvm.Cond.instanceMethod ({ cls := "FewKeys", name := "write", desc := "(II)I" } : Jvm.MethodName)) ∈ lw_all := lw_g (lw_at lw_m5 32 rfl) rfl
theorem q1053 : (Jvm.Cond.selects "FewKeys" ({ cls := "FewKeys", name := "write", desc := "(II)I" } : Jvm.MethodName) ({ cls := "FewKeys", name := "write", desc := "(II)I" } : Jvm.MethodName)) ∈ lw_all := lw_g (lw_at lw_m5 33 rfl) rfl
theorem q1054 : (Jvm.Cond.code ({ cls := "FewKeys", name := "write", desc := "(II)I" } : Jvm.MethodName) prog_1_method_40_code (3 : Nat) (Option.some Jvm.ClassFile.FieldType.int)) ∈ lw_all := lw_g (lw_at lw_m5 34 rfl) rfl
theorem q1056 : (Jvm.Cond.instanceMethod ({ cls := "FewKeys", name := "tear", desc := "()I" } : Jvm.MethodName)) ∈ lw_all := lw_g (lw_at lw_m5 36 rfl) rfl
theorem q1057 : (Jvm.Cond.selects "FewKeys" ({ cls := "FewKeys", name := "tear", desc := "()I" } : Jvm.MethodName) ({ cls := "FewKeys", name := "tear", desc := "()I" } : Jvm.MethodName)) ∈ lw_all := lw_g (lw_at lw_m5 37 rfl) rfl
theorem q1058 : (Jvm.Cond.code ({ cls := "FewKeys", name := "tear", desc := "()I" } : Jvm.MethodName) prog_1_method_41_code (2 : Nat) (Option.some Jvm.ClassFile.FieldType.int)) ∈ lw_all := lw_g (lw_at lw_m5 38 rfl) rfl
theorem q1060 : (Jvm.Cond.instanceMethod ({ cls := "FewKeys", name := "judge", desc := "()I" } : Jvm.MethodName)) ∈ lw_all := lw_g (lw_at lw_m5 40 rfl) rfl
theorem q1061 : (Jvm.Cond.selects "FewKeys" ({ cls := "FewKeys", name := "judge", desc := "()I" } : Jvm.MethodName) ({ cls := "FewKeys", name := "judge", desc := "()I" } : Jvm.MethodName)) ∈ lw_all := lw_g (lw_at lw_m5 41 rfl) rfl
theorem q1062 : (Jvm.Cond.code ({ cls := "FewKeys", name := "judge", desc := "()I" } : Jvm.MethodName) prog_1_method_42_code (3 : Nat) (Option.some Jvm.ClassFile.FieldType.int)) ∈ lw_all := lw_g (lw_at lw_m5 42 rfl) rfl
theorem q1064 : (Jvm.Cond.instanceMethod ({ cls := "FewKeys", name := "drift", desc := "(I)I" } : Jvm.MethodName)) ∈ lw_all := lw_g (lw_at lw_m5 44 rfl) rfl
theorem q1065 : (Jvm.Cond.selects "FewKeys" ({ cls := "FewKeys", name := "drift", desc := "(I)I" } : Jvm.MethodName) ({ cls := "FewKeys", name := "drift", desc := "(I)I" } : Jvm.MethodName)) ∈ lw_all := lw_g (lw_at lw_m5 45 rfl) rfl
theorem q1066 : (Jvm.Cond.code ({ cls := "FewKeys", name := "drift", desc := "(I)I" } : Jvm.MethodName) prog_1_method_43_code (3 : Nat) (Option.some Jvm.ClassFile.FieldType.int)) ∈ lw_all := lw_g (lw_at lw_m5 46 rfl) rfl
theorem q1067 : (Jvm.Cond.methodLink "FewKeys" (280 : Nat) ({ cls := "FewKeys$Desk", name := "draw", desc := "(I)I" } : Jvm.MethodName)) ∈ lw_all := lw_g (lw_at lw_m5 47 rfl) rfl
theorem q1076 : (Jvm.Cond.instanceMethod ({ cls := "FewKeys", name := "seed", desc := "(I)I" } : Jvm.MethodName)) ∈ lw_all := lw_g (lw_at lw_m5 56 rfl) rfl
theorem q1077 : (Jvm.Cond.selects "FewKeys" ({ cls := "FewKeys", name := "seed", desc := "(I)I" } : Jvm.MethodName) ({ cls := "FewKeys", name := "seed", desc := "(I)I" } : Jvm.MethodName)) ∈ lw_all := lw_g (lw_at lw_m5 57 rfl) rfl
theorem q1078 : (Jvm.Cond.code ({ cls := "FewKeys", name := "seed", desc := "(I)I" } : Jvm.MethodName) prog_1_method_44_code (3 : Nat) (Option.some Jvm.ClassFile.FieldType.int)) ∈ lw_all := lw_g (lw_at lw_m5 58 rfl) rfl
theorem q1080 : (Jvm.Cond.instanceMethod ({ cls := "FewKeys", name := "keep", desc := "(I)I" } : Jvm.MethodName)) ∈ lw_all := lw_g (lw_at lw_m5 60 rfl) rfl
theorem q1081 : (Jvm.Cond.selects "FewKeys" ({ cls := "FewKeys", name := "keep", desc := "(I)I" } : Jvm.MethodName) ({ cls := "FewKeys", name := "keep", desc := "(I)I" } : Jvm.MethodName)) ∈ lw_all := lw_g (lw_at lw_m5 61 rfl) rfl
theorem q1082 : (Jvm.Cond.code ({ cls := "FewKeys", name := "keep", desc := "(I)I" } : Jvm.MethodName) prog_1_method_45_code (2 : Nat) (Option.some Jvm.ClassFile.FieldType.int)) ∈ lw_all := lw_g (lw_at lw_m5 62 rfl) rfl
theorem q1083 : (Jvm.Cond.methodLink "FewKeys" (286 : Nat) ({ cls := "FewKeys$Desk", name := "set", desc := "(LFewKeys$Desk;)V" } : Jvm.MethodName)) ∈ lw_all := lw_g (lw_at lw_m5 63 rfl) rfl
theorem q1089 : (Jvm.Cond.instanceMethod ({ cls := "FewKeys", name := "goBack", desc := "(I)I" } : Jvm.MethodName)) ∈ lw_all := lw_g (lw_at lw_m5 69 rfl) rfl
theorem q1090 : (Jvm.Cond.selects "FewKeys" ({ cls := "FewKeys", name := "goBack", desc := "(I)I" } : Jvm.MethodName) ({ cls := "FewKeys", name := "goBack", desc := "(I)I" } : Jvm.MethodName)) ∈ lw_all := lw_g (lw_at lw_m5 70 rfl) rfl
theorem q1091 : (Jvm.Cond.code ({ cls := "FewKeys", name := "goBack", desc := "(I)I" } : Jvm.MethodName) prog_1_method_46_code (2 : Nat) (Option.some Jvm.ClassFile.FieldType.int)) ∈ lw_all := lw_g (lw_at lw_m5 71 rfl) rfl
theorem in_X0 : ∀ w ∈ wsX00, w ∈ lw_all := lw_in wsX00 [173, 175, 177, 179, 181, 183, 185, 187, 189, 191, 193, 195, 197, 199, 201, 203, 205, 207, 209, 211] (by decide +kernel) (by decide +kernel)

