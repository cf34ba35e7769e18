/-! FewKeys$Reader -/
set_option maxRecDepth 100000
def RX4 : String := "FewKeys$Reader"
def TX4 : u_T := fun k => match k with
  | 0 => ("FewKeys$Reader", "text", "[B", true)
  | 1 => ("FewKeys$Reader", "size", "I", true)
  | 2 => ("FewKeys$Reader", "told", "LFewKeys$Reckoner;", true)
  | 3 => ("FewKeys$Reader", "at", "I", false)
  | _ => ("FewKeys$Reader", "from", "I", false)
def tyX4 : Nat → FieldType := fun k => match k with
  | 0 => .array .byte
  | 1 => .int
  | 2 => .object "FewKeys$Reckoner"
  | 3 => .int
  | _ => .int
abbrev wsX40 : List Cond := u_ws RX4 TX4 5
theorem nmX4 : ∀ a, a < 5 → ∀ b, b < 5 → a ≠ b → (TX4 a).2.1 ≠ (TX4 b).2.1 := by decide +kernel
theorem tyX4_ok : ∀ k, k < 5 → parseFieldDescriptor (TX4 k).2.2.1 = some (tyX4 k) := by decide +kernel
abbrev cX4_init : ByteArray := prog_10_method_1_code
def yX4_init : MethodName := ⟨RX4, "<init>", "([BI)V"⟩
def dkwX4_init_1 : List UInt8 := [181, 0, 22, 177]
abbrev dktX4_init_1 : List UInt8 := dkwX4_init_1 ++ []
def dkwX4_init_0 : List UInt8 := [42, 183, 0, 3, 42, 187, 0, 9, 89, 183, 0, 11, 181, 0, 12, 42, 43, 181, 0, 18, 42, 28]
abbrev dktX4_init_0 : List UInt8 := dkwX4_init_0 ++ dktX4_init_1
theorem dksX4_init_0 : cX4_init.data.toList.drop 0 = dktX4_init_0 := by decide +kernel
theorem dksX4_init_1 : cX4_init.data.toList.drop 22 = dktX4_init_1 := dk_seg dksX4_init_0 22 rfl rfl
theorem dX4_init_0 : decode cX4_init 0 = .ok (.aload_n 0, 1) := dk_42 (dk_at dksX4_init_0 0 rfl rfl)
theorem dX4_init_1 : decode cX4_init 1 = .ok (.invokespecial 3, 3) := dk_183 0 3 (dk_at dksX4_init_0 1 rfl rfl)
theorem dX4_init_4 : decode cX4_init 4 = .ok (.aload_n 0, 1) := dk_42 (dk_at dksX4_init_0 4 rfl rfl)
theorem dX4_init_5 : decode cX4_init 5 = .ok (.new 9, 3) := dk_187 0 9 (dk_at dksX4_init_0 5 rfl rfl)
theorem dX4_init_8 : decode cX4_init 8 = .ok (.dup, 1) := dk_89 (dk_at dksX4_init_0 8 rfl rfl)
theorem dX4_init_9 : decode cX4_init 9 = .ok (.invokespecial 11, 3) := dk_183 0 11 (dk_at dksX4_init_0 9 rfl rfl)
theorem dX4_init_12 : decode cX4_init 12 = .ok (.putfield 12, 3) := dk_181 0 12 (dk_at dksX4_init_0 12 rfl rfl)
theorem dX4_init_15 : decode cX4_init 15 = .ok (.aload_n 0, 1) := dk_42 (dk_at dksX4_init_0 15 rfl rfl)
theorem dX4_init_16 : decode cX4_init 16 = .ok (.aload_n 1, 1) := dk_43 (dk_at dksX4_init_0 16 rfl rfl)
theorem dX4_init_17 : decode cX4_init 17 = .ok (.putfield 18, 3) := dk_181 0 18 (dk_at dksX4_init_0 17 rfl rfl)
theorem dX4_init_20 : decode cX4_init 20 = .ok (.aload_n 0, 1) := dk_42 (dk_at dksX4_init_0 20 rfl rfl)
theorem dX4_init_21 : decode cX4_init 21 = .ok (.iload_n 2, 1) := dk_28 (dk_at dksX4_init_0 21 rfl rfl)
theorem dX4_init_22 : decode cX4_init 22 = .ok (.putfield 22, 3) := dk_181 0 22 (dk_at dksX4_init_1 0 rfl rfl)
theorem dX4_init_25 : decode cX4_init 25 = .ok (.return_, 1) := dk_177 (dk_at dksX4_init_1 3 rfl rfl)
abbrev cX4_all : ByteArray := prog_10_method_15_code
def yX4_all : MethodName := ⟨RX4, "all", "()LFewKeys$Reckoner;"⟩
def dkwX4_all_5 : List UInt8 := [167, 255, 150, 42, 180, 0, 12, 176]
abbrev dktX4_all_5 : List UInt8 := dkwX4_all_5 ++ []
def dkwX4_all_4 : List UInt8 := [42, 43, 28, 182, 0, 169, 83, 42, 180, 0, 12, 89, 180, 0, 164, 4, 96, 181, 0, 164, 42, 182, 0, 92]
abbrev dktX4_all_4 : List UInt8 := dkwX4_all_4 ++ dktX4_all_5
def dkwX4_all_3 : List UInt8 := [4, 167, 0, 4, 3, 6, 28, 184, 0, 56, 42, 180, 0, 12, 180, 0, 165, 42, 180, 0, 12, 180, 0, 164]
abbrev dktX4_all_3 : List UInt8 := dkwX4_all_3 ++ dktX4_all_4
def dkwX4_all_2 : List UInt8 := [184, 0, 56, 43, 184, 0, 160, 4, 28, 184, 0, 56, 42, 180, 0, 12, 180, 0, 164, 16, 8, 162, 0, 7]
abbrev dktX4_all_2 : List UInt8 := dkwX4_all_2 ++ dktX4_all_3
def dkwX4_all_1 : List UInt8 := [76, 42, 180, 0, 41, 61, 43, 18, 69, 182, 0, 71, 154, 0, 7, 4, 167, 0, 4, 3, 6, 28]
abbrev dktX4_all_1 : List UInt8 := dkwX4_all_1 ++ dktX4_all_2
def dkwX4_all_0 : List UInt8 := [42, 182, 0, 37, 2, 159, 0, 7, 42, 182, 0, 158, 42, 182, 0, 37, 2, 159, 0, 104, 42, 182, 0, 66]
abbrev dktX4_all_0 : List UInt8 := dkwX4_all_0 ++ dktX4_all_1
theorem dksX4_all_0 : cX4_all.data.toList.drop 0 = dktX4_all_0 := by decide +kernel
theorem dksX4_all_1 : cX4_all.data.toList.drop 24 = dktX4_all_1 := dk_seg dksX4_all_0 24 rfl rfl
theorem dksX4_all_2 : cX4_all.data.toList.drop 46 = dktX4_all_2 := dk_seg dksX4_all_1 22 rfl rfl
theorem dksX4_all_3 : cX4_all.data.toList.drop 70 = dktX4_all_3 := dk_seg dksX4_all_2 24 rfl rfl
theorem dksX4_all_4 : cX4_all.data.toList.drop 94 = dktX4_all_4 := dk_seg dksX4_all_3 24 rfl rfl
theorem dksX4_all_5 : cX4_all.data.toList.drop 118 = dktX4_all_5 := dk_seg dksX4_all_4 24 rfl rfl
theorem dX4_all_0 : decode cX4_all 0 = .ok (.aload_n 0, 1) := dk_42 (dk_at dksX4_all_0 0 rfl rfl)
theorem dX4_all_1 : decode cX4_all 1 = .ok (.invokevirtual 37, 3) := dk_182 0 37 (dk_at dksX4_all_0 1 rfl rfl)
theorem dX4_all_4 : decode cX4_all 4 = .ok (.iconst (-1), 1) := dk_2 (dk_at dksX4_all_0 4 rfl rfl)
theorem dX4_all_5 : decode cX4_all 5 = .ok (.if_icmp .eq 7, 3) := dk_159 0 7 (dk_at dksX4_all_0 5 rfl rfl)
theorem dX4_all_8 : decode cX4_all 8 = .ok (.aload_n 0, 1) := dk_42 (dk_at dksX4_all_0 8 rfl rfl)
theorem dX4_all_9 : decode cX4_all 9 = .ok (.invokevirtual 158, 3) := dk_182 0 158 (dk_at dksX4_all_0 9 rfl rfl)
theorem dX4_all_12 : decode cX4_all 12 = .ok (.aload_n 0, 1) := dk_42 (dk_at dksX4_all_0 12 rfl rfl)
theorem dX4_all_13 : decode cX4_all 13 = .ok (.invokevirtual 37, 3) := dk_182 0 37 (dk_at dksX4_all_0 13 rfl rfl)
theorem dX4_all_16 : decode cX4_all 16 = .ok (.iconst (-1), 1) := dk_2 (dk_at dksX4_all_0 16 rfl rfl)
theorem dX4_all_17 : decode cX4_all 17 = .ok (.if_icmp .eq 104, 3) := dk_159 0 104 (dk_at dksX4_all_0 17 rfl rfl)
theorem dX4_all_20 : decode cX4_all 20 = .ok (.aload_n 0, 1) := dk_42 (dk_at dksX4_all_0 20 rfl rfl)
theorem dX4_all_21 : decode cX4_all 21 = .ok (.invokevirtual 66, 3) := dk_182 0 66 (dk_at dksX4_all_0 21 rfl rfl)
theorem dX4_all_24 : decode cX4_all 24 = .ok (.astore_n 1, 1) := dk_76 (dk_at dksX4_all_1 0 rfl rfl)
theorem dX4_all_25 : decode cX4_all 25 = .ok (.aload_n 0, 1) := dk_42 (dk_at dksX4_all_1 1 rfl rfl)
theorem dX4_all_26 : decode cX4_all 26 = .ok (.getfield 41, 3) := dk_180 0 41 (dk_at dksX4_all_1 2 rfl rfl)
theorem dX4_all_29 : decode cX4_all 29 = .ok (.istore_n 2, 1) := dk_61 (dk_at dksX4_all_1 5 rfl rfl)
theorem dX4_all_30 : decode cX4_all 30 = .ok (.aload_n 1, 1) := dk_43 (dk_at dksX4_all_1 6 rfl rfl)
theorem dX4_all_31 : decode cX4_all 31 = .ok (.ldc 69, 2) := dk_18 69 (dk_at dksX4_all_1 7 rfl rfl)
theorem dX4_all_33 : decode cX4_all 33 = .ok (.invokevirtual 71, 3) := dk_182 0 71 (dk_at dksX4_all_1 9 rfl rfl)
theorem dX4_all_36 : decode cX4_all 36 = .ok (.ifCond .ne 7, 3) := dk_154 0 7 (dk_at dksX4_all_1 12 rfl rfl)
theorem dX4_all_39 : decode cX4_all 39 = .ok (.iconst 1, 1) := dk_4 (dk_at dksX4_all_1 15 rfl rfl)
theorem dX4_all_40 : decode cX4_all 40 = .ok (.goto 4, 3) := dk_167 0 4 (dk_at dksX4_all_1 16 rfl rfl)
theorem dX4_all_43 : decode cX4_all 43 = .ok (.iconst 0, 1) := dk_3 (dk_at dksX4_all_1 19 rfl rfl)
theorem dX4_all_44 : decode cX4_all 44 = .ok (.iconst 3, 1) := dk_6 (dk_at dksX4_all_1 20 rfl rfl)
theorem dX4_all_45 : decode cX4_all 45 = .ok (.iload_n 2, 1) := dk_28 (dk_at dksX4_all_1 21 rfl rfl)
theorem dX4_all_46 : decode cX4_all 46 = .ok (.invokestatic 56, 3) := dk_184 0 56 (dk_at dksX4_all_2 0 rfl rfl)
theorem dX4_all_49 : decode cX4_all 49 = .ok (.aload_n 1, 1) := dk_43 (dk_at dksX4_all_2 3 rfl rfl)
theorem dX4_all_50 : decode cX4_all 50 = .ok (.invokestatic 160, 3) := dk_184 0 160 (dk_at dksX4_all_2 4 rfl rfl)
theorem dX4_all_53 : decode cX4_all 53 = .ok (.iconst 1, 1) := dk_4 (dk_at dksX4_all_2 7 rfl rfl)
theorem dX4_all_54 : decode cX4_all 54 = .ok (.iload_n 2, 1) := dk_28 (dk_at dksX4_all_2 8 rfl rfl)
theorem dX4_all_55 : decode cX4_all 55 = .ok (.invokestatic 56, 3) := dk_184 0 56 (dk_at dksX4_all_2 9 rfl rfl)
theorem dX4_all_58 : decode cX4_all 58 = .ok (.aload_n 0, 1) := dk_42 (dk_at dksX4_all_2 12 rfl rfl)
theorem dX4_all_59 : decode cX4_all 59 = .ok (.getfield 12, 3) := dk_180 0 12 (dk_at dksX4_all_2 13 rfl rfl)
theorem dX4_all_62 : decode cX4_all 62 = .ok (.getfield 164, 3) := dk_180 0 164 (dk_at dksX4_all_2 16 rfl rfl)
theorem dX4_all_65 : decode cX4_all 65 = .ok (.bipush 8, 2) := dk_16 8 (dk_at dksX4_all_2 19 rfl rfl)
theorem dX4_all_67 : decode cX4_all 67 = .ok (.if_icmp .ge 7, 3) := dk_162 0 7 (dk_at dksX4_all_2 21 rfl rfl)
theorem dX4_all_70 : decode cX4_all 70 = .ok (.iconst 1, 1) := dk_4 (dk_at dksX4_all_3 0 rfl rfl)
theorem dX4_all_71 : decode cX4_all 71 = .ok (.goto 4, 3) := dk_167 0 4 (dk_at dksX4_all_3 1 rfl rfl)
theorem dX4_all_74 : decode cX4_all 74 = .ok (.iconst 0, 1) := dk_3 (dk_at dksX4_all_3 4 rfl rfl)
theorem dX4_all_75 : decode cX4_all 75 = .ok (.iconst 3, 1) := dk_6 (dk_at dksX4_all_3 5 rfl rfl)
theorem dX4_all_76 : decode cX4_all 76 = .ok (.iload_n 2, 1) := dk_28 (dk_at dksX4_all_3 6 rfl rfl)
theorem dX4_all_77 : decode cX4_all 77 = .ok (.invokestatic 56, 3) := dk_184 0 56 (dk_at dksX4_all_3 7 rfl rfl)
theorem dX4_all_80 : decode cX4_all 80 = .ok (.aload_n 0, 1) := dk_42 (dk_at dksX4_all_3 10 rfl rfl)
theorem dX4_all_81 : decode cX4_all 81 = .ok (.getfield 12, 3) := dk_180 0 12 (dk_at dksX4_all_3 11 rfl rfl)
theorem dX4_all_84 : decode cX4_all 84 = .ok (.getfield 165, 3) := dk_180 0 165 (dk_at dksX4_all_3 14 rfl rfl)
theorem dX4_all_87 : decode cX4_all 87 = .ok (.aload_n 0, 1) := dk_42 (dk_at dksX4_all_3 17 rfl rfl)
theorem dX4_all_88 : decode cX4_all 88 = .ok (.getfield 12, 3) := dk_180 0 12 (dk_at dksX4_all_3 18 rfl rfl)
theorem dX4_all_91 : decode cX4_all 91 = .ok (.getfield 164, 3) := dk_180 0 164 (dk_at dksX4_all_3 21 rfl rfl)
theorem dX4_all_94 : decode cX4_all 94 = .ok (.aload_n 0, 1) := dk_42 (dk_at dksX4_all_4 0 rfl rfl)
theorem dX4_all_95 : decode cX4_all 95 = .ok (.aload_n 1, 1) := dk_43 (dk_at dksX4_all_4 1 rfl rfl)
theorem dX4_all_96 : decode cX4_all 96 = .ok (.iload_n 2, 1) := dk_28 (dk_at dksX4_all_4 2 rfl rfl)
theorem dX4_all_97 : decode cX4_all 97 = .ok (.invokevirtual 169, 3) := dk_182 0 169 (dk_at dksX4_all_4 3 rfl rfl)
theorem dX4_all_100 : decode cX4_all 100 = .ok (.aastore, 1) := dk_83 (dk_at dksX4_all_4 6 rfl rfl)
theorem dX4_all_101 : decode cX4_all 101 = .ok (.aload_n 0, 1) := dk_42 (dk_at dksX4_all_4 7 rfl rfl)
theorem dX4_all_102 : decode cX4_all 102 = .ok (.getfield 12, 3) := dk_180 0 12 (dk_at dksX4_all_4 8 rfl rfl)
theorem dX4_all_105 : decode cX4_all 105 = .ok (.dup, 1) := dk_89 (dk_at dksX4_all_4 11 rfl rfl)
theorem dX4_all_106 : decode cX4_all 106 = .ok (.getfield 164, 3) := dk_180 0 164 (dk_at dksX4_all_4 12 rfl rfl)
theorem dX4_all_109 : decode cX4_all 109 = .ok (.iconst 1, 1) := dk_4 (dk_at dksX4_all_4 15 rfl rfl)
theorem dX4_all_110 : decode cX4_all 110 = .ok (.iadd, 1) := dk_96 (dk_at dksX4_all_4 16 rfl rfl)
theorem dX4_all_111 : decode cX4_all 111 = .ok (.putfield 164, 3) := dk_181 0 164 (dk_at dksX4_all_4 17 rfl rfl)
theorem dX4_all_114 : decode cX4_all 114 = .ok (.aload_n 0, 1) := dk_42 (dk_at dksX4_all_4 20 rfl rfl)
theorem dX4_all_115 : decode cX4_all 115 = .ok (.invokevirtual 92, 3) := dk_182 0 92 (dk_at dksX4_all_4 21 rfl rfl)
theorem dX4_all_118 : decode cX4_all 118 = .ok (.goto (-106), 3) := dk_167 255 150 (dk_at dksX4_all_5 0 rfl rfl)
theorem dX4_all_121 : decode cX4_all 121 = .ok (.aload_n 0, 1) := dk_42 (dk_at dksX4_all_5 3 rfl rfl)
theorem dX4_all_122 : decode cX4_all 122 = .ok (.getfield 12, 3) := dk_180 0 12 (dk_at dksX4_all_5 4 rfl rfl)
theorem dX4_all_125 : decode cX4_all 125 = .ok (.areturn, 1) := dk_176 (dk_at dksX4_all_5 7 rfl rfl)
abbrev cX4_here : ByteArray := prog_10_method_2_code
def yX4_here : MethodName := ⟨RX4, "here", "()I"⟩
def dkwX4_here_2 : List UInt8 := [162, 0, 19, 42, 180, 0, 18, 42, 180, 0, 26, 51, 17, 0, 255, 126, 167, 0, 4, 2, 172]
abbrev dktX4_here_2 : List UInt8 := dkwX4_here_2 ++ []
def dkwX4_here_1 : List UInt8 := [160, 0, 16, 42, 89, 180, 0, 26, 4, 96, 181, 0, 26, 167, 255, 221, 42, 180, 0, 26, 42, 180, 0, 22]
abbrev dktX4_here_1 : List UInt8 := dkwX4_here_1 ++ dktX4_here_2
def dkwX4_here_0 : List UInt8 := [42, 180, 0, 26, 42, 180, 0, 22, 162, 0, 30, 42, 180, 0, 18, 42, 180, 0, 26, 51, 16, 32]
abbrev dktX4_here_0 : List UInt8 := dkwX4_here_0 ++ dktX4_here_1
theorem dksX4_here_0 : cX4_here.data.toList.drop 0 = dktX4_here_0 := by decide +kernel
theorem dksX4_here_1 : cX4_here.data.toList.drop 22 = dktX4_here_1 := dk_seg dksX4_here_0 22 rfl rfl
theorem dksX4_here_2 : cX4_here.data.toList.drop 46 = dktX4_here_2 := dk_seg dksX4_here_1 24 rfl rfl
theorem dX4_here_0 : decode cX4_here 0 = .ok (.aload_n 0, 1) := dk_42 (dk_at dksX4_here_0 0 rfl rfl)
theorem dX4_here_1 : decode cX4_here 1 = .ok (.getfield 26, 3) := dk_180 0 26 (dk_at dksX4_here_0 1 rfl rfl)
theorem dX4_here_4 : decode cX4_here 4 = .ok (.aload_n 0, 1) := dk_42 (dk_at dksX4_here_0 4 rfl rfl)
theorem dX4_here_5 : decode cX4_here 5 = .ok (.getfield 22, 3) := dk_180 0 22 (dk_at dksX4_here_0 5 rfl rfl)
theorem dX4_here_8 : decode cX4_here 8 = .ok (.if_icmp .ge 30, 3) := dk_162 0 30 (dk_at dksX4_here_0 8 rfl rfl)
theorem dX4_here_11 : decode cX4_here 11 = .ok (.aload_n 0, 1) := dk_42 (dk_at dksX4_here_0 11 rfl rfl)
theorem dX4_here_12 : decode cX4_here 12 = .ok (.getfield 18, 3) := dk_180 0 18 (dk_at dksX4_here_0 12 rfl rfl)
theorem dX4_here_15 : decode cX4_here 15 = .ok (.aload_n 0, 1) := dk_42 (dk_at dksX4_here_0 15 rfl rfl)
theorem dX4_here_16 : decode cX4_here 16 = .ok (.getfield 26, 3) := dk_180 0 26 (dk_at dksX4_here_0 16 rfl rfl)
theorem dX4_here_19 : decode cX4_here 19 = .ok (.baload, 1) := dk_51 (dk_at dksX4_here_0 19 rfl rfl)
theorem dX4_here_20 : decode cX4_here 20 = .ok (.bipush 32, 2) := dk_16 32 (dk_at dksX4_here_0 20 rfl rfl)
theorem dX4_here_22 : decode cX4_here 22 = .ok (.if_icmp .ne 16, 3) := dk_160 0 16 (dk_at dksX4_here_1 0 rfl rfl)
theorem dX4_here_25 : decode cX4_here 25 = .ok (.aload_n 0, 1) := dk_42 (dk_at dksX4_here_1 3 rfl rfl)
theorem dX4_here_26 : decode cX4_here 26 = .ok (.dup, 1) := dk_89 (dk_at dksX4_here_1 4 rfl rfl)
theorem dX4_here_27 : decode cX4_here 27 = .ok (.getfield 26, 3) := dk_180 0 26 (dk_at dksX4_here_1 5 rfl rfl)
theorem dX4_here_30 : decode cX4_here 30 = .ok (.iconst 1, 1) := dk_4 (dk_at dksX4_here_1 8 rfl rfl)
theorem dX4_here_31 : decode cX4_here 31 = .ok (.iadd, 1) := dk_96 (dk_at dksX4_here_1 9 rfl rfl)
theorem dX4_here_32 : decode cX4_here 32 = .ok (.putfield 26, 3) := dk_181 0 26 (dk_at dksX4_here_1 10 rfl rfl)
theorem dX4_here_35 : decode cX4_here 35 = .ok (.goto (-35), 3) := dk_167 255 221 (dk_at dksX4_here_1 13 rfl rfl)
theorem dX4_here_38 : decode cX4_here 38 = .ok (.aload_n 0, 1) := dk_42 (dk_at dksX4_here_1 16 rfl rfl)
theorem dX4_here_39 : decode cX4_here 39 = .ok (.getfield 26, 3) := dk_180 0 26 (dk_at dksX4_here_1 17 rfl rfl)
theorem dX4_here_42 : decode cX4_here 42 = .ok (.aload_n 0, 1) := dk_42 (dk_at dksX4_here_1 20 rfl rfl)
theorem dX4_here_43 : decode cX4_here 43 = .ok (.getfield 22, 3) := dk_180 0 22 (dk_at dksX4_here_1 21 rfl rfl)
theorem dX4_here_46 : decode cX4_here 46 = .ok (.if_icmp .ge 19, 3) := dk_162 0 19 (dk_at dksX4_here_2 0 rfl rfl)
theorem dX4_here_49 : decode cX4_here 49 = .ok (.aload_n 0, 1) := dk_42 (dk_at dksX4_here_2 3 rfl rfl)
theorem dX4_here_50 : decode cX4_here 50 = .ok (.getfield 18, 3) := dk_180 0 18 (dk_at dksX4_here_2 4 rfl rfl)
theorem dX4_here_53 : decode cX4_here 53 = .ok (.aload_n 0, 1) := dk_42 (dk_at dksX4_here_2 7 rfl rfl)
theorem dX4_here_54 : decode cX4_here 54 = .ok (.getfield 26, 3) := dk_180 0 26 (dk_at dksX4_here_2 8 rfl rfl)
theorem dX4_here_57 : decode cX4_here 57 = .ok (.baload, 1) := dk_51 (dk_at dksX4_here_2 11 rfl rfl)
theorem dX4_here_58 : decode cX4_here 58 = .ok (.sipush 255, 3) := dk_17 0 255 (dk_at dksX4_here_2 12 rfl rfl)
theorem dX4_here_61 : decode cX4_here 61 = .ok (.iand, 1) := dk_126 (dk_at dksX4_here_2 15 rfl rfl)
theorem dX4_here_62 : decode cX4_here 62 = .ok (.goto 4, 3) := dk_167 0 4 (dk_at dksX4_here_2 16 rfl rfl)
theorem dX4_here_65 : decode cX4_here 65 = .ok (.iconst (-1), 1) := dk_2 (dk_at dksX4_here_2 19 rfl rfl)
theorem dX4_here_66 : decode cX4_here 66 = .ok (.ireturn, 1) := dk_172 (dk_at dksX4_here_2 20 rfl rfl)
abbrev cX4_dial : ByteArray := prog_10_method_7_code
def yX4_dial : MethodName := ⟨RX4, "dial", "()V"⟩
def dkwX4_dial_6 : List UInt8 := [183, 0, 86, 181, 0, 89, 42, 182, 0, 92, 177]
abbrev dktX4_dial_6 : List UInt8 := dkwX4_dial_6 ++ []
def dkwX4_dial_5 : List UInt8 := [187, 0, 84, 89, 43, 18, 77, 182, 0, 71, 153, 0, 7, 3, 167, 0, 4, 4, 28, 29, 21, 4]
abbrev dktX4_dial_5 : List UInt8 := dkwX4_dial_5 ++ dktX4_dial_6
def dkwX4_dial_4 : List UInt8 := [21, 4, 16, 100, 163, 0, 7, 4, 167, 0, 4, 3, 5, 42, 180, 0, 41, 184, 0, 56, 42, 180, 0, 12]
abbrev dktX4_dial_4 : List UInt8 := dkwX4_dial_4 ++ dktX4_dial_5
def dkwX4_dial_3 : List UInt8 := [54, 4, 3, 54, 5, 21, 5, 29, 162, 0, 15, 21, 4, 28, 104, 54, 4, 132, 5, 1, 167, 255, 241]
abbrev dktX4_dial_3 : List UInt8 := dkwX4_dial_3 ++ dktX4_dial_4
def dkwX4_dial_2 : List UInt8 := [180, 0, 41, 184, 0, 56, 42, 5, 16, 10, 182, 0, 81, 61, 42, 4, 16, 6, 182, 0, 81, 62, 4]
abbrev dktX4_dial_2 : List UInt8 := dkwX4_dial_2 ++ dktX4_dial_3
def dkwX4_dial_1 : List UInt8 := [18, 77, 182, 0, 71, 154, 0, 12, 43, 18, 79, 182, 0, 71, 153, 0, 7, 4, 167, 0, 4, 3, 4, 42]
abbrev dktX4_dial_1 : List UInt8 := dkwX4_dial_1 ++ dktX4_dial_2
def dkwX4_dial_0 : List UInt8 := [42, 182, 0, 66, 18, 69, 182, 0, 71, 4, 42, 180, 0, 41, 184, 0, 56, 42, 182, 0, 66, 76, 43]
abbrev dktX4_dial_0 : List UInt8 := dkwX4_dial_0 ++ dktX4_dial_1
theorem dksX4_dial_0 : cX4_dial.data.toList.drop 0 = dktX4_dial_0 := by decide +kernel
theorem dksX4_dial_1 : cX4_dial.data.toList.drop 23 = dktX4_dial_1 := dk_seg dksX4_dial_0 23 rfl rfl
theorem dksX4_dial_2 : cX4_dial.data.toList.drop 47 = dktX4_dial_2 := dk_seg dksX4_dial_1 24 rfl rfl
theorem dksX4_dial_3 : cX4_dial.data.toList.drop 70 = dktX4_dial_3 := dk_seg dksX4_dial_2 23 rfl rfl
theorem dksX4_dial_4 : cX4_dial.data.toList.drop 93 = dktX4_dial_4 := dk_seg dksX4_dial_3 23 rfl rfl
theorem dksX4_dial_5 : cX4_dial.data.toList.drop 117 = dktX4_dial_5 := dk_seg dksX4_dial_4 24 rfl rfl
theorem dksX4_dial_6 : cX4_dial.data.toList.drop 139 = dktX4_dial_6 := dk_seg dksX4_dial_5 22 rfl rfl
theorem dX4_dial_0 : decode cX4_dial 0 = .ok (.aload_n 0, 1) := dk_42 (dk_at dksX4_dial_0 0 rfl rfl)
theorem dX4_dial_1 : decode cX4_dial 1 = .ok (.invokevirtual 66, 3) := dk_182 0 66 (dk_at dksX4_dial_0 1 rfl rfl)
theorem dX4_dial_4 : decode cX4_dial 4 = .ok (.ldc 69, 2) := dk_18 69 (dk_at dksX4_dial_0 4 rfl rfl)
theorem dX4_dial_6 : decode cX4_dial 6 = .ok (.invokevirtual 71, 3) := dk_182 0 71 (dk_at dksX4_dial_0 6 rfl rfl)
theorem dX4_dial_9 : decode cX4_dial 9 = .ok (.iconst 1, 1) := dk_4 (dk_at dksX4_dial_0 9 rfl rfl)
theorem dX4_dial_10 : decode cX4_dial 10 = .ok (.aload_n 0, 1) := dk_42 (dk_at dksX4_dial_0 10 rfl rfl)
theorem dX4_dial_11 : decode cX4_dial 11 = .ok (.getfield 41, 3) := dk_180 0 41 (dk_at dksX4_dial_0 11 rfl rfl)
theorem dX4_dial_14 : decode cX4_dial 14 = .ok (.invokestatic 56, 3) := dk_184 0 56 (dk_at dksX4_dial_0 14 rfl rfl)
theorem dX4_dial_17 : decode cX4_dial 17 = .ok (.aload_n 0, 1) := dk_42 (dk_at dksX4_dial_0 17 rfl rfl)
theorem dX4_dial_18 : decode cX4_dial 18 = .ok (.invokevirtual 66, 3) := dk_182 0 66 (dk_at dksX4_dial_0 18 rfl rfl)
theorem dX4_dial_21 : decode cX4_dial 21 = .ok (.astore_n 1, 1) := dk_76 (dk_at dksX4_dial_0 21 rfl rfl)
theorem dX4_dial_22 : decode cX4_dial 22 = .ok (.aload_n 1, 1) := dk_43 (dk_at dksX4_dial_0 22 rfl rfl)
theorem dX4_dial_23 : decode cX4_dial 23 = .ok (.ldc 77, 2) := dk_18 77 (dk_at dksX4_dial_1 0 rfl rfl)
theorem dX4_dial_25 : decode cX4_dial 25 = .ok (.invokevirtual 71, 3) := dk_182 0 71 (dk_at dksX4_dial_1 2 rfl rfl)
theorem dX4_dial_28 : decode cX4_dial 28 = .ok (.ifCond .ne 12, 3) := dk_154 0 12 (dk_at dksX4_dial_1 5 rfl rfl)
theorem dX4_dial_31 : decode cX4_dial 31 = .ok (.aload_n 1, 1) := dk_43 (dk_at dksX4_dial_1 8 rfl rfl)
theorem dX4_dial_32 : decode cX4_dial 32 = .ok (.ldc 79, 2) := dk_18 79 (dk_at dksX4_dial_1 9 rfl rfl)
theorem dX4_dial_34 : decode cX4_dial 34 = .ok (.invokevirtual 71, 3) := dk_182 0 71 (dk_at dksX4_dial_1 11 rfl rfl)
theorem dX4_dial_37 : decode cX4_dial 37 = .ok (.ifCond .eq 7, 3) := dk_153 0 7 (dk_at dksX4_dial_1 14 rfl rfl)
theorem dX4_dial_40 : decode cX4_dial 40 = .ok (.iconst 1, 1) := dk_4 (dk_at dksX4_dial_1 17 rfl rfl)
theorem dX4_dial_41 : decode cX4_dial 41 = .ok (.goto 4, 3) := dk_167 0 4 (dk_at dksX4_dial_1 18 rfl rfl)
theorem dX4_dial_44 : decode cX4_dial 44 = .ok (.iconst 0, 1) := dk_3 (dk_at dksX4_dial_1 21 rfl rfl)
theorem dX4_dial_45 : decode cX4_dial 45 = .ok (.iconst 1, 1) := dk_4 (dk_at dksX4_dial_1 22 rfl rfl)
theorem dX4_dial_46 : decode cX4_dial 46 = .ok (.aload_n 0, 1) := dk_42 (dk_at dksX4_dial_1 23 rfl rfl)
theorem dX4_dial_47 : decode cX4_dial 47 = .ok (.getfield 41, 3) := dk_180 0 41 (dk_at dksX4_dial_2 0 rfl rfl)
theorem dX4_dial_50 : decode cX4_dial 50 = .ok (.invokestatic 56, 3) := dk_184 0 56 (dk_at dksX4_dial_2 3 rfl rfl)
theorem dX4_dial_53 : decode cX4_dial 53 = .ok (.aload_n 0, 1) := dk_42 (dk_at dksX4_dial_2 6 rfl rfl)
theorem dX4_dial_54 : decode cX4_dial 54 = .ok (.iconst 2, 1) := dk_5 (dk_at dksX4_dial_2 7 rfl rfl)
theorem dX4_dial_55 : decode cX4_dial 55 = .ok (.bipush 10, 2) := dk_16 10 (dk_at dksX4_dial_2 8 rfl rfl)
theorem dX4_dial_57 : decode cX4_dial 57 = .ok (.invokevirtual 81, 3) := dk_182 0 81 (dk_at dksX4_dial_2 10 rfl rfl)
theorem dX4_dial_60 : decode cX4_dial 60 = .ok (.istore_n 2, 1) := dk_61 (dk_at dksX4_dial_2 13 rfl rfl)
theorem dX4_dial_61 : decode cX4_dial 61 = .ok (.aload_n 0, 1) := dk_42 (dk_at dksX4_dial_2 14 rfl rfl)
theorem dX4_dial_62 : decode cX4_dial 62 = .ok (.iconst 1, 1) := dk_4 (dk_at dksX4_dial_2 15 rfl rfl)
theorem dX4_dial_63 : decode cX4_dial 63 = .ok (.bipush 6, 2) := dk_16 6 (dk_at dksX4_dial_2 16 rfl rfl)
theorem dX4_dial_65 : decode cX4_dial 65 = .ok (.invokevirtual 81, 3) := dk_182 0 81 (dk_at dksX4_dial_2 18 rfl rfl)
theorem dX4_dial_68 : decode cX4_dial 68 = .ok (.istore_n 3, 1) := dk_62 (dk_at dksX4_dial_2 21 rfl rfl)
theorem dX4_dial_69 : decode cX4_dial 69 = .ok (.iconst 1, 1) := dk_4 (dk_at dksX4_dial_2 22 rfl rfl)
theorem dX4_dial_70 : decode cX4_dial 70 = .ok (.istore 4, 2) := dk_54 4 (dk_at dksX4_dial_3 0 rfl rfl)
theorem dX4_dial_72 : decode cX4_dial 72 = .ok (.iconst 0, 1) := dk_3 (dk_at dksX4_dial_3 2 rfl rfl)
theorem dX4_dial_73 : decode cX4_dial 73 = .ok (.istore 5, 2) := dk_54 5 (dk_at dksX4_dial_3 3 rfl rfl)
theorem dX4_dial_75 : decode cX4_dial 75 = .ok (.iload 5, 2) := dk_21 5 (dk_at dksX4_dial_3 5 rfl rfl)
theorem dX4_dial_77 : decode cX4_dial 77 = .ok (.iload_n 3, 1) := dk_29 (dk_at dksX4_dial_3 7 rfl rfl)
theorem dX4_dial_78 : decode cX4_dial 78 = .ok (.if_icmp .ge 15, 3) := dk_162 0 15 (dk_at dksX4_dial_3 8 rfl rfl)
theorem dX4_dial_81 : decode cX4_dial 81 = .ok (.iload 4, 2) := dk_21 4 (dk_at dksX4_dial_3 11 rfl rfl)
theorem dX4_dial_83 : decode cX4_dial 83 = .ok (.iload_n 2, 1) := dk_28 (dk_at dksX4_dial_3 13 rfl rfl)
theorem dX4_dial_84 : decode cX4_dial 84 = .ok (.imul, 1) := dk_104 (dk_at dksX4_dial_3 14 rfl rfl)
theorem dX4_dial_85 : decode cX4_dial 85 = .ok (.istore 4, 2) := dk_54 4 (dk_at dksX4_dial_3 15 rfl rfl)
theorem dX4_dial_87 : decode cX4_dial 87 = .ok (.iinc 5 1, 3) := dk_132 5 1 (dk_at dksX4_dial_3 17 rfl rfl)
theorem dX4_dial_90 : decode cX4_dial 90 = .ok (.goto (-15), 3) := dk_167 255 241 (dk_at dksX4_dial_3 20 rfl rfl)
theorem dX4_dial_93 : decode cX4_dial 93 = .ok (.iload 4, 2) := dk_21 4 (dk_at dksX4_dial_4 0 rfl rfl)
theorem dX4_dial_95 : decode cX4_dial 95 = .ok (.bipush 100, 2) := dk_16 100 (dk_at dksX4_dial_4 2 rfl rfl)
theorem dX4_dial_97 : decode cX4_dial 97 = .ok (.if_icmp .gt 7, 3) := dk_163 0 7 (dk_at dksX4_dial_4 4 rfl rfl)
theorem dX4_dial_100 : decode cX4_dial 100 = .ok (.iconst 1, 1) := dk_4 (dk_at dksX4_dial_4 7 rfl rfl)
theorem dX4_dial_101 : decode cX4_dial 101 = .ok (.goto 4, 3) := dk_167 0 4 (dk_at dksX4_dial_4 8 rfl rfl)
theorem dX4_dial_104 : decode cX4_dial 104 = .ok (.iconst 0, 1) := dk_3 (dk_at dksX4_dial_4 11 rfl rfl)
theorem dX4_dial_105 : decode cX4_dial 105 = .ok (.iconst 2, 1) := dk_5 (dk_at dksX4_dial_4 12 rfl rfl)
theorem dX4_dial_106 : decode cX4_dial 106 = .ok (.aload_n 0, 1) := dk_42 (dk_at dksX4_dial_4 13 rfl rfl)
theorem dX4_dial_107 : decode cX4_dial 107 = .ok (.getfield 41, 3) := dk_180 0 41 (dk_at dksX4_dial_4 14 rfl rfl)
theorem dX4_dial_110 : decode cX4_dial 110 = .ok (.invokestatic 56, 3) := dk_184 0 56 (dk_at dksX4_dial_4 17 rfl rfl)
theorem dX4_dial_113 : decode cX4_dial 113 = .ok (.aload_n 0, 1) := dk_42 (dk_at dksX4_dial_4 20 rfl rfl)
theorem dX4_dial_114 : decode cX4_dial 114 = .ok (.getfield 12, 3) := dk_180 0 12 (dk_at dksX4_dial_4 21 rfl rfl)
theorem dX4_dial_117 : decode cX4_dial 117 = .ok (.new 84, 3) := dk_187 0 84 (dk_at dksX4_dial_5 0 rfl rfl)
theorem dX4_dial_120 : decode cX4_dial 120 = .ok (.dup, 1) := dk_89 (dk_at dksX4_dial_5 3 rfl rfl)
theorem dX4_dial_121 : decode cX4_dial 121 = .ok (.aload_n 1, 1) := dk_43 (dk_at dksX4_dial_5 4 rfl rfl)
theorem dX4_dial_122 : decode cX4_dial 122 = .ok (.ldc 77, 2) := dk_18 77 (dk_at dksX4_dial_5 5 rfl rfl)
theorem dX4_dial_124 : decode cX4_dial 124 = .ok (.invokevirtual 71, 3) := dk_182 0 71 (dk_at dksX4_dial_5 7 rfl rfl)
theorem dX4_dial_127 : decode cX4_dial 127 = .ok (.ifCond .eq 7, 3) := dk_153 0 7 (dk_at dksX4_dial_5 10 rfl rfl)
theorem dX4_dial_130 : decode cX4_dial 130 = .ok (.iconst 0, 1) := dk_3 (dk_at dksX4_dial_5 13 rfl rfl)
theorem dX4_dial_131 : decode cX4_dial 131 = .ok (.goto 4, 3) := dk_167 0 4 (dk_at dksX4_dial_5 14 rfl rfl)
theorem dX4_dial_134 : decode cX4_dial 134 = .ok (.iconst 1, 1) := dk_4 (dk_at dksX4_dial_5 17 rfl rfl)
theorem dX4_dial_135 : decode cX4_dial 135 = .ok (.iload_n 2, 1) := dk_28 (dk_at dksX4_dial_5 18 rfl rfl)
theorem dX4_dial_136 : decode cX4_dial 136 = .ok (.iload_n 3, 1) := dk_29 (dk_at dksX4_dial_5 19 rfl rfl)
theorem dX4_dial_137 : decode cX4_dial 137 = .ok (.iload 4, 2) := dk_21 4 (dk_at dksX4_dial_5 20 rfl rfl)
theorem dX4_dial_139 : decode cX4_dial 139 = .ok (.invokespecial 86, 3) := dk_183 0 86 (dk_at dksX4_dial_6 0 rfl rfl)
theorem dX4_dial_142 : decode cX4_dial 142 = .ok (.putfield 89, 3) := dk_181 0 89 (dk_at dksX4_dial_6 3 rfl rfl)
theorem dX4_dial_145 : decode cX4_dial 145 = .ok (.aload_n 0, 1) := dk_42 (dk_at dksX4_dial_6 6 rfl rfl)
theorem dX4_dial_146 : decode cX4_dial 146 = .ok (.invokevirtual 92, 3) := dk_182 0 92 (dk_at dksX4_dial_6 7 rfl rfl)
theorem dX4_dial_149 : decode cX4_dial 149 = .ok (.return_, 1) := dk_177 (dk_at dksX4_dial_6 10 rfl rfl)
abbrev cX4_word : ByteArray := prog_10_method_4_code
def yX4_word : MethodName := ⟨RX4, "word", "()Ljava/lang/String;"⟩
def dkwX4_word_3 : List UInt8 := [180, 0, 26, 4, 96, 181, 0, 26, 167, 255, 201, 43, 182, 0, 52, 176]
abbrev dktX4_word_3 : List UInt8 := dkwX4_word_3 ++ []
def dkwX4_word_2 : List UInt8 := [184, 0, 44, 153, 0, 31, 43, 42, 180, 0, 18, 42, 180, 0, 26, 51, 146, 182, 0, 48, 87, 42, 89]
abbrev dktX4_word_2 : List UInt8 := dkwX4_word_2 ++ dktX4_word_3
def dkwX4_word_1 : List UInt8 := [180, 0, 26, 42, 180, 0, 22, 162, 0, 50, 42, 180, 0, 18, 42, 180, 0, 26, 51, 16, 97, 16, 122]
abbrev dktX4_word_1 : List UInt8 := dkwX4_word_1 ++ dktX4_word_2
def dkwX4_word_0 : List UInt8 := [187, 0, 34, 89, 183, 0, 36, 76, 42, 182, 0, 37, 61, 42, 42, 180, 0, 26, 181, 0, 41, 42]
abbrev dktX4_word_0 : List UInt8 := dkwX4_word_0 ++ dktX4_word_1
theorem dksX4_word_0 : cX4_word.data.toList.drop 0 = dktX4_word_0 := by decide +kernel
theorem dksX4_word_1 : cX4_word.data.toList.drop 22 = dktX4_word_1 := dk_seg dksX4_word_0 22 rfl rfl
theorem dksX4_word_2 : cX4_word.data.toList.drop 45 = dktX4_word_2 := dk_seg dksX4_word_1 23 rfl rfl
theorem dksX4_word_3 : cX4_word.data.toList.drop 68 = dktX4_word_3 := dk_seg dksX4_word_2 23 rfl rfl
theorem dX4_word_0 : decode cX4_word 0 = .ok (.new 34, 3) := dk_187 0 34 (dk_at dksX4_word_0 0 rfl rfl)
theorem dX4_word_3 : decode cX4_word 3 = .ok (.dup, 1) := dk_89 (dk_at dksX4_word_0 3 rfl rfl)
theorem dX4_word_4 : decode cX4_word 4 = .ok (.invokespecial 36, 3) := dk_183 0 36 (dk_at dksX4_word_0 4 rfl rfl)
theorem dX4_word_7 : decode cX4_word 7 = .ok (.astore_n 1, 1) := dk_76 (dk_at dksX4_word_0 7 rfl rfl)
theorem dX4_word_8 : decode cX4_word 8 = .ok (.aload_n 0, 1) := dk_42 (dk_at dksX4_word_0 8 rfl rfl)
theorem dX4_word_9 : decode cX4_word 9 = .ok (.invokevirtual 37, 3) := dk_182 0 37 (dk_at dksX4_word_0 9 rfl rfl)
theorem dX4_word_12 : decode cX4_word 12 = .ok (.istore_n 2, 1) := dk_61 (dk_at dksX4_word_0 12 rfl rfl)
theorem dX4_word_13 : decode cX4_word 13 = .ok (.aload_n 0, 1) := dk_42 (dk_at dksX4_word_0 13 rfl rfl)
theorem dX4_word_14 : decode cX4_word 14 = .ok (.aload_n 0, 1) := dk_42 (dk_at dksX4_word_0 14 rfl rfl)
theorem dX4_word_15 : decode cX4_word 15 = .ok (.getfield 26, 3) := dk_180 0 26 (dk_at dksX4_word_0 15 rfl rfl)
theorem dX4_word_18 : decode cX4_word 18 = .ok (.putfield 41, 3) := dk_181 0 41 (dk_at dksX4_word_0 18 rfl rfl)
theorem dX4_word_21 : decode cX4_word 21 = .ok (.aload_n 0, 1) := dk_42 (dk_at dksX4_word_0 21 rfl rfl)
theorem dX4_word_22 : decode cX4_word 22 = .ok (.getfield 26, 3) := dk_180 0 26 (dk_at dksX4_word_1 0 rfl rfl)
theorem dX4_word_25 : decode cX4_word 25 = .ok (.aload_n 0, 1) := dk_42 (dk_at dksX4_word_1 3 rfl rfl)
theorem dX4_word_26 : decode cX4_word 26 = .ok (.getfield 22, 3) := dk_180 0 22 (dk_at dksX4_word_1 4 rfl rfl)
theorem dX4_word_29 : decode cX4_word 29 = .ok (.if_icmp .ge 50, 3) := dk_162 0 50 (dk_at dksX4_word_1 7 rfl rfl)
theorem dX4_word_32 : decode cX4_word 32 = .ok (.aload_n 0, 1) := dk_42 (dk_at dksX4_word_1 10 rfl rfl)
theorem dX4_word_33 : decode cX4_word 33 = .ok (.getfield 18, 3) := dk_180 0 18 (dk_at dksX4_word_1 11 rfl rfl)
theorem dX4_word_36 : decode cX4_word 36 = .ok (.aload_n 0, 1) := dk_42 (dk_at dksX4_word_1 14 rfl rfl)
theorem dX4_word_37 : decode cX4_word 37 = .ok (.getfield 26, 3) := dk_180 0 26 (dk_at dksX4_word_1 15 rfl rfl)
theorem dX4_word_40 : decode cX4_word 40 = .ok (.baload, 1) := dk_51 (dk_at dksX4_word_1 18 rfl rfl)
theorem dX4_word_41 : decode cX4_word 41 = .ok (.bipush 97, 2) := dk_16 97 (dk_at dksX4_word_1 19 rfl rfl)
theorem dX4_word_43 : decode cX4_word 43 = .ok (.bipush 122, 2) := dk_16 122 (dk_at dksX4_word_1 21 rfl rfl)
theorem dX4_word_45 : decode cX4_word 45 = .ok (.invokestatic 44, 3) := dk_184 0 44 (dk_at dksX4_word_2 0 rfl rfl)
theorem dX4_word_48 : decode cX4_word 48 = .ok (.ifCond .eq 31, 3) := dk_153 0 31 (dk_at dksX4_word_2 3 rfl rfl)
theorem dX4_word_51 : decode cX4_word 51 = .ok (.aload_n 1, 1) := dk_43 (dk_at dksX4_word_2 6 rfl rfl)
theorem dX4_word_52 : decode cX4_word 52 = .ok (.aload_n 0, 1) := dk_42 (dk_at dksX4_word_2 7 rfl rfl)
theorem dX4_word_53 : decode cX4_word 53 = .ok (.getfield 18, 3) := dk_180 0 18 (dk_at dksX4_word_2 8 rfl rfl)
theorem dX4_word_56 : decode cX4_word 56 = .ok (.aload_n 0, 1) := dk_42 (dk_at dksX4_word_2 11 rfl rfl)
theorem dX4_word_57 : decode cX4_word 57 = .ok (.getfield 26, 3) := dk_180 0 26 (dk_at dksX4_word_2 12 rfl rfl)
theorem dX4_word_60 : decode cX4_word 60 = .ok (.baload, 1) := dk_51 (dk_at dksX4_word_2 15 rfl rfl)
theorem dX4_word_61 : decode cX4_word 61 = .ok (.i2c, 1) := dk_146 (dk_at dksX4_word_2 16 rfl rfl)
theorem dX4_word_62 : decode cX4_word 62 = .ok (.invokevirtual 48, 3) := dk_182 0 48 (dk_at dksX4_word_2 17 rfl rfl)
theorem dX4_word_65 : decode cX4_word 65 = .ok (.pop, 1) := dk_87 (dk_at dksX4_word_2 20 rfl rfl)
theorem dX4_word_66 : decode cX4_word 66 = .ok (.aload_n 0, 1) := dk_42 (dk_at dksX4_word_2 21 rfl rfl)
theorem dX4_word_67 : decode cX4_word 67 = .ok (.dup, 1) := dk_89 (dk_at dksX4_word_2 22 rfl rfl)
theorem dX4_word_68 : decode cX4_word 68 = .ok (.getfield 26, 3) := dk_180 0 26 (dk_at dksX4_word_3 0 rfl rfl)
theorem dX4_word_71 : decode cX4_word 71 = .ok (.iconst 1, 1) := dk_4 (dk_at dksX4_word_3 3 rfl rfl)
theorem dX4_word_72 : decode cX4_word 72 = .ok (.iadd, 1) := dk_96 (dk_at dksX4_word_3 4 rfl rfl)
theorem dX4_word_73 : decode cX4_word 73 = .ok (.putfield 26, 3) := dk_181 0 26 (dk_at dksX4_word_3 5 rfl rfl)
theorem dX4_word_76 : decode cX4_word 76 = .ok (.goto (-55), 3) := dk_167 255 201 (dk_at dksX4_word_3 8 rfl rfl)
theorem dX4_word_79 : decode cX4_word 79 = .ok (.aload_n 1, 1) := dk_43 (dk_at dksX4_word_3 11 rfl rfl)
theorem dX4_word_80 : decode cX4_word 80 = .ok (.invokevirtual 52, 3) := dk_182 0 52 (dk_at dksX4_word_3 12 rfl rfl)
theorem dX4_word_83 : decode cX4_word 83 = .ok (.areturn, 1) := dk_176 (dk_at dksX4_word_3 15 rfl rfl)
abbrev cX4_want : ByteArray := prog_10_method_3_code
def yX4_want : MethodName := ⟨RX4, "want", "(ZII)V"⟩
def dkwX4_want_0 : List UInt8 := [26, 154, 0, 13, 187, 0, 29, 89, 27, 28, 183, 0, 31, 191, 177]
abbrev dktX4_want_0 : List UInt8 := dkwX4_want_0 ++ []
theorem dksX4_want_0 : cX4_want.data.toList.drop 0 = dktX4_want_0 := by decide +kernel
theorem dX4_want_0 : decode cX4_want 0 = .ok (.iload_n 0, 1) := dk_26 (dk_at dksX4_want_0 0 rfl rfl)
theorem dX4_want_1 : decode cX4_want 1 = .ok (.ifCond .ne 13, 3) := dk_154 0 13 (dk_at dksX4_want_0 1 rfl rfl)
theorem dX4_want_4 : decode cX4_want 4 = .ok (.new 29, 3) := dk_187 0 29 (dk_at dksX4_want_0 4 rfl rfl)
theorem dX4_want_7 : decode cX4_want 7 = .ok (.dup, 1) := dk_89 (dk_at dksX4_want_0 7 rfl rfl)
theorem dX4_want_8 : decode cX4_want 8 = .ok (.iload_n 1, 1) := dk_27 (dk_at dksX4_want_0 8 rfl rfl)
theorem dX4_want_9 : decode cX4_want 9 = .ok (.iload_n 2, 1) := dk_28 (dk_at dksX4_want_0 9 rfl rfl)
theorem dX4_want_10 : decode cX4_want 10 = .ok (.invokespecial 31, 3) := dk_183 0 31 (dk_at dksX4_want_0 10 rfl rfl)
theorem dX4_want_13 : decode cX4_want 13 = .ok (.athrow, 1) := dk_191 (dk_at dksX4_want_0 13 rfl rfl)
theorem dX4_want_14 : decode cX4_want 14 = .ok (.return_, 1) := dk_177 (dk_at dksX4_want_0 14 rfl rfl)
abbrev cX4_number : ByteArray := prog_10_method_5_code
def yX4_number : MethodName := ⟨RX4, "number", "(II)I"⟩
def dkwX4_number_5 : List UInt8 := [153, 0, 7, 4, 167, 0, 4, 3, 5, 42, 180, 0, 41, 184, 0, 56, 29, 172]
abbrev dktX4_number_5 : List UInt8 := dkwX4_number_5 ++ []
def dkwX4_number_4 : List UInt8 := [167, 255, 192, 42, 180, 0, 26, 42, 180, 0, 41, 6, 96, 163, 0, 16, 29, 27, 28, 184, 0, 44]
abbrev dktX4_number_4 : List UInt8 := dkwX4_number_4 ++ dktX4_number_5
def dkwX4_number_3 : List UInt8 := [180, 0, 26, 51, 96, 16, 48, 100, 184, 0, 60, 62, 42, 89, 180, 0, 26, 4, 96, 181, 0, 26]
abbrev dktX4_number_3 : List UInt8 := dkwX4_number_3 ++ dktX4_number_4
def dkwX4_number_2 : List UInt8 := [51, 16, 48, 16, 57, 184, 0, 44, 153, 0, 40, 17, 39, 15, 16, 10, 29, 104, 42, 180, 0, 18, 42]
abbrev dktX4_number_2 : List UInt8 := dkwX4_number_2 ++ dktX4_number_3
def dkwX4_number_1 : List UInt8 := [181, 0, 41, 3, 62, 42, 180, 0, 26, 42, 180, 0, 22, 162, 0, 59, 42, 180, 0, 18, 42, 180, 0, 26]
abbrev dktX4_number_1 : List UInt8 := dkwX4_number_1 ++ dktX4_number_2
def dkwX4_number_0 : List UInt8 := [42, 182, 0, 37, 16, 48, 16, 57, 184, 0, 44, 4, 42, 180, 0, 26, 184, 0, 56, 42, 42, 180, 0, 26]
abbrev dktX4_number_0 : List UInt8 := dkwX4_number_0 ++ dktX4_number_1
theorem dksX4_number_0 : cX4_number.data.toList.drop 0 = dktX4_number_0 := by decide +kernel
theorem dksX4_number_1 : cX4_number.data.toList.drop 24 = dktX4_number_1 := dk_seg dksX4_number_0 24 rfl rfl
theorem dksX4_number_2 : cX4_number.data.toList.drop 48 = dktX4_number_2 := dk_seg dksX4_number_1 24 rfl rfl
theorem dksX4_number_3 : cX4_number.data.toList.drop 71 = dktX4_number_3 := dk_seg dksX4_number_2 23 rfl rfl
theorem dksX4_number_4 : cX4_number.data.toList.drop 93 = dktX4_number_4 := dk_seg dksX4_number_3 22 rfl rfl
theorem dksX4_number_5 : cX4_number.data.toList.drop 115 = dktX4_number_5 := dk_seg dksX4_number_4 22 rfl rfl
theorem dX4_number_0 : decode cX4_number 0 = .ok (.aload_n 0, 1) := dk_42 (dk_at dksX4_number_0 0 rfl rfl)
theorem dX4_number_1 : decode cX4_number 1 = .ok (.invokevirtual 37, 3) := dk_182 0 37 (dk_at dksX4_number_0 1 rfl rfl)
theorem dX4_number_4 : decode cX4_number 4 = .ok (.bipush 48, 2) := dk_16 48 (dk_at dksX4_number_0 4 rfl rfl)
theorem dX4_number_6 : decode cX4_number 6 = .ok (.bipush 57, 2) := dk_16 57 (dk_at dksX4_number_0 6 rfl rfl)
theorem dX4_number_8 : decode cX4_number 8 = .ok (.invokestatic 44, 3) := dk_184 0 44 (dk_at dksX4_number_0 8 rfl rfl)
theorem dX4_number_11 : decode cX4_number 11 = .ok (.iconst 1, 1) := dk_4 (dk_at dksX4_number_0 11 rfl rfl)
theorem dX4_number_12 : decode cX4_number 12 = .ok (.aload_n 0, 1) := dk_42 (dk_at dksX4_number_0 12 rfl rfl)
theorem dX4_number_13 : decode cX4_number 13 = .ok (.getfield 26, 3) := dk_180 0 26 (dk_at dksX4_number_0 13 rfl rfl)
theorem dX4_number_16 : decode cX4_number 16 = .ok (.invokestatic 56, 3) := dk_184 0 56 (dk_at dksX4_number_0 16 rfl rfl)
theorem dX4_number_19 : decode cX4_number 19 = .ok (.aload_n 0, 1) := dk_42 (dk_at dksX4_number_0 19 rfl rfl)
theorem dX4_number_20 : decode cX4_number 20 = .ok (.aload_n 0, 1) := dk_42 (dk_at dksX4_number_0 20 rfl rfl)
theorem dX4_number_21 : decode cX4_number 21 = .ok (.getfield 26, 3) := dk_180 0 26 (dk_at dksX4_number_0 21 rfl rfl)
theorem dX4_number_24 : decode cX4_number 24 = .ok (.putfield 41, 3) := dk_181 0 41 (dk_at dksX4_number_1 0 rfl rfl)
theorem dX4_number_27 : decode cX4_number 27 = .ok (.iconst 0, 1) := dk_3 (dk_at dksX4_number_1 3 rfl rfl)
theorem dX4_number_28 : decode cX4_number 28 = .ok (.istore_n 3, 1) := dk_62 (dk_at dksX4_number_1 4 rfl rfl)
theorem dX4_number_29 : decode cX4_number 29 = .ok (.aload_n 0, 1) := dk_42 (dk_at dksX4_number_1 5 rfl rfl)
theorem dX4_number_30 : decode cX4_number 30 = .ok (.getfield 26, 3) := dk_180 0 26 (dk_at dksX4_number_1 6 rfl rfl)
theorem dX4_number_33 : decode cX4_number 33 = .ok (.aload_n 0, 1) := dk_42 (dk_at dksX4_number_1 9 rfl rfl)
theorem dX4_number_34 : decode cX4_number 34 = .ok (.getfield 22, 3) := dk_180 0 22 (dk_at dksX4_number_1 10 rfl rfl)
theorem dX4_number_37 : decode cX4_number 37 = .ok (.if_icmp .ge 59, 3) := dk_162 0 59 (dk_at dksX4_number_1 13 rfl rfl)
theorem dX4_number_40 : decode cX4_number 40 = .ok (.aload_n 0, 1) := dk_42 (dk_at dksX4_number_1 16 rfl rfl)
theorem dX4_number_41 : decode cX4_number 41 = .ok (.getfield 18, 3) := dk_180 0 18 (dk_at dksX4_number_1 17 rfl rfl)
theorem dX4_number_44 : decode cX4_number 44 = .ok (.aload_n 0, 1) := dk_42 (dk_at dksX4_number_1 20 rfl rfl)
theorem dX4_number_45 : decode cX4_number 45 = .ok (.getfield 26, 3) := dk_180 0 26 (dk_at dksX4_number_1 21 rfl rfl)
theorem dX4_number_48 : decode cX4_number 48 = .ok (.baload, 1) := dk_51 (dk_at dksX4_number_2 0 rfl rfl)
theorem dX4_number_49 : decode cX4_number 49 = .ok (.bipush 48, 2) := dk_16 48 (dk_at dksX4_number_2 1 rfl rfl)
theorem dX4_number_51 : decode cX4_number 51 = .ok (.bipush 57, 2) := dk_16 57 (dk_at dksX4_number_2 3 rfl rfl)
theorem dX4_number_53 : decode cX4_number 53 = .ok (.invokestatic 44, 3) := dk_184 0 44 (dk_at dksX4_number_2 5 rfl rfl)
theorem dX4_number_56 : decode cX4_number 56 = .ok (.ifCond .eq 40, 3) := dk_153 0 40 (dk_at dksX4_number_2 8 rfl rfl)
theorem dX4_number_59 : decode cX4_number 59 = .ok (.sipush 9999, 3) := dk_17 39 15 (dk_at dksX4_number_2 11 rfl rfl)
theorem dX4_number_62 : decode cX4_number 62 = .ok (.bipush 10, 2) := dk_16 10 (dk_at dksX4_number_2 14 rfl rfl)
theorem dX4_number_64 : decode cX4_number 64 = .ok (.iload_n 3, 1) := dk_29 (dk_at dksX4_number_2 16 rfl rfl)
theorem dX4_number_65 : decode cX4_number 65 = .ok (.imul, 1) := dk_104 (dk_at dksX4_number_2 17 rfl rfl)
theorem dX4_number_66 : decode cX4_number 66 = .ok (.aload_n 0, 1) := dk_42 (dk_at dksX4_number_2 18 rfl rfl)
theorem dX4_number_67 : decode cX4_number 67 = .ok (.getfield 18, 3) := dk_180 0 18 (dk_at dksX4_number_2 19 rfl rfl)
theorem dX4_number_70 : decode cX4_number 70 = .ok (.aload_n 0, 1) := dk_42 (dk_at dksX4_number_2 22 rfl rfl)
theorem dX4_number_71 : decode cX4_number 71 = .ok (.getfield 26, 3) := dk_180 0 26 (dk_at dksX4_number_3 0 rfl rfl)
theorem dX4_number_74 : decode cX4_number 74 = .ok (.baload, 1) := dk_51 (dk_at dksX4_number_3 3 rfl rfl)
theorem dX4_number_75 : decode cX4_number 75 = .ok (.iadd, 1) := dk_96 (dk_at dksX4_number_3 4 rfl rfl)
theorem dX4_number_76 : decode cX4_number 76 = .ok (.bipush 48, 2) := dk_16 48 (dk_at dksX4_number_3 5 rfl rfl)
theorem dX4_number_78 : decode cX4_number 78 = .ok (.isub, 1) := dk_100 (dk_at dksX4_number_3 7 rfl rfl)
theorem dX4_number_79 : decode cX4_number 79 = .ok (.invokestatic 60, 3) := dk_184 0 60 (dk_at dksX4_number_3 8 rfl rfl)
theorem dX4_number_82 : decode cX4_number 82 = .ok (.istore_n 3, 1) := dk_62 (dk_at dksX4_number_3 11 rfl rfl)
theorem dX4_number_83 : decode cX4_number 83 = .ok (.aload_n 0, 1) := dk_42 (dk_at dksX4_number_3 12 rfl rfl)
theorem dX4_number_84 : decode cX4_number 84 = .ok (.dup, 1) := dk_89 (dk_at dksX4_number_3 13 rfl rfl)
theorem dX4_number_85 : decode cX4_number 85 = .ok (.getfield 26, 3) := dk_180 0 26 (dk_at dksX4_number_3 14 rfl rfl)
theorem dX4_number_88 : decode cX4_number 88 = .ok (.iconst 1, 1) := dk_4 (dk_at dksX4_number_3 17 rfl rfl)
theorem dX4_number_89 : decode cX4_number 89 = .ok (.iadd, 1) := dk_96 (dk_at dksX4_number_3 18 rfl rfl)
theorem dX4_number_90 : decode cX4_number 90 = .ok (.putfield 26, 3) := dk_181 0 26 (dk_at dksX4_number_3 19 rfl rfl)
theorem dX4_number_93 : decode cX4_number 93 = .ok (.goto (-64), 3) := dk_167 255 192 (dk_at dksX4_number_4 0 rfl rfl)
theorem dX4_number_96 : decode cX4_number 96 = .ok (.aload_n 0, 1) := dk_42 (dk_at dksX4_number_4 3 rfl rfl)
theorem dX4_number_97 : decode cX4_number 97 = .ok (.getfield 26, 3) := dk_180 0 26 (dk_at dksX4_number_4 4 rfl rfl)
theorem dX4_number_100 : decode cX4_number 100 = .ok (.aload_n 0, 1) := dk_42 (dk_at dksX4_number_4 7 rfl rfl)
theorem dX4_number_101 : decode cX4_number 101 = .ok (.getfield 41, 3) := dk_180 0 41 (dk_at dksX4_number_4 8 rfl rfl)
theorem dX4_number_104 : decode cX4_number 104 = .ok (.iconst 3, 1) := dk_6 (dk_at dksX4_number_4 11 rfl rfl)
theorem dX4_number_105 : decode cX4_number 105 = .ok (.iadd, 1) := dk_96 (dk_at dksX4_number_4 12 rfl rfl)
theorem dX4_number_106 : decode cX4_number 106 = .ok (.if_icmp .gt 16, 3) := dk_163 0 16 (dk_at dksX4_number_4 13 rfl rfl)
theorem dX4_number_109 : decode cX4_number 109 = .ok (.iload_n 3, 1) := dk_29 (dk_at dksX4_number_4 16 rfl rfl)
theorem dX4_number_110 : decode cX4_number 110 = .ok (.iload_n 1, 1) := dk_27 (dk_at dksX4_number_4 17 rfl rfl)
theorem dX4_number_111 : decode cX4_number 111 = .ok (.iload_n 2, 1) := dk_28 (dk_at dksX4_number_4 18 rfl rfl)
theorem dX4_number_112 : decode cX4_number 112 = .ok (.invokestatic 44, 3) := dk_184 0 44 (dk_at dksX4_number_4 19 rfl rfl)
theorem dX4_number_115 : decode cX4_number 115 = .ok (.ifCond .eq 7, 3) := dk_153 0 7 (dk_at dksX4_number_5 0 rfl rfl)
theorem dX4_number_118 : decode cX4_number 118 = .ok (.iconst 1, 1) := dk_4 (dk_at dksX4_number_5 3 rfl rfl)
theorem dX4_number_119 : decode cX4_number 119 = .ok (.goto 4, 3) := dk_167 0 4 (dk_at dksX4_number_5 4 rfl rfl)
theorem dX4_number_122 : decode cX4_number 122 = .ok (.iconst 0, 1) := dk_3 (dk_at dksX4_number_5 7 rfl rfl)
theorem dX4_number_123 : decode cX4_number 123 = .ok (.iconst 2, 1) := dk_5 (dk_at dksX4_number_5 8 rfl rfl)
theorem dX4_number_124 : decode cX4_number 124 = .ok (.aload_n 0, 1) := dk_42 (dk_at dksX4_number_5 9 rfl rfl)
theorem dX4_number_125 : decode cX4_number 125 = .ok (.getfield 41, 3) := dk_180 0 41 (dk_at dksX4_number_5 10 rfl rfl)
theorem dX4_number_128 : decode cX4_number 128 = .ok (.invokestatic 56, 3) := dk_184 0 56 (dk_at dksX4_number_5 13 rfl rfl)
theorem dX4_number_131 : decode cX4_number 131 = .ok (.iload_n 3, 1) := dk_29 (dk_at dksX4_number_5 16 rfl rfl)
theorem dX4_number_132 : decode cX4_number 132 = .ok (.ireturn, 1) := dk_172 (dk_at dksX4_number_5 17 rfl rfl)
abbrev cX4_end : ByteArray := prog_10_method_6_code
def yX4_end : MethodName := ⟨RX4, "end", "()V"⟩
def dkwX4_end_1 : List UInt8 := [180, 0, 26, 4, 96, 181, 0, 26, 177]
abbrev dktX4_end_1 : List UInt8 := dkwX4_end_1 ++ []
def dkwX4_end_0 : List UInt8 := [42, 182, 0, 37, 16, 59, 160, 0, 7, 4, 167, 0, 4, 3, 4, 42, 180, 0, 26, 184, 0, 56, 42, 89]
abbrev dktX4_end_0 : List UInt8 := dkwX4_end_0 ++ dktX4_end_1
theorem dksX4_end_0 : cX4_end.data.toList.drop 0 = dktX4_end_0 := by decide +kernel
theorem dksX4_end_1 : cX4_end.data.toList.drop 24 = dktX4_end_1 := dk_seg dksX4_end_0 24 rfl rfl
theorem dX4_end_0 : decode cX4_end 0 = .ok (.aload_n 0, 1) := dk_42 (dk_at dksX4_end_0 0 rfl rfl)
theorem dX4_end_1 : decode cX4_end 1 = .ok (.invokevirtual 37, 3) := dk_182 0 37 (dk_at dksX4_end_0 1 rfl rfl)
theorem dX4_end_4 : decode cX4_end 4 = .ok (.bipush 59, 2) := dk_16 59 (dk_at dksX4_end_0 4 rfl rfl)
theorem dX4_end_6 : decode cX4_end 6 = .ok (.if_icmp .ne 7, 3) := dk_160 0 7 (dk_at dksX4_end_0 6 rfl rfl)
theorem dX4_end_9 : decode cX4_end 9 = .ok (.iconst 1, 1) := dk_4 (dk_at dksX4_end_0 9 rfl rfl)
theorem dX4_end_10 : decode cX4_end 10 = .ok (.goto 4, 3) := dk_167 0 4 (dk_at dksX4_end_0 10 rfl rfl)
theorem dX4_end_13 : decode cX4_end 13 = .ok (.iconst 0, 1) := dk_3 (dk_at dksX4_end_0 13 rfl rfl)
theorem dX4_end_14 : decode cX4_end 14 = .ok (.iconst 1, 1) := dk_4 (dk_at dksX4_end_0 14 rfl rfl)
theorem dX4_end_15 : decode cX4_end 15 = .ok (.aload_n 0, 1) := dk_42 (dk_at dksX4_end_0 15 rfl rfl)
theorem dX4_end_16 : decode cX4_end 16 = .ok (.getfield 26, 3) := dk_180 0 26 (dk_at dksX4_end_0 16 rfl rfl)
theorem dX4_end_19 : decode cX4_end 19 = .ok (.invokestatic 56, 3) := dk_184 0 56 (dk_at dksX4_end_0 19 rfl rfl)
theorem dX4_end_22 : decode cX4_end 22 = .ok (.aload_n 0, 1) := dk_42 (dk_at dksX4_end_0 22 rfl rfl)
theorem dX4_end_23 : decode cX4_end 23 = .ok (.dup, 1) := dk_89 (dk_at dksX4_end_0 23 rfl rfl)
theorem dX4_end_24 : decode cX4_end 24 = .ok (.getfield 26, 3) := dk_180 0 26 (dk_at dksX4_end_1 0 rfl rfl)
theorem dX4_end_27 : decode cX4_end 27 = .ok (.iconst 1, 1) := dk_4 (dk_at dksX4_end_1 3 rfl rfl)
theorem dX4_end_28 : decode cX4_end 28 = .ok (.iadd, 1) := dk_96 (dk_at dksX4_end_1 4 rfl rfl)
theorem dX4_end_29 : decode cX4_end 29 = .ok (.putfield 26, 3) := dk_181 0 26 (dk_at dksX4_end_1 5 rfl rfl)
theorem dX4_end_32 : decode cX4_end 32 = .ok (.return_, 1) := dk_177 (dk_at dksX4_end_1 8 rfl rfl)
abbrev cX4_isKey : ByteArray := prog_10_method_13_code
def yX4_isKey : MethodName := ⟨RX4, "isKey", "(Ljava/lang/String;)Z"⟩
def dkwX4_isKey_3 : List UInt8 := [4, 167, 0, 4, 3, 172]
abbrev dktX4_isKey_3 : List UInt8 := dkwX4_isKey_3 ++ []
def dkwX4_isKey_2 : List UInt8 := [182, 0, 71, 154, 0, 21, 42, 18, 130, 182, 0, 71, 154, 0, 12, 42, 18, 132, 182, 0, 71, 153, 0, 7]
abbrev dktX4_isKey_2 : List UInt8 := dkwX4_isKey_2 ++ dktX4_isKey_3
def dkwX4_isKey_1 : List UInt8 := [154, 0, 48, 42, 18, 102, 182, 0, 71, 154, 0, 39, 42, 18, 126, 182, 0, 71, 154, 0, 30, 42, 18, 128]
abbrev dktX4_isKey_1 : List UInt8 := dkwX4_isKey_1 ++ dktX4_isKey_2
def dkwX4_isKey_0 : List UInt8 := [42, 18, 125, 182, 0, 71, 154, 0, 66, 42, 18, 98, 182, 0, 71, 154, 0, 57, 42, 18, 100, 182, 0, 71]
abbrev dktX4_isKey_0 : List UInt8 := dkwX4_isKey_0 ++ dktX4_isKey_1
theorem dksX4_isKey_0 : cX4_isKey.data.toList.drop 0 = dktX4_isKey_0 := by decide +kernel
theorem dksX4_isKey_1 : cX4_isKey.data.toList.drop 24 = dktX4_isKey_1 := dk_seg dksX4_isKey_0 24 rfl rfl
theorem dksX4_isKey_2 : cX4_isKey.data.toList.drop 48 = dktX4_isKey_2 := dk_seg dksX4_isKey_1 24 rfl rfl
theorem dksX4_isKey_3 : cX4_isKey.data.toList.drop 72 = dktX4_isKey_3 := dk_seg dksX4_isKey_2 24 rfl rfl
theorem dX4_isKey_0 : decode cX4_isKey 0 = .ok (.aload_n 0, 1) := dk_42 (dk_at dksX4_isKey_0 0 rfl rfl)
theorem dX4_isKey_1 : decode cX4_isKey 1 = .ok (.ldc 125, 2) := dk_18 125 (dk_at dksX4_isKey_0 1 rfl rfl)
theorem dX4_isKey_3 : decode cX4_isKey 3 = .ok (.invokevirtual 71, 3) := dk_182 0 71 (dk_at dksX4_isKey_0 3 rfl rfl)
theorem dX4_isKey_6 : decode cX4_isKey 6 = .ok (.ifCond .ne 66, 3) := dk_154 0 66 (dk_at dksX4_isKey_0 6 rfl rfl)
theorem dX4_isKey_9 : decode cX4_isKey 9 = .ok (.aload_n 0, 1) := dk_42 (dk_at dksX4_isKey_0 9 rfl rfl)
theorem dX4_isKey_10 : decode cX4_isKey 10 = .ok (.ldc 98, 2) := dk_18 98 (dk_at dksX4_isKey_0 10 rfl rfl)
theorem dX4_isKey_12 : decode cX4_isKey 12 = .ok (.invokevirtual 71, 3) := dk_182 0 71 (dk_at dksX4_isKey_0 12 rfl rfl)
theorem dX4_isKey_15 : decode cX4_isKey 15 = .ok (.ifCond .ne 57, 3) := dk_154 0 57 (dk_at dksX4_isKey_0 15 rfl rfl)
theorem dX4_isKey_18 : decode cX4_isKey 18 = .ok (.aload_n 0, 1) := dk_42 (dk_at dksX4_isKey_0 18 rfl rfl)
theorem dX4_isKey_19 : decode cX4_isKey 19 = .ok (.ldc 100, 2) := dk_18 100 (dk_at dksX4_isKey_0 19 rfl rfl)
theorem dX4_isKey_21 : decode cX4_isKey 21 = .ok (.invokevirtual 71, 3) := dk_182 0 71 (dk_at dksX4_isKey_0 21 rfl rfl)
theorem dX4_isKey_24 : decode cX4_isKey 24 = .ok (.ifCond .ne 48, 3) := dk_154 0 48 (dk_at dksX4_isKey_1 0 rfl rfl)
theorem dX4_isKey_27 : decode cX4_isKey 27 = .ok (.aload_n 0, 1) := dk_42 (dk_at dksX4_isKey_1 3 rfl rfl)
theorem dX4_isKey_28 : decode cX4_isKey 28 = .ok (.ldc 102, 2) := dk_18 102 (dk_at dksX4_isKey_1 4 rfl rfl)
theorem dX4_isKey_30 : decode cX4_isKey 30 = .ok (.invokevirtual 71, 3) := dk_182 0 71 (dk_at dksX4_isKey_1 6 rfl rfl)
theorem dX4_isKey_33 : decode cX4_isKey 33 = .ok (.ifCond .ne 39, 3) := dk_154 0 39 (dk_at dksX4_isKey_1 9 rfl rfl)
theorem dX4_isKey_36 : decode cX4_isKey 36 = .ok (.aload_n 0, 1) := dk_42 (dk_at dksX4_isKey_1 12 rfl rfl)
theorem dX4_isKey_37 : decode cX4_isKey 37 = .ok (.ldc 126, 2) := dk_18 126 (dk_at dksX4_isKey_1 13 rfl rfl)
theorem dX4_isKey_39 : decode cX4_isKey 39 = .ok (.invokevirtual 71, 3) := dk_182 0 71 (dk_at dksX4_isKey_1 15 rfl rfl)
theorem dX4_isKey_42 : decode cX4_isKey 42 = .ok (.ifCond .ne 30, 3) := dk_154 0 30 (dk_at dksX4_isKey_1 18 rfl rfl)
theorem dX4_isKey_45 : decode cX4_isKey 45 = .ok (.aload_n 0, 1) := dk_42 (dk_at dksX4_isKey_1 21 rfl rfl)
theorem dX4_isKey_46 : decode cX4_isKey 46 = .ok (.ldc 128, 2) := dk_18 128 (dk_at dksX4_isKey_1 22 rfl rfl)
theorem dX4_isKey_48 : decode cX4_isKey 48 = .ok (.invokevirtual 71, 3) := dk_182 0 71 (dk_at dksX4_isKey_2 0 rfl rfl)
theorem dX4_isKey_51 : decode cX4_isKey 51 = .ok (.ifCond .ne 21, 3) := dk_154 0 21 (dk_at dksX4_isKey_2 3 rfl rfl)
theorem dX4_isKey_54 : decode cX4_isKey 54 = .ok (.aload_n 0, 1) := dk_42 (dk_at dksX4_isKey_2 6 rfl rfl)
theorem dX4_isKey_55 : decode cX4_isKey 55 = .ok (.ldc 130, 2) := dk_18 130 (dk_at dksX4_isKey_2 7 rfl rfl)
theorem dX4_isKey_57 : decode cX4_isKey 57 = .ok (.invokevirtual 71, 3) := dk_182 0 71 (dk_at dksX4_isKey_2 9 rfl rfl)
theorem dX4_isKey_60 : decode cX4_isKey 60 = .ok (.ifCond .ne 12, 3) := dk_154 0 12 (dk_at dksX4_isKey_2 12 rfl rfl)
theorem dX4_isKey_63 : decode cX4_isKey 63 = .ok (.aload_n 0, 1) := dk_42 (dk_at dksX4_isKey_2 15 rfl rfl)
theorem dX4_isKey_64 : decode cX4_isKey 64 = .ok (.ldc 132, 2) := dk_18 132 (dk_at dksX4_isKey_2 16 rfl rfl)
theorem dX4_isKey_66 : decode cX4_isKey 66 = .ok (.invokevirtual 71, 3) := dk_182 0 71 (dk_at dksX4_isKey_2 18 rfl rfl)
theorem dX4_isKey_69 : decode cX4_isKey 69 = .ok (.ifCond .eq 7, 3) := dk_153 0 7 (dk_at dksX4_isKey_2 21 rfl rfl)
theorem dX4_isKey_72 : decode cX4_isKey 72 = .ok (.iconst 1, 1) := dk_4 (dk_at dksX4_isKey_3 0 rfl rfl)
theorem dX4_isKey_73 : decode cX4_isKey 73 = .ok (.goto 4, 3) := dk_167 0 4 (dk_at dksX4_isKey_3 1 rfl rfl)
theorem dX4_isKey_76 : decode cX4_isKey 76 = .ok (.iconst 0, 1) := dk_3 (dk_at dksX4_isKey_3 4 rfl rfl)
theorem dX4_isKey_77 : decode cX4_isKey 77 = .ok (.ireturn, 1) := dk_172 (dk_at dksX4_isKey_3 5 rfl rfl)
abbrev cX4_key : ByteArray := prog_10_method_14_code
def yX4_key : MethodName := ⟨RX4, "key", "(Ljava/lang/String;I)LFewKeys$Key;"⟩
def dkwX4_key_11 : List UInt8 := [21, 6, 42, 182, 0, 113, 183, 0, 157, 176]
abbrev dktX4_key_11 : List UInt8 := dkwX4_key_11 ++ []
def dkwX4_key_10 : List UInt8 := [42, 182, 0, 153, 176, 42, 43, 28, 182, 0, 104, 54, 6, 187, 0, 155, 89, 42, 180, 0, 12, 180, 0, 89]
abbrev dktX4_key_10 : List UInt8 := dkwX4_key_10 ++ dktX4_key_11
def dkwX4_key_9 : List UInt8 := [187, 0, 147, 89, 42, 180, 0, 12, 180, 0, 89, 42, 182, 0, 113, 183, 0, 149, 176, 42, 182, 0, 150, 176]
abbrev dktX4_key_9 : List UInt8 := dkwX4_key_9 ++ dktX4_key_10
def dkwX4_key_8 : List UInt8 := [183, 0, 139, 176, 187, 0, 142, 89, 42, 180, 0, 12, 180, 0, 89, 42, 182, 0, 113, 183, 0, 144, 176]
abbrev dktX4_key_8 : List UInt8 := dkwX4_key_8 ++ dktX4_key_9
def dkwX4_key_7 : List UInt8 := [42, 182, 0, 119, 54, 5, 187, 0, 137, 89, 42, 180, 0, 12, 180, 0, 89, 21, 5, 42, 182, 0, 113]
abbrev dktX4_key_7 : List UInt8 := dkwX4_key_7 ++ dktX4_key_8
def dkwX4_key_6 : List UInt8 := [170, 0, 0, 0, 0, 109, 0, 0, 0, 0, 0, 0, 0, 4, 0, 0, 0, 34, 0, 0, 0, 61, 0, 0, 0, 80, 0, 0, 0, 99, 0, 0, 0, 104]
abbrev dktX4_key_6 : List UInt8 := dkwX4_key_6 ++ dktX4_key_7
def dkwX4_key_5 : List UInt8 := [21, 4]
abbrev dktX4_key_5 : List UInt8 := dkwX4_key_5 ++ dktX4_key_6
def dkwX4_key_4 : List UInt8 := [182, 0, 71, 153, 0, 21, 6, 54, 4, 167, 0, 15, 45, 18, 132, 182, 0, 71, 153, 0, 6, 7, 54, 4]
abbrev dktX4_key_4 : List UInt8 := dkwX4_key_4 ++ dktX4_key_5
def dkwX4_key_3 : List UInt8 := [4, 54, 4, 167, 0, 45, 45, 18, 128, 182, 0, 71, 153, 0, 36, 5, 54, 4, 167, 0, 30, 45, 18, 130]
abbrev dktX4_key_3 : List UInt8 := dkwX4_key_3 ++ dktX4_key_4
def dkwX4_key_2 : List UInt8 := [45, 18, 125, 182, 0, 71, 153, 0, 66, 3, 54, 4, 167, 0, 60, 45, 18, 126, 182, 0, 71, 153, 0, 51]
abbrev dktX4_key_2 : List UInt8 := dkwX4_key_2 ++ dktX4_key_3
def dkwX4_key_1 : List UInt8 := [171, 0, 0, 0, 0, 0, 123, 0, 0, 0, 5, 180, 6, 138, 228, 0, 0, 0, 51, 0, 0, 13, 42, 0, 0, 0, 66, 0, 1, 170, 214, 0, 0, 0, 96, 5, 165, 182, 77, 0, 0, 0, 81, 6, 139, 13, 156, 0, 0, 0, 111]
abbrev dktX4_key_1 : List UInt8 := dkwX4_key_1 ++ dktX4_key_2
def dkwX4_key_0 : List UInt8 := [43, 78, 2, 54, 4, 45, 182, 0, 134]
abbrev dktX4_key_0 : List UInt8 := dkwX4_key_0 ++ dktX4_key_1
theorem dksX4_key_0 : cX4_key.data.toList.drop 0 = dktX4_key_0 := by decide +kernel
theorem dksX4_key_1 : cX4_key.data.toList.drop 9 = dktX4_key_1 := dk_seg dksX4_key_0 9 rfl rfl
theorem dksX4_key_2 : cX4_key.data.toList.drop 60 = dktX4_key_2 := dk_seg dksX4_key_1 51 rfl rfl
theorem dksX4_key_3 : cX4_key.data.toList.drop 84 = dktX4_key_3 := dk_seg dksX4_key_2 24 rfl rfl
theorem dksX4_key_4 : cX4_key.data.toList.drop 108 = dktX4_key_4 := dk_seg dksX4_key_3 24 rfl rfl
theorem dksX4_key_5 : cX4_key.data.toList.drop 132 = dktX4_key_5 := dk_seg dksX4_key_4 24 rfl rfl
theorem dksX4_key_6 : cX4_key.data.toList.drop 134 = dktX4_key_6 := dk_seg dksX4_key_5 2 rfl rfl
theorem dksX4_key_7 : cX4_key.data.toList.drop 168 = dktX4_key_7 := dk_seg dksX4_key_6 34 rfl rfl
theorem dksX4_key_8 : cX4_key.data.toList.drop 191 = dktX4_key_8 := dk_seg dksX4_key_7 23 rfl rfl
theorem dksX4_key_9 : cX4_key.data.toList.drop 214 = dktX4_key_9 := dk_seg dksX4_key_8 23 rfl rfl
theorem dksX4_key_10 : cX4_key.data.toList.drop 238 = dktX4_key_10 := dk_seg dksX4_key_9 24 rfl rfl
theorem dksX4_key_11 : cX4_key.data.toList.drop 262 = dktX4_key_11 := dk_seg dksX4_key_10 24 rfl rfl
theorem dX4_key_0 : decode cX4_key 0 = .ok (.aload_n 1, 1) := dk_43 (dk_at dksX4_key_0 0 rfl rfl)
theorem dX4_key_1 : decode cX4_key 1 = .ok (.astore_n 3, 1) := dk_78 (dk_at dksX4_key_0 1 rfl rfl)
theorem dX4_key_2 : decode cX4_key 2 = .ok (.iconst (-1), 1) := dk_2 (dk_at dksX4_key_0 2 rfl rfl)
theorem dX4_key_3 : decode cX4_key 3 = .ok (.istore 4, 2) := dk_54 4 (dk_at dksX4_key_0 3 rfl rfl)
theorem dX4_key_5 : decode cX4_key 5 = .ok (.aload_n 3, 1) := dk_45 (dk_at dksX4_key_0 5 rfl rfl)
theorem dX4_key_6 : decode cX4_key 6 = .ok (.invokevirtual 134, 3) := dk_182 0 134 (dk_at dksX4_key_0 6 rfl rfl)
theorem dX4_key_9 : decode cX4_key 9 = .ok (.lookupswitch 123 #[(-1274639644, 51), (3370, 66), (109270, 96), (94746189, 81), (109776284, 111)], 51) := by decide +kernel
theorem dX4_key_60 : decode cX4_key 60 = .ok (.aload_n 3, 1) := dk_45 (dk_at dksX4_key_2 0 rfl rfl)
theorem dX4_key_61 : decode cX4_key 61 = .ok (.ldc 125, 2) := dk_18 125 (dk_at dksX4_key_2 1 rfl rfl)
theorem dX4_key_63 : decode cX4_key 63 = .ok (.invokevirtual 71, 3) := dk_182 0 71 (dk_at dksX4_key_2 3 rfl rfl)
theorem dX4_key_66 : decode cX4_key 66 = .ok (.ifCond .eq 66, 3) := dk_153 0 66 (dk_at dksX4_key_2 6 rfl rfl)
theorem dX4_key_69 : decode cX4_key 69 = .ok (.iconst 0, 1) := dk_3 (dk_at dksX4_key_2 9 rfl rfl)
theorem dX4_key_70 : decode cX4_key 70 = .ok (.istore 4, 2) := dk_54 4 (dk_at dksX4_key_2 10 rfl rfl)
theorem dX4_key_72 : decode cX4_key 72 = .ok (.goto 60, 3) := dk_167 0 60 (dk_at dksX4_key_2 12 rfl rfl)
theorem dX4_key_75 : decode cX4_key 75 = .ok (.aload_n 3, 1) := dk_45 (dk_at dksX4_key_2 15 rfl rfl)
theorem dX4_key_76 : decode cX4_key 76 = .ok (.ldc 126, 2) := dk_18 126 (dk_at dksX4_key_2 16 rfl rfl)
theorem dX4_key_78 : decode cX4_key 78 = .ok (.invokevirtual 71, 3) := dk_182 0 71 (dk_at dksX4_key_2 18 rfl rfl)
theorem dX4_key_81 : decode cX4_key 81 = .ok (.ifCond .eq 51, 3) := dk_153 0 51 (dk_at dksX4_key_2 21 rfl rfl)
theorem dX4_key_84 : decode cX4_key 84 = .ok (.iconst 1, 1) := dk_4 (dk_at dksX4_key_3 0 rfl rfl)
theorem dX4_key_85 : decode cX4_key 85 = .ok (.istore 4, 2) := dk_54 4 (dk_at dksX4_key_3 1 rfl rfl)
theorem dX4_key_87 : decode cX4_key 87 = .ok (.goto 45, 3) := dk_167 0 45 (dk_at dksX4_key_3 3 rfl rfl)
theorem dX4_key_90 : decode cX4_key 90 = .ok (.aload_n 3, 1) := dk_45 (dk_at dksX4_key_3 6 rfl rfl)
theorem dX4_key_91 : decode cX4_key 91 = .ok (.ldc 128, 2) := dk_18 128 (dk_at dksX4_key_3 7 rfl rfl)
theorem dX4_key_93 : decode cX4_key 93 = .ok (.invokevirtual 71, 3) := dk_182 0 71 (dk_at dksX4_key_3 9 rfl rfl)
theorem dX4_key_96 : decode cX4_key 96 = .ok (.ifCond .eq 36, 3) := dk_153 0 36 (dk_at dksX4_key_3 12 rfl rfl)
theorem dX4_key_99 : decode cX4_key 99 = .ok (.iconst 2, 1) := dk_5 (dk_at dksX4_key_3 15 rfl rfl)
theorem dX4_key_100 : decode cX4_key 100 = .ok (.istore 4, 2) := dk_54 4 (dk_at dksX4_key_3 16 rfl rfl)
theorem dX4_key_102 : decode cX4_key 102 = .ok (.goto 30, 3) := dk_167 0 30 (dk_at dksX4_key_3 18 rfl rfl)
theorem dX4_key_105 : decode cX4_key 105 = .ok (.aload_n 3, 1) := dk_45 (dk_at dksX4_key_3 21 rfl rfl)
theorem dX4_key_106 : decode cX4_key 106 = .ok (.ldc 130, 2) := dk_18 130 (dk_at dksX4_key_3 22 rfl rfl)
theorem dX4_key_108 : decode cX4_key 108 = .ok (.invokevirtual 71, 3) := dk_182 0 71 (dk_at dksX4_key_4 0 rfl rfl)
theorem dX4_key_111 : decode cX4_key 111 = .ok (.ifCond .eq 21, 3) := dk_153 0 21 (dk_at dksX4_key_4 3 rfl rfl)
theorem dX4_key_114 : decode cX4_key 114 = .ok (.iconst 3, 1) := dk_6 (dk_at dksX4_key_4 6 rfl rfl)
theorem dX4_key_115 : decode cX4_key 115 = .ok (.istore 4, 2) := dk_54 4 (dk_at dksX4_key_4 7 rfl rfl)
theorem dX4_key_117 : decode cX4_key 117 = .ok (.goto 15, 3) := dk_167 0 15 (dk_at dksX4_key_4 9 rfl rfl)
theorem dX4_key_120 : decode cX4_key 120 = .ok (.aload_n 3, 1) := dk_45 (dk_at dksX4_key_4 12 rfl rfl)
theorem dX4_key_121 : decode cX4_key 121 = .ok (.ldc 132, 2) := dk_18 132 (dk_at dksX4_key_4 13 rfl rfl)
theorem dX4_key_123 : decode cX4_key 123 = .ok (.invokevirtual 71, 3) := dk_182 0 71 (dk_at dksX4_key_4 15 rfl rfl)
theorem dX4_key_126 : decode cX4_key 126 = .ok (.ifCond .eq 6, 3) := dk_153 0 6 (dk_at dksX4_key_4 18 rfl rfl)
theorem dX4_key_129 : decode cX4_key 129 = .ok (.iconst 4, 1) := dk_7 (dk_at dksX4_key_4 21 rfl rfl)
theorem dX4_key_130 : decode cX4_key 130 = .ok (.istore 4, 2) := dk_54 4 (dk_at dksX4_key_4 22 rfl rfl)
theorem dX4_key_132 : decode cX4_key 132 = .ok (.iload 4, 2) := dk_21 4 (dk_at dksX4_key_5 0 rfl rfl)
theorem dX4_key_134 : decode cX4_key 134 = .ok (.tableswitch 109 0 4 #[34, 61, 80, 99, 104], 34) := by decide +kernel
theorem dX4_key_168 : decode cX4_key 168 = .ok (.aload_n 0, 1) := dk_42 (dk_at dksX4_key_7 0 rfl rfl)
theorem dX4_key_169 : decode cX4_key 169 = .ok (.invokevirtual 119, 3) := dk_182 0 119 (dk_at dksX4_key_7 1 rfl rfl)
theorem dX4_key_172 : decode cX4_key 172 = .ok (.istore 5, 2) := dk_54 5 (dk_at dksX4_key_7 4 rfl rfl)
theorem dX4_key_174 : decode cX4_key 174 = .ok (.new 137, 3) := dk_187 0 137 (dk_at dksX4_key_7 6 rfl rfl)
theorem dX4_key_177 : decode cX4_key 177 = .ok (.dup, 1) := dk_89 (dk_at dksX4_key_7 9 rfl rfl)
theorem dX4_key_178 : decode cX4_key 178 = .ok (.aload_n 0, 1) := dk_42 (dk_at dksX4_key_7 10 rfl rfl)
theorem dX4_key_179 : decode cX4_key 179 = .ok (.getfield 12, 3) := dk_180 0 12 (dk_at dksX4_key_7 11 rfl rfl)
theorem dX4_key_182 : decode cX4_key 182 = .ok (.getfield 89, 3) := dk_180 0 89 (dk_at dksX4_key_7 14 rfl rfl)
theorem dX4_key_185 : decode cX4_key 185 = .ok (.iload 5, 2) := dk_21 5 (dk_at dksX4_key_7 17 rfl rfl)
theorem dX4_key_187 : decode cX4_key 187 = .ok (.aload_n 0, 1) := dk_42 (dk_at dksX4_key_7 19 rfl rfl)
theorem dX4_key_188 : decode cX4_key 188 = .ok (.invokevirtual 113, 3) := dk_182 0 113 (dk_at dksX4_key_7 20 rfl rfl)
theorem dX4_key_191 : decode cX4_key 191 = .ok (.invokespecial 139, 3) := dk_183 0 139 (dk_at dksX4_key_8 0 rfl rfl)
theorem dX4_key_194 : decode cX4_key 194 = .ok (.areturn, 1) := dk_176 (dk_at dksX4_key_8 3 rfl rfl)
theorem dX4_key_195 : decode cX4_key 195 = .ok (.new 142, 3) := dk_187 0 142 (dk_at dksX4_key_8 4 rfl rfl)
theorem dX4_key_198 : decode cX4_key 198 = .ok (.dup, 1) := dk_89 (dk_at dksX4_key_8 7 rfl rfl)
theorem dX4_key_199 : decode cX4_key 199 = .ok (.aload_n 0, 1) := dk_42 (dk_at dksX4_key_8 8 rfl rfl)
theorem dX4_key_200 : decode cX4_key 200 = .ok (.getfield 12, 3) := dk_180 0 12 (dk_at dksX4_key_8 9 rfl rfl)
theorem dX4_key_203 : decode cX4_key 203 = .ok (.getfield 89, 3) := dk_180 0 89 (dk_at dksX4_key_8 12 rfl rfl)
theorem dX4_key_206 : decode cX4_key 206 = .ok (.aload_n 0, 1) := dk_42 (dk_at dksX4_key_8 15 rfl rfl)
theorem dX4_key_207 : decode cX4_key 207 = .ok (.invokevirtual 113, 3) := dk_182 0 113 (dk_at dksX4_key_8 16 rfl rfl)
theorem dX4_key_210 : decode cX4_key 210 = .ok (.invokespecial 144, 3) := dk_183 0 144 (dk_at dksX4_key_8 19 rfl rfl)
theorem dX4_key_213 : decode cX4_key 213 = .ok (.areturn, 1) := dk_176 (dk_at dksX4_key_8 22 rfl rfl)
theorem dX4_key_214 : decode cX4_key 214 = .ok (.new 147, 3) := dk_187 0 147 (dk_at dksX4_key_9 0 rfl rfl)
theorem dX4_key_217 : decode cX4_key 217 = .ok (.dup, 1) := dk_89 (dk_at dksX4_key_9 3 rfl rfl)
theorem dX4_key_218 : decode cX4_key 218 = .ok (.aload_n 0, 1) := dk_42 (dk_at dksX4_key_9 4 rfl rfl)
theorem dX4_key_219 : decode cX4_key 219 = .ok (.getfield 12, 3) := dk_180 0 12 (dk_at dksX4_key_9 5 rfl rfl)
theorem dX4_key_222 : decode cX4_key 222 = .ok (.getfield 89, 3) := dk_180 0 89 (dk_at dksX4_key_9 8 rfl rfl)
theorem dX4_key_225 : decode cX4_key 225 = .ok (.aload_n 0, 1) := dk_42 (dk_at dksX4_key_9 11 rfl rfl)
theorem dX4_key_226 : decode cX4_key 226 = .ok (.invokevirtual 113, 3) := dk_182 0 113 (dk_at dksX4_key_9 12 rfl rfl)
theorem dX4_key_229 : decode cX4_key 229 = .ok (.invokespecial 149, 3) := dk_183 0 149 (dk_at dksX4_key_9 15 rfl rfl)
theorem dX4_key_232 : decode cX4_key 232 = .ok (.areturn, 1) := dk_176 (dk_at dksX4_key_9 18 rfl rfl)
theorem dX4_key_233 : decode cX4_key 233 = .ok (.aload_n 0, 1) := dk_42 (dk_at dksX4_key_9 19 rfl rfl)
theorem dX4_key_234 : decode cX4_key 234 = .ok (.invokevirtual 150, 3) := dk_182 0 150 (dk_at dksX4_key_9 20 rfl rfl)
theorem dX4_key_237 : decode cX4_key 237 = .ok (.areturn, 1) := dk_176 (dk_at dksX4_key_9 23 rfl rfl)
theorem dX4_key_238 : decode cX4_key 238 = .ok (.aload_n 0, 1) := dk_42 (dk_at dksX4_key_10 0 rfl rfl)
theorem dX4_key_239 : decode cX4_key 239 = .ok (.invokevirtual 153, 3) := dk_182 0 153 (dk_at dksX4_key_10 1 rfl rfl)
theorem dX4_key_242 : decode cX4_key 242 = .ok (.areturn, 1) := dk_176 (dk_at dksX4_key_10 4 rfl rfl)
theorem dX4_key_243 : decode cX4_key 243 = .ok (.aload_n 0, 1) := dk_42 (dk_at dksX4_key_10 5 rfl rfl)
theorem dX4_key_244 : decode cX4_key 244 = .ok (.aload_n 1, 1) := dk_43 (dk_at dksX4_key_10 6 rfl rfl)
theorem dX4_key_245 : decode cX4_key 245 = .ok (.iload_n 2, 1) := dk_28 (dk_at dksX4_key_10 7 rfl rfl)
theorem dX4_key_246 : decode cX4_key 246 = .ok (.invokevirtual 104, 3) := dk_182 0 104 (dk_at dksX4_key_10 8 rfl rfl)
theorem dX4_key_249 : decode cX4_key 249 = .ok (.istore 6, 2) := dk_54 6 (dk_at dksX4_key_10 11 rfl rfl)
theorem dX4_key_251 : decode cX4_key 251 = .ok (.new 155, 3) := dk_187 0 155 (dk_at dksX4_key_10 13 rfl rfl)
theorem dX4_key_254 : decode cX4_key 254 = .ok (.dup, 1) := dk_89 (dk_at dksX4_key_10 16 rfl rfl)
theorem dX4_key_255 : decode cX4_key 255 = .ok (.aload_n 0, 1) := dk_42 (dk_at dksX4_key_10 17 rfl rfl)
theorem dX4_key_256 : decode cX4_key 256 = .ok (.getfield 12, 3) := dk_180 0 12 (dk_at dksX4_key_10 18 rfl rfl)
theorem dX4_key_259 : decode cX4_key 259 = .ok (.getfield 89, 3) := dk_180 0 89 (dk_at dksX4_key_10 21 rfl rfl)
theorem dX4_key_262 : decode cX4_key 262 = .ok (.iload 6, 2) := dk_21 6 (dk_at dksX4_key_11 0 rfl rfl)
theorem dX4_key_264 : decode cX4_key 264 = .ok (.aload_n 0, 1) := dk_42 (dk_at dksX4_key_11 2 rfl rfl)
theorem dX4_key_265 : decode cX4_key 265 = .ok (.invokevirtual 113, 3) := dk_182 0 113 (dk_at dksX4_key_11 3 rfl rfl)
theorem dX4_key_268 : decode cX4_key 268 = .ok (.invokespecial 157, 3) := dk_183 0 157 (dk_at dksX4_key_11 6 rfl rfl)
theorem dX4_key_271 : decode cX4_key 271 = .ok (.areturn, 1) := dk_176 (dk_at dksX4_key_11 9 rfl rfl)
abbrev cX4_figure : ByteArray := prog_10_method_8_code
def yX4_figure : MethodName := ⟨RX4, "figure", "()I"⟩
def dkwX4_figure_0 : List UInt8 := [42, 3, 42, 180, 0, 12, 180, 0, 89, 180, 0, 95, 4, 100, 182, 0, 81, 172]
abbrev dktX4_figure_0 : List UInt8 := dkwX4_figure_0 ++ []
theorem dksX4_figure_0 : cX4_figure.data.toList.drop 0 = dktX4_figure_0 := by decide +kernel
theorem dX4_figure_0 : decode cX4_figure 0 = .ok (.aload_n 0, 1) := dk_42 (dk_at dksX4_figure_0 0 rfl rfl)
theorem dX4_figure_1 : decode cX4_figure 1 = .ok (.iconst 0, 1) := dk_3 (dk_at dksX4_figure_0 1 rfl rfl)
theorem dX4_figure_2 : decode cX4_figure 2 = .ok (.aload_n 0, 1) := dk_42 (dk_at dksX4_figure_0 2 rfl rfl)
theorem dX4_figure_3 : decode cX4_figure 3 = .ok (.getfield 12, 3) := dk_180 0 12 (dk_at dksX4_figure_0 3 rfl rfl)
theorem dX4_figure_6 : decode cX4_figure 6 = .ok (.getfield 89, 3) := dk_180 0 89 (dk_at dksX4_figure_0 6 rfl rfl)
theorem dX4_figure_9 : decode cX4_figure 9 = .ok (.getfield 95, 3) := dk_180 0 95 (dk_at dksX4_figure_0 9 rfl rfl)
theorem dX4_figure_12 : decode cX4_figure 12 = .ok (.iconst 1, 1) := dk_4 (dk_at dksX4_figure_0 12 rfl rfl)
theorem dX4_figure_13 : decode cX4_figure 13 = .ok (.isub, 1) := dk_100 (dk_at dksX4_figure_0 13 rfl rfl)
theorem dX4_figure_14 : decode cX4_figure 14 = .ok (.invokevirtual 81, 3) := dk_182 0 81 (dk_at dksX4_figure_0 14 rfl rfl)
theorem dX4_figure_17 : decode cX4_figure 17 = .ok (.ireturn, 1) := dk_172 (dk_at dksX4_figure_0 17 rfl rfl)
abbrev cX4_cost : ByteArray := prog_10_method_9_code
def yX4_cost : MethodName := ⟨RX4, "cost", "()I"⟩
def dkwX4_cost_0 : List UInt8 := [42, 4, 16, 99, 182, 0, 81, 172]
abbrev dktX4_cost_0 : List UInt8 := dkwX4_cost_0 ++ []
theorem dksX4_cost_0 : cX4_cost.data.toList.drop 0 = dktX4_cost_0 := by decide +kernel
theorem dX4_cost_0 : decode cX4_cost 0 = .ok (.aload_n 0, 1) := dk_42 (dk_at dksX4_cost_0 0 rfl rfl)
theorem dX4_cost_1 : decode cX4_cost 1 = .ok (.iconst 1, 1) := dk_4 (dk_at dksX4_cost_0 1 rfl rfl)
theorem dX4_cost_2 : decode cX4_cost 2 = .ok (.bipush 99, 2) := dk_16 99 (dk_at dksX4_cost_0 2 rfl rfl)
theorem dX4_cost_4 : decode cX4_cost 4 = .ok (.invokevirtual 81, 3) := dk_182 0 81 (dk_at dksX4_cost_0 4 rfl rfl)
theorem dX4_cost_7 : decode cX4_cost 7 = .ok (.ireturn, 1) := dk_172 (dk_at dksX4_cost_0 7 rfl rfl)
abbrev cX4_now : ByteArray := prog_10_method_11_code
def yX4_now : MethodName := ⟨RX4, "now", "()LFewKeys$Key;"⟩
def dkwX4_now_2 : List UInt8 := [182, 0, 113, 183, 0, 116, 176]
abbrev dktX4_now_2 : List UInt8 := dkwX4_now_2 ++ []
def dkwX4_now_1 : List UInt8 := [180, 0, 108, 4, 100, 182, 0, 81, 62, 187, 0, 111, 89, 42, 180, 0, 12, 180, 0, 89, 28, 29, 42]
abbrev dktX4_now_1 : List UInt8 := dkwX4_now_1 ++ dktX4_now_2
def dkwX4_now_0 : List UInt8 := [42, 182, 0, 66, 76, 42, 43, 42, 180, 0, 41, 182, 0, 104, 61, 42, 3, 42, 180, 0, 12, 180, 0, 89]
abbrev dktX4_now_0 : List UInt8 := dkwX4_now_0 ++ dktX4_now_1
theorem dksX4_now_0 : cX4_now.data.toList.drop 0 = dktX4_now_0 := by decide +kernel
theorem dksX4_now_1 : cX4_now.data.toList.drop 24 = dktX4_now_1 := dk_seg dksX4_now_0 24 rfl rfl
theorem dksX4_now_2 : cX4_now.data.toList.drop 47 = dktX4_now_2 := dk_seg dksX4_now_1 23 rfl rfl
theorem dX4_now_0 : decode cX4_now 0 = .ok (.aload_n 0, 1) := dk_42 (dk_at dksX4_now_0 0 rfl rfl)
theorem dX4_now_1 : decode cX4_now 1 = .ok (.invokevirtual 66, 3) := dk_182 0 66 (dk_at dksX4_now_0 1 rfl rfl)
theorem dX4_now_4 : decode cX4_now 4 = .ok (.astore_n 1, 1) := dk_76 (dk_at dksX4_now_0 4 rfl rfl)
theorem dX4_now_5 : decode cX4_now 5 = .ok (.aload_n 0, 1) := dk_42 (dk_at dksX4_now_0 5 rfl rfl)
theorem dX4_now_6 : decode cX4_now 6 = .ok (.aload_n 1, 1) := dk_43 (dk_at dksX4_now_0 6 rfl rfl)
theorem dX4_now_7 : decode cX4_now 7 = .ok (.aload_n 0, 1) := dk_42 (dk_at dksX4_now_0 7 rfl rfl)
theorem dX4_now_8 : decode cX4_now 8 = .ok (.getfield 41, 3) := dk_180 0 41 (dk_at dksX4_now_0 8 rfl rfl)
theorem dX4_now_11 : decode cX4_now 11 = .ok (.invokevirtual 104, 3) := dk_182 0 104 (dk_at dksX4_now_0 11 rfl rfl)
theorem dX4_now_14 : decode cX4_now 14 = .ok (.istore_n 2, 1) := dk_61 (dk_at dksX4_now_0 14 rfl rfl)
theorem dX4_now_15 : decode cX4_now 15 = .ok (.aload_n 0, 1) := dk_42 (dk_at dksX4_now_0 15 rfl rfl)
theorem dX4_now_16 : decode cX4_now 16 = .ok (.iconst 0, 1) := dk_3 (dk_at dksX4_now_0 16 rfl rfl)
theorem dX4_now_17 : decode cX4_now 17 = .ok (.aload_n 0, 1) := dk_42 (dk_at dksX4_now_0 17 rfl rfl)
theorem dX4_now_18 : decode cX4_now 18 = .ok (.getfield 12, 3) := dk_180 0 12 (dk_at dksX4_now_0 18 rfl rfl)
theorem dX4_now_21 : decode cX4_now 21 = .ok (.getfield 89, 3) := dk_180 0 89 (dk_at dksX4_now_0 21 rfl rfl)
theorem dX4_now_24 : decode cX4_now 24 = .ok (.getfield 108, 3) := dk_180 0 108 (dk_at dksX4_now_1 0 rfl rfl)
theorem dX4_now_27 : decode cX4_now 27 = .ok (.iconst 1, 1) := dk_4 (dk_at dksX4_now_1 3 rfl rfl)
theorem dX4_now_28 : decode cX4_now 28 = .ok (.isub, 1) := dk_100 (dk_at dksX4_now_1 4 rfl rfl)
theorem dX4_now_29 : decode cX4_now 29 = .ok (.invokevirtual 81, 3) := dk_182 0 81 (dk_at dksX4_now_1 5 rfl rfl)
theorem dX4_now_32 : decode cX4_now 32 = .ok (.istore_n 3, 1) := dk_62 (dk_at dksX4_now_1 8 rfl rfl)
theorem dX4_now_33 : decode cX4_now 33 = .ok (.new 111, 3) := dk_187 0 111 (dk_at dksX4_now_1 9 rfl rfl)
theorem dX4_now_36 : decode cX4_now 36 = .ok (.dup, 1) := dk_89 (dk_at dksX4_now_1 12 rfl rfl)
theorem dX4_now_37 : decode cX4_now 37 = .ok (.aload_n 0, 1) := dk_42 (dk_at dksX4_now_1 13 rfl rfl)
theorem dX4_now_38 : decode cX4_now 38 = .ok (.getfield 12, 3) := dk_180 0 12 (dk_at dksX4_now_1 14 rfl rfl)
theorem dX4_now_41 : decode cX4_now 41 = .ok (.getfield 89, 3) := dk_180 0 89 (dk_at dksX4_now_1 17 rfl rfl)
theorem dX4_now_44 : decode cX4_now 44 = .ok (.iload_n 2, 1) := dk_28 (dk_at dksX4_now_1 20 rfl rfl)
theorem dX4_now_45 : decode cX4_now 45 = .ok (.iload_n 3, 1) := dk_29 (dk_at dksX4_now_1 21 rfl rfl)
theorem dX4_now_46 : decode cX4_now 46 = .ok (.aload_n 0, 1) := dk_42 (dk_at dksX4_now_1 22 rfl rfl)
theorem dX4_now_47 : decode cX4_now 47 = .ok (.invokevirtual 113, 3) := dk_182 0 113 (dk_at dksX4_now_2 0 rfl rfl)
theorem dX4_now_50 : decode cX4_now 50 = .ok (.invokespecial 116, 3) := dk_183 0 116 (dk_at dksX4_now_2 3 rfl rfl)
theorem dX4_now_53 : decode cX4_now 53 = .ok (.areturn, 1) := dk_176 (dk_at dksX4_now_2 6 rfl rfl)
abbrev cX4_sign : ByteArray := prog_10_method_10_code
def yX4_sign : MethodName := ⟨RX4, "sign", "(Ljava/lang/String;I)I"⟩
def dkwX4_sign_2 : List UInt8 := [167, 0, 4, 3, 4, 28, 184, 0, 56, 29, 172]
abbrev dktX4_sign_2 : List UInt8 := dkwX4_sign_2 ++ []
def dkwX4_sign_1 : List UInt8 := [167, 0, 17, 43, 18, 102, 182, 0, 71, 153, 0, 7, 6, 167, 0, 4, 2, 62, 29, 2, 159, 0, 7, 4]
abbrev dktX4_sign_1 : List UInt8 := dkwX4_sign_1 ++ dktX4_sign_2
def dkwX4_sign_0 : List UInt8 := [43, 18, 98, 182, 0, 71, 153, 0, 7, 4, 167, 0, 30, 43, 18, 100, 182, 0, 71, 153, 0, 7, 5]
abbrev dktX4_sign_0 : List UInt8 := dkwX4_sign_0 ++ dktX4_sign_1
theorem dksX4_sign_0 : cX4_sign.data.toList.drop 0 = dktX4_sign_0 := by decide +kernel
theorem dksX4_sign_1 : cX4_sign.data.toList.drop 23 = dktX4_sign_1 := dk_seg dksX4_sign_0 23 rfl rfl
theorem dksX4_sign_2 : cX4_sign.data.toList.drop 47 = dktX4_sign_2 := dk_seg dksX4_sign_1 24 rfl rfl
theorem dX4_sign_0 : decode cX4_sign 0 = .ok (.aload_n 1, 1) := dk_43 (dk_at dksX4_sign_0 0 rfl rfl)
theorem dX4_sign_1 : decode cX4_sign 1 = .ok (.ldc 98, 2) := dk_18 98 (dk_at dksX4_sign_0 1 rfl rfl)
theorem dX4_sign_3 : decode cX4_sign 3 = .ok (.invokevirtual 71, 3) := dk_182 0 71 (dk_at dksX4_sign_0 3 rfl rfl)
theorem dX4_sign_6 : decode cX4_sign 6 = .ok (.ifCond .eq 7, 3) := dk_153 0 7 (dk_at dksX4_sign_0 6 rfl rfl)
theorem dX4_sign_9 : decode cX4_sign 9 = .ok (.iconst 1, 1) := dk_4 (dk_at dksX4_sign_0 9 rfl rfl)
theorem dX4_sign_10 : decode cX4_sign 10 = .ok (.goto 30, 3) := dk_167 0 30 (dk_at dksX4_sign_0 10 rfl rfl)
theorem dX4_sign_13 : decode cX4_sign 13 = .ok (.aload_n 1, 1) := dk_43 (dk_at dksX4_sign_0 13 rfl rfl)
theorem dX4_sign_14 : decode cX4_sign 14 = .ok (.ldc 100, 2) := dk_18 100 (dk_at dksX4_sign_0 14 rfl rfl)
theorem dX4_sign_16 : decode cX4_sign 16 = .ok (.invokevirtual 71, 3) := dk_182 0 71 (dk_at dksX4_sign_0 16 rfl rfl)
theorem dX4_sign_19 : decode cX4_sign 19 = .ok (.ifCond .eq 7, 3) := dk_153 0 7 (dk_at dksX4_sign_0 19 rfl rfl)
theorem dX4_sign_22 : decode cX4_sign 22 = .ok (.iconst 2, 1) := dk_5 (dk_at dksX4_sign_0 22 rfl rfl)
theorem dX4_sign_23 : decode cX4_sign 23 = .ok (.goto 17, 3) := dk_167 0 17 (dk_at dksX4_sign_1 0 rfl rfl)
theorem dX4_sign_26 : decode cX4_sign 26 = .ok (.aload_n 1, 1) := dk_43 (dk_at dksX4_sign_1 3 rfl rfl)
theorem dX4_sign_27 : decode cX4_sign 27 = .ok (.ldc 102, 2) := dk_18 102 (dk_at dksX4_sign_1 4 rfl rfl)
theorem dX4_sign_29 : decode cX4_sign 29 = .ok (.invokevirtual 71, 3) := dk_182 0 71 (dk_at dksX4_sign_1 6 rfl rfl)
theorem dX4_sign_32 : decode cX4_sign 32 = .ok (.ifCond .eq 7, 3) := dk_153 0 7 (dk_at dksX4_sign_1 9 rfl rfl)
theorem dX4_sign_35 : decode cX4_sign 35 = .ok (.iconst 3, 1) := dk_6 (dk_at dksX4_sign_1 12 rfl rfl)
theorem dX4_sign_36 : decode cX4_sign 36 = .ok (.goto 4, 3) := dk_167 0 4 (dk_at dksX4_sign_1 13 rfl rfl)
theorem dX4_sign_39 : decode cX4_sign 39 = .ok (.iconst (-1), 1) := dk_2 (dk_at dksX4_sign_1 16 rfl rfl)
theorem dX4_sign_40 : decode cX4_sign 40 = .ok (.istore_n 3, 1) := dk_62 (dk_at dksX4_sign_1 17 rfl rfl)
theorem dX4_sign_41 : decode cX4_sign 41 = .ok (.iload_n 3, 1) := dk_29 (dk_at dksX4_sign_1 18 rfl rfl)
theorem dX4_sign_42 : decode cX4_sign 42 = .ok (.iconst (-1), 1) := dk_2 (dk_at dksX4_sign_1 19 rfl rfl)
theorem dX4_sign_43 : decode cX4_sign 43 = .ok (.if_icmp .eq 7, 3) := dk_159 0 7 (dk_at dksX4_sign_1 20 rfl rfl)
theorem dX4_sign_46 : decode cX4_sign 46 = .ok (.iconst 1, 1) := dk_4 (dk_at dksX4_sign_1 23 rfl rfl)
theorem dX4_sign_47 : decode cX4_sign 47 = .ok (.goto 4, 3) := dk_167 0 4 (dk_at dksX4_sign_2 0 rfl rfl)
theorem dX4_sign_50 : decode cX4_sign 50 = .ok (.iconst 0, 1) := dk_3 (dk_at dksX4_sign_2 3 rfl rfl)
theorem dX4_sign_51 : decode cX4_sign 51 = .ok (.iconst 1, 1) := dk_4 (dk_at dksX4_sign_2 4 rfl rfl)
theorem dX4_sign_52 : decode cX4_sign 52 = .ok (.iload_n 2, 1) := dk_28 (dk_at dksX4_sign_2 5 rfl rfl)
theorem dX4_sign_53 : decode cX4_sign 53 = .ok (.invokestatic 56, 3) := dk_184 0 56 (dk_at dksX4_sign_2 6 rfl rfl)
theorem dX4_sign_56 : decode cX4_sign 56 = .ok (.iload_n 3, 1) := dk_29 (dk_at dksX4_sign_2 9 rfl rfl)
theorem dX4_sign_57 : decode cX4_sign 57 = .ok (.ireturn, 1) := dk_172 (dk_at dksX4_sign_2 10 rfl rfl)
abbrev cX4_stuck : ByteArray := prog_10_method_12_code
def yX4_stuck : MethodName := ⟨RX4, "stuck", "()LFewKeys$Key;"⟩
def dkwX4_stuck_1 : List UInt8 := [182, 0, 113, 183, 0, 124, 176]
abbrev dktX4_stuck_1 : List UInt8 := dkwX4_stuck_1 ++ []
def dkwX4_stuck_0 : List UInt8 := [42, 182, 0, 119, 60, 42, 182, 0, 119, 61, 187, 0, 122, 89, 42, 180, 0, 12, 180, 0, 89, 27, 28, 42]
abbrev dktX4_stuck_0 : List UInt8 := dkwX4_stuck_0 ++ dktX4_stuck_1
theorem dksX4_stuck_0 : cX4_stuck.data.toList.drop 0 = dktX4_stuck_0 := by decide +kernel
theorem dksX4_stuck_1 : cX4_stuck.data.toList.drop 24 = dktX4_stuck_1 := dk_seg dksX4_stuck_0 24 rfl rfl
theorem dX4_stuck_0 : decode cX4_stuck 0 = .ok (.aload_n 0, 1) := dk_42 (dk_at dksX4_stuck_0 0 rfl rfl)
theorem dX4_stuck_1 : decode cX4_stuck 1 = .ok (.invokevirtual 119, 3) := dk_182 0 119 (dk_at dksX4_stuck_0 1 rfl rfl)
theorem dX4_stuck_4 : decode cX4_stuck 4 = .ok (.istore_n 1, 1) := dk_60 (dk_at dksX4_stuck_0 4 rfl rfl)
theorem dX4_stuck_5 : decode cX4_stuck 5 = .ok (.aload_n 0, 1) := dk_42 (dk_at dksX4_stuck_0 5 rfl rfl)
theorem dX4_stuck_6 : decode cX4_stuck 6 = .ok (.invokevirtual 119, 3) := dk_182 0 119 (dk_at dksX4_stuck_0 6 rfl rfl)
theorem dX4_stuck_9 : decode cX4_stuck 9 = .ok (.istore_n 2, 1) := dk_61 (dk_at dksX4_stuck_0 9 rfl rfl)
theorem dX4_stuck_10 : decode cX4_stuck 10 = .ok (.new 122, 3) := dk_187 0 122 (dk_at dksX4_stuck_0 10 rfl rfl)
theorem dX4_stuck_13 : decode cX4_stuck 13 = .ok (.dup, 1) := dk_89 (dk_at dksX4_stuck_0 13 rfl rfl)
theorem dX4_stuck_14 : decode cX4_stuck 14 = .ok (.aload_n 0, 1) := dk_42 (dk_at dksX4_stuck_0 14 rfl rfl)
theorem dX4_stuck_15 : decode cX4_stuck 15 = .ok (.getfield 12, 3) := dk_180 0 12 (dk_at dksX4_stuck_0 15 rfl rfl)
theorem dX4_stuck_18 : decode cX4_stuck 18 = .ok (.getfield 89, 3) := dk_180 0 89 (dk_at dksX4_stuck_0 18 rfl rfl)
theorem dX4_stuck_21 : decode cX4_stuck 21 = .ok (.iload_n 1, 1) := dk_27 (dk_at dksX4_stuck_0 21 rfl rfl)
theorem dX4_stuck_22 : decode cX4_stuck 22 = .ok (.iload_n 2, 1) := dk_28 (dk_at dksX4_stuck_0 22 rfl rfl)
theorem dX4_stuck_23 : decode cX4_stuck 23 = .ok (.aload_n 0, 1) := dk_42 (dk_at dksX4_stuck_0 23 rfl rfl)
theorem dX4_stuck_24 : decode cX4_stuck 24 = .ok (.invokevirtual 113, 3) := dk_182 0 113 (dk_at dksX4_stuck_1 0 rfl rfl)
theorem dX4_stuck_27 : decode cX4_stuck 27 = .ok (.invokespecial 124, 3) := dk_183 0 124 (dk_at dksX4_stuck_1 3 rfl rfl)
theorem dX4_stuck_30 : decode cX4_stuck 30 = .ok (.areturn, 1) := dk_176 (dk_at dksX4_stuck_1 6 rfl rfl)
theorem q65 : (Jvm.Cond.initialized "FewKeys$Reader") ∈ lw_all := lw_g (lw_at lw_m1 5 rfl) rfl
theorem q105 : (Jvm.Cond.fieldLinkNest "FewKeys$Reader" (89 : Nat) "FewKeys$Reckoner" "dial" "LFewKeys$Dial;" "FewKeys") ∈ lw_tbl := lw_at lw_m1 45 rfl
theorem q108 : (Jvm.Cond.fieldLinkNest "FewKeys$Reader" (165 : Nat) "FewKeys$Reckoner" "keys" "[LFewKeys$Key;" "FewKeys") ∈ lw_tbl := lw_at lw_m1 48 rfl
theorem q110 : (Jvm.Cond.fieldLinkNest "FewKeys$Reader" (164 : Nat) "FewKeys$Reckoner" "many" "I" "FewKeys") ∈ lw_tbl := lw_at lw_m1 50 rfl
theorem q231 : (Jvm.Cond.instantiable "FewKeys$Reader" (5 : Nat)) ∈ lw_all := lw_g (lw_at lw_m1 171 rfl) rfl
theorem q233 : (Jvm.Cond.instanceMethod ({ cls := "FewKeys$Reader", name := "<init>", desc := "([BI)V" } : Jvm.MethodName)) ∈ lw_all := lw_g (lw_at lw_m1 173 rfl) rfl
theorem q234 : (Jvm.Cond.code ({ cls := "FewKeys$Reader", name := "<init>", desc := "([BI)V" } : Jvm.MethodName) prog_10_method_1_code (3 : Nat) (Option.none : Option Jvm.ClassFile.FieldType)) ∈ lw_all := lw_g (lw_at lw_m1 174 rfl) rfl
theorem q235 : (Jvm.Cond.methodLink "FewKeys$Reader" (3 : Nat) ({ cls := "java/lang/Object", name := "<init>", desc := "()V" } : Jvm.MethodName)) ∈ lw_all := lw_g (lw_at lw_m1 175 rfl) rfl
theorem q236 : (Jvm.Cond.classLink "FewKeys$Reader" (9 : Nat) "FewKeys$Reckoner") ∈ lw_all := lw_g (lw_at lw_m1 176 rfl) rfl
theorem q237 : (Jvm.Cond.methodLinkNest "FewKeys$Reader" (11 : Nat) ({ cls := "FewKeys$Reckoner", name := "<init>", desc := "()V" } : Jvm.MethodName) "FewKeys") ∈ lw_tbl := lw_at lw_m1 177 rfl
theorem q238 : (Jvm.Cond.fieldLink "FewKeys$Reader" (18 : Nat) "FewKeys$Reader" "text" "[B") ∈ lw_all := lw_g (lw_at lw_m1 178 rfl) rfl
theorem q239 : (Jvm.Cond.fieldLink "FewKeys$Reader" (22 : Nat) "FewKeys$Reader" "size" "I") ∈ lw_all := lw_g (lw_at lw_m1 179 rfl) rfl
theorem q240 : (Jvm.Cond.fieldLink "FewKeys$Reader" (12 : Nat) "FewKeys$Reader" "told" "LFewKeys$Reckoner;") ∈ lw_all := lw_g (lw_at lw_m1 180 rfl) rfl
theorem q241 : (Jvm.Cond.fieldLink "FewKeys$Reader" (26 : Nat) "FewKeys$Reader" "at" "I") ∈ lw_all := lw_g (lw_at lw_m1 181 rfl) rfl
theorem q242 : (Jvm.Cond.fieldLink "FewKeys$Reader" (41 : Nat) "FewKeys$Reader" "from" "I") ∈ lw_all := lw_g (lw_at lw_m1 182 rfl) rfl
theorem q243 : (Jvm.Cond.laysFinal "FewKeys$Reader" "FewKeys$Reader" "text" "[B") ∈ lw_all := lw_g (lw_at lw_m1 183 rfl) rfl
theorem q244 : (Jvm.Cond.soleField "FewKeys$Reader" "text") ∈ lw_all := lw_g (lw_at lw_m1 184 rfl) rfl
theorem q245 : (Jvm.Cond.laysFinal "FewKeys$Reader" "FewKeys$Reader" "size" "I") ∈ lw_all := lw_g (lw_at lw_m1 185 rfl) rfl
theorem q246 : (Jvm.Cond.soleField "FewKeys$Reader" "size") ∈ lw_all := lw_g (lw_at lw_m1 186 rfl) rfl
theorem q247 : (Jvm.Cond.laysFinal "FewKeys$Reader" "FewKeys$Reader" "told" "LFewKeys$Reckoner;") ∈ lw_all := lw_g (lw_at lw_m1 187 rfl) rfl
theorem q248 : (Jvm.Cond.soleField "FewKeys$Reader" "told") ∈ lw_all := lw_g (lw_at lw_m1 188 rfl) rfl
theorem q249 : (Jvm.Cond.lays "FewKeys$Reader" "FewKeys$Reader" "at" "I") ∈ lw_all := lw_g (lw_at lw_m1 189 rfl) rfl
theorem q250 : (Jvm.Cond.soleField "FewKeys$Reader" "at") ∈ lw_all := lw_g (lw_at lw_m1 190 rfl) rfl
theorem q251 : (Jvm.Cond.lays "FewKeys$Reader" "FewKeys$Reader" "from" "I") ∈ lw_all := lw_g (lw_at lw_m1 191 rfl) rfl
theorem q252 : (Jvm.Cond.soleField "FewKeys$Reader" "from") ∈ lw_all := lw_g (lw_at lw_m1 192 rfl) rfl
theorem q253 : (Jvm.Cond.superclass "FewKeys$Reader" "java/lang/Object") ∈ lw_all := lw_g (lw_at lw_m1 193 rfl) rfl
theorem q255 : (Jvm.Cond.instanceMethod ({ cls := "FewKeys$Reader", name := "all", desc := "()LFewKeys$Reckoner;" } : Jvm.MethodName)) ∈ lw_all := lw_g (lw_at lw_m1 195 rfl) rfl
theorem q256 : (Jvm.Cond.selects "FewKeys$Reader" ({ cls := "FewKeys$Reader", name := "all", desc := "()LFewKeys$Reckoner;" } : Jvm.MethodName) ({ cls := "FewKeys$Reader", name := "all", desc := "()LFewKeys$Reckoner;" } : Jvm.MethodName)) ∈ lw_all := lw_g (lw_at lw_m1 196 rfl) rfl
theorem q257 : (Jvm.Cond.code ({ cls := "FewKeys$Reader", name := "all", desc := "()LFewKeys$Reckoner;" } : Jvm.MethodName) prog_10_method_15_code (3 : Nat) (Option.some (Jvm.ClassFile.FieldType.object "FewKeys$Reckoner"))) ∈ lw_all := lw_g (lw_at lw_m1 197 rfl) rfl
theorem q258 : (Jvm.Cond.methodLink "FewKeys$Reader" (37 : Nat) ({ cls := "FewKeys$Reader", name := "here", desc := "()I" } : Jvm.MethodName)) ∈ lw_all := lw_g (lw_at lw_m1 198 rfl) rfl
theorem q259 : (Jvm.Cond.privateMethod ({ cls := "FewKeys$Reader", name := "here", desc := "()I" } : Jvm.MethodName)) ∈ lw_tbl := lw_at lw_m1 199 rfl
theorem q260 : (Jvm.Cond.instanceMethod ({ cls := "FewKeys$Reader", name := "here", desc := "()I" } : Jvm.MethodName)) ∈ lw_all := lw_g (lw_at lw_m1 200 rfl) rfl
theorem q261 : (Jvm.Cond.code ({ cls := "FewKeys$Reader", name := "here", desc := "()I" } : Jvm.MethodName) prog_10_method_2_code (1 : Nat) (Option.some Jvm.ClassFile.FieldType.int)) ∈ lw_all := lw_g (lw_at lw_m1 201 rfl) rfl
theorem q262 : (Jvm.Cond.methodLink "FewKeys$Reader" (158 : Nat) ({ cls := "FewKeys$Reader", name := "dial", desc := "()V" } : Jvm.MethodName)) ∈ lw_all := lw_g (lw_at lw_m1 202 rfl) rfl
theorem q263 : (Jvm.Cond.privateMethod ({ cls := "FewKeys$Reader", name := "dial", desc := "()V" } : Jvm.MethodName)) ∈ lw_tbl := lw_at lw_m1 203 rfl
theorem q264 : (Jvm.Cond.instanceMethod ({ cls := "FewKeys$Reader", name := "dial", desc := "()V" } : Jvm.MethodName)) ∈ lw_all := lw_g (lw_at lw_m1 204 rfl) rfl
theorem q265 : (Jvm.Cond.code ({ cls := "FewKeys$Reader", name := "dial", desc := "()V" } : Jvm.MethodName) prog_10_method_7_code (6 : Nat) (Option.none : Option Jvm.ClassFile.FieldType)) ∈ lw_all := lw_g (lw_at lw_m1 205 rfl) rfl
theorem q266 : (Jvm.Cond.methodLink "FewKeys$Reader" (66 : Nat) ({ cls := "FewKeys$Reader", name := "word", desc := "()Ljava/lang/String;" } : Jvm.MethodName)) ∈ lw_all := lw_g (lw_at lw_m1 206 rfl) rfl
theorem q267 : (Jvm.Cond.privateMethod ({ cls := "FewKeys$Reader", name := "word", desc := "()Ljava/lang/String;" } : Jvm.MethodName)) ∈ lw_tbl := lw_at lw_m1 207 rfl
theorem q268 : (Jvm.Cond.instanceMethod ({ cls := "FewKeys$Reader", name := "word", desc := "()Ljava/lang/String;" } : Jvm.MethodName)) ∈ lw_all := lw_g (lw_at lw_m1 208 rfl) rfl
theorem q269 : (Jvm.Cond.code ({ cls := "FewKeys$Reader", name := "word", desc := "()Ljava/lang/String;" } : Jvm.MethodName) prog_10_method_4_code (3 : Nat) (Option.some (Jvm.ClassFile.FieldType.object "java/lang/String"))) ∈ lw_all := lw_g (lw_at lw_m1 209 rfl) rfl
theorem q270 : (Jvm.Cond.classLink "FewKeys$Reader" (34 : Nat) "java/lang/StringBuilder") ∈ lw_all := lw_g (lw_at lw_m1 210 rfl) rfl
theorem q272 : (Jvm.Cond.methodLink "FewKeys$Reader" (36 : Nat) ({ cls := "java/lang/StringBuilder", name := "<init>", desc := "()V" } : Jvm.MethodName)) ∈ lw_all := lw_g (lw_at lw_m1 212 rfl) rfl
theorem q301 : (Jvm.Cond.methodLinkNest "FewKeys$Reader" (44 : Nat) ({ cls := "FewKeys", name := "isIn", desc := "(III)Z" } : Jvm.MethodName) "FewKeys") ∈ lw_tbl := lw_at lw_m2 1 rfl
theorem q302 : (Jvm.Cond.methodLink "FewKeys$Reader" (48 : Nat) ({ cls := "java/lang/StringBuilder", name := "append", desc := "(C)Ljava/lang/StringBuilder;" } : Jvm.MethodName)) ∈ lw_all := lw_g (lw_at lw_m2 2 rfl) rfl
theorem q397 : (Jvm.Cond.methodLink "FewKeys$Reader" (52 : Nat) ({ cls := "java/lang/StringBuilder", name := "toString", desc := "()Ljava/lang/String;" } : Jvm.MethodName)) ∈ lw_all := lw_g (lw_at lw_m2 97 rfl) rfl
theorem q460 : (Jvm.Cond.stringRef "FewKeys$Reader" (69 : Nat) "dial") ∈ lw_tbl := lw_at lw_m2 160 rfl
theorem q461 : (Jvm.Cond.methodLink "FewKeys$Reader" (71 : Nat) ({ cls := "java/lang/String", name := "equals", desc := "(Ljava/lang/Object;)Z" } : Jvm.MethodName)) ∈ lw_all := lw_g (lw_at lw_m2 161 rfl) rfl
theorem q469 : (Jvm.Cond.methodLink "FewKeys$Reader" (56 : Nat) ({ cls := "FewKeys$Reader", name := "want", desc := "(ZII)V" } : Jvm.MethodName)) ∈ lw_all := lw_g (lw_at lw_m2 169 rfl) rfl
theorem q470 : (Jvm.Cond.static ({ cls := "FewKeys$Reader", name := "want", desc := "(ZII)V" } : Jvm.MethodName)) ∈ lw_all := lw_g (lw_at lw_m2 170 rfl) rfl
theorem q471 : (Jvm.Cond.code ({ cls := "FewKeys$Reader", name := "want", desc := "(ZII)V" } : Jvm.MethodName) prog_10_method_3_code (3 : Nat) (Option.none : Option Jvm.ClassFile.FieldType)) ∈ lw_all := lw_g (lw_at lw_m2 171 rfl) rfl
theorem q472 : (Jvm.Cond.classLink "FewKeys$Reader" (29 : Nat) "FewKeys$Fault") ∈ lw_all := lw_g (lw_at lw_m2 172 rfl) rfl
theorem q509 : (Jvm.Cond.methodLink "FewKeys$Reader" (31 : Nat) ({ cls := "FewKeys$Fault", name := "<init>", desc := "(II)V" } : Jvm.MethodName)) ∈ lw_all := lw_g (lw_at lw_m2 209 rfl) rfl
theorem q539 : (Jvm.Cond.stringRef "FewKeys$Reader" (77 : Nat) "round") ∈ lw_tbl := lw_at lw_m2 239 rfl
theorem q540 : (Jvm.Cond.stringRef "FewKeys$Reader" (79 : Nat) "stop") ∈ lw_tbl := lw_at lw_m3 0 rfl
theorem q541 : (Jvm.Cond.methodLink "FewKeys$Reader" (81 : Nat) ({ cls := "FewKeys$Reader", name := "number", desc := "(II)I" } : Jvm.MethodName)) ∈ lw_all := lw_g (lw_at lw_m3 1 rfl) rfl
theorem q542 : (Jvm.Cond.privateMethod ({ cls := "FewKeys$Reader", name := "number", desc := "(II)I" } : Jvm.MethodName)) ∈ lw_tbl := lw_at lw_m3 2 rfl
theorem q543 : (Jvm.Cond.instanceMethod ({ cls := "FewKeys$Reader", name := "number", desc := "(II)I" } : Jvm.MethodName)) ∈ lw_all := lw_g (lw_at lw_m3 3 rfl) rfl
theorem q544 : (Jvm.Cond.code ({ cls := "FewKeys$Reader", name := "number", desc := "(II)I" } : Jvm.MethodName) prog_10_method_5_code (4 : Nat) (Option.some Jvm.ClassFile.FieldType.int)) ∈ lw_all := lw_g (lw_at lw_m3 4 rfl) rfl
theorem q545 : (Jvm.Cond.methodLink "FewKeys$Reader" (60 : Nat) ({ cls := "java/lang/Math", name := "min", desc := "(II)I" } : Jvm.MethodName)) ∈ lw_all := lw_g (lw_at lw_m3 5 rfl) rfl
theorem q546 : (Jvm.Cond.classLink "FewKeys$Reader" (84 : Nat) "FewKeys$Dial") ∈ lw_all := lw_g (lw_at lw_m3 6 rfl) rfl
theorem q548 : (Jvm.Cond.methodLink "FewKeys$Reader" (86 : Nat) ({ cls := "FewKeys$Dial", name := "<init>", desc := "(IIII)V" } : Jvm.MethodName)) ∈ lw_all := lw_g (lw_at lw_m3 8 rfl) rfl
theorem q555 : (Jvm.Cond.fieldLinkNest "FewKeys$Reader" (95 : Nat) "FewKeys$Dial" "base" "I" "FewKeys") ∈ lw_tbl := lw_at lw_m3 15 rfl
theorem q561 : (Jvm.Cond.fieldLinkNest "FewKeys$Reader" (108 : Nat) "FewKeys$Dial" "many" "I" "FewKeys") ∈ lw_tbl := lw_at lw_m3 21 rfl
theorem q571 : (Jvm.Cond.methodLink "FewKeys$Reader" (92 : Nat) ({ cls := "FewKeys$Reader", name := "end", desc := "()V" } : Jvm.MethodName)) ∈ lw_all := lw_g (lw_at lw_m3 31 rfl) rfl
theorem q572 : (Jvm.Cond.privateMethod ({ cls := "FewKeys$Reader", name := "end", desc := "()V" } : Jvm.MethodName)) ∈ lw_tbl := lw_at lw_m3 32 rfl
theorem q573 : (Jvm.Cond.instanceMethod ({ cls := "FewKeys$Reader", name := "end", desc := "()V" } : Jvm.MethodName)) ∈ lw_all := lw_g (lw_at lw_m3 33 rfl) rfl
theorem q574 : (Jvm.Cond.code ({ cls := "FewKeys$Reader", name := "end", desc := "()V" } : Jvm.MethodName) prog_10_method_6_code (1 : Nat) (Option.none : Option Jvm.ClassFile.FieldType)) ∈ lw_all := lw_g (lw_at lw_m3 34 rfl) rfl
theorem q575 : (Jvm.Cond.methodLink "FewKeys$Reader" (160 : Nat) ({ cls := "FewKeys$Reader", name := "isKey", desc := "(Ljava/lang/String;)Z" } : Jvm.MethodName)) ∈ lw_all := lw_g (lw_at lw_m3 35 rfl) rfl
theorem q576 : (Jvm.Cond.static ({ cls := "FewKeys$Reader", name := "isKey", desc := "(Ljava/lang/String;)Z" } : Jvm.MethodName)) ∈ lw_all := lw_g (lw_at lw_m3 36 rfl) rfl
theorem q577 : (Jvm.Cond.code ({ cls := "FewKeys$Reader", name := "isKey", desc := "(Ljava/lang/String;)Z" } : Jvm.MethodName) prog_10_method_13_code (1 : Nat) (Option.some Jvm.ClassFile.FieldType.boolean)) ∈ lw_all := lw_g (lw_at lw_m3 37 rfl) rfl
theorem q578 : (Jvm.Cond.stringRef "FewKeys$Reader" (125 : Nat) "figure") ∈ lw_tbl := lw_at lw_m3 38 rfl
theorem q579 : (Jvm.Cond.stringRef "FewKeys$Reader" (98 : Nat) "plus") ∈ lw_tbl := lw_at lw_m3 39 rfl
theorem q580 : (Jvm.Cond.stringRef "FewKeys$Reader" (100 : Nat) "less") ∈ lw_tbl := lw_at lw_m3 40 rfl
theorem q581 : (Jvm.Cond.stringRef "FewKeys$Reader" (102 : Nat) "times") ∈ lw_tbl := lw_at lw_m3 41 rfl
theorem q582 : (Jvm.Cond.stringRef "FewKeys$Reader" (126 : Nat) "is") ∈ lw_tbl := lw_at lw_m3 42 rfl
theorem q583 : (Jvm.Cond.stringRef "FewKeys$Reader" (128 : Nat) "clear") ∈ lw_tbl := lw_at lw_m3 43 rfl
theorem q584 : (Jvm.Cond.stringRef "FewKeys$Reader" (130 : Nat) "now") ∈ lw_tbl := lw_at lw_m3 44 rfl
theorem q585 : (Jvm.Cond.stringRef "FewKeys$Reader" (132 : Nat) "stuck") ∈ lw_tbl := lw_at lw_m3 45 rfl
theorem q586 : (Jvm.Cond.methodLink "FewKeys$Reader" (169 : Nat) ({ cls := "FewKeys$Reader", name := "key", desc := "(Ljava/lang/String;I)LFewKeys$Key;" } : Jvm.MethodName)) ∈ lw_all := lw_g (lw_at lw_m3 46 rfl) rfl
theorem q587 : (Jvm.Cond.privateMethod ({ cls := "FewKeys$Reader", name := "key", desc := "(Ljava/lang/String;I)LFewKeys$Key;" } : Jvm.MethodName)) ∈ lw_tbl := lw_at lw_m3 47 rfl
theorem q588 : (Jvm.Cond.instanceMethod ({ cls := "FewKeys$Reader", name := "key", desc := "(Ljava/lang/String;I)LFewKeys$Key;" } : Jvm.MethodName)) ∈ lw_all := lw_g (lw_at lw_m3 48 rfl) rfl
theorem q589 : (Jvm.Cond.code ({ cls := "FewKeys$Reader", name := "key", desc := "(Ljava/lang/String;I)LFewKeys$Key;" } : Jvm.MethodName) prog_10_method_14_code (7 : Nat) (Option.some (Jvm.ClassFile.FieldType.object "FewKeys$Key"))) ∈ lw_all := lw_g (lw_at lw_m3 49 rfl) rfl
theorem q590 : (Jvm.Cond.methodLink "FewKeys$Reader" (134 : Nat) ({ cls := "java/lang/String", name := "hashCode", desc := "()I" } : Jvm.MethodName)) ∈ lw_all := lw_g (lw_at lw_m3 50 rfl) rfl
theorem q643 : (Jvm.Cond.methodLink "FewKeys$Reader" (119 : Nat) ({ cls := "FewKeys$Reader", name := "figure", desc := "()I" } : Jvm.MethodName)) ∈ lw_all := lw_g (lw_at lw_m3 103 rfl) rfl
theorem q644 : (Jvm.Cond.privateMethod ({ cls := "FewKeys$Reader", name := "figure", desc := "()I" } : Jvm.MethodName)) ∈ lw_tbl := lw_at lw_m3 104 rfl
theorem q645 : (Jvm.Cond.instanceMethod ({ cls := "FewKeys$Reader", name := "figure", desc := "()I" } : Jvm.MethodName)) ∈ lw_all := lw_g (lw_at lw_m3 105 rfl) rfl
theorem q646 : (Jvm.Cond.code ({ cls := "FewKeys$Reader", name := "figure", desc := "()I" } : Jvm.MethodName) prog_10_method_8_code (1 : Nat) (Option.some Jvm.ClassFile.FieldType.int)) ∈ lw_all := lw_g (lw_at lw_m3 106 rfl) rfl
theorem q647 : (Jvm.Cond.classLink "FewKeys$Reader" (137 : Nat) "FewKeys$FigureKey") ∈ lw_all := lw_g (lw_at lw_m3 107 rfl) rfl
theorem q649 : (Jvm.Cond.methodLink "FewKeys$Reader" (113 : Nat) ({ cls := "FewKeys$Reader", name := "cost", desc := "()I" } : Jvm.MethodName)) ∈ lw_all := lw_g (lw_at lw_m3 109 rfl) rfl
theorem q650 : (Jvm.Cond.privateMethod ({ cls := "FewKeys$Reader", name := "cost", desc := "()I" } : Jvm.MethodName)) ∈ lw_tbl := lw_at lw_m3 110 rfl
theorem q651 : (Jvm.Cond.instanceMethod ({ cls := "FewKeys$Reader", name := "cost", desc := "()I" } : Jvm.MethodName)) ∈ lw_all := lw_g (lw_at lw_m3 111 rfl) rfl
theorem q652 : (Jvm.Cond.code ({ cls := "FewKeys$Reader", name := "cost", desc := "()I" } : Jvm.MethodName) prog_10_method_9_code (1 : Nat) (Option.some Jvm.ClassFile.FieldType.int)) ∈ lw_all := lw_g (lw_at lw_m3 112 rfl) rfl
theorem q653 : (Jvm.Cond.methodLink "FewKeys$Reader" (139 : Nat) ({ cls := "FewKeys$FigureKey", name := "<init>", desc := "(LFewKeys$Dial;II)V" } : Jvm.MethodName)) ∈ lw_all := lw_g (lw_at lw_m3 113 rfl) rfl
theorem q681 : (Jvm.Cond.classLink "FewKeys$Reader" (142 : Nat) "FewKeys$IsKey") ∈ lw_all := lw_g (lw_at lw_m3 141 rfl) rfl
theorem q683 : (Jvm.Cond.methodLink "FewKeys$Reader" (144 : Nat) ({ cls := "FewKeys$IsKey", name := "<init>", desc := "(LFewKeys$Dial;I)V" } : Jvm.MethodName)) ∈ lw_all := lw_g (lw_at lw_m3 143 rfl) rfl
theorem q690 : (Jvm.Cond.classLink "FewKeys$Reader" (147 : Nat) "FewKeys$ClearKey") ∈ lw_all := lw_g (lw_at lw_m3 150 rfl) rfl
theorem q692 : (Jvm.Cond.methodLink "FewKeys$Reader" (149 : Nat) ({ cls := "FewKeys$ClearKey", name := "<init>", desc := "(LFewKeys$Dial;I)V" } : Jvm.MethodName)) ∈ lw_all := lw_g (lw_at lw_m3 152 rfl) rfl
theorem q699 : (Jvm.Cond.methodLink "FewKeys$Reader" (150 : Nat) ({ cls := "FewKeys$Reader", name := "now", desc := "()LFewKeys$Key;" } : Jvm.MethodName)) ∈ lw_all := lw_g (lw_at lw_m3 159 rfl) rfl
theorem q700 : (Jvm.Cond.privateMethod ({ cls := "FewKeys$Reader", name := "now", desc := "()LFewKeys$Key;" } : Jvm.MethodName)) ∈ lw_tbl := lw_at lw_m3 160 rfl
theorem q701 : (Jvm.Cond.instanceMethod ({ cls := "FewKeys$Reader", name := "now", desc := "()LFewKeys$Key;" } : Jvm.MethodName)) ∈ lw_all := lw_g (lw_at lw_m3 161 rfl) rfl
theorem q702 : (Jvm.Cond.code ({ cls := "FewKeys$Reader", name := "now", desc := "()LFewKeys$Key;" } : Jvm.MethodName) prog_10_method_11_code (4 : Nat) (Option.some (Jvm.ClassFile.FieldType.object "FewKeys$Key"))) ∈ lw_all := lw_g (lw_at lw_m3 162 rfl) rfl
theorem q703 : (Jvm.Cond.methodLink "FewKeys$Reader" (104 : Nat) ({ cls := "FewKeys$Reader", name := "sign", desc := "(Ljava/lang/String;I)I" } : Jvm.MethodName)) ∈ lw_all := lw_g (lw_at lw_m3 163 rfl) rfl
theorem q704 : (Jvm.Cond.privateMethod ({ cls := "FewKeys$Reader", name := "sign", desc := "(Ljava/lang/String;I)I" } : Jvm.MethodName)) ∈ lw_tbl := lw_at lw_m3 164 rfl
theorem q705 : (Jvm.Cond.instanceMethod ({ cls := "FewKeys$Reader", name := "sign", desc := "(Ljava/lang/String;I)I" } : Jvm.MethodName)) ∈ lw_all := lw_g (lw_at lw_m3 165 rfl) rfl
theorem q706 : (Jvm.Cond.code ({ cls := "FewKeys$Reader", name := "sign", desc := "(Ljava/lang/String;I)I" } : Jvm.MethodName) prog_10_method_10_code (4 : Nat) (Option.some Jvm.ClassFile.FieldType.int)) ∈ lw_all := lw_g (lw_at lw_m3 166 rfl) rfl
theorem q707 : (Jvm.Cond.classLink "FewKeys$Reader" (111 : Nat) "FewKeys$NowKey") ∈ lw_all := lw_g (lw_at lw_m3 167 rfl) rfl
theorem q709 : (Jvm.Cond.methodLink "FewKeys$Reader" (116 : Nat) ({ cls := "FewKeys$NowKey", name := "<init>", desc := "(LFewKeys$Dial;III)V" } : Jvm.MethodName)) ∈ lw_all := lw_g (lw_at lw_m3 169 rfl) rfl
theorem q722 : (Jvm.Cond.methodLink "FewKeys$Reader" (153 : Nat) ({ cls := "FewKeys$Reader", name := "stuck", desc := "()LFewKeys$Key;" } : Jvm.MethodName)) ∈ lw_all := lw_g (lw_at lw_m3 182 rfl) rfl
theorem q723 : (Jvm.Cond.privateMethod ({ cls := "FewKeys$Reader", name := "stuck", desc := "()LFewKeys$Key;" } : Jvm.MethodName)) ∈ lw_tbl := lw_at lw_m3 183 rfl
theorem q724 : (Jvm.Cond.instanceMethod ({ cls := "FewKeys$Reader", name := "stuck", desc := "()LFewKeys$Key;" } : Jvm.MethodName)) ∈ lw_all := lw_g (lw_at lw_m3 184 rfl) rfl
theorem q725 : (Jvm.Cond.code ({ cls := "FewKeys$Reader", name := "stuck", desc := "()LFewKeys$Key;" } : Jvm.MethodName) prog_10_method_12_code (3 : Nat) (Option.some (Jvm.ClassFile.FieldType.object "FewKeys$Key"))) ∈ lw_all := lw_g (lw_at lw_m3 185 rfl) rfl
theorem q726 : (Jvm.Cond.classLink "FewKeys$Reader" (122 : Nat) "FewKeys$StuckKey") ∈ lw_all := lw_g (lw_at lw_m3 186 rfl) rfl
theorem q728 : (Jvm.Cond.methodLink "FewKeys$Reader" (124 : Nat) ({ cls := "FewKeys$StuckKey", name := "<init>", desc := "(LFewKeys$Dial;III)V" } : Jvm.MethodName)) ∈ lw_all := lw_g (lw_at lw_m3 188 rfl) rfl
theorem q739 : (Jvm.Cond.classLink "FewKeys$Reader" (155 : Nat) "FewKeys$SignKey") ∈ lw_all := lw_g (lw_at lw_m3 199 rfl) rfl
theorem q741 : (Jvm.Cond.methodLink "FewKeys$Reader" (157 : Nat) ({ cls := "FewKeys$SignKey", name := "<init>", desc := "(LFewKeys$Dial;II)V" } : Jvm.MethodName)) ∈ lw_all := lw_g (lw_at lw_m3 201 rfl) rfl
theorem in_X4 : ∀ w ∈ wsX40, w ∈ lw_all := lw_in wsX40 [243, 245, 247, 249, 251] (by decide +kernel) (by decide +kernel)

