/-! java/lang/AbstractStringBuilder -/
set_option maxRecDepth 100000
def RJ0 : String := "java/lang/AbstractStringBuilder"
abbrev cJ0_init : ByteArray := prog_16_method_2_code
def yJ0_init : MethodName := ⟨RJ0, "<init>", "(I)V"⟩
def dkwJ0_init_1 : List UInt8 := [167, 0, 16, 42, 27, 184, 0, 26, 181, 0, 15, 42, 4, 181, 0, 22, 177]
abbrev dktJ0_init_1 : List UInt8 := dkwJ0_init_1 ++ []
def dkwJ0_init_0 : List UInt8 := [42, 183, 0, 3, 178, 0, 18, 153, 0, 18, 42, 27, 188, 8, 181, 0, 15, 42, 3, 181, 0, 22]
abbrev dktJ0_init_0 : List UInt8 := dkwJ0_init_0 ++ dktJ0_init_1
theorem dksJ0_init_0 : cJ0_init.data.toList.drop 0 = dktJ0_init_0 := by decide +kernel
theorem dksJ0_init_1 : cJ0_init.data.toList.drop 22 = dktJ0_init_1 := dk_seg dksJ0_init_0 22 rfl rfl
theorem dJ0_init_0 : decode cJ0_init 0 = .ok (.aload_n 0, 1) := dk_42 (dk_at dksJ0_init_0 0 rfl rfl)
theorem dJ0_init_1 : decode cJ0_init 1 = .ok (.invokespecial 3, 3) := dk_183 0 3 (dk_at dksJ0_init_0 1 rfl rfl)
theorem dJ0_init_4 : decode cJ0_init 4 = .ok (.getstatic 18, 3) := dk_178 0 18 (dk_at dksJ0_init_0 4 rfl rfl)
theorem dJ0_init_7 : decode cJ0_init 7 = .ok (.ifCond .eq 18, 3) := dk_153 0 18 (dk_at dksJ0_init_0 7 rfl rfl)
theorem dJ0_init_10 : decode cJ0_init 10 = .ok (.aload_n 0, 1) := dk_42 (dk_at dksJ0_init_0 10 rfl rfl)
theorem dJ0_init_11 : decode cJ0_init 11 = .ok (.iload_n 1, 1) := dk_27 (dk_at dksJ0_init_0 11 rfl rfl)
theorem dJ0_init_12 : decode cJ0_init 12 = .ok (.newarray .byte, 2) := dk_188_8 (dk_at dksJ0_init_0 12 rfl rfl)
theorem dJ0_init_14 : decode cJ0_init 14 = .ok (.putfield 15, 3) := dk_181 0 15 (dk_at dksJ0_init_0 14 rfl rfl)
theorem dJ0_init_17 : decode cJ0_init 17 = .ok (.aload_n 0, 1) := dk_42 (dk_at dksJ0_init_0 17 rfl rfl)
theorem dJ0_init_18 : decode cJ0_init 18 = .ok (.iconst 0, 1) := dk_3 (dk_at dksJ0_init_0 18 rfl rfl)
theorem dJ0_init_19 : decode cJ0_init 19 = .ok (.putfield 22, 3) := dk_181 0 22 (dk_at dksJ0_init_0 19 rfl rfl)
theorem dJ0_init_22 : decode cJ0_init 22 = .ok (.goto 16, 3) := dk_167 0 16 (dk_at dksJ0_init_1 0 rfl rfl)
theorem dJ0_init_25 : decode cJ0_init 25 = .ok (.aload_n 0, 1) := dk_42 (dk_at dksJ0_init_1 3 rfl rfl)
theorem dJ0_init_26 : decode cJ0_init 26 = .ok (.iload_n 1, 1) := dk_27 (dk_at dksJ0_init_1 4 rfl rfl)
theorem dJ0_init_27 : decode cJ0_init 27 = .ok (.invokestatic 26, 3) := dk_184 0 26 (dk_at dksJ0_init_1 5 rfl rfl)
theorem dJ0_init_30 : decode cJ0_init 30 = .ok (.putfield 15, 3) := dk_181 0 15 (dk_at dksJ0_init_1 8 rfl rfl)
theorem dJ0_init_33 : decode cJ0_init 33 = .ok (.aload_n 0, 1) := dk_42 (dk_at dksJ0_init_1 11 rfl rfl)
theorem dJ0_init_34 : decode cJ0_init 34 = .ok (.iconst 1, 1) := dk_4 (dk_at dksJ0_init_1 12 rfl rfl)
theorem dJ0_init_35 : decode cJ0_init 35 = .ok (.putfield 22, 3) := dk_181 0 22 (dk_at dksJ0_init_1 13 rfl rfl)
theorem dJ0_init_38 : decode cJ0_init 38 = .ok (.return_, 1) := dk_177 (dk_at dksJ0_init_1 16 rfl rfl)
abbrev cJ0_append : ByteArray := prog_16_method_31_code
def yJ0_append : MethodName := ⟨RJ0, "append", "(C)Ljava/lang/AbstractStringBuilder;"⟩
def dkwJ0_append_3 : List UInt8 := [181, 0, 79, 27, 184, 0, 197, 42, 176]
abbrev dktJ0_append_3 : List UInt8 := dkwJ0_append_3 ++ []
def dkwJ0_append_2 : List UInt8 := [182, 0, 83, 153, 0, 7, 42, 182, 0, 195, 42, 180, 0, 15, 42, 89, 180, 0, 79, 90, 4, 96]
abbrev dktJ0_append_2 : List UInt8 := dkwJ0_append_2 ++ dktJ0_append_3
def dkwJ0_append_1 : List UInt8 := [42, 180, 0, 15, 42, 89, 180, 0, 79, 90, 4, 96, 181, 0, 79, 27, 145, 84, 167, 0, 33, 42]
abbrev dktJ0_append_1 : List UInt8 := dkwJ0_append_1 ++ dktJ0_append_2
def dkwJ0_append_0 : List UInt8 := [42, 42, 180, 0, 79, 4, 96, 182, 0, 100, 42, 182, 0, 83, 153, 0, 31, 27, 184, 0, 191, 153, 0, 24]
abbrev dktJ0_append_0 : List UInt8 := dkwJ0_append_0 ++ dktJ0_append_1
theorem dksJ0_append_0 : cJ0_append.data.toList.drop 0 = dktJ0_append_0 := by decide +kernel
theorem dksJ0_append_1 : cJ0_append.data.toList.drop 24 = dktJ0_append_1 := dk_seg dksJ0_append_0 24 rfl rfl
theorem dksJ0_append_2 : cJ0_append.data.toList.drop 46 = dktJ0_append_2 := dk_seg dksJ0_append_1 22 rfl rfl
theorem dksJ0_append_3 : cJ0_append.data.toList.drop 68 = dktJ0_append_3 := dk_seg dksJ0_append_2 22 rfl rfl
theorem dJ0_append_0 : decode cJ0_append 0 = .ok (.aload_n 0, 1) := dk_42 (dk_at dksJ0_append_0 0 rfl rfl)
theorem dJ0_append_1 : decode cJ0_append 1 = .ok (.aload_n 0, 1) := dk_42 (dk_at dksJ0_append_0 1 rfl rfl)
theorem dJ0_append_2 : decode cJ0_append 2 = .ok (.getfield 79, 3) := dk_180 0 79 (dk_at dksJ0_append_0 2 rfl rfl)
theorem dJ0_append_5 : decode cJ0_append 5 = .ok (.iconst 1, 1) := dk_4 (dk_at dksJ0_append_0 5 rfl rfl)
theorem dJ0_append_6 : decode cJ0_append 6 = .ok (.iadd, 1) := dk_96 (dk_at dksJ0_append_0 6 rfl rfl)
theorem dJ0_append_7 : decode cJ0_append 7 = .ok (.invokevirtual 100, 3) := dk_182 0 100 (dk_at dksJ0_append_0 7 rfl rfl)
theorem dJ0_append_10 : decode cJ0_append 10 = .ok (.aload_n 0, 1) := dk_42 (dk_at dksJ0_append_0 10 rfl rfl)
theorem dJ0_append_11 : decode cJ0_append 11 = .ok (.invokevirtual 83, 3) := dk_182 0 83 (dk_at dksJ0_append_0 11 rfl rfl)
theorem dJ0_append_14 : decode cJ0_append 14 = .ok (.ifCond .eq 31, 3) := dk_153 0 31 (dk_at dksJ0_append_0 14 rfl rfl)
theorem dJ0_append_17 : decode cJ0_append 17 = .ok (.iload_n 1, 1) := dk_27 (dk_at dksJ0_append_0 17 rfl rfl)
theorem dJ0_append_18 : decode cJ0_append 18 = .ok (.invokestatic 191, 3) := dk_184 0 191 (dk_at dksJ0_append_0 18 rfl rfl)
theorem dJ0_append_21 : decode cJ0_append 21 = .ok (.ifCond .eq 24, 3) := dk_153 0 24 (dk_at dksJ0_append_0 21 rfl rfl)
theorem dJ0_append_24 : decode cJ0_append 24 = .ok (.aload_n 0, 1) := dk_42 (dk_at dksJ0_append_1 0 rfl rfl)
theorem dJ0_append_25 : decode cJ0_append 25 = .ok (.getfield 15, 3) := dk_180 0 15 (dk_at dksJ0_append_1 1 rfl rfl)
theorem dJ0_append_28 : decode cJ0_append 28 = .ok (.aload_n 0, 1) := dk_42 (dk_at dksJ0_append_1 4 rfl rfl)
theorem dJ0_append_29 : decode cJ0_append 29 = .ok (.dup, 1) := dk_89 (dk_at dksJ0_append_1 5 rfl rfl)
theorem dJ0_append_30 : decode cJ0_append 30 = .ok (.getfield 79, 3) := dk_180 0 79 (dk_at dksJ0_append_1 6 rfl rfl)
theorem dJ0_append_33 : decode cJ0_append 33 = .ok (.dup_x1, 1) := dk_90 (dk_at dksJ0_append_1 9 rfl rfl)
theorem dJ0_append_34 : decode cJ0_append 34 = .ok (.iconst 1, 1) := dk_4 (dk_at dksJ0_append_1 10 rfl rfl)
theorem dJ0_append_35 : decode cJ0_append 35 = .ok (.iadd, 1) := dk_96 (dk_at dksJ0_append_1 11 rfl rfl)
theorem dJ0_append_36 : decode cJ0_append 36 = .ok (.putfield 79, 3) := dk_181 0 79 (dk_at dksJ0_append_1 12 rfl rfl)
theorem dJ0_append_39 : decode cJ0_append 39 = .ok (.iload_n 1, 1) := dk_27 (dk_at dksJ0_append_1 15 rfl rfl)
theorem dJ0_append_40 : decode cJ0_append 40 = .ok (.i2b, 1) := dk_145 (dk_at dksJ0_append_1 16 rfl rfl)
theorem dJ0_append_41 : decode cJ0_append 41 = .ok (.bastore, 1) := dk_84 (dk_at dksJ0_append_1 17 rfl rfl)
theorem dJ0_append_42 : decode cJ0_append 42 = .ok (.goto 33, 3) := dk_167 0 33 (dk_at dksJ0_append_1 18 rfl rfl)
theorem dJ0_append_45 : decode cJ0_append 45 = .ok (.aload_n 0, 1) := dk_42 (dk_at dksJ0_append_1 21 rfl rfl)
theorem dJ0_append_46 : decode cJ0_append 46 = .ok (.invokevirtual 83, 3) := dk_182 0 83 (dk_at dksJ0_append_2 0 rfl rfl)
theorem dJ0_append_49 : decode cJ0_append 49 = .ok (.ifCond .eq 7, 3) := dk_153 0 7 (dk_at dksJ0_append_2 3 rfl rfl)
theorem dJ0_append_52 : decode cJ0_append 52 = .ok (.aload_n 0, 1) := dk_42 (dk_at dksJ0_append_2 6 rfl rfl)
theorem dJ0_append_53 : decode cJ0_append 53 = .ok (.invokevirtual 195, 3) := dk_182 0 195 (dk_at dksJ0_append_2 7 rfl rfl)
theorem dJ0_append_56 : decode cJ0_append 56 = .ok (.aload_n 0, 1) := dk_42 (dk_at dksJ0_append_2 10 rfl rfl)
theorem dJ0_append_57 : decode cJ0_append 57 = .ok (.getfield 15, 3) := dk_180 0 15 (dk_at dksJ0_append_2 11 rfl rfl)
theorem dJ0_append_60 : decode cJ0_append 60 = .ok (.aload_n 0, 1) := dk_42 (dk_at dksJ0_append_2 14 rfl rfl)
theorem dJ0_append_61 : decode cJ0_append 61 = .ok (.dup, 1) := dk_89 (dk_at dksJ0_append_2 15 rfl rfl)
theorem dJ0_append_62 : decode cJ0_append 62 = .ok (.getfield 79, 3) := dk_180 0 79 (dk_at dksJ0_append_2 16 rfl rfl)
theorem dJ0_append_65 : decode cJ0_append 65 = .ok (.dup_x1, 1) := dk_90 (dk_at dksJ0_append_2 19 rfl rfl)
theorem dJ0_append_66 : decode cJ0_append 66 = .ok (.iconst 1, 1) := dk_4 (dk_at dksJ0_append_2 20 rfl rfl)
theorem dJ0_append_67 : decode cJ0_append 67 = .ok (.iadd, 1) := dk_96 (dk_at dksJ0_append_2 21 rfl rfl)
theorem dJ0_append_68 : decode cJ0_append 68 = .ok (.putfield 79, 3) := dk_181 0 79 (dk_at dksJ0_append_3 0 rfl rfl)
theorem dJ0_append_71 : decode cJ0_append 71 = .ok (.iload_n 1, 1) := dk_27 (dk_at dksJ0_append_3 3 rfl rfl)
theorem dJ0_append_72 : decode cJ0_append 72 = .ok (.invokestatic 197, 3) := dk_184 0 197 (dk_at dksJ0_append_3 4 rfl rfl)
theorem dJ0_append_75 : decode cJ0_append 75 = .ok (.aload_n 0, 1) := dk_42 (dk_at dksJ0_append_3 7 rfl rfl)
theorem dJ0_append_76 : decode cJ0_append 76 = .ok (.areturn, 1) := dk_176 (dk_at dksJ0_append_3 8 rfl rfl)
abbrev cJ0_ensureCapacityInternal : ByteArray := prog_16_method_9_code
def yJ0_ensureCapacityInternal : MethodName := ⟨RJ0, "ensureCapacityInternal", "(I)V"⟩
def dkwJ0_ensureCapacityInternal_1 : List UInt8 := [182, 0, 104, 42, 180, 0, 22, 120, 184, 0, 108, 181, 0, 15, 177]
abbrev dktJ0_ensureCapacityInternal_1 : List UInt8 := dkwJ0_ensureCapacityInternal_1 ++ []
def dkwJ0_ensureCapacityInternal_0 : List UInt8 := [42, 180, 0, 15, 190, 42, 180, 0, 22, 122, 61, 27, 28, 100, 158, 0, 24, 42, 42, 180, 0, 15, 42, 27]
abbrev dktJ0_ensureCapacityInternal_0 : List UInt8 := dkwJ0_ensureCapacityInternal_0 ++ dktJ0_ensureCapacityInternal_1
theorem dksJ0_ensureCapacityInternal_0 : cJ0_ensureCapacityInternal.data.toList.drop 0 = dktJ0_ensureCapacityInternal_0 := by decide +kernel
theorem dksJ0_ensureCapacityInternal_1 : cJ0_ensureCapacityInternal.data.toList.drop 24 = dktJ0_ensureCapacityInternal_1 := dk_seg dksJ0_ensureCapacityInternal_0 24 rfl rfl
theorem dJ0_ensureCapacityInternal_0 : decode cJ0_ensureCapacityInternal 0 = .ok (.aload_n 0, 1) := dk_42 (dk_at dksJ0_ensureCapacityInternal_0 0 rfl rfl)
theorem dJ0_ensureCapacityInternal_1 : decode cJ0_ensureCapacityInternal 1 = .ok (.getfield 15, 3) := dk_180 0 15 (dk_at dksJ0_ensureCapacityInternal_0 1 rfl rfl)
theorem dJ0_ensureCapacityInternal_4 : decode cJ0_ensureCapacityInternal 4 = .ok (.arraylength, 1) := dk_190 (dk_at dksJ0_ensureCapacityInternal_0 4 rfl rfl)
theorem dJ0_ensureCapacityInternal_5 : decode cJ0_ensureCapacityInternal 5 = .ok (.aload_n 0, 1) := dk_42 (dk_at dksJ0_ensureCapacityInternal_0 5 rfl rfl)
theorem dJ0_ensureCapacityInternal_6 : decode cJ0_ensureCapacityInternal 6 = .ok (.getfield 22, 3) := dk_180 0 22 (dk_at dksJ0_ensureCapacityInternal_0 6 rfl rfl)
theorem dJ0_ensureCapacityInternal_9 : decode cJ0_ensureCapacityInternal 9 = .ok (.ishr, 1) := dk_122 (dk_at dksJ0_ensureCapacityInternal_0 9 rfl rfl)
theorem dJ0_ensureCapacityInternal_10 : decode cJ0_ensureCapacityInternal 10 = .ok (.istore_n 2, 1) := dk_61 (dk_at dksJ0_ensureCapacityInternal_0 10 rfl rfl)
theorem dJ0_ensureCapacityInternal_11 : decode cJ0_ensureCapacityInternal 11 = .ok (.iload_n 1, 1) := dk_27 (dk_at dksJ0_ensureCapacityInternal_0 11 rfl rfl)
theorem dJ0_ensureCapacityInternal_12 : decode cJ0_ensureCapacityInternal 12 = .ok (.iload_n 2, 1) := dk_28 (dk_at dksJ0_ensureCapacityInternal_0 12 rfl rfl)
theorem dJ0_ensureCapacityInternal_13 : decode cJ0_ensureCapacityInternal 13 = .ok (.isub, 1) := dk_100 (dk_at dksJ0_ensureCapacityInternal_0 13 rfl rfl)
theorem dJ0_ensureCapacityInternal_14 : decode cJ0_ensureCapacityInternal 14 = .ok (.ifCond .le 24, 3) := dk_158 0 24 (dk_at dksJ0_ensureCapacityInternal_0 14 rfl rfl)
theorem dJ0_ensureCapacityInternal_17 : decode cJ0_ensureCapacityInternal 17 = .ok (.aload_n 0, 1) := dk_42 (dk_at dksJ0_ensureCapacityInternal_0 17 rfl rfl)
theorem dJ0_ensureCapacityInternal_18 : decode cJ0_ensureCapacityInternal 18 = .ok (.aload_n 0, 1) := dk_42 (dk_at dksJ0_ensureCapacityInternal_0 18 rfl rfl)
theorem dJ0_ensureCapacityInternal_19 : decode cJ0_ensureCapacityInternal 19 = .ok (.getfield 15, 3) := dk_180 0 15 (dk_at dksJ0_ensureCapacityInternal_0 19 rfl rfl)
theorem dJ0_ensureCapacityInternal_22 : decode cJ0_ensureCapacityInternal 22 = .ok (.aload_n 0, 1) := dk_42 (dk_at dksJ0_ensureCapacityInternal_0 22 rfl rfl)
theorem dJ0_ensureCapacityInternal_23 : decode cJ0_ensureCapacityInternal 23 = .ok (.iload_n 1, 1) := dk_27 (dk_at dksJ0_ensureCapacityInternal_0 23 rfl rfl)
theorem dJ0_ensureCapacityInternal_24 : decode cJ0_ensureCapacityInternal 24 = .ok (.invokevirtual 104, 3) := dk_182 0 104 (dk_at dksJ0_ensureCapacityInternal_1 0 rfl rfl)
theorem dJ0_ensureCapacityInternal_27 : decode cJ0_ensureCapacityInternal 27 = .ok (.aload_n 0, 1) := dk_42 (dk_at dksJ0_ensureCapacityInternal_1 3 rfl rfl)
theorem dJ0_ensureCapacityInternal_28 : decode cJ0_ensureCapacityInternal 28 = .ok (.getfield 22, 3) := dk_180 0 22 (dk_at dksJ0_ensureCapacityInternal_1 4 rfl rfl)
theorem dJ0_ensureCapacityInternal_31 : decode cJ0_ensureCapacityInternal 31 = .ok (.ishl, 1) := dk_120 (dk_at dksJ0_ensureCapacityInternal_1 7 rfl rfl)
theorem dJ0_ensureCapacityInternal_32 : decode cJ0_ensureCapacityInternal 32 = .ok (.invokestatic 108, 3) := dk_184 0 108 (dk_at dksJ0_ensureCapacityInternal_1 8 rfl rfl)
theorem dJ0_ensureCapacityInternal_35 : decode cJ0_ensureCapacityInternal 35 = .ok (.putfield 15, 3) := dk_181 0 15 (dk_at dksJ0_ensureCapacityInternal_1 11 rfl rfl)
theorem dJ0_ensureCapacityInternal_38 : decode cJ0_ensureCapacityInternal 38 = .ok (.return_, 1) := dk_177 (dk_at dksJ0_ensureCapacityInternal_1 14 rfl rfl)
abbrev cJ0_newCapacity : ByteArray := prog_16_method_10_code
def yJ0_newCapacity : MethodName := ⟨RJ0, "newCapacity", "(I)I"⟩
def dkwJ0_newCapacity_2 : List UInt8 := [183, 0, 124, 191, 21, 5, 42, 180, 0, 22, 122, 172]
abbrev dktJ0_newCapacity_2 : List UInt8 := dkwJ0_newCapacity_2 ++ []
def dkwJ0_newCapacity_1 : List UInt8 := [180, 0, 22, 120, 96, 184, 0, 114, 54, 5, 21, 5, 18, 39, 160, 0, 13, 187, 0, 120, 89, 18, 122]
abbrev dktJ0_newCapacity_1 : List UInt8 := dkwJ0_newCapacity_1 ++ dktJ0_newCapacity_2
def dkwJ0_newCapacity_0 : List UInt8 := [42, 180, 0, 15, 190, 61, 27, 42, 180, 0, 22, 120, 62, 29, 28, 100, 54, 4, 28, 21, 4, 28, 5, 42]
abbrev dktJ0_newCapacity_0 : List UInt8 := dkwJ0_newCapacity_0 ++ dktJ0_newCapacity_1
theorem dksJ0_newCapacity_0 : cJ0_newCapacity.data.toList.drop 0 = dktJ0_newCapacity_0 := by decide +kernel
theorem dksJ0_newCapacity_1 : cJ0_newCapacity.data.toList.drop 24 = dktJ0_newCapacity_1 := dk_seg dksJ0_newCapacity_0 24 rfl rfl
theorem dksJ0_newCapacity_2 : cJ0_newCapacity.data.toList.drop 47 = dktJ0_newCapacity_2 := dk_seg dksJ0_newCapacity_1 23 rfl rfl
theorem dJ0_newCapacity_0 : decode cJ0_newCapacity 0 = .ok (.aload_n 0, 1) := dk_42 (dk_at dksJ0_newCapacity_0 0 rfl rfl)
theorem dJ0_newCapacity_1 : decode cJ0_newCapacity 1 = .ok (.getfield 15, 3) := dk_180 0 15 (dk_at dksJ0_newCapacity_0 1 rfl rfl)
theorem dJ0_newCapacity_4 : decode cJ0_newCapacity 4 = .ok (.arraylength, 1) := dk_190 (dk_at dksJ0_newCapacity_0 4 rfl rfl)
theorem dJ0_newCapacity_5 : decode cJ0_newCapacity 5 = .ok (.istore_n 2, 1) := dk_61 (dk_at dksJ0_newCapacity_0 5 rfl rfl)
theorem dJ0_newCapacity_6 : decode cJ0_newCapacity 6 = .ok (.iload_n 1, 1) := dk_27 (dk_at dksJ0_newCapacity_0 6 rfl rfl)
theorem dJ0_newCapacity_7 : decode cJ0_newCapacity 7 = .ok (.aload_n 0, 1) := dk_42 (dk_at dksJ0_newCapacity_0 7 rfl rfl)
theorem dJ0_newCapacity_8 : decode cJ0_newCapacity 8 = .ok (.getfield 22, 3) := dk_180 0 22 (dk_at dksJ0_newCapacity_0 8 rfl rfl)
theorem dJ0_newCapacity_11 : decode cJ0_newCapacity 11 = .ok (.ishl, 1) := dk_120 (dk_at dksJ0_newCapacity_0 11 rfl rfl)
theorem dJ0_newCapacity_12 : decode cJ0_newCapacity 12 = .ok (.istore_n 3, 1) := dk_62 (dk_at dksJ0_newCapacity_0 12 rfl rfl)
theorem dJ0_newCapacity_13 : decode cJ0_newCapacity 13 = .ok (.iload_n 3, 1) := dk_29 (dk_at dksJ0_newCapacity_0 13 rfl rfl)
theorem dJ0_newCapacity_14 : decode cJ0_newCapacity 14 = .ok (.iload_n 2, 1) := dk_28 (dk_at dksJ0_newCapacity_0 14 rfl rfl)
theorem dJ0_newCapacity_15 : decode cJ0_newCapacity 15 = .ok (.isub, 1) := dk_100 (dk_at dksJ0_newCapacity_0 15 rfl rfl)
theorem dJ0_newCapacity_16 : decode cJ0_newCapacity 16 = .ok (.istore 4, 2) := dk_54 4 (dk_at dksJ0_newCapacity_0 16 rfl rfl)
theorem dJ0_newCapacity_18 : decode cJ0_newCapacity 18 = .ok (.iload_n 2, 1) := dk_28 (dk_at dksJ0_newCapacity_0 18 rfl rfl)
theorem dJ0_newCapacity_19 : decode cJ0_newCapacity 19 = .ok (.iload 4, 2) := dk_21 4 (dk_at dksJ0_newCapacity_0 19 rfl rfl)
theorem dJ0_newCapacity_21 : decode cJ0_newCapacity 21 = .ok (.iload_n 2, 1) := dk_28 (dk_at dksJ0_newCapacity_0 21 rfl rfl)
theorem dJ0_newCapacity_22 : decode cJ0_newCapacity 22 = .ok (.iconst 2, 1) := dk_5 (dk_at dksJ0_newCapacity_0 22 rfl rfl)
theorem dJ0_newCapacity_23 : decode cJ0_newCapacity 23 = .ok (.aload_n 0, 1) := dk_42 (dk_at dksJ0_newCapacity_0 23 rfl rfl)
theorem dJ0_newCapacity_24 : decode cJ0_newCapacity 24 = .ok (.getfield 22, 3) := dk_180 0 22 (dk_at dksJ0_newCapacity_1 0 rfl rfl)
theorem dJ0_newCapacity_27 : decode cJ0_newCapacity 27 = .ok (.ishl, 1) := dk_120 (dk_at dksJ0_newCapacity_1 3 rfl rfl)
theorem dJ0_newCapacity_28 : decode cJ0_newCapacity 28 = .ok (.iadd, 1) := dk_96 (dk_at dksJ0_newCapacity_1 4 rfl rfl)
theorem dJ0_newCapacity_29 : decode cJ0_newCapacity 29 = .ok (.invokestatic 114, 3) := dk_184 0 114 (dk_at dksJ0_newCapacity_1 5 rfl rfl)
theorem dJ0_newCapacity_32 : decode cJ0_newCapacity 32 = .ok (.istore 5, 2) := dk_54 5 (dk_at dksJ0_newCapacity_1 8 rfl rfl)
theorem dJ0_newCapacity_34 : decode cJ0_newCapacity 34 = .ok (.iload 5, 2) := dk_21 5 (dk_at dksJ0_newCapacity_1 10 rfl rfl)
theorem dJ0_newCapacity_36 : decode cJ0_newCapacity 36 = .ok (.ldc 39, 2) := dk_18 39 (dk_at dksJ0_newCapacity_1 12 rfl rfl)
theorem dJ0_newCapacity_38 : decode cJ0_newCapacity 38 = .ok (.if_icmp .ne 13, 3) := dk_160 0 13 (dk_at dksJ0_newCapacity_1 14 rfl rfl)
theorem dJ0_newCapacity_41 : decode cJ0_newCapacity 41 = .ok (.new 120, 3) := dk_187 0 120 (dk_at dksJ0_newCapacity_1 17 rfl rfl)
theorem dJ0_newCapacity_44 : decode cJ0_newCapacity 44 = .ok (.dup, 1) := dk_89 (dk_at dksJ0_newCapacity_1 20 rfl rfl)
theorem dJ0_newCapacity_45 : decode cJ0_newCapacity 45 = .ok (.ldc 122, 2) := dk_18 122 (dk_at dksJ0_newCapacity_1 21 rfl rfl)
theorem dJ0_newCapacity_47 : decode cJ0_newCapacity 47 = .ok (.invokespecial 124, 3) := dk_183 0 124 (dk_at dksJ0_newCapacity_2 0 rfl rfl)
theorem dJ0_newCapacity_50 : decode cJ0_newCapacity 50 = .ok (.athrow, 1) := dk_191 (dk_at dksJ0_newCapacity_2 3 rfl rfl)
theorem dJ0_newCapacity_51 : decode cJ0_newCapacity 51 = .ok (.iload 5, 2) := dk_21 5 (dk_at dksJ0_newCapacity_2 4 rfl rfl)
theorem dJ0_newCapacity_53 : decode cJ0_newCapacity 53 = .ok (.aload_n 0, 1) := dk_42 (dk_at dksJ0_newCapacity_2 6 rfl rfl)
theorem dJ0_newCapacity_54 : decode cJ0_newCapacity 54 = .ok (.getfield 22, 3) := dk_180 0 22 (dk_at dksJ0_newCapacity_2 7 rfl rfl)
theorem dJ0_newCapacity_57 : decode cJ0_newCapacity 57 = .ok (.ishr, 1) := dk_122 (dk_at dksJ0_newCapacity_2 10 rfl rfl)
theorem dJ0_newCapacity_58 : decode cJ0_newCapacity 58 = .ok (.ireturn, 1) := dk_172 (dk_at dksJ0_newCapacity_2 11 rfl rfl)
abbrev cJ0_isLatin1 : ByteArray := prog_16_method_68_code
def yJ0_isLatin1 : MethodName := ⟨RJ0, "isLatin1", "()Z"⟩
def dkwJ0_isLatin1_0 : List UInt8 := [178, 0, 18, 153, 0, 14, 42, 180, 0, 22, 154, 0, 7, 4, 167, 0, 4, 3, 172]
abbrev dktJ0_isLatin1_0 : List UInt8 := dkwJ0_isLatin1_0 ++ []
theorem dksJ0_isLatin1_0 : cJ0_isLatin1.data.toList.drop 0 = dktJ0_isLatin1_0 := by decide +kernel
theorem dJ0_isLatin1_0 : decode cJ0_isLatin1 0 = .ok (.getstatic 18, 3) := dk_178 0 18 (dk_at dksJ0_isLatin1_0 0 rfl rfl)
theorem dJ0_isLatin1_3 : decode cJ0_isLatin1 3 = .ok (.ifCond .eq 14, 3) := dk_153 0 14 (dk_at dksJ0_isLatin1_0 3 rfl rfl)
theorem dJ0_isLatin1_6 : decode cJ0_isLatin1 6 = .ok (.aload_n 0, 1) := dk_42 (dk_at dksJ0_isLatin1_0 6 rfl rfl)
theorem dJ0_isLatin1_7 : decode cJ0_isLatin1 7 = .ok (.getfield 22, 3) := dk_180 0 22 (dk_at dksJ0_isLatin1_0 7 rfl rfl)
theorem dJ0_isLatin1_10 : decode cJ0_isLatin1 10 = .ok (.ifCond .ne 7, 3) := dk_154 0 7 (dk_at dksJ0_isLatin1_0 10 rfl rfl)
theorem dJ0_isLatin1_13 : decode cJ0_isLatin1 13 = .ok (.iconst 1, 1) := dk_4 (dk_at dksJ0_isLatin1_0 13 rfl rfl)
theorem dJ0_isLatin1_14 : decode cJ0_isLatin1 14 = .ok (.goto 4, 3) := dk_167 0 4 (dk_at dksJ0_isLatin1_0 14 rfl rfl)
theorem dJ0_isLatin1_17 : decode cJ0_isLatin1 17 = .ok (.iconst 0, 1) := dk_3 (dk_at dksJ0_isLatin1_0 17 rfl rfl)
theorem dJ0_isLatin1_18 : decode cJ0_isLatin1 18 = .ok (.ireturn, 1) := dk_172 (dk_at dksJ0_isLatin1_0 18 rfl rfl)
abbrev cJ0_inflate : ByteArray := prog_16_method_11_code
def yJ0_inflate : MethodName := ⟨RJ0, "inflate", "()V"⟩
def dkwJ0_inflate_1 : List UInt8 := [42, 180, 0, 79, 184, 0, 125, 42, 43, 181, 0, 15, 42, 4, 181, 0, 22, 177]
abbrev dktJ0_inflate_1 : List UInt8 := dkwJ0_inflate_1 ++ []
def dkwJ0_inflate_0 : List UInt8 := [42, 182, 0, 83, 154, 0, 4, 177, 42, 180, 0, 15, 190, 184, 0, 26, 76, 42, 180, 0, 15, 3, 43, 3]
abbrev dktJ0_inflate_0 : List UInt8 := dkwJ0_inflate_0 ++ dktJ0_inflate_1
theorem dksJ0_inflate_0 : cJ0_inflate.data.toList.drop 0 = dktJ0_inflate_0 := by decide +kernel
theorem dksJ0_inflate_1 : cJ0_inflate.data.toList.drop 24 = dktJ0_inflate_1 := dk_seg dksJ0_inflate_0 24 rfl rfl
theorem dJ0_inflate_0 : decode cJ0_inflate 0 = .ok (.aload_n 0, 1) := dk_42 (dk_at dksJ0_inflate_0 0 rfl rfl)
theorem dJ0_inflate_1 : decode cJ0_inflate 1 = .ok (.invokevirtual 83, 3) := dk_182 0 83 (dk_at dksJ0_inflate_0 1 rfl rfl)
theorem dJ0_inflate_4 : decode cJ0_inflate 4 = .ok (.ifCond .ne 4, 3) := dk_154 0 4 (dk_at dksJ0_inflate_0 4 rfl rfl)
theorem dJ0_inflate_7 : decode cJ0_inflate 7 = .ok (.return_, 1) := dk_177 (dk_at dksJ0_inflate_0 7 rfl rfl)
theorem dJ0_inflate_8 : decode cJ0_inflate 8 = .ok (.aload_n 0, 1) := dk_42 (dk_at dksJ0_inflate_0 8 rfl rfl)
theorem dJ0_inflate_9 : decode cJ0_inflate 9 = .ok (.getfield 15, 3) := dk_180 0 15 (dk_at dksJ0_inflate_0 9 rfl rfl)
theorem dJ0_inflate_12 : decode cJ0_inflate 12 = .ok (.arraylength, 1) := dk_190 (dk_at dksJ0_inflate_0 12 rfl rfl)
theorem dJ0_inflate_13 : decode cJ0_inflate 13 = .ok (.invokestatic 26, 3) := dk_184 0 26 (dk_at dksJ0_inflate_0 13 rfl rfl)
theorem dJ0_inflate_16 : decode cJ0_inflate 16 = .ok (.astore_n 1, 1) := dk_76 (dk_at dksJ0_inflate_0 16 rfl rfl)
theorem dJ0_inflate_17 : decode cJ0_inflate 17 = .ok (.aload_n 0, 1) := dk_42 (dk_at dksJ0_inflate_0 17 rfl rfl)
theorem dJ0_inflate_18 : decode cJ0_inflate 18 = .ok (.getfield 15, 3) := dk_180 0 15 (dk_at dksJ0_inflate_0 18 rfl rfl)
theorem dJ0_inflate_21 : decode cJ0_inflate 21 = .ok (.iconst 0, 1) := dk_3 (dk_at dksJ0_inflate_0 21 rfl rfl)
theorem dJ0_inflate_22 : decode cJ0_inflate 22 = .ok (.aload_n 1, 1) := dk_43 (dk_at dksJ0_inflate_0 22 rfl rfl)
theorem dJ0_inflate_23 : decode cJ0_inflate 23 = .ok (.iconst 0, 1) := dk_3 (dk_at dksJ0_inflate_0 23 rfl rfl)
theorem dJ0_inflate_24 : decode cJ0_inflate 24 = .ok (.aload_n 0, 1) := dk_42 (dk_at dksJ0_inflate_1 0 rfl rfl)
theorem dJ0_inflate_25 : decode cJ0_inflate 25 = .ok (.getfield 79, 3) := dk_180 0 79 (dk_at dksJ0_inflate_1 1 rfl rfl)
theorem dJ0_inflate_28 : decode cJ0_inflate 28 = .ok (.invokestatic 125, 3) := dk_184 0 125 (dk_at dksJ0_inflate_1 4 rfl rfl)
theorem dJ0_inflate_31 : decode cJ0_inflate 31 = .ok (.aload_n 0, 1) := dk_42 (dk_at dksJ0_inflate_1 7 rfl rfl)
theorem dJ0_inflate_32 : decode cJ0_inflate 32 = .ok (.aload_n 1, 1) := dk_43 (dk_at dksJ0_inflate_1 8 rfl rfl)
theorem dJ0_inflate_33 : decode cJ0_inflate 33 = .ok (.putfield 15, 3) := dk_181 0 15 (dk_at dksJ0_inflate_1 9 rfl rfl)
theorem dJ0_inflate_36 : decode cJ0_inflate 36 = .ok (.aload_n 0, 1) := dk_42 (dk_at dksJ0_inflate_1 12 rfl rfl)
theorem dJ0_inflate_37 : decode cJ0_inflate 37 = .ok (.iconst 1, 1) := dk_4 (dk_at dksJ0_inflate_1 13 rfl rfl)
theorem dJ0_inflate_38 : decode cJ0_inflate 38 = .ok (.putfield 22, 3) := dk_181 0 22 (dk_at dksJ0_inflate_1 14 rfl rfl)
theorem dJ0_inflate_41 : decode cJ0_inflate 41 = .ok (.return_, 1) := dk_177 (dk_at dksJ0_inflate_1 17 rfl rfl)
abbrev cJ0_getValue : ByteArray := prog_16_method_64_code
def yJ0_getValue : MethodName := ⟨RJ0, "getValue", "()[B"⟩
theorem dJ0_getValue_0 : decode cJ0_getValue 0 = .ok (.aload_n 0, 1) := by decide +kernel
theorem dJ0_getValue_1 : decode cJ0_getValue 1 = .ok (.getfield 15, 3) := by decide +kernel
theorem dJ0_getValue_4 : decode cJ0_getValue 4 = .ok (.areturn, 1) := by decide +kernel
abbrev cJ0_length : ByteArray := prog_16_method_6_code
def yJ0_length : MethodName := ⟨RJ0, "length", "()I"⟩
theorem dJ0_length_0 : decode cJ0_length 0 = .ok (.aload_n 0, 1) := by decide +kernel
theorem dJ0_length_1 : decode cJ0_length 1 = .ok (.getfield 79, 3) := by decide +kernel
theorem dJ0_length_4 : decode cJ0_length 4 = .ok (.ireturn, 1) := by decide +kernel
theorem q66 : (Jvm.Cond.initialized "java/lang/AbstractStringBuilder") ∈ lw_all := lw_g (lw_at lw_m1 6 rfl) rfl
theorem q276 : (Jvm.Cond.instanceMethod ({ cls := "java/lang/AbstractStringBuilder", name := "<init>", desc := "(I)V" } : Jvm.MethodName)) ∈ lw_all := lw_g (lw_at lw_m1 216 rfl) rfl
theorem q277 : (Jvm.Cond.code ({ cls := "java/lang/AbstractStringBuilder", name := "<init>", desc := "(I)V" } : Jvm.MethodName) prog_16_method_2_code (2 : Nat) (Option.none : Option Jvm.ClassFile.FieldType)) ∈ lw_all := lw_g (lw_at lw_m1 217 rfl) rfl
theorem q278 : (Jvm.Cond.methodLink "java/lang/AbstractStringBuilder" (3 : Nat) ({ cls := "java/lang/Object", name := "<init>", desc := "()V" } : Jvm.MethodName)) ∈ lw_all := lw_g (lw_at lw_m1 218 rfl) rfl
theorem q279 : (Jvm.Cond.fieldLink "java/lang/AbstractStringBuilder" (18 : Nat) "java/lang/String" "COMPACT_STRINGS" "Z") ∈ lw_all := lw_g (lw_at lw_m1 219 rfl) rfl
theorem q281 : (Jvm.Cond.methodLink "java/lang/AbstractStringBuilder" (26 : Nat) ({ cls := "java/lang/StringUTF16", name := "newBytesFor", desc := "(I)[B" } : Jvm.MethodName)) ∈ lw_all := lw_g (lw_at lw_m1 221 rfl) rfl
theorem q288 : (Jvm.Cond.fieldLink "java/lang/AbstractStringBuilder" (15 : Nat) "java/lang/AbstractStringBuilder" "value" "[B") ∈ lw_all := lw_g (lw_at lw_m1 228 rfl) rfl
theorem q289 : (Jvm.Cond.fieldLink "java/lang/AbstractStringBuilder" (22 : Nat) "java/lang/AbstractStringBuilder" "coder" "B") ∈ lw_all := lw_g (lw_at lw_m1 229 rfl) rfl
theorem q291 : (Jvm.Cond.fieldLink "java/lang/AbstractStringBuilder" (79 : Nat) "java/lang/AbstractStringBuilder" "count" "I") ∈ lw_all := lw_g (lw_at lw_m1 231 rfl) rfl
theorem q293 : (Jvm.Cond.soleField "java/lang/AbstractStringBuilder" "value") ∈ lw_all := lw_g (lw_at lw_m1 233 rfl) rfl
theorem q295 : (Jvm.Cond.soleField "java/lang/AbstractStringBuilder" "coder") ∈ lw_all := lw_g (lw_at lw_m1 235 rfl) rfl
theorem q297 : (Jvm.Cond.soleField "java/lang/AbstractStringBuilder" "maybeLatin1") ∈ lw_all := lw_g (lw_at lw_m1 237 rfl) rfl
theorem q299 : (Jvm.Cond.soleField "java/lang/AbstractStringBuilder" "count") ∈ lw_all := lw_g (lw_at lw_m1 239 rfl) rfl
theorem q307 : (Jvm.Cond.instanceMethod ({ cls := "java/lang/AbstractStringBuilder", name := "append", desc := "(C)Ljava/lang/AbstractStringBuilder;" } : Jvm.MethodName)) ∈ lw_all := lw_g (lw_at lw_m2 7 rfl) rfl
theorem q308 : (Jvm.Cond.code ({ cls := "java/lang/AbstractStringBuilder", name := "append", desc := "(C)Ljava/lang/AbstractStringBuilder;" } : Jvm.MethodName) prog_16_method_31_code (2 : Nat) (Option.some (Jvm.ClassFile.FieldType.object "java/lang/AbstractStringBuilder"))) ∈ lw_all := lw_g (lw_at lw_m2 8 rfl) rfl
theorem q309 : (Jvm.Cond.methodLink "java/lang/AbstractStringBuilder" (100 : Nat) ({ cls := "java/lang/AbstractStringBuilder", name := "ensureCapacityInternal", desc := "(I)V" } : Jvm.MethodName)) ∈ lw_all := lw_g (lw_at lw_m2 9 rfl) rfl
theorem q310 : (Jvm.Cond.privateMethod ({ cls := "java/lang/AbstractStringBuilder", name := "ensureCapacityInternal", desc := "(I)V" } : Jvm.MethodName)) ∈ lw_tbl := lw_at lw_m2 10 rfl
theorem q311 : (Jvm.Cond.instanceMethod ({ cls := "java/lang/AbstractStringBuilder", name := "ensureCapacityInternal", desc := "(I)V" } : Jvm.MethodName)) ∈ lw_all := lw_g (lw_at lw_m2 11 rfl) rfl
theorem q312 : (Jvm.Cond.code ({ cls := "java/lang/AbstractStringBuilder", name := "ensureCapacityInternal", desc := "(I)V" } : Jvm.MethodName) prog_16_method_9_code (3 : Nat) (Option.none : Option Jvm.ClassFile.FieldType)) ∈ lw_all := lw_g (lw_at lw_m2 12 rfl) rfl
theorem q313 : (Jvm.Cond.methodLink "java/lang/AbstractStringBuilder" (104 : Nat) ({ cls := "java/lang/AbstractStringBuilder", name := "newCapacity", desc := "(I)I" } : Jvm.MethodName)) ∈ lw_all := lw_g (lw_at lw_m2 13 rfl) rfl
theorem q314 : (Jvm.Cond.privateMethod ({ cls := "java/lang/AbstractStringBuilder", name := "newCapacity", desc := "(I)I" } : Jvm.MethodName)) ∈ lw_tbl := lw_at lw_m2 14 rfl
theorem q315 : (Jvm.Cond.instanceMethod ({ cls := "java/lang/AbstractStringBuilder", name := "newCapacity", desc := "(I)I" } : Jvm.MethodName)) ∈ lw_all := lw_g (lw_at lw_m2 15 rfl) rfl
theorem q316 : (Jvm.Cond.code ({ cls := "java/lang/AbstractStringBuilder", name := "newCapacity", desc := "(I)I" } : Jvm.MethodName) prog_16_method_10_code (6 : Nat) (Option.some Jvm.ClassFile.FieldType.int)) ∈ lw_all := lw_g (lw_at lw_m2 16 rfl) rfl
theorem q317 : (Jvm.Cond.methodLink "java/lang/AbstractStringBuilder" (114 : Nat) ({ cls := "jdk/internal/util/ArraysSupport", name := "newLength", desc := "(III)I" } : Jvm.MethodName)) ∈ lw_all := lw_g (lw_at lw_m2 17 rfl) rfl
theorem q327 : (Jvm.Cond.constant "java/lang/AbstractStringBuilder" (39 : Nat) (2147483647 : Int32)) ∈ lw_all := lw_g (lw_at lw_m2 27 rfl) rfl
theorem q328 : (Jvm.Cond.methodLink "java/lang/AbstractStringBuilder" (108 : Nat) ({ cls := "java/util/Arrays", name := "copyOf", desc := "([BI)[B" } : Jvm.MethodName)) ∈ lw_all := lw_g (lw_at lw_m2 28 rfl) rfl
theorem q344 : (Jvm.Cond.methodLink "java/lang/AbstractStringBuilder" (83 : Nat) ({ cls := "java/lang/AbstractStringBuilder", name := "isLatin1", desc := "()Z" } : Jvm.MethodName)) ∈ lw_all := lw_g (lw_at lw_m2 44 rfl) rfl
theorem q345 : (Jvm.Cond.instanceMethod ({ cls := "java/lang/AbstractStringBuilder", name := "isLatin1", desc := "()Z" } : Jvm.MethodName)) ∈ lw_all := lw_g (lw_at lw_m2 45 rfl) rfl
theorem q346 : (Jvm.Cond.sameMethod "java/lang/AbstractStringBuilder" "java/lang/AbstractStringBuilder" "isLatin1" "()Z") ∈ lw_all := lw_g (lw_at lw_m2 46 rfl) rfl
theorem q348 : (Jvm.Cond.code ({ cls := "java/lang/AbstractStringBuilder", name := "isLatin1", desc := "()Z" } : Jvm.MethodName) prog_16_method_68_code (1 : Nat) (Option.some Jvm.ClassFile.FieldType.boolean)) ∈ lw_all := lw_g (lw_at lw_m2 48 rfl) rfl
theorem q349 : (Jvm.Cond.methodLink "java/lang/AbstractStringBuilder" (191 : Nat) ({ cls := "java/lang/StringLatin1", name := "canEncode", desc := "(C)Z" } : Jvm.MethodName)) ∈ lw_all := lw_g (lw_at lw_m2 49 rfl) rfl
theorem q352 : (Jvm.Cond.methodLink "java/lang/AbstractStringBuilder" (195 : Nat) ({ cls := "java/lang/AbstractStringBuilder", name := "inflate", desc := "()V" } : Jvm.MethodName)) ∈ lw_all := lw_g (lw_at lw_m2 52 rfl) rfl
theorem q353 : (Jvm.Cond.privateMethod ({ cls := "java/lang/AbstractStringBuilder", name := "inflate", desc := "()V" } : Jvm.MethodName)) ∈ lw_tbl := lw_at lw_m2 53 rfl
theorem q354 : (Jvm.Cond.instanceMethod ({ cls := "java/lang/AbstractStringBuilder", name := "inflate", desc := "()V" } : Jvm.MethodName)) ∈ lw_all := lw_g (lw_at lw_m2 54 rfl) rfl
theorem q355 : (Jvm.Cond.code ({ cls := "java/lang/AbstractStringBuilder", name := "inflate", desc := "()V" } : Jvm.MethodName) prog_16_method_11_code (2 : Nat) (Option.none : Option Jvm.ClassFile.FieldType)) ∈ lw_all := lw_g (lw_at lw_m2 55 rfl) rfl
theorem q356 : (Jvm.Cond.methodLink "java/lang/AbstractStringBuilder" (125 : Nat) ({ cls := "java/lang/StringLatin1", name := "inflate", desc := "([BI[BII)V" } : Jvm.MethodName)) ∈ lw_all := lw_g (lw_at lw_m2 56 rfl) rfl
theorem q385 : (Jvm.Cond.methodLink "java/lang/AbstractStringBuilder" (197 : Nat) ({ cls := "java/lang/StringUTF16", name := "putCharSB", desc := "([BII)V" } : Jvm.MethodName)) ∈ lw_all := lw_g (lw_at lw_m2 85 rfl) rfl
theorem q411 : (Jvm.Cond.instanceMethod ({ cls := "java/lang/AbstractStringBuilder", name := "getValue", desc := "()[B" } : Jvm.MethodName)) ∈ lw_all := lw_g (lw_at lw_m2 111 rfl) rfl
theorem q412 : (Jvm.Cond.sameMethod "java/lang/AbstractStringBuilder" "java/lang/AbstractStringBuilder" "getValue" "()[B") ∈ lw_all := lw_g (lw_at lw_m2 112 rfl) rfl
theorem q414 : (Jvm.Cond.code ({ cls := "java/lang/AbstractStringBuilder", name := "getValue", desc := "()[B" } : Jvm.MethodName) prog_16_method_64_code (1 : Nat) (Option.some (Jvm.ClassFile.FieldType.array Jvm.ClassFile.FieldType.byte))) ∈ lw_all := lw_g (lw_at lw_m2 114 rfl) rfl
theorem q416 : (Jvm.Cond.instanceMethod ({ cls := "java/lang/AbstractStringBuilder", name := "length", desc := "()I" } : Jvm.MethodName)) ∈ lw_all := lw_g (lw_at lw_m2 116 rfl) rfl
theorem q417 : (Jvm.Cond.sameMethod "java/lang/AbstractStringBuilder" "java/lang/AbstractStringBuilder" "length" "()I") ∈ lw_all := lw_g (lw_at lw_m2 117 rfl) rfl
theorem q422 : (Jvm.Cond.code ({ cls := "java/lang/AbstractStringBuilder", name := "length", desc := "()I" } : Jvm.MethodName) prog_16_method_6_code (1 : Nat) (Option.some Jvm.ClassFile.FieldType.int)) ∈ lw_all := lw_g (lw_at lw_m2 122 rfl) rfl
theorem q1505 : (Jvm.Cond.sameMethod "java/lang/AbstractStringBuilder" "java/lang/AbstractStringBuilder" "append" "(C)Ljava/lang/AbstractStringBuilder;") ∈ lw_all := lw_g (lw_at lw_m7 5 rfl) rfl
theorem q1506 : (Jvm.Cond.sameMethod "java/lang/AbstractStringBuilder" "java/lang/AbstractStringBuilder" "ensureCapacityInternal" "(I)V") ∈ lw_all := lw_g (lw_at lw_m7 6 rfl) rfl
theorem q1507 : (Jvm.Cond.sameMethod "java/lang/AbstractStringBuilder" "java/lang/AbstractStringBuilder" "newCapacity" "(I)I") ∈ lw_all := lw_g (lw_at lw_m7 7 rfl) rfl
theorem q1508 : (Jvm.Cond.sameMethod "java/lang/AbstractStringBuilder" "java/lang/AbstractStringBuilder" "inflate" "()V") ∈ lw_all := lw_g (lw_at lw_m7 8 rfl) rfl

/-! java/lang/StringBuilder -/
set_option maxRecDepth 100000
def RJ1 : String := "java/lang/StringBuilder"
def TJ1 : u_T := fun k => match k with
  | 0 => ("java/lang/AbstractStringBuilder", "value", "[B", false)
  | 1 => ("java/lang/AbstractStringBuilder", "coder", "B", false)
  | 2 => ("java/lang/AbstractStringBuilder", "maybeLatin1", "Z", false)
  | _ => ("java/lang/AbstractStringBuilder", "count", "I", false)
def tyJ1 : Nat → FieldType := fun k => match k with
  | 0 => .array .byte
  | 1 => .byte
  | 2 => .boolean
  | _ => .int
abbrev wsJ10 : List Cond := u_ws RJ1 TJ1 4
theorem nmJ1 : ∀ a, a < 4 → ∀ b, b < 4 → a ≠ b → (TJ1 a).2.1 ≠ (TJ1 b).2.1 := by decide +kernel
theorem tyJ1_ok : ∀ k, k < 4 → parseFieldDescriptor (TJ1 k).2.2.1 = some (tyJ1 k) := by decide +kernel
abbrev cJ1_init : ByteArray := prog_22_method_1_code
def yJ1_init : MethodName := ⟨RJ1, "<init>", "()V"⟩
def dkwJ1_init_0 : List UInt8 := [42, 16, 16, 183, 0, 1, 177]
abbrev dktJ1_init_0 : List UInt8 := dkwJ1_init_0 ++ []
theorem dksJ1_init_0 : cJ1_init.data.toList.drop 0 = dktJ1_init_0 := by decide +kernel
theorem dJ1_init_0 : decode cJ1_init 0 = .ok (.aload_n 0, 1) := dk_42 (dk_at dksJ1_init_0 0 rfl rfl)
theorem dJ1_init_1 : decode cJ1_init 1 = .ok (.bipush 16, 2) := dk_16 16 (dk_at dksJ1_init_0 1 rfl rfl)
theorem dJ1_init_3 : decode cJ1_init 3 = .ok (.invokespecial 1, 3) := dk_183 0 1 (dk_at dksJ1_init_0 3 rfl rfl)
theorem dJ1_init_6 : decode cJ1_init 6 = .ok (.return_, 1) := dk_177 (dk_at dksJ1_init_0 6 rfl rfl)
abbrev cJ1_append : ByteArray := prog_22_method_14_code
def yJ1_append : MethodName := ⟨RJ1, "append", "(C)Ljava/lang/StringBuilder;"⟩
def dkwJ1_append_0 : List UInt8 := [42, 27, 183, 0, 50, 87, 42, 176]
abbrev dktJ1_append_0 : List UInt8 := dkwJ1_append_0 ++ []
theorem dksJ1_append_0 : cJ1_append.data.toList.drop 0 = dktJ1_append_0 := by decide +kernel
theorem dJ1_append_0 : decode cJ1_append 0 = .ok (.aload_n 0, 1) := dk_42 (dk_at dksJ1_append_0 0 rfl rfl)
theorem dJ1_append_1 : decode cJ1_append 1 = .ok (.iload_n 1, 1) := dk_27 (dk_at dksJ1_append_0 1 rfl rfl)
theorem dJ1_append_2 : decode cJ1_append 2 = .ok (.invokespecial 50, 3) := dk_183 0 50 (dk_at dksJ1_append_0 2 rfl rfl)
theorem dJ1_append_5 : decode cJ1_append 5 = .ok (.pop, 1) := dk_87 (dk_at dksJ1_append_0 5 rfl rfl)
theorem dJ1_append_6 : decode cJ1_append 6 = .ok (.aload_n 0, 1) := dk_42 (dk_at dksJ1_append_0 6 rfl rfl)
theorem dJ1_append_7 : decode cJ1_append 7 = .ok (.areturn, 1) := dk_176 (dk_at dksJ1_append_0 7 rfl rfl)
abbrev cJ1_toString : ByteArray := prog_22_method_42_code
def yJ1_toString : MethodName := ⟨RJ1, "toString", "()Ljava/lang/String;"⟩
def dkwJ1_toString_0 : List UInt8 := [187, 0, 18, 89, 42, 183, 0, 137, 176]
abbrev dktJ1_toString_0 : List UInt8 := dkwJ1_toString_0 ++ []
theorem dksJ1_toString_0 : cJ1_toString.data.toList.drop 0 = dktJ1_toString_0 := by decide +kernel
theorem dJ1_toString_0 : decode cJ1_toString 0 = .ok (.new 18, 3) := dk_187 0 18 (dk_at dksJ1_toString_0 0 rfl rfl)
theorem dJ1_toString_3 : decode cJ1_toString 3 = .ok (.dup, 1) := dk_89 (dk_at dksJ1_toString_0 3 rfl rfl)
theorem dJ1_toString_4 : decode cJ1_toString 4 = .ok (.aload_n 0, 1) := dk_42 (dk_at dksJ1_toString_0 4 rfl rfl)
theorem dJ1_toString_5 : decode cJ1_toString 5 = .ok (.invokespecial 137, 3) := dk_183 0 137 (dk_at dksJ1_toString_0 5 rfl rfl)
theorem dJ1_toString_8 : decode cJ1_toString 8 = .ok (.areturn, 1) := dk_176 (dk_at dksJ1_toString_0 8 rfl rfl)
abbrev cJ1_length : ByteArray := prog_22_method_93_code
def yJ1_length : MethodName := ⟨RJ1, "length", "()I"⟩
theorem dJ1_length_0 : decode cJ1_length 0 = .ok (.aload_n 0, 1) := by decide +kernel
theorem dJ1_length_1 : decode cJ1_length 1 = .ok (.invokespecial 343, 3) := by decide +kernel
theorem dJ1_length_4 : decode cJ1_length 4 = .ok (.ireturn, 1) := by decide +kernel
theorem q67 : (Jvm.Cond.initialized "java/lang/StringBuilder") ∈ lw_all := lw_g (lw_at lw_m1 7 rfl) rfl
theorem q271 : (Jvm.Cond.instantiable "java/lang/StringBuilder" (4 : Nat)) ∈ lw_all := lw_g (lw_at lw_m1 211 rfl) rfl
theorem q273 : (Jvm.Cond.instanceMethod ({ cls := "java/lang/StringBuilder", name := "<init>", desc := "()V" } : Jvm.MethodName)) ∈ lw_all := lw_g (lw_at lw_m1 213 rfl) rfl
theorem q274 : (Jvm.Cond.code ({ cls := "java/lang/StringBuilder", name := "<init>", desc := "()V" } : Jvm.MethodName) prog_22_method_1_code (1 : Nat) (Option.none : Option Jvm.ClassFile.FieldType)) ∈ lw_all := lw_g (lw_at lw_m1 214 rfl) rfl
theorem q275 : (Jvm.Cond.methodLink "java/lang/StringBuilder" (1 : Nat) ({ cls := "java/lang/AbstractStringBuilder", name := "<init>", desc := "(I)V" } : Jvm.MethodName)) ∈ lw_all := lw_g (lw_at lw_m1 215 rfl) rfl
theorem q292 : (Jvm.Cond.lays "java/lang/StringBuilder" "java/lang/AbstractStringBuilder" "value" "[B") ∈ lw_all := lw_g (lw_at lw_m1 232 rfl) rfl
theorem q294 : (Jvm.Cond.lays "java/lang/StringBuilder" "java/lang/AbstractStringBuilder" "coder" "B") ∈ lw_all := lw_g (lw_at lw_m1 234 rfl) rfl
theorem q296 : (Jvm.Cond.lays "java/lang/StringBuilder" "java/lang/AbstractStringBuilder" "maybeLatin1" "Z") ∈ lw_all := lw_g (lw_at lw_m1 236 rfl) rfl
theorem q298 : (Jvm.Cond.lays "java/lang/StringBuilder" "java/lang/AbstractStringBuilder" "count" "I") ∈ lw_all := lw_g (lw_at lw_m1 238 rfl) rfl
theorem q300 : (Jvm.Cond.superclass "java/lang/StringBuilder" "java/lang/AbstractStringBuilder") ∈ lw_all := lw_g (lw_at lw_m2 0 rfl) rfl
theorem q303 : (Jvm.Cond.instanceMethod ({ cls := "java/lang/StringBuilder", name := "append", desc := "(C)Ljava/lang/StringBuilder;" } : Jvm.MethodName)) ∈ lw_all := lw_g (lw_at lw_m2 3 rfl) rfl
theorem q304 : (Jvm.Cond.selects "java/lang/StringBuilder" ({ cls := "java/lang/StringBuilder", name := "append", desc := "(C)Ljava/lang/StringBuilder;" } : Jvm.MethodName) ({ cls := "java/lang/StringBuilder", name := "append", desc := "(C)Ljava/lang/StringBuilder;" } : Jvm.MethodName)) ∈ lw_all := lw_g (lw_at lw_m2 4 rfl) rfl
theorem q305 : (Jvm.Cond.code ({ cls := "java/lang/StringBuilder", name := "append", desc := "(C)Ljava/lang/StringBuilder;" } : Jvm.MethodName) prog_22_method_14_code (2 : Nat) (Option.some (Jvm.ClassFile.FieldType.object "java/lang/StringBuilder"))) ∈ lw_all := lw_g (lw_at lw_m2 5 rfl) rfl
theorem q306 : (Jvm.Cond.methodLink "java/lang/StringBuilder" (50 : Nat) ({ cls := "java/lang/AbstractStringBuilder", name := "append", desc := "(C)Ljava/lang/AbstractStringBuilder;" } : Jvm.MethodName)) ∈ lw_all := lw_g (lw_at lw_m2 6 rfl) rfl
theorem q347 : (Jvm.Cond.selects "java/lang/StringBuilder" ({ cls := "java/lang/AbstractStringBuilder", name := "isLatin1", desc := "()Z" } : Jvm.MethodName) ({ cls := "java/lang/AbstractStringBuilder", name := "isLatin1", desc := "()Z" } : Jvm.MethodName)) ∈ lw_all := lw_g (lw_at lw_m2 47 rfl) rfl
theorem q398 : (Jvm.Cond.instanceMethod ({ cls := "java/lang/StringBuilder", name := "toString", desc := "()Ljava/lang/String;" } : Jvm.MethodName)) ∈ lw_all := lw_g (lw_at lw_m2 98 rfl) rfl
theorem q399 : (Jvm.Cond.selects "java/lang/StringBuilder" ({ cls := "java/lang/StringBuilder", name := "toString", desc := "()Ljava/lang/String;" } : Jvm.MethodName) ({ cls := "java/lang/StringBuilder", name := "toString", desc := "()Ljava/lang/String;" } : Jvm.MethodName)) ∈ lw_all := lw_g (lw_at lw_m2 99 rfl) rfl
theorem q400 : (Jvm.Cond.code ({ cls := "java/lang/StringBuilder", name := "toString", desc := "()Ljava/lang/String;" } : Jvm.MethodName) prog_22_method_42_code (1 : Nat) (Option.some (Jvm.ClassFile.FieldType.object "java/lang/String"))) ∈ lw_all := lw_g (lw_at lw_m2 100 rfl) rfl
theorem q401 : (Jvm.Cond.classLink "java/lang/StringBuilder" (18 : Nat) "java/lang/String") ∈ lw_all := lw_g (lw_at lw_m2 101 rfl) rfl
theorem q403 : (Jvm.Cond.methodLink "java/lang/StringBuilder" (137 : Nat) ({ cls := "java/lang/String", name := "<init>", desc := "(Ljava/lang/StringBuilder;)V" } : Jvm.MethodName)) ∈ lw_all := lw_g (lw_at lw_m2 103 rfl) rfl
theorem q413 : (Jvm.Cond.selects "java/lang/StringBuilder" ({ cls := "java/lang/AbstractStringBuilder", name := "getValue", desc := "()[B" } : Jvm.MethodName) ({ cls := "java/lang/AbstractStringBuilder", name := "getValue", desc := "()[B" } : Jvm.MethodName)) ∈ lw_all := lw_g (lw_at lw_m2 113 rfl) rfl
theorem q418 : (Jvm.Cond.selects "java/lang/StringBuilder" ({ cls := "java/lang/AbstractStringBuilder", name := "length", desc := "()I" } : Jvm.MethodName) ({ cls := "java/lang/StringBuilder", name := "length", desc := "()I" } : Jvm.MethodName)) ∈ lw_all := lw_g (lw_at lw_m2 118 rfl) rfl
theorem q419 : (Jvm.Cond.instanceMethod ({ cls := "java/lang/StringBuilder", name := "length", desc := "()I" } : Jvm.MethodName)) ∈ lw_all := lw_g (lw_at lw_m2 119 rfl) rfl
theorem q420 : (Jvm.Cond.code ({ cls := "java/lang/StringBuilder", name := "length", desc := "()I" } : Jvm.MethodName) prog_22_method_93_code (1 : Nat) (Option.some Jvm.ClassFile.FieldType.int)) ∈ lw_all := lw_g (lw_at lw_m2 120 rfl) rfl
theorem q421 : (Jvm.Cond.methodLink "java/lang/StringBuilder" (343 : Nat) ({ cls := "java/lang/AbstractStringBuilder", name := "length", desc := "()I" } : Jvm.MethodName)) ∈ lw_all := lw_g (lw_at lw_m2 121 rfl) rfl
theorem in_J1 : ∀ w ∈ wsJ10, w ∈ lw_all := lw_in wsJ10 [292, 294, 296, 298] (by decide +kernel) (by decide +kernel)

/-! java/lang/String -/
set_option maxRecDepth 100000
def RJ2 : String := "java/lang/String"
def TJ2 : u_T := fun k => match k with
  | 0 => ("java/lang/String", "value", "[B", true)
  | 1 => ("java/lang/String", "coder", "B", true)
  | 2 => ("java/lang/String", "hash", "I", false)
  | _ => ("java/lang/String", "hashIsZero", "Z", false)
def tyJ2 : Nat → FieldType := fun k => match k with
  | 0 => .array .byte
  | 1 => .byte
  | 2 => .int
  | _ => .boolean
abbrev wsJ20 : List Cond := u_ws RJ2 TJ2 4
theorem nmJ2 : ∀ a, a < 4 → ∀ b, b < 4 → a ≠ b → (TJ2 a).2.1 ≠ (TJ2 b).2.1 := by decide +kernel
theorem tyJ2_ok : ∀ k, k < 4 → parseFieldDescriptor (TJ2 k).2.2.1 = some (tyJ2 k) := by decide +kernel
abbrev cJ2_checkBoundsOffCount : ByteArray := prog_21_method_157_code
def yJ2_checkBoundsOffCount : MethodName := ⟨RJ2, "checkBoundsOffCount", "(III)I"⟩
def dkwJ2_checkBoundsOffCount_0 : List UInt8 := [26, 27, 28, 178, 4, 29, 184, 4, 41, 172]
abbrev dktJ2_checkBoundsOffCount_0 : List UInt8 := dkwJ2_checkBoundsOffCount_0 ++ []
theorem dksJ2_checkBoundsOffCount_0 : cJ2_checkBoundsOffCount.data.toList.drop 0 = dktJ2_checkBoundsOffCount_0 := by decide +kernel
theorem dJ2_checkBoundsOffCount_0 : decode cJ2_checkBoundsOffCount 0 = .ok (.iload_n 0, 1) := dk_26 (dk_at dksJ2_checkBoundsOffCount_0 0 rfl rfl)
theorem dJ2_checkBoundsOffCount_1 : decode cJ2_checkBoundsOffCount 1 = .ok (.iload_n 1, 1) := dk_27 (dk_at dksJ2_checkBoundsOffCount_0 1 rfl rfl)
theorem dJ2_checkBoundsOffCount_2 : decode cJ2_checkBoundsOffCount 2 = .ok (.iload_n 2, 1) := dk_28 (dk_at dksJ2_checkBoundsOffCount_0 2 rfl rfl)
theorem dJ2_checkBoundsOffCount_3 : decode cJ2_checkBoundsOffCount 3 = .ok (.getstatic 1053, 3) := dk_178 4 29 (dk_at dksJ2_checkBoundsOffCount_0 3 rfl rfl)
theorem dJ2_checkBoundsOffCount_6 : decode cJ2_checkBoundsOffCount 6 = .ok (.invokestatic 1065, 3) := dk_184 4 41 (dk_at dksJ2_checkBoundsOffCount_0 6 rfl rfl)
theorem dJ2_checkBoundsOffCount_9 : decode cJ2_checkBoundsOffCount 9 = .ok (.ireturn, 1) := dk_172 (dk_at dksJ2_checkBoundsOffCount_0 9 rfl rfl)
abbrev cJ2_checkIndex : ByteArray := prog_21_method_155_code
def yJ2_checkIndex : MethodName := ⟨RJ2, "checkIndex", "(II)V"⟩
def dkwJ2_checkIndex_0 : List UInt8 := [26, 27, 178, 4, 29, 184, 4, 35, 87, 177]
abbrev dktJ2_checkIndex_0 : List UInt8 := dkwJ2_checkIndex_0 ++ []
theorem dksJ2_checkIndex_0 : cJ2_checkIndex.data.toList.drop 0 = dktJ2_checkIndex_0 := by decide +kernel
theorem dJ2_checkIndex_0 : decode cJ2_checkIndex 0 = .ok (.iload_n 0, 1) := dk_26 (dk_at dksJ2_checkIndex_0 0 rfl rfl)
theorem dJ2_checkIndex_1 : decode cJ2_checkIndex 1 = .ok (.iload_n 1, 1) := dk_27 (dk_at dksJ2_checkIndex_0 1 rfl rfl)
theorem dJ2_checkIndex_2 : decode cJ2_checkIndex 2 = .ok (.getstatic 1053, 3) := dk_178 4 29 (dk_at dksJ2_checkIndex_0 2 rfl rfl)
theorem dJ2_checkIndex_5 : decode cJ2_checkIndex 5 = .ok (.invokestatic 1059, 3) := dk_184 4 35 (dk_at dksJ2_checkIndex_0 5 rfl rfl)
theorem dJ2_checkIndex_8 : decode cJ2_checkIndex 8 = .ok (.pop, 1) := dk_87 (dk_at dksJ2_checkIndex_0 8 rfl rfl)
theorem dJ2_checkIndex_9 : decode cJ2_checkIndex 9 = .ok (.return_, 1) := dk_177 (dk_at dksJ2_checkIndex_0 9 rfl rfl)
abbrev cJ2_init : ByteArray := prog_21_method_53_code
def yJ2_init : MethodName := ⟨RJ2, "<init>", "(Ljava/lang/StringBuilder;)V"⟩
def dkwJ2_init_0 : List UInt8 := [42, 43, 1, 183, 1, 233, 177]
abbrev dktJ2_init_0 : List UInt8 := dkwJ2_init_0 ++ []
theorem dksJ2_init_0 : cJ2_init.data.toList.drop 0 = dktJ2_init_0 := by decide +kernel
theorem dJ2_init_0 : decode cJ2_init 0 = .ok (.aload_n 0, 1) := dk_42 (dk_at dksJ2_init_0 0 rfl rfl)
theorem dJ2_init_1 : decode cJ2_init 1 = .ok (.aload_n 1, 1) := dk_43 (dk_at dksJ2_init_0 1 rfl rfl)
theorem dJ2_init_2 : decode cJ2_init 2 = .ok (.aconst_null, 1) := dk_1 (dk_at dksJ2_init_0 2 rfl rfl)
theorem dJ2_init_3 : decode cJ2_init 3 = .ok (.invokespecial 489, 3) := dk_183 1 233 (dk_at dksJ2_init_0 3 rfl rfl)
theorem dJ2_init_6 : decode cJ2_init 6 = .ok (.return_, 1) := dk_177 (dk_at dksJ2_init_0 6 rfl rfl)
abbrev cJ2_init_2 : ByteArray := prog_21_method_150_code
def yJ2_init_2 : MethodName := ⟨RJ2, "<init>", "(Ljava/lang/AbstractStringBuilder;Ljava/lang/Void;)V"⟩
def dkwJ2_init_2_4 : List UInt8 := [181, 0, 9, 177]
abbrev dktJ2_init_2_4 : List UInt8 := dkwJ2_init_2_4 ++ []
def dkwJ2_init_2_3 : List UInt8 := [184, 0, 47, 181, 0, 15, 177, 42, 4, 181, 0, 15, 42, 45, 3, 21, 4, 4, 120, 184, 0, 54]
abbrev dktJ2_init_2_3 : List UInt8 := dkwJ2_init_2_3 ++ dktJ2_init_2_4
def dkwJ2_init_2_2 : List UInt8 := [180, 4, 24, 153, 0, 28, 42, 45, 3, 21, 4, 184, 4, 27, 181, 0, 9, 42, 42, 180, 0, 9, 21, 4]
abbrev dktJ2_init_2_2 : List UInt8 := dkwJ2_init_2_2 ++ dktJ2_init_2_3
def dkwJ2_init_2_1 : List UInt8 := [181, 0, 15, 42, 45, 3, 21, 4, 184, 0, 54, 181, 0, 9, 167, 0, 59, 178, 0, 38, 153, 0, 35, 43]
abbrev dktJ2_init_2_1 : List UInt8 := dkwJ2_init_2_1 ++ dktJ2_init_2_2
def dkwJ2_init_2_0 : List UInt8 := [42, 183, 0, 1, 43, 182, 2, 40, 78, 43, 182, 2, 37, 54, 4, 43, 182, 4, 23, 153, 0, 22, 42, 3]
abbrev dktJ2_init_2_0 : List UInt8 := dkwJ2_init_2_0 ++ dktJ2_init_2_1
theorem dksJ2_init_2_0 : cJ2_init_2.data.toList.drop 0 = dktJ2_init_2_0 := by decide +kernel
theorem dksJ2_init_2_1 : cJ2_init_2.data.toList.drop 24 = dktJ2_init_2_1 := dk_seg dksJ2_init_2_0 24 rfl rfl
theorem dksJ2_init_2_2 : cJ2_init_2.data.toList.drop 48 = dktJ2_init_2_2 := dk_seg dksJ2_init_2_1 24 rfl rfl
theorem dksJ2_init_2_3 : cJ2_init_2.data.toList.drop 72 = dktJ2_init_2_3 := dk_seg dksJ2_init_2_2 24 rfl rfl
theorem dksJ2_init_2_4 : cJ2_init_2.data.toList.drop 94 = dktJ2_init_2_4 := dk_seg dksJ2_init_2_3 22 rfl rfl
theorem dJ2_init_2_0 : decode cJ2_init_2 0 = .ok (.aload_n 0, 1) := dk_42 (dk_at dksJ2_init_2_0 0 rfl rfl)
theorem dJ2_init_2_1 : decode cJ2_init_2 1 = .ok (.invokespecial 1, 3) := dk_183 0 1 (dk_at dksJ2_init_2_0 1 rfl rfl)
theorem dJ2_init_2_4 : decode cJ2_init_2 4 = .ok (.aload_n 1, 1) := dk_43 (dk_at dksJ2_init_2_0 4 rfl rfl)
theorem dJ2_init_2_5 : decode cJ2_init_2 5 = .ok (.invokevirtual 552, 3) := dk_182 2 40 (dk_at dksJ2_init_2_0 5 rfl rfl)
theorem dJ2_init_2_8 : decode cJ2_init_2 8 = .ok (.astore_n 3, 1) := dk_78 (dk_at dksJ2_init_2_0 8 rfl rfl)
theorem dJ2_init_2_9 : decode cJ2_init_2 9 = .ok (.aload_n 1, 1) := dk_43 (dk_at dksJ2_init_2_0 9 rfl rfl)
theorem dJ2_init_2_10 : decode cJ2_init_2 10 = .ok (.invokevirtual 549, 3) := dk_182 2 37 (dk_at dksJ2_init_2_0 10 rfl rfl)
theorem dJ2_init_2_13 : decode cJ2_init_2 13 = .ok (.istore 4, 2) := dk_54 4 (dk_at dksJ2_init_2_0 13 rfl rfl)
theorem dJ2_init_2_15 : decode cJ2_init_2 15 = .ok (.aload_n 1, 1) := dk_43 (dk_at dksJ2_init_2_0 15 rfl rfl)
theorem dJ2_init_2_16 : decode cJ2_init_2 16 = .ok (.invokevirtual 1047, 3) := dk_182 4 23 (dk_at dksJ2_init_2_0 16 rfl rfl)
theorem dJ2_init_2_19 : decode cJ2_init_2 19 = .ok (.ifCond .eq 22, 3) := dk_153 0 22 (dk_at dksJ2_init_2_0 19 rfl rfl)
theorem dJ2_init_2_22 : decode cJ2_init_2 22 = .ok (.aload_n 0, 1) := dk_42 (dk_at dksJ2_init_2_0 22 rfl rfl)
theorem dJ2_init_2_23 : decode cJ2_init_2 23 = .ok (.iconst 0, 1) := dk_3 (dk_at dksJ2_init_2_0 23 rfl rfl)
theorem dJ2_init_2_24 : decode cJ2_init_2 24 = .ok (.putfield 15, 3) := dk_181 0 15 (dk_at dksJ2_init_2_1 0 rfl rfl)
theorem dJ2_init_2_27 : decode cJ2_init_2 27 = .ok (.aload_n 0, 1) := dk_42 (dk_at dksJ2_init_2_1 3 rfl rfl)
theorem dJ2_init_2_28 : decode cJ2_init_2 28 = .ok (.aload_n 3, 1) := dk_45 (dk_at dksJ2_init_2_1 4 rfl rfl)
theorem dJ2_init_2_29 : decode cJ2_init_2 29 = .ok (.iconst 0, 1) := dk_3 (dk_at dksJ2_init_2_1 5 rfl rfl)
theorem dJ2_init_2_30 : decode cJ2_init_2 30 = .ok (.iload 4, 2) := dk_21 4 (dk_at dksJ2_init_2_1 6 rfl rfl)
theorem dJ2_init_2_32 : decode cJ2_init_2 32 = .ok (.invokestatic 54, 3) := dk_184 0 54 (dk_at dksJ2_init_2_1 8 rfl rfl)
theorem dJ2_init_2_35 : decode cJ2_init_2 35 = .ok (.putfield 9, 3) := dk_181 0 9 (dk_at dksJ2_init_2_1 11 rfl rfl)
theorem dJ2_init_2_38 : decode cJ2_init_2 38 = .ok (.goto 59, 3) := dk_167 0 59 (dk_at dksJ2_init_2_1 14 rfl rfl)
theorem dJ2_init_2_41 : decode cJ2_init_2 41 = .ok (.getstatic 38, 3) := dk_178 0 38 (dk_at dksJ2_init_2_1 17 rfl rfl)
theorem dJ2_init_2_44 : decode cJ2_init_2 44 = .ok (.ifCond .eq 35, 3) := dk_153 0 35 (dk_at dksJ2_init_2_1 20 rfl rfl)
theorem dJ2_init_2_47 : decode cJ2_init_2 47 = .ok (.aload_n 1, 1) := dk_43 (dk_at dksJ2_init_2_1 23 rfl rfl)
theorem dJ2_init_2_48 : decode cJ2_init_2 48 = .ok (.getfield 1048, 3) := dk_180 4 24 (dk_at dksJ2_init_2_2 0 rfl rfl)
theorem dJ2_init_2_51 : decode cJ2_init_2 51 = .ok (.ifCond .eq 28, 3) := dk_153 0 28 (dk_at dksJ2_init_2_2 3 rfl rfl)
theorem dJ2_init_2_54 : decode cJ2_init_2 54 = .ok (.aload_n 0, 1) := dk_42 (dk_at dksJ2_init_2_2 6 rfl rfl)
theorem dJ2_init_2_55 : decode cJ2_init_2 55 = .ok (.aload_n 3, 1) := dk_45 (dk_at dksJ2_init_2_2 7 rfl rfl)
theorem dJ2_init_2_56 : decode cJ2_init_2 56 = .ok (.iconst 0, 1) := dk_3 (dk_at dksJ2_init_2_2 8 rfl rfl)
theorem dJ2_init_2_57 : decode cJ2_init_2 57 = .ok (.iload 4, 2) := dk_21 4 (dk_at dksJ2_init_2_2 9 rfl rfl)
theorem dJ2_init_2_59 : decode cJ2_init_2 59 = .ok (.invokestatic 1051, 3) := dk_184 4 27 (dk_at dksJ2_init_2_2 11 rfl rfl)
theorem dJ2_init_2_62 : decode cJ2_init_2 62 = .ok (.putfield 9, 3) := dk_181 0 9 (dk_at dksJ2_init_2_2 14 rfl rfl)
theorem dJ2_init_2_65 : decode cJ2_init_2 65 = .ok (.aload_n 0, 1) := dk_42 (dk_at dksJ2_init_2_2 17 rfl rfl)
theorem dJ2_init_2_66 : decode cJ2_init_2 66 = .ok (.aload_n 0, 1) := dk_42 (dk_at dksJ2_init_2_2 18 rfl rfl)
theorem dJ2_init_2_67 : decode cJ2_init_2 67 = .ok (.getfield 9, 3) := dk_180 0 9 (dk_at dksJ2_init_2_2 19 rfl rfl)
theorem dJ2_init_2_70 : decode cJ2_init_2 70 = .ok (.iload 4, 2) := dk_21 4 (dk_at dksJ2_init_2_2 22 rfl rfl)
theorem dJ2_init_2_72 : decode cJ2_init_2 72 = .ok (.invokestatic 47, 3) := dk_184 0 47 (dk_at dksJ2_init_2_3 0 rfl rfl)
theorem dJ2_init_2_75 : decode cJ2_init_2 75 = .ok (.putfield 15, 3) := dk_181 0 15 (dk_at dksJ2_init_2_3 3 rfl rfl)
theorem dJ2_init_2_78 : decode cJ2_init_2 78 = .ok (.return_, 1) := dk_177 (dk_at dksJ2_init_2_3 6 rfl rfl)
theorem dJ2_init_2_79 : decode cJ2_init_2 79 = .ok (.aload_n 0, 1) := dk_42 (dk_at dksJ2_init_2_3 7 rfl rfl)
theorem dJ2_init_2_80 : decode cJ2_init_2 80 = .ok (.iconst 1, 1) := dk_4 (dk_at dksJ2_init_2_3 8 rfl rfl)
theorem dJ2_init_2_81 : decode cJ2_init_2 81 = .ok (.putfield 15, 3) := dk_181 0 15 (dk_at dksJ2_init_2_3 9 rfl rfl)
theorem dJ2_init_2_84 : decode cJ2_init_2 84 = .ok (.aload_n 0, 1) := dk_42 (dk_at dksJ2_init_2_3 12 rfl rfl)
theorem dJ2_init_2_85 : decode cJ2_init_2 85 = .ok (.aload_n 3, 1) := dk_45 (dk_at dksJ2_init_2_3 13 rfl rfl)
theorem dJ2_init_2_86 : decode cJ2_init_2 86 = .ok (.iconst 0, 1) := dk_3 (dk_at dksJ2_init_2_3 14 rfl rfl)
theorem dJ2_init_2_87 : decode cJ2_init_2 87 = .ok (.iload 4, 2) := dk_21 4 (dk_at dksJ2_init_2_3 15 rfl rfl)
theorem dJ2_init_2_89 : decode cJ2_init_2 89 = .ok (.iconst 1, 1) := dk_4 (dk_at dksJ2_init_2_3 17 rfl rfl)
theorem dJ2_init_2_90 : decode cJ2_init_2 90 = .ok (.ishl, 1) := dk_120 (dk_at dksJ2_init_2_3 18 rfl rfl)
theorem dJ2_init_2_91 : decode cJ2_init_2 91 = .ok (.invokestatic 54, 3) := dk_184 0 54 (dk_at dksJ2_init_2_3 19 rfl rfl)
theorem dJ2_init_2_94 : decode cJ2_init_2 94 = .ok (.putfield 9, 3) := dk_181 0 9 (dk_at dksJ2_init_2_4 0 rfl rfl)
theorem dJ2_init_2_97 : decode cJ2_init_2 97 = .ok (.return_, 1) := dk_177 (dk_at dksJ2_init_2_4 3 rfl rfl)
abbrev cJ2_equals : ByteArray := prog_21_method_66_code
def yJ2_equals : MethodName := ⟨RJ2, "equals", "(Ljava/lang/Object;)Z"⟩
def dkwJ2_equals_2 : List UInt8 := [184, 2, 29, 153, 0, 7, 4, 167, 0, 4, 3, 172]
abbrev dktJ2_equals_2 : List UInt8 := dkwJ2_equals_2 ++ []
def dkwJ2_equals_1 : List UInt8 := [153, 0, 14, 42, 180, 0, 15, 44, 180, 0, 15, 160, 0, 21, 42, 180, 0, 9, 44, 180, 0, 9]
abbrev dktJ2_equals_1 : List UInt8 := dkwJ2_equals_1 ++ dktJ2_equals_2
def dkwJ2_equals_0 : List UInt8 := [42, 43, 166, 0, 5, 4, 172, 43, 193, 0, 10, 153, 0, 43, 43, 192, 0, 10, 77, 178, 0, 38]
abbrev dktJ2_equals_0 : List UInt8 := dkwJ2_equals_0 ++ dktJ2_equals_1
theorem dksJ2_equals_0 : cJ2_equals.data.toList.drop 0 = dktJ2_equals_0 := by decide +kernel
theorem dksJ2_equals_1 : cJ2_equals.data.toList.drop 22 = dktJ2_equals_1 := dk_seg dksJ2_equals_0 22 rfl rfl
theorem dksJ2_equals_2 : cJ2_equals.data.toList.drop 44 = dktJ2_equals_2 := dk_seg dksJ2_equals_1 22 rfl rfl
theorem dJ2_equals_0 : decode cJ2_equals 0 = .ok (.aload_n 0, 1) := dk_42 (dk_at dksJ2_equals_0 0 rfl rfl)
theorem dJ2_equals_1 : decode cJ2_equals 1 = .ok (.aload_n 1, 1) := dk_43 (dk_at dksJ2_equals_0 1 rfl rfl)
theorem dJ2_equals_2 : decode cJ2_equals 2 = .ok (.if_acmp .ne 5, 3) := dk_166 0 5 (dk_at dksJ2_equals_0 2 rfl rfl)
theorem dJ2_equals_5 : decode cJ2_equals 5 = .ok (.iconst 1, 1) := dk_4 (dk_at dksJ2_equals_0 5 rfl rfl)
theorem dJ2_equals_6 : decode cJ2_equals 6 = .ok (.ireturn, 1) := dk_172 (dk_at dksJ2_equals_0 6 rfl rfl)
theorem dJ2_equals_7 : decode cJ2_equals 7 = .ok (.aload_n 1, 1) := dk_43 (dk_at dksJ2_equals_0 7 rfl rfl)
theorem dJ2_equals_8 : decode cJ2_equals 8 = .ok (.instanceof 10, 3) := dk_193 0 10 (dk_at dksJ2_equals_0 8 rfl rfl)
theorem dJ2_equals_11 : decode cJ2_equals 11 = .ok (.ifCond .eq 43, 3) := dk_153 0 43 (dk_at dksJ2_equals_0 11 rfl rfl)
theorem dJ2_equals_14 : decode cJ2_equals 14 = .ok (.aload_n 1, 1) := dk_43 (dk_at dksJ2_equals_0 14 rfl rfl)
theorem dJ2_equals_15 : decode cJ2_equals 15 = .ok (.checkcast 10, 3) := dk_192 0 10 (dk_at dksJ2_equals_0 15 rfl rfl)
theorem dJ2_equals_18 : decode cJ2_equals 18 = .ok (.astore_n 2, 1) := dk_77 (dk_at dksJ2_equals_0 18 rfl rfl)
theorem dJ2_equals_19 : decode cJ2_equals 19 = .ok (.getstatic 38, 3) := dk_178 0 38 (dk_at dksJ2_equals_0 19 rfl rfl)
theorem dJ2_equals_22 : decode cJ2_equals 22 = .ok (.ifCond .eq 14, 3) := dk_153 0 14 (dk_at dksJ2_equals_1 0 rfl rfl)
theorem dJ2_equals_25 : decode cJ2_equals 25 = .ok (.aload_n 0, 1) := dk_42 (dk_at dksJ2_equals_1 3 rfl rfl)
theorem dJ2_equals_26 : decode cJ2_equals 26 = .ok (.getfield 15, 3) := dk_180 0 15 (dk_at dksJ2_equals_1 4 rfl rfl)
theorem dJ2_equals_29 : decode cJ2_equals 29 = .ok (.aload_n 2, 1) := dk_44 (dk_at dksJ2_equals_1 7 rfl rfl)
theorem dJ2_equals_30 : decode cJ2_equals 30 = .ok (.getfield 15, 3) := dk_180 0 15 (dk_at dksJ2_equals_1 8 rfl rfl)
theorem dJ2_equals_33 : decode cJ2_equals 33 = .ok (.if_icmp .ne 21, 3) := dk_160 0 21 (dk_at dksJ2_equals_1 11 rfl rfl)
theorem dJ2_equals_36 : decode cJ2_equals 36 = .ok (.aload_n 0, 1) := dk_42 (dk_at dksJ2_equals_1 14 rfl rfl)
theorem dJ2_equals_37 : decode cJ2_equals 37 = .ok (.getfield 9, 3) := dk_180 0 9 (dk_at dksJ2_equals_1 15 rfl rfl)
theorem dJ2_equals_40 : decode cJ2_equals 40 = .ok (.aload_n 2, 1) := dk_44 (dk_at dksJ2_equals_1 18 rfl rfl)
theorem dJ2_equals_41 : decode cJ2_equals 41 = .ok (.getfield 9, 3) := dk_180 0 9 (dk_at dksJ2_equals_1 19 rfl rfl)
theorem dJ2_equals_44 : decode cJ2_equals 44 = .ok (.invokestatic 541, 3) := dk_184 2 29 (dk_at dksJ2_equals_2 0 rfl rfl)
theorem dJ2_equals_47 : decode cJ2_equals 47 = .ok (.ifCond .eq 7, 3) := dk_153 0 7 (dk_at dksJ2_equals_2 3 rfl rfl)
theorem dJ2_equals_50 : decode cJ2_equals 50 = .ok (.iconst 1, 1) := dk_4 (dk_at dksJ2_equals_2 6 rfl rfl)
theorem dJ2_equals_51 : decode cJ2_equals 51 = .ok (.goto 4, 3) := dk_167 0 4 (dk_at dksJ2_equals_2 7 rfl rfl)
theorem dJ2_equals_54 : decode cJ2_equals 54 = .ok (.iconst 0, 1) := dk_3 (dk_at dksJ2_equals_2 10 rfl rfl)
theorem dJ2_equals_55 : decode cJ2_equals 55 = .ok (.ireturn, 1) := dk_172 (dk_at dksJ2_equals_2 11 rfl rfl)
abbrev cJ2_hashCode : ByteArray := prog_21_method_78_code
def yJ2_hashCode : MethodName := ⟨RJ2, "hashCode", "()I"⟩
def dkwJ2_hashCode_2 : List UInt8 := [181, 0, 23, 167, 0, 8, 42, 27, 181, 0, 19, 27, 172]
abbrev dktJ2_hashCode_2 : List UInt8 := dkwJ2_hashCode_2 ++ []
def dkwJ2_hashCode_1 : List UInt8 := [180, 0, 9, 184, 2, 116, 167, 0, 10, 42, 180, 0, 9, 184, 2, 120, 60, 27, 154, 0, 11, 42, 4]
abbrev dktJ2_hashCode_1 : List UInt8 := dkwJ2_hashCode_1 ++ dktJ2_hashCode_2
def dkwJ2_hashCode_0 : List UInt8 := [42, 180, 0, 19, 60, 27, 154, 0, 52, 42, 180, 0, 23, 154, 0, 45, 42, 182, 1, 236, 153, 0, 13, 42]
abbrev dktJ2_hashCode_0 : List UInt8 := dkwJ2_hashCode_0 ++ dktJ2_hashCode_1
theorem dksJ2_hashCode_0 : cJ2_hashCode.data.toList.drop 0 = dktJ2_hashCode_0 := by decide +kernel
theorem dksJ2_hashCode_1 : cJ2_hashCode.data.toList.drop 24 = dktJ2_hashCode_1 := dk_seg dksJ2_hashCode_0 24 rfl rfl
theorem dksJ2_hashCode_2 : cJ2_hashCode.data.toList.drop 47 = dktJ2_hashCode_2 := dk_seg dksJ2_hashCode_1 23 rfl rfl
theorem dJ2_hashCode_0 : decode cJ2_hashCode 0 = .ok (.aload_n 0, 1) := dk_42 (dk_at dksJ2_hashCode_0 0 rfl rfl)
theorem dJ2_hashCode_1 : decode cJ2_hashCode 1 = .ok (.getfield 19, 3) := dk_180 0 19 (dk_at dksJ2_hashCode_0 1 rfl rfl)
theorem dJ2_hashCode_4 : decode cJ2_hashCode 4 = .ok (.istore_n 1, 1) := dk_60 (dk_at dksJ2_hashCode_0 4 rfl rfl)
theorem dJ2_hashCode_5 : decode cJ2_hashCode 5 = .ok (.iload_n 1, 1) := dk_27 (dk_at dksJ2_hashCode_0 5 rfl rfl)
theorem dJ2_hashCode_6 : decode cJ2_hashCode 6 = .ok (.ifCond .ne 52, 3) := dk_154 0 52 (dk_at dksJ2_hashCode_0 6 rfl rfl)
theorem dJ2_hashCode_9 : decode cJ2_hashCode 9 = .ok (.aload_n 0, 1) := dk_42 (dk_at dksJ2_hashCode_0 9 rfl rfl)
theorem dJ2_hashCode_10 : decode cJ2_hashCode 10 = .ok (.getfield 23, 3) := dk_180 0 23 (dk_at dksJ2_hashCode_0 10 rfl rfl)
theorem dJ2_hashCode_13 : decode cJ2_hashCode 13 = .ok (.ifCond .ne 45, 3) := dk_154 0 45 (dk_at dksJ2_hashCode_0 13 rfl rfl)
theorem dJ2_hashCode_16 : decode cJ2_hashCode 16 = .ok (.aload_n 0, 1) := dk_42 (dk_at dksJ2_hashCode_0 16 rfl rfl)
theorem dJ2_hashCode_17 : decode cJ2_hashCode 17 = .ok (.invokevirtual 492, 3) := dk_182 1 236 (dk_at dksJ2_hashCode_0 17 rfl rfl)
theorem dJ2_hashCode_20 : decode cJ2_hashCode 20 = .ok (.ifCond .eq 13, 3) := dk_153 0 13 (dk_at dksJ2_hashCode_0 20 rfl rfl)
theorem dJ2_hashCode_23 : decode cJ2_hashCode 23 = .ok (.aload_n 0, 1) := dk_42 (dk_at dksJ2_hashCode_0 23 rfl rfl)
theorem dJ2_hashCode_24 : decode cJ2_hashCode 24 = .ok (.getfield 9, 3) := dk_180 0 9 (dk_at dksJ2_hashCode_1 0 rfl rfl)
theorem dJ2_hashCode_27 : decode cJ2_hashCode 27 = .ok (.invokestatic 628, 3) := dk_184 2 116 (dk_at dksJ2_hashCode_1 3 rfl rfl)
theorem dJ2_hashCode_30 : decode cJ2_hashCode 30 = .ok (.goto 10, 3) := dk_167 0 10 (dk_at dksJ2_hashCode_1 6 rfl rfl)
theorem dJ2_hashCode_33 : decode cJ2_hashCode 33 = .ok (.aload_n 0, 1) := dk_42 (dk_at dksJ2_hashCode_1 9 rfl rfl)
theorem dJ2_hashCode_34 : decode cJ2_hashCode 34 = .ok (.getfield 9, 3) := dk_180 0 9 (dk_at dksJ2_hashCode_1 10 rfl rfl)
theorem dJ2_hashCode_37 : decode cJ2_hashCode 37 = .ok (.invokestatic 632, 3) := dk_184 2 120 (dk_at dksJ2_hashCode_1 13 rfl rfl)
theorem dJ2_hashCode_40 : decode cJ2_hashCode 40 = .ok (.istore_n 1, 1) := dk_60 (dk_at dksJ2_hashCode_1 16 rfl rfl)
theorem dJ2_hashCode_41 : decode cJ2_hashCode 41 = .ok (.iload_n 1, 1) := dk_27 (dk_at dksJ2_hashCode_1 17 rfl rfl)
theorem dJ2_hashCode_42 : decode cJ2_hashCode 42 = .ok (.ifCond .ne 11, 3) := dk_154 0 11 (dk_at dksJ2_hashCode_1 18 rfl rfl)
theorem dJ2_hashCode_45 : decode cJ2_hashCode 45 = .ok (.aload_n 0, 1) := dk_42 (dk_at dksJ2_hashCode_1 21 rfl rfl)
theorem dJ2_hashCode_46 : decode cJ2_hashCode 46 = .ok (.iconst 1, 1) := dk_4 (dk_at dksJ2_hashCode_1 22 rfl rfl)
theorem dJ2_hashCode_47 : decode cJ2_hashCode 47 = .ok (.putfield 23, 3) := dk_181 0 23 (dk_at dksJ2_hashCode_2 0 rfl rfl)
theorem dJ2_hashCode_50 : decode cJ2_hashCode 50 = .ok (.goto 8, 3) := dk_167 0 8 (dk_at dksJ2_hashCode_2 3 rfl rfl)
theorem dJ2_hashCode_53 : decode cJ2_hashCode 53 = .ok (.aload_n 0, 1) := dk_42 (dk_at dksJ2_hashCode_2 6 rfl rfl)
theorem dJ2_hashCode_54 : decode cJ2_hashCode 54 = .ok (.iload_n 1, 1) := dk_27 (dk_at dksJ2_hashCode_2 7 rfl rfl)
theorem dJ2_hashCode_55 : decode cJ2_hashCode 55 = .ok (.putfield 19, 3) := dk_181 0 19 (dk_at dksJ2_hashCode_2 8 rfl rfl)
theorem dJ2_hashCode_58 : decode cJ2_hashCode 58 = .ok (.iload_n 1, 1) := dk_27 (dk_at dksJ2_hashCode_2 11 rfl rfl)
theorem dJ2_hashCode_59 : decode cJ2_hashCode 59 = .ok (.ireturn, 1) := dk_172 (dk_at dksJ2_hashCode_2 12 rfl rfl)
abbrev cJ2_isLatin1 : ByteArray := prog_21_method_154_code
def yJ2_isLatin1 : MethodName := ⟨RJ2, "isLatin1", "()Z"⟩
def dkwJ2_isLatin1_0 : List UInt8 := [178, 0, 38, 153, 0, 14, 42, 180, 0, 15, 154, 0, 7, 4, 167, 0, 4, 3, 172]
abbrev dktJ2_isLatin1_0 : List UInt8 := dkwJ2_isLatin1_0 ++ []
theorem dksJ2_isLatin1_0 : cJ2_isLatin1.data.toList.drop 0 = dktJ2_isLatin1_0 := by decide +kernel
theorem dJ2_isLatin1_0 : decode cJ2_isLatin1 0 = .ok (.getstatic 38, 3) := dk_178 0 38 (dk_at dksJ2_isLatin1_0 0 rfl rfl)
theorem dJ2_isLatin1_3 : decode cJ2_isLatin1 3 = .ok (.ifCond .eq 14, 3) := dk_153 0 14 (dk_at dksJ2_isLatin1_0 3 rfl rfl)
theorem dJ2_isLatin1_6 : decode cJ2_isLatin1 6 = .ok (.aload_n 0, 1) := dk_42 (dk_at dksJ2_isLatin1_0 6 rfl rfl)
theorem dJ2_isLatin1_7 : decode cJ2_isLatin1 7 = .ok (.getfield 15, 3) := dk_180 0 15 (dk_at dksJ2_isLatin1_0 7 rfl rfl)
theorem dJ2_isLatin1_10 : decode cJ2_isLatin1 10 = .ok (.ifCond .ne 7, 3) := dk_154 0 7 (dk_at dksJ2_isLatin1_0 10 rfl rfl)
theorem dJ2_isLatin1_13 : decode cJ2_isLatin1 13 = .ok (.iconst 1, 1) := dk_4 (dk_at dksJ2_isLatin1_0 13 rfl rfl)
theorem dJ2_isLatin1_14 : decode cJ2_isLatin1 14 = .ok (.goto 4, 3) := dk_167 0 4 (dk_at dksJ2_isLatin1_0 14 rfl rfl)
theorem dJ2_isLatin1_17 : decode cJ2_isLatin1 17 = .ok (.iconst 0, 1) := dk_3 (dk_at dksJ2_isLatin1_0 17 rfl rfl)
theorem dJ2_isLatin1_18 : decode cJ2_isLatin1 18 = .ok (.ireturn, 1) := dk_172 (dk_at dksJ2_isLatin1_0 18 rfl rfl)
theorem q68 : (Jvm.Cond.initialized "java/lang/String") ∈ lw_all := lw_g (lw_at lw_m1 8 rfl) rfl
theorem q280 : (Jvm.Cond.laysStatic "java/lang/String" "COMPACT_STRINGS" "Z") ∈ lw_tbl := lw_at lw_m1 220 rfl
theorem q290 : (Jvm.Cond.fieldLink "java/lang/String" (1048 : Nat) "java/lang/AbstractStringBuilder" "maybeLatin1" "Z") ∈ lw_all := lw_g (lw_at lw_m1 230 rfl) rfl
theorem q369 : (Jvm.Cond.static ({ cls := "java/lang/String", name := "checkBoundsOffCount", desc := "(III)I" } : Jvm.MethodName)) ∈ lw_all := lw_g (lw_at lw_m2 69 rfl) rfl
theorem q370 : (Jvm.Cond.code ({ cls := "java/lang/String", name := "checkBoundsOffCount", desc := "(III)I" } : Jvm.MethodName) prog_21_method_157_code (3 : Nat) (Option.some Jvm.ClassFile.FieldType.int)) ∈ lw_all := lw_g (lw_at lw_m2 70 rfl) rfl
theorem q371 : (Jvm.Cond.fieldLink "java/lang/String" (1053 : Nat) "jdk/internal/util/Preconditions" "SIOOBE_FORMATTER" "Ljava/util/function/BiFunction;") ∈ lw_all := lw_g (lw_at lw_m2 71 rfl) rfl
theorem q373 : (Jvm.Cond.methodLink "java/lang/String" (1065 : Nat) ({ cls := "jdk/internal/util/Preconditions", name := "checkFromIndexSize", desc := "(IIILjava/util/function/BiFunction;)I" } : Jvm.MethodName)) ∈ lw_all := lw_g (lw_at lw_m2 73 rfl) rfl
theorem q392 : (Jvm.Cond.static ({ cls := "java/lang/String", name := "checkIndex", desc := "(II)V" } : Jvm.MethodName)) ∈ lw_all := lw_g (lw_at lw_m2 92 rfl) rfl
theorem q393 : (Jvm.Cond.code ({ cls := "java/lang/String", name := "checkIndex", desc := "(II)V" } : Jvm.MethodName) prog_21_method_155_code (2 : Nat) (Option.none : Option Jvm.ClassFile.FieldType)) ∈ lw_all := lw_g (lw_at lw_m2 93 rfl) rfl
theorem q394 : (Jvm.Cond.methodLink "java/lang/String" (1059 : Nat) ({ cls := "jdk/internal/util/Preconditions", name := "checkIndex", desc := "(IILjava/util/function/BiFunction;)I" } : Jvm.MethodName)) ∈ lw_all := lw_g (lw_at lw_m2 94 rfl) rfl
theorem q402 : (Jvm.Cond.instantiable "java/lang/String" (4 : Nat)) ∈ lw_all := lw_g (lw_at lw_m2 102 rfl) rfl
theorem q404 : (Jvm.Cond.instanceMethod ({ cls := "java/lang/String", name := "<init>", desc := "(Ljava/lang/StringBuilder;)V" } : Jvm.MethodName)) ∈ lw_all := lw_g (lw_at lw_m2 104 rfl) rfl
theorem q405 : (Jvm.Cond.code ({ cls := "java/lang/String", name := "<init>", desc := "(Ljava/lang/StringBuilder;)V" } : Jvm.MethodName) prog_21_method_53_code (2 : Nat) (Option.none : Option Jvm.ClassFile.FieldType)) ∈ lw_all := lw_g (lw_at lw_m2 105 rfl) rfl
theorem q406 : (Jvm.Cond.methodLink "java/lang/String" (489 : Nat) ({ cls := "java/lang/String", name := "<init>", desc := "(Ljava/lang/AbstractStringBuilder;Ljava/lang/Void;)V" } : Jvm.MethodName)) ∈ lw_all := lw_g (lw_at lw_m2 106 rfl) rfl
theorem q407 : (Jvm.Cond.instanceMethod ({ cls := "java/lang/String", name := "<init>", desc := "(Ljava/lang/AbstractStringBuilder;Ljava/lang/Void;)V" } : Jvm.MethodName)) ∈ lw_all := lw_g (lw_at lw_m2 107 rfl) rfl
theorem q408 : (Jvm.Cond.code ({ cls := "java/lang/String", name := "<init>", desc := "(Ljava/lang/AbstractStringBuilder;Ljava/lang/Void;)V" } : Jvm.MethodName) prog_21_method_150_code (5 : Nat) (Option.none : Option Jvm.ClassFile.FieldType)) ∈ lw_all := lw_g (lw_at lw_m2 108 rfl) rfl
theorem q409 : (Jvm.Cond.methodLink "java/lang/String" (1 : Nat) ({ cls := "java/lang/Object", name := "<init>", desc := "()V" } : Jvm.MethodName)) ∈ lw_all := lw_g (lw_at lw_m2 109 rfl) rfl
theorem q410 : (Jvm.Cond.methodLink "java/lang/String" (552 : Nat) ({ cls := "java/lang/AbstractStringBuilder", name := "getValue", desc := "()[B" } : Jvm.MethodName)) ∈ lw_all := lw_g (lw_at lw_m2 110 rfl) rfl
theorem q415 : (Jvm.Cond.methodLink "java/lang/String" (549 : Nat) ({ cls := "java/lang/AbstractStringBuilder", name := "length", desc := "()I" } : Jvm.MethodName)) ∈ lw_all := lw_g (lw_at lw_m2 115 rfl) rfl
theorem q423 : (Jvm.Cond.methodLink "java/lang/String" (1047 : Nat) ({ cls := "java/lang/AbstractStringBuilder", name := "isLatin1", desc := "()Z" } : Jvm.MethodName)) ∈ lw_all := lw_g (lw_at lw_m2 123 rfl) rfl
theorem q424 : (Jvm.Cond.methodLink "java/lang/String" (54 : Nat) ({ cls := "java/util/Arrays", name := "copyOfRange", desc := "([BII)[B" } : Jvm.MethodName)) ∈ lw_all := lw_g (lw_at lw_m2 124 rfl) rfl
theorem q433 : (Jvm.Cond.fieldLink "java/lang/String" (38 : Nat) "java/lang/String" "COMPACT_STRINGS" "Z") ∈ lw_all := lw_g (lw_at lw_m2 133 rfl) rfl
theorem q434 : (Jvm.Cond.methodLink "java/lang/String" (1051 : Nat) ({ cls := "java/lang/StringUTF16", name := "compress", desc := "([BII)[B" } : Jvm.MethodName)) ∈ lw_all := lw_g (lw_at lw_m2 134 rfl) rfl
theorem q444 : (Jvm.Cond.methodLink "java/lang/String" (47 : Nat) ({ cls := "java/lang/StringUTF16", name := "coderFromArrayLen", desc := "([BI)B" } : Jvm.MethodName)) ∈ lw_all := lw_g (lw_at lw_m2 144 rfl) rfl
theorem q447 : (Jvm.Cond.fieldLink "java/lang/String" (9 : Nat) "java/lang/String" "value" "[B") ∈ lw_all := lw_g (lw_at lw_m2 147 rfl) rfl
theorem q448 : (Jvm.Cond.fieldLink "java/lang/String" (15 : Nat) "java/lang/String" "coder" "B") ∈ lw_all := lw_g (lw_at lw_m2 148 rfl) rfl
theorem q449 : (Jvm.Cond.fieldLink "java/lang/String" (19 : Nat) "java/lang/String" "hash" "I") ∈ lw_all := lw_g (lw_at lw_m2 149 rfl) rfl
theorem q450 : (Jvm.Cond.fieldLink "java/lang/String" (23 : Nat) "java/lang/String" "hashIsZero" "Z") ∈ lw_all := lw_g (lw_at lw_m2 150 rfl) rfl
theorem q451 : (Jvm.Cond.laysFinal "java/lang/String" "java/lang/String" "value" "[B") ∈ lw_all := lw_g (lw_at lw_m2 151 rfl) rfl
theorem q452 : (Jvm.Cond.soleField "java/lang/String" "value") ∈ lw_all := lw_g (lw_at lw_m2 152 rfl) rfl
theorem q453 : (Jvm.Cond.laysFinal "java/lang/String" "java/lang/String" "coder" "B") ∈ lw_all := lw_g (lw_at lw_m2 153 rfl) rfl
theorem q454 : (Jvm.Cond.soleField "java/lang/String" "coder") ∈ lw_all := lw_g (lw_at lw_m2 154 rfl) rfl
theorem q455 : (Jvm.Cond.lays "java/lang/String" "java/lang/String" "hash" "I") ∈ lw_all := lw_g (lw_at lw_m2 155 rfl) rfl
theorem q456 : (Jvm.Cond.soleField "java/lang/String" "hash") ∈ lw_all := lw_g (lw_at lw_m2 156 rfl) rfl
theorem q457 : (Jvm.Cond.lays "java/lang/String" "java/lang/String" "hashIsZero" "Z") ∈ lw_all := lw_g (lw_at lw_m2 157 rfl) rfl
theorem q458 : (Jvm.Cond.soleField "java/lang/String" "hashIsZero") ∈ lw_all := lw_g (lw_at lw_m2 158 rfl) rfl
theorem q459 : (Jvm.Cond.superclass "java/lang/String" "java/lang/Object") ∈ lw_all := lw_g (lw_at lw_m2 159 rfl) rfl
theorem q462 : (Jvm.Cond.instanceMethod ({ cls := "java/lang/String", name := "equals", desc := "(Ljava/lang/Object;)Z" } : Jvm.MethodName)) ∈ lw_all := lw_g (lw_at lw_m2 162 rfl) rfl
theorem q463 : (Jvm.Cond.selects "java/lang/String" ({ cls := "java/lang/String", name := "equals", desc := "(Ljava/lang/Object;)Z" } : Jvm.MethodName) ({ cls := "java/lang/String", name := "equals", desc := "(Ljava/lang/Object;)Z" } : Jvm.MethodName)) ∈ lw_all := lw_g (lw_at lw_m2 163 rfl) rfl
theorem q464 : (Jvm.Cond.code ({ cls := "java/lang/String", name := "equals", desc := "(Ljava/lang/Object;)Z" } : Jvm.MethodName) prog_21_method_66_code (3 : Nat) (Option.some Jvm.ClassFile.FieldType.boolean)) ∈ lw_all := lw_g (lw_at lw_m2 164 rfl) rfl
theorem q465 : (Jvm.Cond.classLink "java/lang/String" (10 : Nat) "java/lang/String") ∈ lw_all := lw_g (lw_at lw_m2 165 rfl) rfl
theorem q466 : (Jvm.Cond.methodLink "java/lang/String" (541 : Nat) ({ cls := "java/lang/StringLatin1", name := "equals", desc := "([B[B)Z" } : Jvm.MethodName)) ∈ lw_all := lw_g (lw_at lw_m2 166 rfl) rfl
theorem q591 : (Jvm.Cond.instanceMethod ({ cls := "java/lang/String", name := "hashCode", desc := "()I" } : Jvm.MethodName)) ∈ lw_all := lw_g (lw_at lw_m3 51 rfl) rfl
theorem q592 : (Jvm.Cond.selects "java/lang/String" ({ cls := "java/lang/String", name := "hashCode", desc := "()I" } : Jvm.MethodName) ({ cls := "java/lang/String", name := "hashCode", desc := "()I" } : Jvm.MethodName)) ∈ lw_all := lw_g (lw_at lw_m3 52 rfl) rfl
theorem q593 : (Jvm.Cond.code ({ cls := "java/lang/String", name := "hashCode", desc := "()I" } : Jvm.MethodName) prog_21_method_78_code (2 : Nat) (Option.some Jvm.ClassFile.FieldType.int)) ∈ lw_all := lw_g (lw_at lw_m3 53 rfl) rfl
theorem q594 : (Jvm.Cond.methodLink "java/lang/String" (492 : Nat) ({ cls := "java/lang/String", name := "isLatin1", desc := "()Z" } : Jvm.MethodName)) ∈ lw_all := lw_g (lw_at lw_m3 54 rfl) rfl
theorem q595 : (Jvm.Cond.instanceMethod ({ cls := "java/lang/String", name := "isLatin1", desc := "()Z" } : Jvm.MethodName)) ∈ lw_all := lw_g (lw_at lw_m3 55 rfl) rfl
theorem q596 : (Jvm.Cond.selects "java/lang/String" ({ cls := "java/lang/String", name := "isLatin1", desc := "()Z" } : Jvm.MethodName) ({ cls := "java/lang/String", name := "isLatin1", desc := "()Z" } : Jvm.MethodName)) ∈ lw_all := lw_g (lw_at lw_m3 56 rfl) rfl
theorem q597 : (Jvm.Cond.code ({ cls := "java/lang/String", name := "isLatin1", desc := "()Z" } : Jvm.MethodName) prog_21_method_154_code (1 : Nat) (Option.some Jvm.ClassFile.FieldType.boolean)) ∈ lw_all := lw_g (lw_at lw_m3 57 rfl) rfl
theorem q598 : (Jvm.Cond.methodLink "java/lang/String" (628 : Nat) ({ cls := "java/lang/StringLatin1", name := "hashCode", desc := "([B)I" } : Jvm.MethodName)) ∈ lw_all := lw_g (lw_at lw_m3 58 rfl) rfl
theorem q639 : (Jvm.Cond.methodLink "java/lang/String" (632 : Nat) ({ cls := "java/lang/StringUTF16", name := "hashCode", desc := "([B)I" } : Jvm.MethodName)) ∈ lw_all := lw_g (lw_at lw_m3 99 rfl) rfl
theorem in_J2 : ∀ w ∈ wsJ20, w ∈ lw_all := lw_in wsJ20 [451, 453, 455, 457] (by decide +kernel) (by decide +kernel)

/-! java/lang/StringUTF16 -/
set_option maxRecDepth 100000
def RJ3 : String := "java/lang/StringUTF16"
abbrev cJ3_newBytesFor : ByteArray := prog_24_method_2_code
def yJ3_newBytesFor : MethodName := ⟨RJ3, "newBytesFor", "(I)[B"⟩
def dkwJ3_newBytesFor_0 : List UInt8 := [26, 184, 0, 11, 188, 8, 176]
abbrev dktJ3_newBytesFor_0 : List UInt8 := dkwJ3_newBytesFor_0 ++ []
theorem dksJ3_newBytesFor_0 : cJ3_newBytesFor.data.toList.drop 0 = dktJ3_newBytesFor_0 := by decide +kernel
theorem dJ3_newBytesFor_0 : decode cJ3_newBytesFor 0 = .ok (.iload_n 0, 1) := dk_26 (dk_at dksJ3_newBytesFor_0 0 rfl rfl)
theorem dJ3_newBytesFor_1 : decode cJ3_newBytesFor 1 = .ok (.invokestatic 11, 3) := dk_184 0 11 (dk_at dksJ3_newBytesFor_0 1 rfl rfl)
theorem dJ3_newBytesFor_4 : decode cJ3_newBytesFor 4 = .ok (.newarray .byte, 2) := dk_188_8 (dk_at dksJ3_newBytesFor_0 4 rfl rfl)
theorem dJ3_newBytesFor_6 : decode cJ3_newBytesFor 6 = .ok (.areturn, 1) := dk_176 (dk_at dksJ3_newBytesFor_0 6 rfl rfl)
abbrev cJ3_newBytesLength : ByteArray := prog_24_method_3_code
def yJ3_newBytesLength : MethodName := ⟨RJ3, "newBytesLength", "(I)I"⟩
def dkwJ3_newBytesLength_2 : List UInt8 := [182, 0, 32, 182, 0, 37, 183, 0, 41, 191, 26, 4, 120, 172]
abbrev dktJ3_newBytesLength_2 : List UInt8 := dkwJ3_newBytesLength_2 ++ []
def dkwJ3_newBytesLength_1 : List UInt8 := [187, 0, 23, 89, 183, 0, 25, 18, 26, 182, 0, 28, 26, 182, 0, 32, 18, 35, 182, 0, 28, 18, 20]
abbrev dktJ3_newBytesLength_1 : List UInt8 := dkwJ3_newBytesLength_1 ++ dktJ3_newBytesLength_2
def dkwJ3_newBytesLength_0 : List UInt8 := [26, 156, 0, 11, 187, 0, 17, 89, 183, 0, 19, 191, 26, 18, 20, 161, 0, 40, 187, 0, 21, 89]
abbrev dktJ3_newBytesLength_0 : List UInt8 := dkwJ3_newBytesLength_0 ++ dktJ3_newBytesLength_1
theorem dksJ3_newBytesLength_0 : cJ3_newBytesLength.data.toList.drop 0 = dktJ3_newBytesLength_0 := by decide +kernel
theorem dksJ3_newBytesLength_1 : cJ3_newBytesLength.data.toList.drop 22 = dktJ3_newBytesLength_1 := dk_seg dksJ3_newBytesLength_0 22 rfl rfl
theorem dksJ3_newBytesLength_2 : cJ3_newBytesLength.data.toList.drop 45 = dktJ3_newBytesLength_2 := dk_seg dksJ3_newBytesLength_1 23 rfl rfl
theorem dJ3_newBytesLength_0 : decode cJ3_newBytesLength 0 = .ok (.iload_n 0, 1) := dk_26 (dk_at dksJ3_newBytesLength_0 0 rfl rfl)
theorem dJ3_newBytesLength_1 : decode cJ3_newBytesLength 1 = .ok (.ifCond .ge 11, 3) := dk_156 0 11 (dk_at dksJ3_newBytesLength_0 1 rfl rfl)
theorem dJ3_newBytesLength_4 : decode cJ3_newBytesLength 4 = .ok (.new 17, 3) := dk_187 0 17 (dk_at dksJ3_newBytesLength_0 4 rfl rfl)
theorem dJ3_newBytesLength_7 : decode cJ3_newBytesLength 7 = .ok (.dup, 1) := dk_89 (dk_at dksJ3_newBytesLength_0 7 rfl rfl)
theorem dJ3_newBytesLength_8 : decode cJ3_newBytesLength 8 = .ok (.invokespecial 19, 3) := dk_183 0 19 (dk_at dksJ3_newBytesLength_0 8 rfl rfl)
theorem dJ3_newBytesLength_11 : decode cJ3_newBytesLength 11 = .ok (.athrow, 1) := dk_191 (dk_at dksJ3_newBytesLength_0 11 rfl rfl)
theorem dJ3_newBytesLength_12 : decode cJ3_newBytesLength 12 = .ok (.iload_n 0, 1) := dk_26 (dk_at dksJ3_newBytesLength_0 12 rfl rfl)
theorem dJ3_newBytesLength_13 : decode cJ3_newBytesLength 13 = .ok (.ldc 20, 2) := dk_18 20 (dk_at dksJ3_newBytesLength_0 13 rfl rfl)
theorem dJ3_newBytesLength_15 : decode cJ3_newBytesLength 15 = .ok (.if_icmp .lt 40, 3) := dk_161 0 40 (dk_at dksJ3_newBytesLength_0 15 rfl rfl)
theorem dJ3_newBytesLength_18 : decode cJ3_newBytesLength 18 = .ok (.new 21, 3) := dk_187 0 21 (dk_at dksJ3_newBytesLength_0 18 rfl rfl)
theorem dJ3_newBytesLength_21 : decode cJ3_newBytesLength 21 = .ok (.dup, 1) := dk_89 (dk_at dksJ3_newBytesLength_0 21 rfl rfl)
theorem dJ3_newBytesLength_22 : decode cJ3_newBytesLength 22 = .ok (.new 23, 3) := dk_187 0 23 (dk_at dksJ3_newBytesLength_1 0 rfl rfl)
theorem dJ3_newBytesLength_25 : decode cJ3_newBytesLength 25 = .ok (.dup, 1) := dk_89 (dk_at dksJ3_newBytesLength_1 3 rfl rfl)
theorem dJ3_newBytesLength_26 : decode cJ3_newBytesLength 26 = .ok (.invokespecial 25, 3) := dk_183 0 25 (dk_at dksJ3_newBytesLength_1 4 rfl rfl)
theorem dJ3_newBytesLength_29 : decode cJ3_newBytesLength 29 = .ok (.ldc 26, 2) := dk_18 26 (dk_at dksJ3_newBytesLength_1 7 rfl rfl)
theorem dJ3_newBytesLength_31 : decode cJ3_newBytesLength 31 = .ok (.invokevirtual 28, 3) := dk_182 0 28 (dk_at dksJ3_newBytesLength_1 9 rfl rfl)
theorem dJ3_newBytesLength_34 : decode cJ3_newBytesLength 34 = .ok (.iload_n 0, 1) := dk_26 (dk_at dksJ3_newBytesLength_1 12 rfl rfl)
theorem dJ3_newBytesLength_35 : decode cJ3_newBytesLength 35 = .ok (.invokevirtual 32, 3) := dk_182 0 32 (dk_at dksJ3_newBytesLength_1 13 rfl rfl)
theorem dJ3_newBytesLength_38 : decode cJ3_newBytesLength 38 = .ok (.ldc 35, 2) := dk_18 35 (dk_at dksJ3_newBytesLength_1 16 rfl rfl)
theorem dJ3_newBytesLength_40 : decode cJ3_newBytesLength 40 = .ok (.invokevirtual 28, 3) := dk_182 0 28 (dk_at dksJ3_newBytesLength_1 18 rfl rfl)
theorem dJ3_newBytesLength_43 : decode cJ3_newBytesLength 43 = .ok (.ldc 20, 2) := dk_18 20 (dk_at dksJ3_newBytesLength_1 21 rfl rfl)
theorem dJ3_newBytesLength_45 : decode cJ3_newBytesLength 45 = .ok (.invokevirtual 32, 3) := dk_182 0 32 (dk_at dksJ3_newBytesLength_2 0 rfl rfl)
theorem dJ3_newBytesLength_48 : decode cJ3_newBytesLength 48 = .ok (.invokevirtual 37, 3) := dk_182 0 37 (dk_at dksJ3_newBytesLength_2 3 rfl rfl)
theorem dJ3_newBytesLength_51 : decode cJ3_newBytesLength 51 = .ok (.invokespecial 41, 3) := dk_183 0 41 (dk_at dksJ3_newBytesLength_2 6 rfl rfl)
theorem dJ3_newBytesLength_54 : decode cJ3_newBytesLength 54 = .ok (.athrow, 1) := dk_191 (dk_at dksJ3_newBytesLength_2 9 rfl rfl)
theorem dJ3_newBytesLength_55 : decode cJ3_newBytesLength 55 = .ok (.iload_n 0, 1) := dk_26 (dk_at dksJ3_newBytesLength_2 10 rfl rfl)
theorem dJ3_newBytesLength_56 : decode cJ3_newBytesLength 56 = .ok (.iconst 1, 1) := dk_4 (dk_at dksJ3_newBytesLength_2 11 rfl rfl)
theorem dJ3_newBytesLength_57 : decode cJ3_newBytesLength 57 = .ok (.ishl, 1) := dk_120 (dk_at dksJ3_newBytesLength_2 12 rfl rfl)
theorem dJ3_newBytesLength_58 : decode cJ3_newBytesLength 58 = .ok (.ireturn, 1) := dk_172 (dk_at dksJ3_newBytesLength_2 13 rfl rfl)
abbrev cJ3_inflate : ByteArray := prog_24_method_86_code
def yJ3_inflate : MethodName := ⟨RJ3, "inflate", "([BI[BII)V"⟩
def dkwJ3_inflate_1 : List UInt8 := [132, 1, 1, 51, 17, 0, 255, 126, 184, 0, 111, 132, 5, 1, 167, 255, 228, 177]
abbrev dktJ3_inflate_1 : List UInt8 := dkwJ3_inflate_1 ++ []
def dkwJ3_inflate_0 : List UInt8 := [29, 21, 4, 44, 184, 0, 173, 3, 54, 5, 21, 5, 21, 4, 162, 0, 27, 44, 29, 132, 3, 1, 42, 27]
abbrev dktJ3_inflate_0 : List UInt8 := dkwJ3_inflate_0 ++ dktJ3_inflate_1
theorem dksJ3_inflate_0 : cJ3_inflate.data.toList.drop 0 = dktJ3_inflate_0 := by decide +kernel
theorem dksJ3_inflate_1 : cJ3_inflate.data.toList.drop 24 = dktJ3_inflate_1 := dk_seg dksJ3_inflate_0 24 rfl rfl
theorem dJ3_inflate_0 : decode cJ3_inflate 0 = .ok (.iload_n 3, 1) := dk_29 (dk_at dksJ3_inflate_0 0 rfl rfl)
theorem dJ3_inflate_1 : decode cJ3_inflate 1 = .ok (.iload 4, 2) := dk_21 4 (dk_at dksJ3_inflate_0 1 rfl rfl)
theorem dJ3_inflate_3 : decode cJ3_inflate 3 = .ok (.aload_n 2, 1) := dk_44 (dk_at dksJ3_inflate_0 3 rfl rfl)
theorem dJ3_inflate_4 : decode cJ3_inflate 4 = .ok (.invokestatic 173, 3) := dk_184 0 173 (dk_at dksJ3_inflate_0 4 rfl rfl)
theorem dJ3_inflate_7 : decode cJ3_inflate 7 = .ok (.iconst 0, 1) := dk_3 (dk_at dksJ3_inflate_0 7 rfl rfl)
theorem dJ3_inflate_8 : decode cJ3_inflate 8 = .ok (.istore 5, 2) := dk_54 5 (dk_at dksJ3_inflate_0 8 rfl rfl)
theorem dJ3_inflate_10 : decode cJ3_inflate 10 = .ok (.iload 5, 2) := dk_21 5 (dk_at dksJ3_inflate_0 10 rfl rfl)
theorem dJ3_inflate_12 : decode cJ3_inflate 12 = .ok (.iload 4, 2) := dk_21 4 (dk_at dksJ3_inflate_0 12 rfl rfl)
theorem dJ3_inflate_14 : decode cJ3_inflate 14 = .ok (.if_icmp .ge 27, 3) := dk_162 0 27 (dk_at dksJ3_inflate_0 14 rfl rfl)
theorem dJ3_inflate_17 : decode cJ3_inflate 17 = .ok (.aload_n 2, 1) := dk_44 (dk_at dksJ3_inflate_0 17 rfl rfl)
theorem dJ3_inflate_18 : decode cJ3_inflate 18 = .ok (.iload_n 3, 1) := dk_29 (dk_at dksJ3_inflate_0 18 rfl rfl)
theorem dJ3_inflate_19 : decode cJ3_inflate 19 = .ok (.iinc 3 1, 3) := dk_132 3 1 (dk_at dksJ3_inflate_0 19 rfl rfl)
theorem dJ3_inflate_22 : decode cJ3_inflate 22 = .ok (.aload_n 0, 1) := dk_42 (dk_at dksJ3_inflate_0 22 rfl rfl)
theorem dJ3_inflate_23 : decode cJ3_inflate 23 = .ok (.iload_n 1, 1) := dk_27 (dk_at dksJ3_inflate_0 23 rfl rfl)
theorem dJ3_inflate_24 : decode cJ3_inflate 24 = .ok (.iinc 1 1, 3) := dk_132 1 1 (dk_at dksJ3_inflate_1 0 rfl rfl)
theorem dJ3_inflate_27 : decode cJ3_inflate 27 = .ok (.baload, 1) := dk_51 (dk_at dksJ3_inflate_1 3 rfl rfl)
theorem dJ3_inflate_28 : decode cJ3_inflate 28 = .ok (.sipush 255, 3) := dk_17 0 255 (dk_at dksJ3_inflate_1 4 rfl rfl)
theorem dJ3_inflate_31 : decode cJ3_inflate 31 = .ok (.iand, 1) := dk_126 (dk_at dksJ3_inflate_1 7 rfl rfl)
theorem dJ3_inflate_32 : decode cJ3_inflate 32 = .ok (.invokestatic 111, 3) := dk_184 0 111 (dk_at dksJ3_inflate_1 8 rfl rfl)
theorem dJ3_inflate_35 : decode cJ3_inflate 35 = .ok (.iinc 5 1, 3) := dk_132 5 1 (dk_at dksJ3_inflate_1 11 rfl rfl)
theorem dJ3_inflate_38 : decode cJ3_inflate 38 = .ok (.goto (-28), 3) := dk_167 255 228 (dk_at dksJ3_inflate_1 14 rfl rfl)
theorem dJ3_inflate_41 : decode cJ3_inflate 41 = .ok (.return_, 1) := dk_177 (dk_at dksJ3_inflate_1 17 rfl rfl)
abbrev cJ3_checkBoundsOffCount : ByteArray := prog_24_method_94_code
def yJ3_checkBoundsOffCount : MethodName := ⟨RJ3, "checkBoundsOffCount", "(II[B)V"⟩
def dkwJ3_checkBoundsOffCount_0 : List UInt8 := [26, 27, 44, 184, 0, 48, 184, 1, 163, 87, 177]
abbrev dktJ3_checkBoundsOffCount_0 : List UInt8 := dkwJ3_checkBoundsOffCount_0 ++ []
theorem dksJ3_checkBoundsOffCount_0 : cJ3_checkBoundsOffCount.data.toList.drop 0 = dktJ3_checkBoundsOffCount_0 := by decide +kernel
theorem dJ3_checkBoundsOffCount_0 : decode cJ3_checkBoundsOffCount 0 = .ok (.iload_n 0, 1) := dk_26 (dk_at dksJ3_checkBoundsOffCount_0 0 rfl rfl)
theorem dJ3_checkBoundsOffCount_1 : decode cJ3_checkBoundsOffCount 1 = .ok (.iload_n 1, 1) := dk_27 (dk_at dksJ3_checkBoundsOffCount_0 1 rfl rfl)
theorem dJ3_checkBoundsOffCount_2 : decode cJ3_checkBoundsOffCount 2 = .ok (.aload_n 2, 1) := dk_44 (dk_at dksJ3_checkBoundsOffCount_0 2 rfl rfl)
theorem dJ3_checkBoundsOffCount_3 : decode cJ3_checkBoundsOffCount 3 = .ok (.invokestatic 48, 3) := dk_184 0 48 (dk_at dksJ3_checkBoundsOffCount_0 3 rfl rfl)
theorem dJ3_checkBoundsOffCount_6 : decode cJ3_checkBoundsOffCount 6 = .ok (.invokestatic 419, 3) := dk_184 1 163 (dk_at dksJ3_checkBoundsOffCount_0 6 rfl rfl)
theorem dJ3_checkBoundsOffCount_9 : decode cJ3_checkBoundsOffCount 9 = .ok (.pop, 1) := dk_87 (dk_at dksJ3_checkBoundsOffCount_0 9 rfl rfl)
theorem dJ3_checkBoundsOffCount_10 : decode cJ3_checkBoundsOffCount 10 = .ok (.return_, 1) := dk_177 (dk_at dksJ3_checkBoundsOffCount_0 10 rfl rfl)
abbrev cJ3_length : ByteArray := prog_24_method_6_code
def yJ3_length : MethodName := ⟨RJ3, "length", "([B)I"⟩
def dkwJ3_length_0 : List UInt8 := [42, 190, 4, 122, 172]
abbrev dktJ3_length_0 : List UInt8 := dkwJ3_length_0 ++ []
theorem dksJ3_length_0 : cJ3_length.data.toList.drop 0 = dktJ3_length_0 := by decide +kernel
theorem dJ3_length_0 : decode cJ3_length 0 = .ok (.aload_n 0, 1) := dk_42 (dk_at dksJ3_length_0 0 rfl rfl)
theorem dJ3_length_1 : decode cJ3_length 1 = .ok (.arraylength, 1) := dk_190 (dk_at dksJ3_length_0 1 rfl rfl)
theorem dJ3_length_2 : decode cJ3_length 2 = .ok (.iconst 1, 1) := dk_4 (dk_at dksJ3_length_0 2 rfl rfl)
theorem dJ3_length_3 : decode cJ3_length 3 = .ok (.ishr, 1) := dk_122 (dk_at dksJ3_length_0 3 rfl rfl)
theorem dJ3_length_4 : decode cJ3_length 4 = .ok (.ireturn, 1) := dk_172 (dk_at dksJ3_length_0 4 rfl rfl)
abbrev cJ3_putChar : ByteArray := prog_24_method_4_code
def yJ3_putChar : MethodName := ⟨RJ3, "putChar", "([BII)V"⟩
def dkwJ3_putChar_2 : List UInt8 := [178, 0, 63, 122, 145, 84, 177]
abbrev dktJ3_putChar_2 : List UInt8 := dkwJ3_putChar_2 ++ []
def dkwJ3_putChar_1 : List UInt8 := [183, 0, 56, 191, 27, 4, 120, 60, 42, 27, 132, 1, 1, 28, 178, 0, 59, 122, 145, 84, 42, 27, 28]
abbrev dktJ3_putChar_1 : List UInt8 := dkwJ3_putChar_1 ++ dktJ3_putChar_2
def dkwJ3_putChar_0 : List UInt8 := [178, 0, 44, 154, 0, 25, 27, 155, 0, 11, 27, 42, 184, 0, 48, 161, 0, 13, 187, 0, 52, 89, 18, 54]
abbrev dktJ3_putChar_0 : List UInt8 := dkwJ3_putChar_0 ++ dktJ3_putChar_1
theorem dksJ3_putChar_0 : cJ3_putChar.data.toList.drop 0 = dktJ3_putChar_0 := by decide +kernel
theorem dksJ3_putChar_1 : cJ3_putChar.data.toList.drop 24 = dktJ3_putChar_1 := dk_seg dksJ3_putChar_0 24 rfl rfl
theorem dksJ3_putChar_2 : cJ3_putChar.data.toList.drop 47 = dktJ3_putChar_2 := dk_seg dksJ3_putChar_1 23 rfl rfl
theorem dJ3_putChar_0 : decode cJ3_putChar 0 = .ok (.getstatic 44, 3) := dk_178 0 44 (dk_at dksJ3_putChar_0 0 rfl rfl)
theorem dJ3_putChar_3 : decode cJ3_putChar 3 = .ok (.ifCond .ne 25, 3) := dk_154 0 25 (dk_at dksJ3_putChar_0 3 rfl rfl)
theorem dJ3_putChar_6 : decode cJ3_putChar 6 = .ok (.iload_n 1, 1) := dk_27 (dk_at dksJ3_putChar_0 6 rfl rfl)
theorem dJ3_putChar_7 : decode cJ3_putChar 7 = .ok (.ifCond .lt 11, 3) := dk_155 0 11 (dk_at dksJ3_putChar_0 7 rfl rfl)
theorem dJ3_putChar_10 : decode cJ3_putChar 10 = .ok (.iload_n 1, 1) := dk_27 (dk_at dksJ3_putChar_0 10 rfl rfl)
theorem dJ3_putChar_11 : decode cJ3_putChar 11 = .ok (.aload_n 0, 1) := dk_42 (dk_at dksJ3_putChar_0 11 rfl rfl)
theorem dJ3_putChar_12 : decode cJ3_putChar 12 = .ok (.invokestatic 48, 3) := dk_184 0 48 (dk_at dksJ3_putChar_0 12 rfl rfl)
theorem dJ3_putChar_15 : decode cJ3_putChar 15 = .ok (.if_icmp .lt 13, 3) := dk_161 0 13 (dk_at dksJ3_putChar_0 15 rfl rfl)
theorem dJ3_putChar_18 : decode cJ3_putChar 18 = .ok (.new 52, 3) := dk_187 0 52 (dk_at dksJ3_putChar_0 18 rfl rfl)
theorem dJ3_putChar_21 : decode cJ3_putChar 21 = .ok (.dup, 1) := dk_89 (dk_at dksJ3_putChar_0 21 rfl rfl)
theorem dJ3_putChar_22 : decode cJ3_putChar 22 = .ok (.ldc 54, 2) := dk_18 54 (dk_at dksJ3_putChar_0 22 rfl rfl)
theorem dJ3_putChar_24 : decode cJ3_putChar 24 = .ok (.invokespecial 56, 3) := dk_183 0 56 (dk_at dksJ3_putChar_1 0 rfl rfl)
theorem dJ3_putChar_27 : decode cJ3_putChar 27 = .ok (.athrow, 1) := dk_191 (dk_at dksJ3_putChar_1 3 rfl rfl)
theorem dJ3_putChar_28 : decode cJ3_putChar 28 = .ok (.iload_n 1, 1) := dk_27 (dk_at dksJ3_putChar_1 4 rfl rfl)
theorem dJ3_putChar_29 : decode cJ3_putChar 29 = .ok (.iconst 1, 1) := dk_4 (dk_at dksJ3_putChar_1 5 rfl rfl)
theorem dJ3_putChar_30 : decode cJ3_putChar 30 = .ok (.ishl, 1) := dk_120 (dk_at dksJ3_putChar_1 6 rfl rfl)
theorem dJ3_putChar_31 : decode cJ3_putChar 31 = .ok (.istore_n 1, 1) := dk_60 (dk_at dksJ3_putChar_1 7 rfl rfl)
theorem dJ3_putChar_32 : decode cJ3_putChar 32 = .ok (.aload_n 0, 1) := dk_42 (dk_at dksJ3_putChar_1 8 rfl rfl)
theorem dJ3_putChar_33 : decode cJ3_putChar 33 = .ok (.iload_n 1, 1) := dk_27 (dk_at dksJ3_putChar_1 9 rfl rfl)
theorem dJ3_putChar_34 : decode cJ3_putChar 34 = .ok (.iinc 1 1, 3) := dk_132 1 1 (dk_at dksJ3_putChar_1 10 rfl rfl)
theorem dJ3_putChar_37 : decode cJ3_putChar 37 = .ok (.iload_n 2, 1) := dk_28 (dk_at dksJ3_putChar_1 13 rfl rfl)
theorem dJ3_putChar_38 : decode cJ3_putChar 38 = .ok (.getstatic 59, 3) := dk_178 0 59 (dk_at dksJ3_putChar_1 14 rfl rfl)
theorem dJ3_putChar_41 : decode cJ3_putChar 41 = .ok (.ishr, 1) := dk_122 (dk_at dksJ3_putChar_1 17 rfl rfl)
theorem dJ3_putChar_42 : decode cJ3_putChar 42 = .ok (.i2b, 1) := dk_145 (dk_at dksJ3_putChar_1 18 rfl rfl)
theorem dJ3_putChar_43 : decode cJ3_putChar 43 = .ok (.bastore, 1) := dk_84 (dk_at dksJ3_putChar_1 19 rfl rfl)
theorem dJ3_putChar_44 : decode cJ3_putChar 44 = .ok (.aload_n 0, 1) := dk_42 (dk_at dksJ3_putChar_1 20 rfl rfl)
theorem dJ3_putChar_45 : decode cJ3_putChar 45 = .ok (.iload_n 1, 1) := dk_27 (dk_at dksJ3_putChar_1 21 rfl rfl)
theorem dJ3_putChar_46 : decode cJ3_putChar 46 = .ok (.iload_n 2, 1) := dk_28 (dk_at dksJ3_putChar_1 22 rfl rfl)
theorem dJ3_putChar_47 : decode cJ3_putChar 47 = .ok (.getstatic 63, 3) := dk_178 0 63 (dk_at dksJ3_putChar_2 0 rfl rfl)
theorem dJ3_putChar_50 : decode cJ3_putChar 50 = .ok (.ishr, 1) := dk_122 (dk_at dksJ3_putChar_2 3 rfl rfl)
theorem dJ3_putChar_51 : decode cJ3_putChar 51 = .ok (.i2b, 1) := dk_145 (dk_at dksJ3_putChar_2 4 rfl rfl)
theorem dJ3_putChar_52 : decode cJ3_putChar 52 = .ok (.bastore, 1) := dk_84 (dk_at dksJ3_putChar_2 5 rfl rfl)
theorem dJ3_putChar_53 : decode cJ3_putChar 53 = .ok (.return_, 1) := dk_177 (dk_at dksJ3_putChar_2 6 rfl rfl)
abbrev cJ3_putCharSB : ByteArray := prog_24_method_71_code
def yJ3_putCharSB : MethodName := ⟨RJ3, "putCharSB", "([BII)V"⟩
def dkwJ3_putCharSB_0 : List UInt8 := [27, 42, 184, 0, 67, 42, 27, 28, 184, 0, 111, 177]
abbrev dktJ3_putCharSB_0 : List UInt8 := dkwJ3_putCharSB_0 ++ []
theorem dksJ3_putCharSB_0 : cJ3_putCharSB.data.toList.drop 0 = dktJ3_putCharSB_0 := by decide +kernel
theorem dJ3_putCharSB_0 : decode cJ3_putCharSB 0 = .ok (.iload_n 1, 1) := dk_27 (dk_at dksJ3_putCharSB_0 0 rfl rfl)
theorem dJ3_putCharSB_1 : decode cJ3_putCharSB 1 = .ok (.aload_n 0, 1) := dk_42 (dk_at dksJ3_putCharSB_0 1 rfl rfl)
theorem dJ3_putCharSB_2 : decode cJ3_putCharSB 2 = .ok (.invokestatic 67, 3) := dk_184 0 67 (dk_at dksJ3_putCharSB_0 2 rfl rfl)
theorem dJ3_putCharSB_5 : decode cJ3_putCharSB 5 = .ok (.aload_n 0, 1) := dk_42 (dk_at dksJ3_putCharSB_0 5 rfl rfl)
theorem dJ3_putCharSB_6 : decode cJ3_putCharSB 6 = .ok (.iload_n 1, 1) := dk_27 (dk_at dksJ3_putCharSB_0 6 rfl rfl)
theorem dJ3_putCharSB_7 : decode cJ3_putCharSB 7 = .ok (.iload_n 2, 1) := dk_28 (dk_at dksJ3_putCharSB_0 7 rfl rfl)
theorem dJ3_putCharSB_8 : decode cJ3_putCharSB 8 = .ok (.invokestatic 111, 3) := dk_184 0 111 (dk_at dksJ3_putCharSB_0 8 rfl rfl)
theorem dJ3_putCharSB_11 : decode cJ3_putCharSB 11 = .ok (.return_, 1) := dk_177 (dk_at dksJ3_putCharSB_0 11 rfl rfl)
abbrev cJ3_checkIndex : ByteArray := prog_24_method_91_code
def yJ3_checkIndex : MethodName := ⟨RJ3, "checkIndex", "(I[B)V"⟩
def dkwJ3_checkIndex_0 : List UInt8 := [26, 43, 184, 0, 48, 184, 1, 158, 177]
abbrev dktJ3_checkIndex_0 : List UInt8 := dkwJ3_checkIndex_0 ++ []
theorem dksJ3_checkIndex_0 : cJ3_checkIndex.data.toList.drop 0 = dktJ3_checkIndex_0 := by decide +kernel
theorem dJ3_checkIndex_0 : decode cJ3_checkIndex 0 = .ok (.iload_n 0, 1) := dk_26 (dk_at dksJ3_checkIndex_0 0 rfl rfl)
theorem dJ3_checkIndex_1 : decode cJ3_checkIndex 1 = .ok (.aload_n 1, 1) := dk_43 (dk_at dksJ3_checkIndex_0 1 rfl rfl)
theorem dJ3_checkIndex_2 : decode cJ3_checkIndex 2 = .ok (.invokestatic 48, 3) := dk_184 0 48 (dk_at dksJ3_checkIndex_0 2 rfl rfl)
theorem dJ3_checkIndex_5 : decode cJ3_checkIndex 5 = .ok (.invokestatic 414, 3) := dk_184 1 158 (dk_at dksJ3_checkIndex_0 5 rfl rfl)
theorem dJ3_checkIndex_8 : decode cJ3_checkIndex 8 = .ok (.return_, 1) := dk_177 (dk_at dksJ3_checkIndex_0 8 rfl rfl)
abbrev cJ3_compress : ByteArray := prog_24_method_17_code
def yJ3_compress : MethodName := ⟨RJ3, "compress", "([BII)[B"⟩
def dkwJ3_compress_2 : List UInt8 := [25, 5, 3, 45, 3, 28, 184, 0, 123, 28, 159, 0, 6, 25, 5, 176, 45, 176]
abbrev dktJ3_compress_2 : List UInt8 := dkwJ3_compress_2 ++ []
def dkwJ3_compress_1 : List UInt8 := [27, 28, 96, 184, 0, 11, 184, 0, 126, 58, 5, 25, 5, 21, 4, 184, 0, 71, 17, 0, 255, 163, 0, 16]
abbrev dktJ3_compress_1 : List UInt8 := dkwJ3_compress_1 ++ dktJ3_compress_2
def dkwJ3_compress_0 : List UInt8 := [28, 188, 8, 78, 42, 27, 45, 3, 28, 184, 0, 123, 54, 4, 21, 4, 28, 159, 0, 47, 42, 27, 4, 120]
abbrev dktJ3_compress_0 : List UInt8 := dkwJ3_compress_0 ++ dktJ3_compress_1
theorem dksJ3_compress_0 : cJ3_compress.data.toList.drop 0 = dktJ3_compress_0 := by decide +kernel
theorem dksJ3_compress_1 : cJ3_compress.data.toList.drop 24 = dktJ3_compress_1 := dk_seg dksJ3_compress_0 24 rfl rfl
theorem dksJ3_compress_2 : cJ3_compress.data.toList.drop 48 = dktJ3_compress_2 := dk_seg dksJ3_compress_1 24 rfl rfl
theorem dJ3_compress_0 : decode cJ3_compress 0 = .ok (.iload_n 2, 1) := dk_28 (dk_at dksJ3_compress_0 0 rfl rfl)
theorem dJ3_compress_1 : decode cJ3_compress 1 = .ok (.newarray .byte, 2) := dk_188_8 (dk_at dksJ3_compress_0 1 rfl rfl)
theorem dJ3_compress_3 : decode cJ3_compress 3 = .ok (.astore_n 3, 1) := dk_78 (dk_at dksJ3_compress_0 3 rfl rfl)
theorem dJ3_compress_4 : decode cJ3_compress 4 = .ok (.aload_n 0, 1) := dk_42 (dk_at dksJ3_compress_0 4 rfl rfl)
theorem dJ3_compress_5 : decode cJ3_compress 5 = .ok (.iload_n 1, 1) := dk_27 (dk_at dksJ3_compress_0 5 rfl rfl)
theorem dJ3_compress_6 : decode cJ3_compress 6 = .ok (.aload_n 3, 1) := dk_45 (dk_at dksJ3_compress_0 6 rfl rfl)
theorem dJ3_compress_7 : decode cJ3_compress 7 = .ok (.iconst 0, 1) := dk_3 (dk_at dksJ3_compress_0 7 rfl rfl)
theorem dJ3_compress_8 : decode cJ3_compress 8 = .ok (.iload_n 2, 1) := dk_28 (dk_at dksJ3_compress_0 8 rfl rfl)
theorem dJ3_compress_9 : decode cJ3_compress 9 = .ok (.invokestatic 123, 3) := dk_184 0 123 (dk_at dksJ3_compress_0 9 rfl rfl)
theorem dJ3_compress_12 : decode cJ3_compress 12 = .ok (.istore 4, 2) := dk_54 4 (dk_at dksJ3_compress_0 12 rfl rfl)
theorem dJ3_compress_14 : decode cJ3_compress 14 = .ok (.iload 4, 2) := dk_21 4 (dk_at dksJ3_compress_0 14 rfl rfl)
theorem dJ3_compress_16 : decode cJ3_compress 16 = .ok (.iload_n 2, 1) := dk_28 (dk_at dksJ3_compress_0 16 rfl rfl)
theorem dJ3_compress_17 : decode cJ3_compress 17 = .ok (.if_icmp .eq 47, 3) := dk_159 0 47 (dk_at dksJ3_compress_0 17 rfl rfl)
theorem dJ3_compress_20 : decode cJ3_compress 20 = .ok (.aload_n 0, 1) := dk_42 (dk_at dksJ3_compress_0 20 rfl rfl)
theorem dJ3_compress_21 : decode cJ3_compress 21 = .ok (.iload_n 1, 1) := dk_27 (dk_at dksJ3_compress_0 21 rfl rfl)
theorem dJ3_compress_22 : decode cJ3_compress 22 = .ok (.iconst 1, 1) := dk_4 (dk_at dksJ3_compress_0 22 rfl rfl)
theorem dJ3_compress_23 : decode cJ3_compress 23 = .ok (.ishl, 1) := dk_120 (dk_at dksJ3_compress_0 23 rfl rfl)
theorem dJ3_compress_24 : decode cJ3_compress 24 = .ok (.iload_n 1, 1) := dk_27 (dk_at dksJ3_compress_1 0 rfl rfl)
theorem dJ3_compress_25 : decode cJ3_compress 25 = .ok (.iload_n 2, 1) := dk_28 (dk_at dksJ3_compress_1 1 rfl rfl)
theorem dJ3_compress_26 : decode cJ3_compress 26 = .ok (.iadd, 1) := dk_96 (dk_at dksJ3_compress_1 2 rfl rfl)
theorem dJ3_compress_27 : decode cJ3_compress 27 = .ok (.invokestatic 11, 3) := dk_184 0 11 (dk_at dksJ3_compress_1 3 rfl rfl)
theorem dJ3_compress_30 : decode cJ3_compress 30 = .ok (.invokestatic 126, 3) := dk_184 0 126 (dk_at dksJ3_compress_1 6 rfl rfl)
theorem dJ3_compress_33 : decode cJ3_compress 33 = .ok (.astore 5, 2) := dk_58 5 (dk_at dksJ3_compress_1 9 rfl rfl)
theorem dJ3_compress_35 : decode cJ3_compress 35 = .ok (.aload 5, 2) := dk_25 5 (dk_at dksJ3_compress_1 11 rfl rfl)
theorem dJ3_compress_37 : decode cJ3_compress 37 = .ok (.iload 4, 2) := dk_21 4 (dk_at dksJ3_compress_1 13 rfl rfl)
theorem dJ3_compress_39 : decode cJ3_compress 39 = .ok (.invokestatic 71, 3) := dk_184 0 71 (dk_at dksJ3_compress_1 15 rfl rfl)
theorem dJ3_compress_42 : decode cJ3_compress 42 = .ok (.sipush 255, 3) := dk_17 0 255 (dk_at dksJ3_compress_1 18 rfl rfl)
theorem dJ3_compress_45 : decode cJ3_compress 45 = .ok (.if_icmp .gt 16, 3) := dk_163 0 16 (dk_at dksJ3_compress_1 21 rfl rfl)
theorem dJ3_compress_48 : decode cJ3_compress 48 = .ok (.aload 5, 2) := dk_25 5 (dk_at dksJ3_compress_2 0 rfl rfl)
theorem dJ3_compress_50 : decode cJ3_compress 50 = .ok (.iconst 0, 1) := dk_3 (dk_at dksJ3_compress_2 2 rfl rfl)
theorem dJ3_compress_51 : decode cJ3_compress 51 = .ok (.aload_n 3, 1) := dk_45 (dk_at dksJ3_compress_2 3 rfl rfl)
theorem dJ3_compress_52 : decode cJ3_compress 52 = .ok (.iconst 0, 1) := dk_3 (dk_at dksJ3_compress_2 4 rfl rfl)
theorem dJ3_compress_53 : decode cJ3_compress 53 = .ok (.iload_n 2, 1) := dk_28 (dk_at dksJ3_compress_2 5 rfl rfl)
theorem dJ3_compress_54 : decode cJ3_compress 54 = .ok (.invokestatic 123, 3) := dk_184 0 123 (dk_at dksJ3_compress_2 6 rfl rfl)
theorem dJ3_compress_57 : decode cJ3_compress 57 = .ok (.iload_n 2, 1) := dk_28 (dk_at dksJ3_compress_2 9 rfl rfl)
theorem dJ3_compress_58 : decode cJ3_compress 58 = .ok (.if_icmp .eq 6, 3) := dk_159 0 6 (dk_at dksJ3_compress_2 10 rfl rfl)
theorem dJ3_compress_61 : decode cJ3_compress 61 = .ok (.aload 5, 2) := dk_25 5 (dk_at dksJ3_compress_2 13 rfl rfl)
theorem dJ3_compress_63 : decode cJ3_compress 63 = .ok (.areturn, 1) := dk_176 (dk_at dksJ3_compress_2 15 rfl rfl)
theorem dJ3_compress_64 : decode cJ3_compress 64 = .ok (.aload_n 3, 1) := dk_45 (dk_at dksJ3_compress_2 16 rfl rfl)
theorem dJ3_compress_65 : decode cJ3_compress 65 = .ok (.areturn, 1) := dk_176 (dk_at dksJ3_compress_2 17 rfl rfl)
abbrev cJ3_compress_2 : ByteArray := prog_24_method_22_code
def yJ3_compress_2 : MethodName := ⟨RJ3, "compress", "([BI[BII)I"⟩
def dkwJ3_compress_2_2 : List UInt8 := [132, 5, 1, 167, 255, 216, 21, 4, 172]
abbrev dktJ3_compress_2_2 : List UInt8 := dkwJ3_compress_2_2 ++ []
def dkwJ3_compress_2_1 : List UInt8 := [21, 6, 17, 0, 255, 164, 0, 6, 21, 5, 172, 44, 29, 21, 6, 145, 84, 132, 1, 1, 132, 3, 1]
abbrev dktJ3_compress_2_1 : List UInt8 := dkwJ3_compress_2_1 ++ dktJ3_compress_2_2
def dkwJ3_compress_2_0 : List UInt8 := [27, 21, 4, 42, 184, 0, 173, 3, 54, 5, 21, 5, 21, 4, 162, 0, 39, 42, 27, 184, 0, 71, 54, 6]
abbrev dktJ3_compress_2_0 : List UInt8 := dkwJ3_compress_2_0 ++ dktJ3_compress_2_1
theorem dksJ3_compress_2_0 : cJ3_compress_2.data.toList.drop 0 = dktJ3_compress_2_0 := by decide +kernel
theorem dksJ3_compress_2_1 : cJ3_compress_2.data.toList.drop 24 = dktJ3_compress_2_1 := dk_seg dksJ3_compress_2_0 24 rfl rfl
theorem dksJ3_compress_2_2 : cJ3_compress_2.data.toList.drop 47 = dktJ3_compress_2_2 := dk_seg dksJ3_compress_2_1 23 rfl rfl
theorem dJ3_compress_2_0 : decode cJ3_compress_2 0 = .ok (.iload_n 1, 1) := dk_27 (dk_at dksJ3_compress_2_0 0 rfl rfl)
theorem dJ3_compress_2_1 : decode cJ3_compress_2 1 = .ok (.iload 4, 2) := dk_21 4 (dk_at dksJ3_compress_2_0 1 rfl rfl)
theorem dJ3_compress_2_3 : decode cJ3_compress_2 3 = .ok (.aload_n 0, 1) := dk_42 (dk_at dksJ3_compress_2_0 3 rfl rfl)
theorem dJ3_compress_2_4 : decode cJ3_compress_2 4 = .ok (.invokestatic 173, 3) := dk_184 0 173 (dk_at dksJ3_compress_2_0 4 rfl rfl)
theorem dJ3_compress_2_7 : decode cJ3_compress_2 7 = .ok (.iconst 0, 1) := dk_3 (dk_at dksJ3_compress_2_0 7 rfl rfl)
theorem dJ3_compress_2_8 : decode cJ3_compress_2 8 = .ok (.istore 5, 2) := dk_54 5 (dk_at dksJ3_compress_2_0 8 rfl rfl)
theorem dJ3_compress_2_10 : decode cJ3_compress_2 10 = .ok (.iload 5, 2) := dk_21 5 (dk_at dksJ3_compress_2_0 10 rfl rfl)
theorem dJ3_compress_2_12 : decode cJ3_compress_2 12 = .ok (.iload 4, 2) := dk_21 4 (dk_at dksJ3_compress_2_0 12 rfl rfl)
theorem dJ3_compress_2_14 : decode cJ3_compress_2 14 = .ok (.if_icmp .ge 39, 3) := dk_162 0 39 (dk_at dksJ3_compress_2_0 14 rfl rfl)
theorem dJ3_compress_2_17 : decode cJ3_compress_2 17 = .ok (.aload_n 0, 1) := dk_42 (dk_at dksJ3_compress_2_0 17 rfl rfl)
theorem dJ3_compress_2_18 : decode cJ3_compress_2 18 = .ok (.iload_n 1, 1) := dk_27 (dk_at dksJ3_compress_2_0 18 rfl rfl)
theorem dJ3_compress_2_19 : decode cJ3_compress_2 19 = .ok (.invokestatic 71, 3) := dk_184 0 71 (dk_at dksJ3_compress_2_0 19 rfl rfl)
theorem dJ3_compress_2_22 : decode cJ3_compress_2 22 = .ok (.istore 6, 2) := dk_54 6 (dk_at dksJ3_compress_2_0 22 rfl rfl)
theorem dJ3_compress_2_24 : decode cJ3_compress_2 24 = .ok (.iload 6, 2) := dk_21 6 (dk_at dksJ3_compress_2_1 0 rfl rfl)
theorem dJ3_compress_2_26 : decode cJ3_compress_2 26 = .ok (.sipush 255, 3) := dk_17 0 255 (dk_at dksJ3_compress_2_1 2 rfl rfl)
theorem dJ3_compress_2_29 : decode cJ3_compress_2 29 = .ok (.if_icmp .le 6, 3) := dk_164 0 6 (dk_at dksJ3_compress_2_1 5 rfl rfl)
theorem dJ3_compress_2_32 : decode cJ3_compress_2 32 = .ok (.iload 5, 2) := dk_21 5 (dk_at dksJ3_compress_2_1 8 rfl rfl)
theorem dJ3_compress_2_34 : decode cJ3_compress_2 34 = .ok (.ireturn, 1) := dk_172 (dk_at dksJ3_compress_2_1 10 rfl rfl)
theorem dJ3_compress_2_35 : decode cJ3_compress_2 35 = .ok (.aload_n 2, 1) := dk_44 (dk_at dksJ3_compress_2_1 11 rfl rfl)
theorem dJ3_compress_2_36 : decode cJ3_compress_2 36 = .ok (.iload_n 3, 1) := dk_29 (dk_at dksJ3_compress_2_1 12 rfl rfl)
theorem dJ3_compress_2_37 : decode cJ3_compress_2 37 = .ok (.iload 6, 2) := dk_21 6 (dk_at dksJ3_compress_2_1 13 rfl rfl)
theorem dJ3_compress_2_39 : decode cJ3_compress_2 39 = .ok (.i2b, 1) := dk_145 (dk_at dksJ3_compress_2_1 15 rfl rfl)
theorem dJ3_compress_2_40 : decode cJ3_compress_2 40 = .ok (.bastore, 1) := dk_84 (dk_at dksJ3_compress_2_1 16 rfl rfl)
theorem dJ3_compress_2_41 : decode cJ3_compress_2 41 = .ok (.iinc 1 1, 3) := dk_132 1 1 (dk_at dksJ3_compress_2_1 17 rfl rfl)
theorem dJ3_compress_2_44 : decode cJ3_compress_2 44 = .ok (.iinc 3 1, 3) := dk_132 3 1 (dk_at dksJ3_compress_2_1 20 rfl rfl)
theorem dJ3_compress_2_47 : decode cJ3_compress_2 47 = .ok (.iinc 5 1, 3) := dk_132 5 1 (dk_at dksJ3_compress_2_2 0 rfl rfl)
theorem dJ3_compress_2_50 : decode cJ3_compress_2 50 = .ok (.goto (-40), 3) := dk_167 255 216 (dk_at dksJ3_compress_2_2 3 rfl rfl)
theorem dJ3_compress_2_53 : decode cJ3_compress_2 53 = .ok (.iload 4, 2) := dk_21 4 (dk_at dksJ3_compress_2_2 6 rfl rfl)
theorem dJ3_compress_2_55 : decode cJ3_compress_2 55 = .ok (.ireturn, 1) := dk_172 (dk_at dksJ3_compress_2_2 8 rfl rfl)
abbrev cJ3_getChar : ByteArray := prog_24_method_5_code
def yJ3_getChar : MethodName := ⟨RJ3, "getChar", "([BI)C"⟩
def dkwJ3_getChar_2 : List UInt8 := [51, 17, 0, 255, 126, 178, 0, 63, 120, 128, 146, 172]
abbrev dktJ3_getChar_2 : List UInt8 := dkwJ3_getChar_2 ++ []
def dkwJ3_getChar_1 : List UInt8 := [183, 0, 56, 191, 27, 4, 120, 60, 42, 27, 132, 1, 1, 51, 17, 0, 255, 126, 178, 0, 59, 120, 42, 27]
abbrev dktJ3_getChar_1 : List UInt8 := dkwJ3_getChar_1 ++ dktJ3_getChar_2
def dkwJ3_getChar_0 : List UInt8 := [178, 0, 44, 154, 0, 25, 27, 155, 0, 11, 27, 42, 184, 0, 48, 161, 0, 13, 187, 0, 52, 89, 18, 54]
abbrev dktJ3_getChar_0 : List UInt8 := dkwJ3_getChar_0 ++ dktJ3_getChar_1
theorem dksJ3_getChar_0 : cJ3_getChar.data.toList.drop 0 = dktJ3_getChar_0 := by decide +kernel
theorem dksJ3_getChar_1 : cJ3_getChar.data.toList.drop 24 = dktJ3_getChar_1 := dk_seg dksJ3_getChar_0 24 rfl rfl
theorem dksJ3_getChar_2 : cJ3_getChar.data.toList.drop 48 = dktJ3_getChar_2 := dk_seg dksJ3_getChar_1 24 rfl rfl
theorem dJ3_getChar_0 : decode cJ3_getChar 0 = .ok (.getstatic 44, 3) := dk_178 0 44 (dk_at dksJ3_getChar_0 0 rfl rfl)
theorem dJ3_getChar_3 : decode cJ3_getChar 3 = .ok (.ifCond .ne 25, 3) := dk_154 0 25 (dk_at dksJ3_getChar_0 3 rfl rfl)
theorem dJ3_getChar_6 : decode cJ3_getChar 6 = .ok (.iload_n 1, 1) := dk_27 (dk_at dksJ3_getChar_0 6 rfl rfl)
theorem dJ3_getChar_7 : decode cJ3_getChar 7 = .ok (.ifCond .lt 11, 3) := dk_155 0 11 (dk_at dksJ3_getChar_0 7 rfl rfl)
theorem dJ3_getChar_10 : decode cJ3_getChar 10 = .ok (.iload_n 1, 1) := dk_27 (dk_at dksJ3_getChar_0 10 rfl rfl)
theorem dJ3_getChar_11 : decode cJ3_getChar 11 = .ok (.aload_n 0, 1) := dk_42 (dk_at dksJ3_getChar_0 11 rfl rfl)
theorem dJ3_getChar_12 : decode cJ3_getChar 12 = .ok (.invokestatic 48, 3) := dk_184 0 48 (dk_at dksJ3_getChar_0 12 rfl rfl)
theorem dJ3_getChar_15 : decode cJ3_getChar 15 = .ok (.if_icmp .lt 13, 3) := dk_161 0 13 (dk_at dksJ3_getChar_0 15 rfl rfl)
theorem dJ3_getChar_18 : decode cJ3_getChar 18 = .ok (.new 52, 3) := dk_187 0 52 (dk_at dksJ3_getChar_0 18 rfl rfl)
theorem dJ3_getChar_21 : decode cJ3_getChar 21 = .ok (.dup, 1) := dk_89 (dk_at dksJ3_getChar_0 21 rfl rfl)
theorem dJ3_getChar_22 : decode cJ3_getChar 22 = .ok (.ldc 54, 2) := dk_18 54 (dk_at dksJ3_getChar_0 22 rfl rfl)
theorem dJ3_getChar_24 : decode cJ3_getChar 24 = .ok (.invokespecial 56, 3) := dk_183 0 56 (dk_at dksJ3_getChar_1 0 rfl rfl)
theorem dJ3_getChar_27 : decode cJ3_getChar 27 = .ok (.athrow, 1) := dk_191 (dk_at dksJ3_getChar_1 3 rfl rfl)
theorem dJ3_getChar_28 : decode cJ3_getChar 28 = .ok (.iload_n 1, 1) := dk_27 (dk_at dksJ3_getChar_1 4 rfl rfl)
theorem dJ3_getChar_29 : decode cJ3_getChar 29 = .ok (.iconst 1, 1) := dk_4 (dk_at dksJ3_getChar_1 5 rfl rfl)
theorem dJ3_getChar_30 : decode cJ3_getChar 30 = .ok (.ishl, 1) := dk_120 (dk_at dksJ3_getChar_1 6 rfl rfl)
theorem dJ3_getChar_31 : decode cJ3_getChar 31 = .ok (.istore_n 1, 1) := dk_60 (dk_at dksJ3_getChar_1 7 rfl rfl)
theorem dJ3_getChar_32 : decode cJ3_getChar 32 = .ok (.aload_n 0, 1) := dk_42 (dk_at dksJ3_getChar_1 8 rfl rfl)
theorem dJ3_getChar_33 : decode cJ3_getChar 33 = .ok (.iload_n 1, 1) := dk_27 (dk_at dksJ3_getChar_1 9 rfl rfl)
theorem dJ3_getChar_34 : decode cJ3_getChar 34 = .ok (.iinc 1 1, 3) := dk_132 1 1 (dk_at dksJ3_getChar_1 10 rfl rfl)
theorem dJ3_getChar_37 : decode cJ3_getChar 37 = .ok (.baload, 1) := dk_51 (dk_at dksJ3_getChar_1 13 rfl rfl)
theorem dJ3_getChar_38 : decode cJ3_getChar 38 = .ok (.sipush 255, 3) := dk_17 0 255 (dk_at dksJ3_getChar_1 14 rfl rfl)
theorem dJ3_getChar_41 : decode cJ3_getChar 41 = .ok (.iand, 1) := dk_126 (dk_at dksJ3_getChar_1 17 rfl rfl)
theorem dJ3_getChar_42 : decode cJ3_getChar 42 = .ok (.getstatic 59, 3) := dk_178 0 59 (dk_at dksJ3_getChar_1 18 rfl rfl)
theorem dJ3_getChar_45 : decode cJ3_getChar 45 = .ok (.ishl, 1) := dk_120 (dk_at dksJ3_getChar_1 21 rfl rfl)
theorem dJ3_getChar_46 : decode cJ3_getChar 46 = .ok (.aload_n 0, 1) := dk_42 (dk_at dksJ3_getChar_1 22 rfl rfl)
theorem dJ3_getChar_47 : decode cJ3_getChar 47 = .ok (.iload_n 1, 1) := dk_27 (dk_at dksJ3_getChar_1 23 rfl rfl)
theorem dJ3_getChar_48 : decode cJ3_getChar 48 = .ok (.baload, 1) := dk_51 (dk_at dksJ3_getChar_2 0 rfl rfl)
theorem dJ3_getChar_49 : decode cJ3_getChar 49 = .ok (.sipush 255, 3) := dk_17 0 255 (dk_at dksJ3_getChar_2 1 rfl rfl)
theorem dJ3_getChar_52 : decode cJ3_getChar 52 = .ok (.iand, 1) := dk_126 (dk_at dksJ3_getChar_2 4 rfl rfl)
theorem dJ3_getChar_53 : decode cJ3_getChar 53 = .ok (.getstatic 63, 3) := dk_178 0 63 (dk_at dksJ3_getChar_2 5 rfl rfl)
theorem dJ3_getChar_56 : decode cJ3_getChar 56 = .ok (.ishl, 1) := dk_120 (dk_at dksJ3_getChar_2 8 rfl rfl)
theorem dJ3_getChar_57 : decode cJ3_getChar 57 = .ok (.ior, 1) := dk_128 (dk_at dksJ3_getChar_2 9 rfl rfl)
theorem dJ3_getChar_58 : decode cJ3_getChar 58 = .ok (.i2c, 1) := dk_146 (dk_at dksJ3_getChar_2 10 rfl rfl)
theorem dJ3_getChar_59 : decode cJ3_getChar 59 = .ok (.ireturn, 1) := dk_172 (dk_at dksJ3_getChar_2 11 rfl rfl)
abbrev cJ3_coderFromArrayLen : ByteArray := prog_24_method_15_code
def yJ3_coderFromArrayLen : MethodName := ⟨RJ3, "coderFromArrayLen", "([BI)B"⟩
def dkwJ3_coderFromArrayLen_0 : List UInt8 := [27, 42, 190, 100, 16, 31, 124, 145, 172]
abbrev dktJ3_coderFromArrayLen_0 : List UInt8 := dkwJ3_coderFromArrayLen_0 ++ []
theorem dksJ3_coderFromArrayLen_0 : cJ3_coderFromArrayLen.data.toList.drop 0 = dktJ3_coderFromArrayLen_0 := by decide +kernel
theorem dJ3_coderFromArrayLen_0 : decode cJ3_coderFromArrayLen 0 = .ok (.iload_n 1, 1) := dk_27 (dk_at dksJ3_coderFromArrayLen_0 0 rfl rfl)
theorem dJ3_coderFromArrayLen_1 : decode cJ3_coderFromArrayLen 1 = .ok (.aload_n 0, 1) := dk_42 (dk_at dksJ3_coderFromArrayLen_0 1 rfl rfl)
theorem dJ3_coderFromArrayLen_2 : decode cJ3_coderFromArrayLen 2 = .ok (.arraylength, 1) := dk_190 (dk_at dksJ3_coderFromArrayLen_0 2 rfl rfl)
theorem dJ3_coderFromArrayLen_3 : decode cJ3_coderFromArrayLen 3 = .ok (.isub, 1) := dk_100 (dk_at dksJ3_coderFromArrayLen_0 3 rfl rfl)
theorem dJ3_coderFromArrayLen_4 : decode cJ3_coderFromArrayLen 4 = .ok (.bipush 31, 2) := dk_16 31 (dk_at dksJ3_coderFromArrayLen_0 4 rfl rfl)
theorem dJ3_coderFromArrayLen_6 : decode cJ3_coderFromArrayLen 6 = .ok (.iushr, 1) := dk_124 (dk_at dksJ3_coderFromArrayLen_0 6 rfl rfl)
theorem dJ3_coderFromArrayLen_7 : decode cJ3_coderFromArrayLen 7 = .ok (.i2b, 1) := dk_145 (dk_at dksJ3_coderFromArrayLen_0 7 rfl rfl)
theorem dJ3_coderFromArrayLen_8 : decode cJ3_coderFromArrayLen 8 = .ok (.ireturn, 1) := dk_172 (dk_at dksJ3_coderFromArrayLen_0 8 rfl rfl)
abbrev cJ3_hashCode : ByteArray := prog_24_method_39_code
def yJ3_hashCode : MethodName := ⟨RJ3, "hashCode", "([B)I"⟩
def dkwJ3_hashCode_2 : List UInt8 := [3, 167, 0, 22, 42, 3, 184, 0, 71, 167, 0, 14, 42, 3, 42, 190, 4, 122, 3, 8, 184, 0, 220, 172]
abbrev dktJ3_hashCode_2 : List UInt8 := dkwJ3_hashCode_2 ++ []
def dkwJ3_hashCode_1 : List UInt8 := [171, 0, 0, 0, 0, 38, 0, 0, 0, 2, 0, 0, 0, 0, 0, 0, 0, 26, 0, 0, 0, 2, 0, 0, 0, 30]
abbrev dktJ3_hashCode_1 : List UInt8 := dkwJ3_hashCode_1 ++ dktJ3_hashCode_2
def dkwJ3_hashCode_0 : List UInt8 := [42, 190]
abbrev dktJ3_hashCode_0 : List UInt8 := dkwJ3_hashCode_0 ++ dktJ3_hashCode_1
theorem dksJ3_hashCode_0 : cJ3_hashCode.data.toList.drop 0 = dktJ3_hashCode_0 := by decide +kernel
theorem dksJ3_hashCode_1 : cJ3_hashCode.data.toList.drop 2 = dktJ3_hashCode_1 := dk_seg dksJ3_hashCode_0 2 rfl rfl
theorem dksJ3_hashCode_2 : cJ3_hashCode.data.toList.drop 28 = dktJ3_hashCode_2 := dk_seg dksJ3_hashCode_1 26 rfl rfl
theorem dJ3_hashCode_0 : decode cJ3_hashCode 0 = .ok (.aload_n 0, 1) := dk_42 (dk_at dksJ3_hashCode_0 0 rfl rfl)
theorem dJ3_hashCode_1 : decode cJ3_hashCode 1 = .ok (.arraylength, 1) := dk_190 (dk_at dksJ3_hashCode_0 1 rfl rfl)
theorem dJ3_hashCode_2 : decode cJ3_hashCode 2 = .ok (.lookupswitch 38 #[(0, 26), (2, 30)], 26) := by decide +kernel
theorem dJ3_hashCode_28 : decode cJ3_hashCode 28 = .ok (.iconst 0, 1) := dk_3 (dk_at dksJ3_hashCode_2 0 rfl rfl)
theorem dJ3_hashCode_29 : decode cJ3_hashCode 29 = .ok (.goto 22, 3) := dk_167 0 22 (dk_at dksJ3_hashCode_2 1 rfl rfl)
theorem dJ3_hashCode_32 : decode cJ3_hashCode 32 = .ok (.aload_n 0, 1) := dk_42 (dk_at dksJ3_hashCode_2 4 rfl rfl)
theorem dJ3_hashCode_33 : decode cJ3_hashCode 33 = .ok (.iconst 0, 1) := dk_3 (dk_at dksJ3_hashCode_2 5 rfl rfl)
theorem dJ3_hashCode_34 : decode cJ3_hashCode 34 = .ok (.invokestatic 71, 3) := dk_184 0 71 (dk_at dksJ3_hashCode_2 6 rfl rfl)
theorem dJ3_hashCode_37 : decode cJ3_hashCode 37 = .ok (.goto 14, 3) := dk_167 0 14 (dk_at dksJ3_hashCode_2 9 rfl rfl)
theorem dJ3_hashCode_40 : decode cJ3_hashCode 40 = .ok (.aload_n 0, 1) := dk_42 (dk_at dksJ3_hashCode_2 12 rfl rfl)
theorem dJ3_hashCode_41 : decode cJ3_hashCode 41 = .ok (.iconst 0, 1) := dk_3 (dk_at dksJ3_hashCode_2 13 rfl rfl)
theorem dJ3_hashCode_42 : decode cJ3_hashCode 42 = .ok (.aload_n 0, 1) := dk_42 (dk_at dksJ3_hashCode_2 14 rfl rfl)
theorem dJ3_hashCode_43 : decode cJ3_hashCode 43 = .ok (.arraylength, 1) := dk_190 (dk_at dksJ3_hashCode_2 15 rfl rfl)
theorem dJ3_hashCode_44 : decode cJ3_hashCode 44 = .ok (.iconst 1, 1) := dk_4 (dk_at dksJ3_hashCode_2 16 rfl rfl)
theorem dJ3_hashCode_45 : decode cJ3_hashCode 45 = .ok (.ishr, 1) := dk_122 (dk_at dksJ3_hashCode_2 17 rfl rfl)
theorem dJ3_hashCode_46 : decode cJ3_hashCode 46 = .ok (.iconst 0, 1) := dk_3 (dk_at dksJ3_hashCode_2 18 rfl rfl)
theorem dJ3_hashCode_47 : decode cJ3_hashCode 47 = .ok (.iconst 5, 1) := dk_8 (dk_at dksJ3_hashCode_2 19 rfl rfl)
theorem dJ3_hashCode_48 : decode cJ3_hashCode 48 = .ok (.invokestatic 220, 3) := dk_184 0 220 (dk_at dksJ3_hashCode_2 20 rfl rfl)
theorem dJ3_hashCode_51 : decode cJ3_hashCode 51 = .ok (.ireturn, 1) := dk_172 (dk_at dksJ3_hashCode_2 23 rfl rfl)
theorem q69 : (Jvm.Cond.initialized "java/lang/StringUTF16") ∈ lw_all := lw_g (lw_at lw_m1 9 rfl) rfl
theorem q282 : (Jvm.Cond.static ({ cls := "java/lang/StringUTF16", name := "newBytesFor", desc := "(I)[B" } : Jvm.MethodName)) ∈ lw_all := lw_g (lw_at lw_m1 222 rfl) rfl
theorem q283 : (Jvm.Cond.code ({ cls := "java/lang/StringUTF16", name := "newBytesFor", desc := "(I)[B" } : Jvm.MethodName) prog_24_method_2_code (1 : Nat) (Option.some (Jvm.ClassFile.FieldType.array Jvm.ClassFile.FieldType.byte))) ∈ lw_all := lw_g (lw_at lw_m1 223 rfl) rfl
theorem q284 : (Jvm.Cond.methodLink "java/lang/StringUTF16" (11 : Nat) ({ cls := "java/lang/StringUTF16", name := "newBytesLength", desc := "(I)I" } : Jvm.MethodName)) ∈ lw_all := lw_g (lw_at lw_m1 224 rfl) rfl
theorem q285 : (Jvm.Cond.static ({ cls := "java/lang/StringUTF16", name := "newBytesLength", desc := "(I)I" } : Jvm.MethodName)) ∈ lw_all := lw_g (lw_at lw_m1 225 rfl) rfl
theorem q286 : (Jvm.Cond.code ({ cls := "java/lang/StringUTF16", name := "newBytesLength", desc := "(I)I" } : Jvm.MethodName) prog_24_method_3_code (1 : Nat) (Option.some Jvm.ClassFile.FieldType.int)) ∈ lw_all := lw_g (lw_at lw_m1 226 rfl) rfl
theorem q287 : (Jvm.Cond.constant "java/lang/StringUTF16" (20 : Nat) (1073741823 : Int32)) ∈ lw_all := lw_g (lw_at lw_m1 227 rfl) rfl
theorem q360 : (Jvm.Cond.static ({ cls := "java/lang/StringUTF16", name := "inflate", desc := "([BI[BII)V" } : Jvm.MethodName)) ∈ lw_all := lw_g (lw_at lw_m2 60 rfl) rfl
theorem q361 : (Jvm.Cond.code ({ cls := "java/lang/StringUTF16", name := "inflate", desc := "([BI[BII)V" } : Jvm.MethodName) prog_24_method_86_code (6 : Nat) (Option.none : Option Jvm.ClassFile.FieldType)) ∈ lw_all := lw_g (lw_at lw_m2 61 rfl) rfl
theorem q362 : (Jvm.Cond.methodLink "java/lang/StringUTF16" (173 : Nat) ({ cls := "java/lang/StringUTF16", name := "checkBoundsOffCount", desc := "(II[B)V" } : Jvm.MethodName)) ∈ lw_all := lw_g (lw_at lw_m2 62 rfl) rfl
theorem q363 : (Jvm.Cond.static ({ cls := "java/lang/StringUTF16", name := "checkBoundsOffCount", desc := "(II[B)V" } : Jvm.MethodName)) ∈ lw_all := lw_g (lw_at lw_m2 63 rfl) rfl
theorem q364 : (Jvm.Cond.code ({ cls := "java/lang/StringUTF16", name := "checkBoundsOffCount", desc := "(II[B)V" } : Jvm.MethodName) prog_24_method_94_code (3 : Nat) (Option.none : Option Jvm.ClassFile.FieldType)) ∈ lw_all := lw_g (lw_at lw_m2 64 rfl) rfl
theorem q365 : (Jvm.Cond.methodLink "java/lang/StringUTF16" (48 : Nat) ({ cls := "java/lang/StringUTF16", name := "length", desc := "([B)I" } : Jvm.MethodName)) ∈ lw_all := lw_g (lw_at lw_m2 65 rfl) rfl
theorem q366 : (Jvm.Cond.static ({ cls := "java/lang/StringUTF16", name := "length", desc := "([B)I" } : Jvm.MethodName)) ∈ lw_all := lw_g (lw_at lw_m2 66 rfl) rfl
theorem q367 : (Jvm.Cond.code ({ cls := "java/lang/StringUTF16", name := "length", desc := "([B)I" } : Jvm.MethodName) prog_24_method_6_code (1 : Nat) (Option.some Jvm.ClassFile.FieldType.int)) ∈ lw_all := lw_g (lw_at lw_m2 67 rfl) rfl
theorem q368 : (Jvm.Cond.methodLink "java/lang/StringUTF16" (419 : Nat) ({ cls := "java/lang/String", name := "checkBoundsOffCount", desc := "(III)I" } : Jvm.MethodName)) ∈ lw_all := lw_g (lw_at lw_m2 68 rfl) rfl
theorem q376 : (Jvm.Cond.methodLink "java/lang/StringUTF16" (111 : Nat) ({ cls := "java/lang/StringUTF16", name := "putChar", desc := "([BII)V" } : Jvm.MethodName)) ∈ lw_all := lw_g (lw_at lw_m2 76 rfl) rfl
theorem q377 : (Jvm.Cond.static ({ cls := "java/lang/StringUTF16", name := "putChar", desc := "([BII)V" } : Jvm.MethodName)) ∈ lw_all := lw_g (lw_at lw_m2 77 rfl) rfl
theorem q378 : (Jvm.Cond.code ({ cls := "java/lang/StringUTF16", name := "putChar", desc := "([BII)V" } : Jvm.MethodName) prog_24_method_4_code (3 : Nat) (Option.none : Option Jvm.ClassFile.FieldType)) ∈ lw_all := lw_g (lw_at lw_m2 78 rfl) rfl
theorem q379 : (Jvm.Cond.fieldLink "java/lang/StringUTF16" (44 : Nat) "java/lang/StringUTF16" "$assertionsDisabled" "Z") ∈ lw_all := lw_g (lw_at lw_m2 79 rfl) rfl
theorem q380 : (Jvm.Cond.laysStatic "java/lang/StringUTF16" "$assertionsDisabled" "Z") ∈ lw_tbl := lw_at lw_m2 80 rfl
theorem q381 : (Jvm.Cond.fieldLink "java/lang/StringUTF16" (59 : Nat) "java/lang/StringUTF16" "HI_BYTE_SHIFT" "I") ∈ lw_all := lw_g (lw_at lw_m2 81 rfl) rfl
theorem q382 : (Jvm.Cond.laysStatic "java/lang/StringUTF16" "HI_BYTE_SHIFT" "I") ∈ lw_tbl := lw_at lw_m2 82 rfl
theorem q383 : (Jvm.Cond.fieldLink "java/lang/StringUTF16" (63 : Nat) "java/lang/StringUTF16" "LO_BYTE_SHIFT" "I") ∈ lw_all := lw_g (lw_at lw_m2 83 rfl) rfl
theorem q384 : (Jvm.Cond.laysStatic "java/lang/StringUTF16" "LO_BYTE_SHIFT" "I") ∈ lw_tbl := lw_at lw_m2 84 rfl
theorem q386 : (Jvm.Cond.static ({ cls := "java/lang/StringUTF16", name := "putCharSB", desc := "([BII)V" } : Jvm.MethodName)) ∈ lw_all := lw_g (lw_at lw_m2 86 rfl) rfl
theorem q387 : (Jvm.Cond.code ({ cls := "java/lang/StringUTF16", name := "putCharSB", desc := "([BII)V" } : Jvm.MethodName) prog_24_method_71_code (3 : Nat) (Option.none : Option Jvm.ClassFile.FieldType)) ∈ lw_all := lw_g (lw_at lw_m2 87 rfl) rfl
theorem q388 : (Jvm.Cond.methodLink "java/lang/StringUTF16" (67 : Nat) ({ cls := "java/lang/StringUTF16", name := "checkIndex", desc := "(I[B)V" } : Jvm.MethodName)) ∈ lw_all := lw_g (lw_at lw_m2 88 rfl) rfl
theorem q389 : (Jvm.Cond.static ({ cls := "java/lang/StringUTF16", name := "checkIndex", desc := "(I[B)V" } : Jvm.MethodName)) ∈ lw_all := lw_g (lw_at lw_m2 89 rfl) rfl
theorem q390 : (Jvm.Cond.code ({ cls := "java/lang/StringUTF16", name := "checkIndex", desc := "(I[B)V" } : Jvm.MethodName) prog_24_method_91_code (2 : Nat) (Option.none : Option Jvm.ClassFile.FieldType)) ∈ lw_all := lw_g (lw_at lw_m2 90 rfl) rfl
theorem q391 : (Jvm.Cond.methodLink "java/lang/StringUTF16" (414 : Nat) ({ cls := "java/lang/String", name := "checkIndex", desc := "(II)V" } : Jvm.MethodName)) ∈ lw_all := lw_g (lw_at lw_m2 91 rfl) rfl
theorem q435 : (Jvm.Cond.static ({ cls := "java/lang/StringUTF16", name := "compress", desc := "([BII)[B" } : Jvm.MethodName)) ∈ lw_all := lw_g (lw_at lw_m2 135 rfl) rfl
theorem q436 : (Jvm.Cond.code ({ cls := "java/lang/StringUTF16", name := "compress", desc := "([BII)[B" } : Jvm.MethodName) prog_24_method_17_code (6 : Nat) (Option.some (Jvm.ClassFile.FieldType.array Jvm.ClassFile.FieldType.byte))) ∈ lw_all := lw_g (lw_at lw_m2 136 rfl) rfl
theorem q437 : (Jvm.Cond.methodLink "java/lang/StringUTF16" (123 : Nat) ({ cls := "java/lang/StringUTF16", name := "compress", desc := "([BI[BII)I" } : Jvm.MethodName)) ∈ lw_all := lw_g (lw_at lw_m2 137 rfl) rfl
theorem q438 : (Jvm.Cond.static ({ cls := "java/lang/StringUTF16", name := "compress", desc := "([BI[BII)I" } : Jvm.MethodName)) ∈ lw_all := lw_g (lw_at lw_m2 138 rfl) rfl
theorem q439 : (Jvm.Cond.code ({ cls := "java/lang/StringUTF16", name := "compress", desc := "([BI[BII)I" } : Jvm.MethodName) prog_24_method_22_code (7 : Nat) (Option.some Jvm.ClassFile.FieldType.int)) ∈ lw_all := lw_g (lw_at lw_m2 139 rfl) rfl
theorem q440 : (Jvm.Cond.methodLink "java/lang/StringUTF16" (71 : Nat) ({ cls := "java/lang/StringUTF16", name := "getChar", desc := "([BI)C" } : Jvm.MethodName)) ∈ lw_all := lw_g (lw_at lw_m2 140 rfl) rfl
theorem q441 : (Jvm.Cond.static ({ cls := "java/lang/StringUTF16", name := "getChar", desc := "([BI)C" } : Jvm.MethodName)) ∈ lw_all := lw_g (lw_at lw_m2 141 rfl) rfl
theorem q442 : (Jvm.Cond.code ({ cls := "java/lang/StringUTF16", name := "getChar", desc := "([BI)C" } : Jvm.MethodName) prog_24_method_5_code (2 : Nat) (Option.some Jvm.ClassFile.FieldType.char)) ∈ lw_all := lw_g (lw_at lw_m2 142 rfl) rfl
theorem q443 : (Jvm.Cond.methodLink "java/lang/StringUTF16" (126 : Nat) ({ cls := "java/util/Arrays", name := "copyOfRange", desc := "([BII)[B" } : Jvm.MethodName)) ∈ lw_all := lw_g (lw_at lw_m2 143 rfl) rfl
theorem q445 : (Jvm.Cond.static ({ cls := "java/lang/StringUTF16", name := "coderFromArrayLen", desc := "([BI)B" } : Jvm.MethodName)) ∈ lw_all := lw_g (lw_at lw_m2 145 rfl) rfl
theorem q446 : (Jvm.Cond.code ({ cls := "java/lang/StringUTF16", name := "coderFromArrayLen", desc := "([BI)B" } : Jvm.MethodName) prog_24_method_15_code (2 : Nat) (Option.some Jvm.ClassFile.FieldType.byte)) ∈ lw_all := lw_g (lw_at lw_m2 146 rfl) rfl
theorem q640 : (Jvm.Cond.static ({ cls := "java/lang/StringUTF16", name := "hashCode", desc := "([B)I" } : Jvm.MethodName)) ∈ lw_all := lw_g (lw_at lw_m3 100 rfl) rfl
theorem q641 : (Jvm.Cond.code ({ cls := "java/lang/StringUTF16", name := "hashCode", desc := "([B)I" } : Jvm.MethodName) prog_24_method_39_code (1 : Nat) (Option.some Jvm.ClassFile.FieldType.int)) ∈ lw_all := lw_g (lw_at lw_m3 101 rfl) rfl
theorem q642 : (Jvm.Cond.methodLink "java/lang/StringUTF16" (220 : Nat) ({ cls := "jdk/internal/util/ArraysSupport", name := "vectorizedHashCode", desc := "(Ljava/lang/Object;IIII)I" } : Jvm.MethodName)) ∈ lw_all := lw_g (lw_at lw_m3 102 rfl) rfl

/-! jdk/internal/util/ArraysSupport -/
set_option maxRecDepth 100000
def RJ4 : String := "jdk/internal/util/ArraysSupport"
abbrev cJ4_newLength : ByteArray := prog_30_method_27_code
def yJ4_newLength : MethodName := ⟨RJ4, "newLength", "(III)I"⟩
def dkwJ4_newLength_1 : List UInt8 := [184, 0, 201, 172]
abbrev dktJ4_newLength_1 : List UInt8 := dkwJ4_newLength_1 ++ []
def dkwJ4_newLength_0 : List UInt8 := [26, 27, 28, 184, 0, 194, 96, 62, 3, 29, 162, 0, 11, 29, 18, 200, 163, 0, 5, 29, 172, 26, 27]
abbrev dktJ4_newLength_0 : List UInt8 := dkwJ4_newLength_0 ++ dktJ4_newLength_1
theorem dksJ4_newLength_0 : cJ4_newLength.data.toList.drop 0 = dktJ4_newLength_0 := by decide +kernel
theorem dksJ4_newLength_1 : cJ4_newLength.data.toList.drop 23 = dktJ4_newLength_1 := dk_seg dksJ4_newLength_0 23 rfl rfl
theorem dJ4_newLength_0 : decode cJ4_newLength 0 = .ok (.iload_n 0, 1) := dk_26 (dk_at dksJ4_newLength_0 0 rfl rfl)
theorem dJ4_newLength_1 : decode cJ4_newLength 1 = .ok (.iload_n 1, 1) := dk_27 (dk_at dksJ4_newLength_0 1 rfl rfl)
theorem dJ4_newLength_2 : decode cJ4_newLength 2 = .ok (.iload_n 2, 1) := dk_28 (dk_at dksJ4_newLength_0 2 rfl rfl)
theorem dJ4_newLength_3 : decode cJ4_newLength 3 = .ok (.invokestatic 194, 3) := dk_184 0 194 (dk_at dksJ4_newLength_0 3 rfl rfl)
theorem dJ4_newLength_6 : decode cJ4_newLength 6 = .ok (.iadd, 1) := dk_96 (dk_at dksJ4_newLength_0 6 rfl rfl)
theorem dJ4_newLength_7 : decode cJ4_newLength 7 = .ok (.istore_n 3, 1) := dk_62 (dk_at dksJ4_newLength_0 7 rfl rfl)
theorem dJ4_newLength_8 : decode cJ4_newLength 8 = .ok (.iconst 0, 1) := dk_3 (dk_at dksJ4_newLength_0 8 rfl rfl)
theorem dJ4_newLength_9 : decode cJ4_newLength 9 = .ok (.iload_n 3, 1) := dk_29 (dk_at dksJ4_newLength_0 9 rfl rfl)
theorem dJ4_newLength_10 : decode cJ4_newLength 10 = .ok (.if_icmp .ge 11, 3) := dk_162 0 11 (dk_at dksJ4_newLength_0 10 rfl rfl)
theorem dJ4_newLength_13 : decode cJ4_newLength 13 = .ok (.iload_n 3, 1) := dk_29 (dk_at dksJ4_newLength_0 13 rfl rfl)
theorem dJ4_newLength_14 : decode cJ4_newLength 14 = .ok (.ldc 200, 2) := dk_18 200 (dk_at dksJ4_newLength_0 14 rfl rfl)
theorem dJ4_newLength_16 : decode cJ4_newLength 16 = .ok (.if_icmp .gt 5, 3) := dk_163 0 5 (dk_at dksJ4_newLength_0 16 rfl rfl)
theorem dJ4_newLength_19 : decode cJ4_newLength 19 = .ok (.iload_n 3, 1) := dk_29 (dk_at dksJ4_newLength_0 19 rfl rfl)
theorem dJ4_newLength_20 : decode cJ4_newLength 20 = .ok (.ireturn, 1) := dk_172 (dk_at dksJ4_newLength_0 20 rfl rfl)
theorem dJ4_newLength_21 : decode cJ4_newLength 21 = .ok (.iload_n 0, 1) := dk_26 (dk_at dksJ4_newLength_0 21 rfl rfl)
theorem dJ4_newLength_22 : decode cJ4_newLength 22 = .ok (.iload_n 1, 1) := dk_27 (dk_at dksJ4_newLength_0 22 rfl rfl)
theorem dJ4_newLength_23 : decode cJ4_newLength 23 = .ok (.invokestatic 201, 3) := dk_184 0 201 (dk_at dksJ4_newLength_1 0 rfl rfl)
theorem dJ4_newLength_26 : decode cJ4_newLength 26 = .ok (.ireturn, 1) := dk_172 (dk_at dksJ4_newLength_1 3 rfl rfl)
abbrev cJ4_hugeLength : ByteArray := prog_30_method_28_code
def yJ4_hugeLength : MethodName := ⟨RJ4, "hugeLength", "(II)I"⟩
def dkwJ4_hugeLength_2 : List UInt8 := [191, 28, 18, 200, 163, 0, 6, 18, 200, 172, 28, 172]
abbrev dktJ4_hugeLength_2 : List UInt8 := dkwJ4_hugeLength_2 ++ []
def dkwJ4_hugeLength_1 : List UInt8 := [26, 182, 0, 98, 18, 208, 182, 0, 94, 27, 182, 0, 98, 18, 210, 182, 0, 94, 182, 0, 101, 183, 0, 212]
abbrev dktJ4_hugeLength_1 : List UInt8 := dkwJ4_hugeLength_1 ++ dktJ4_hugeLength_2
def dkwJ4_hugeLength_0 : List UInt8 := [26, 27, 96, 61, 28, 156, 0, 44, 187, 0, 204, 89, 187, 0, 89, 89, 183, 0, 91, 18, 206, 182, 0, 94]
abbrev dktJ4_hugeLength_0 : List UInt8 := dkwJ4_hugeLength_0 ++ dktJ4_hugeLength_1
theorem dksJ4_hugeLength_0 : cJ4_hugeLength.data.toList.drop 0 = dktJ4_hugeLength_0 := by decide +kernel
theorem dksJ4_hugeLength_1 : cJ4_hugeLength.data.toList.drop 24 = dktJ4_hugeLength_1 := dk_seg dksJ4_hugeLength_0 24 rfl rfl
theorem dksJ4_hugeLength_2 : cJ4_hugeLength.data.toList.drop 48 = dktJ4_hugeLength_2 := dk_seg dksJ4_hugeLength_1 24 rfl rfl
theorem dJ4_hugeLength_0 : decode cJ4_hugeLength 0 = .ok (.iload_n 0, 1) := dk_26 (dk_at dksJ4_hugeLength_0 0 rfl rfl)
theorem dJ4_hugeLength_1 : decode cJ4_hugeLength 1 = .ok (.iload_n 1, 1) := dk_27 (dk_at dksJ4_hugeLength_0 1 rfl rfl)
theorem dJ4_hugeLength_2 : decode cJ4_hugeLength 2 = .ok (.iadd, 1) := dk_96 (dk_at dksJ4_hugeLength_0 2 rfl rfl)
theorem dJ4_hugeLength_3 : decode cJ4_hugeLength 3 = .ok (.istore_n 2, 1) := dk_61 (dk_at dksJ4_hugeLength_0 3 rfl rfl)
theorem dJ4_hugeLength_4 : decode cJ4_hugeLength 4 = .ok (.iload_n 2, 1) := dk_28 (dk_at dksJ4_hugeLength_0 4 rfl rfl)
theorem dJ4_hugeLength_5 : decode cJ4_hugeLength 5 = .ok (.ifCond .ge 44, 3) := dk_156 0 44 (dk_at dksJ4_hugeLength_0 5 rfl rfl)
theorem dJ4_hugeLength_8 : decode cJ4_hugeLength 8 = .ok (.new 204, 3) := dk_187 0 204 (dk_at dksJ4_hugeLength_0 8 rfl rfl)
theorem dJ4_hugeLength_11 : decode cJ4_hugeLength 11 = .ok (.dup, 1) := dk_89 (dk_at dksJ4_hugeLength_0 11 rfl rfl)
theorem dJ4_hugeLength_12 : decode cJ4_hugeLength 12 = .ok (.new 89, 3) := dk_187 0 89 (dk_at dksJ4_hugeLength_0 12 rfl rfl)
theorem dJ4_hugeLength_15 : decode cJ4_hugeLength 15 = .ok (.dup, 1) := dk_89 (dk_at dksJ4_hugeLength_0 15 rfl rfl)
theorem dJ4_hugeLength_16 : decode cJ4_hugeLength 16 = .ok (.invokespecial 91, 3) := dk_183 0 91 (dk_at dksJ4_hugeLength_0 16 rfl rfl)
theorem dJ4_hugeLength_19 : decode cJ4_hugeLength 19 = .ok (.ldc 206, 2) := dk_18 206 (dk_at dksJ4_hugeLength_0 19 rfl rfl)
theorem dJ4_hugeLength_21 : decode cJ4_hugeLength 21 = .ok (.invokevirtual 94, 3) := dk_182 0 94 (dk_at dksJ4_hugeLength_0 21 rfl rfl)
theorem dJ4_hugeLength_24 : decode cJ4_hugeLength 24 = .ok (.iload_n 0, 1) := dk_26 (dk_at dksJ4_hugeLength_1 0 rfl rfl)
theorem dJ4_hugeLength_25 : decode cJ4_hugeLength 25 = .ok (.invokevirtual 98, 3) := dk_182 0 98 (dk_at dksJ4_hugeLength_1 1 rfl rfl)
theorem dJ4_hugeLength_28 : decode cJ4_hugeLength 28 = .ok (.ldc 208, 2) := dk_18 208 (dk_at dksJ4_hugeLength_1 4 rfl rfl)
theorem dJ4_hugeLength_30 : decode cJ4_hugeLength 30 = .ok (.invokevirtual 94, 3) := dk_182 0 94 (dk_at dksJ4_hugeLength_1 6 rfl rfl)
theorem dJ4_hugeLength_33 : decode cJ4_hugeLength 33 = .ok (.iload_n 1, 1) := dk_27 (dk_at dksJ4_hugeLength_1 9 rfl rfl)
theorem dJ4_hugeLength_34 : decode cJ4_hugeLength 34 = .ok (.invokevirtual 98, 3) := dk_182 0 98 (dk_at dksJ4_hugeLength_1 10 rfl rfl)
theorem dJ4_hugeLength_37 : decode cJ4_hugeLength 37 = .ok (.ldc 210, 2) := dk_18 210 (dk_at dksJ4_hugeLength_1 13 rfl rfl)
theorem dJ4_hugeLength_39 : decode cJ4_hugeLength 39 = .ok (.invokevirtual 94, 3) := dk_182 0 94 (dk_at dksJ4_hugeLength_1 15 rfl rfl)
theorem dJ4_hugeLength_42 : decode cJ4_hugeLength 42 = .ok (.invokevirtual 101, 3) := dk_182 0 101 (dk_at dksJ4_hugeLength_1 18 rfl rfl)
theorem dJ4_hugeLength_45 : decode cJ4_hugeLength 45 = .ok (.invokespecial 212, 3) := dk_183 0 212 (dk_at dksJ4_hugeLength_1 21 rfl rfl)
theorem dJ4_hugeLength_48 : decode cJ4_hugeLength 48 = .ok (.athrow, 1) := dk_191 (dk_at dksJ4_hugeLength_2 0 rfl rfl)
theorem dJ4_hugeLength_49 : decode cJ4_hugeLength 49 = .ok (.iload_n 2, 1) := dk_28 (dk_at dksJ4_hugeLength_2 1 rfl rfl)
theorem dJ4_hugeLength_50 : decode cJ4_hugeLength 50 = .ok (.ldc 200, 2) := dk_18 200 (dk_at dksJ4_hugeLength_2 2 rfl rfl)
theorem dJ4_hugeLength_52 : decode cJ4_hugeLength 52 = .ok (.if_icmp .gt 6, 3) := dk_163 0 6 (dk_at dksJ4_hugeLength_2 4 rfl rfl)
theorem dJ4_hugeLength_55 : decode cJ4_hugeLength 55 = .ok (.ldc 200, 2) := dk_18 200 (dk_at dksJ4_hugeLength_2 7 rfl rfl)
theorem dJ4_hugeLength_57 : decode cJ4_hugeLength 57 = .ok (.ireturn, 1) := dk_172 (dk_at dksJ4_hugeLength_2 9 rfl rfl)
theorem dJ4_hugeLength_58 : decode cJ4_hugeLength 58 = .ok (.iload_n 2, 1) := dk_28 (dk_at dksJ4_hugeLength_2 10 rfl rfl)
theorem dJ4_hugeLength_59 : decode cJ4_hugeLength 59 = .ok (.ireturn, 1) := dk_172 (dk_at dksJ4_hugeLength_2 11 rfl rfl)
abbrev cJ4_vectorizedHashCode : ByteArray := prog_30_method_4_code
def yJ4_vectorizedHashCode : MethodName := ⟨RJ4, "vectorizedHashCode", "(Ljava/lang/Object;IIII)I"⟩
def dkwJ4_vectorizedHashCode_6 : List UInt8 := [183, 0, 91, 18, 92, 182, 0, 94, 21, 4, 182, 0, 98, 182, 0, 101, 183, 0, 105, 191, 172]
abbrev dktJ4_vectorizedHashCode_6 : List UInt8 := dkwJ4_vectorizedHashCode_6 ++ []
def dkwJ4_vectorizedHashCode_5 : List UInt8 := [167, 0, 44, 29, 42, 192, 0, 82, 27, 28, 184, 0, 84, 167, 0, 31, 187, 0, 87, 89, 187, 0, 89, 89]
abbrev dktJ4_vectorizedHashCode_5 : List UInt8 := dkwJ4_vectorizedHashCode_5 ++ dktJ4_vectorizedHashCode_6
def dkwJ4_vectorizedHashCode_4 : List UInt8 := [29, 42, 192, 0, 60, 27, 28, 184, 0, 75, 167, 0, 57, 29, 42, 192, 0, 77, 27, 28, 184, 0, 79]
abbrev dktJ4_vectorizedHashCode_4 : List UInt8 := dkwJ4_vectorizedHashCode_4 ++ dktJ4_vectorizedHashCode_5
def dkwJ4_vectorizedHashCode_3 : List UInt8 := [192, 0, 60, 27, 28, 184, 0, 66, 167, 0, 83, 29, 42, 192, 0, 69, 27, 28, 184, 0, 71, 167, 0, 70]
abbrev dktJ4_vectorizedHashCode_3 : List UInt8 := dkwJ4_vectorizedHashCode_3 ++ dktJ4_vectorizedHashCode_4
def dkwJ4_vectorizedHashCode_2 : List UInt8 := [29, 42, 192, 0, 60, 27, 28, 184, 0, 62, 167, 0, 103, 42, 193, 0, 60, 153, 0, 16, 29, 42]
abbrev dktJ4_vectorizedHashCode_2 : List UInt8 := dkwJ4_vectorizedHashCode_2 ++ dktJ4_vectorizedHashCode_3
def dkwJ4_vectorizedHashCode_1 : List UInt8 := [170, 0, 0, 0, 0, 127, 0, 0, 0, 4, 0, 0, 0, 10, 0, 0, 0, 42, 0, 0, 0, 55, 0, 0, 0, 127, 0, 0, 0, 127, 0, 0, 0, 88, 0, 0, 0, 101, 0, 0, 0, 114]
abbrev dktJ4_vectorizedHashCode_1 : List UInt8 := dkwJ4_vectorizedHashCode_1 ++ dktJ4_vectorizedHashCode_2
def dkwJ4_vectorizedHashCode_0 : List UInt8 := [21, 4]
abbrev dktJ4_vectorizedHashCode_0 : List UInt8 := dkwJ4_vectorizedHashCode_0 ++ dktJ4_vectorizedHashCode_1
theorem dksJ4_vectorizedHashCode_0 : cJ4_vectorizedHashCode.data.toList.drop 0 = dktJ4_vectorizedHashCode_0 := by decide +kernel
theorem dksJ4_vectorizedHashCode_1 : cJ4_vectorizedHashCode.data.toList.drop 2 = dktJ4_vectorizedHashCode_1 := dk_seg dksJ4_vectorizedHashCode_0 2 rfl rfl
theorem dksJ4_vectorizedHashCode_2 : cJ4_vectorizedHashCode.data.toList.drop 44 = dktJ4_vectorizedHashCode_2 := dk_seg dksJ4_vectorizedHashCode_1 42 rfl rfl
theorem dksJ4_vectorizedHashCode_3 : cJ4_vectorizedHashCode.data.toList.drop 66 = dktJ4_vectorizedHashCode_3 := dk_seg dksJ4_vectorizedHashCode_2 22 rfl rfl
theorem dksJ4_vectorizedHashCode_4 : cJ4_vectorizedHashCode.data.toList.drop 90 = dktJ4_vectorizedHashCode_4 := dk_seg dksJ4_vectorizedHashCode_3 24 rfl rfl
theorem dksJ4_vectorizedHashCode_5 : cJ4_vectorizedHashCode.data.toList.drop 113 = dktJ4_vectorizedHashCode_5 := dk_seg dksJ4_vectorizedHashCode_4 23 rfl rfl
theorem dksJ4_vectorizedHashCode_6 : cJ4_vectorizedHashCode.data.toList.drop 137 = dktJ4_vectorizedHashCode_6 := dk_seg dksJ4_vectorizedHashCode_5 24 rfl rfl
theorem dJ4_vectorizedHashCode_0 : decode cJ4_vectorizedHashCode 0 = .ok (.iload 4, 2) := dk_21 4 (dk_at dksJ4_vectorizedHashCode_0 0 rfl rfl)
theorem dJ4_vectorizedHashCode_2 : decode cJ4_vectorizedHashCode 2 = .ok (.tableswitch 127 4 10 #[42, 55, 127, 127, 88, 101, 114], 42) := by decide +kernel
theorem dJ4_vectorizedHashCode_44 : decode cJ4_vectorizedHashCode 44 = .ok (.iload_n 3, 1) := dk_29 (dk_at dksJ4_vectorizedHashCode_2 0 rfl rfl)
theorem dJ4_vectorizedHashCode_45 : decode cJ4_vectorizedHashCode 45 = .ok (.aload_n 0, 1) := dk_42 (dk_at dksJ4_vectorizedHashCode_2 1 rfl rfl)
theorem dJ4_vectorizedHashCode_46 : decode cJ4_vectorizedHashCode 46 = .ok (.checkcast 60, 3) := dk_192 0 60 (dk_at dksJ4_vectorizedHashCode_2 2 rfl rfl)
theorem dJ4_vectorizedHashCode_49 : decode cJ4_vectorizedHashCode 49 = .ok (.iload_n 1, 1) := dk_27 (dk_at dksJ4_vectorizedHashCode_2 5 rfl rfl)
theorem dJ4_vectorizedHashCode_50 : decode cJ4_vectorizedHashCode 50 = .ok (.iload_n 2, 1) := dk_28 (dk_at dksJ4_vectorizedHashCode_2 6 rfl rfl)
theorem dJ4_vectorizedHashCode_51 : decode cJ4_vectorizedHashCode 51 = .ok (.invokestatic 62, 3) := dk_184 0 62 (dk_at dksJ4_vectorizedHashCode_2 7 rfl rfl)
theorem dJ4_vectorizedHashCode_54 : decode cJ4_vectorizedHashCode 54 = .ok (.goto 103, 3) := dk_167 0 103 (dk_at dksJ4_vectorizedHashCode_2 10 rfl rfl)
theorem dJ4_vectorizedHashCode_57 : decode cJ4_vectorizedHashCode 57 = .ok (.aload_n 0, 1) := dk_42 (dk_at dksJ4_vectorizedHashCode_2 13 rfl rfl)
theorem dJ4_vectorizedHashCode_58 : decode cJ4_vectorizedHashCode 58 = .ok (.instanceof 60, 3) := dk_193 0 60 (dk_at dksJ4_vectorizedHashCode_2 14 rfl rfl)
theorem dJ4_vectorizedHashCode_61 : decode cJ4_vectorizedHashCode 61 = .ok (.ifCond .eq 16, 3) := dk_153 0 16 (dk_at dksJ4_vectorizedHashCode_2 17 rfl rfl)
theorem dJ4_vectorizedHashCode_64 : decode cJ4_vectorizedHashCode 64 = .ok (.iload_n 3, 1) := dk_29 (dk_at dksJ4_vectorizedHashCode_2 20 rfl rfl)
theorem dJ4_vectorizedHashCode_65 : decode cJ4_vectorizedHashCode 65 = .ok (.aload_n 0, 1) := dk_42 (dk_at dksJ4_vectorizedHashCode_2 21 rfl rfl)
theorem dJ4_vectorizedHashCode_66 : decode cJ4_vectorizedHashCode 66 = .ok (.checkcast 60, 3) := dk_192 0 60 (dk_at dksJ4_vectorizedHashCode_3 0 rfl rfl)
theorem dJ4_vectorizedHashCode_69 : decode cJ4_vectorizedHashCode 69 = .ok (.iload_n 1, 1) := dk_27 (dk_at dksJ4_vectorizedHashCode_3 3 rfl rfl)
theorem dJ4_vectorizedHashCode_70 : decode cJ4_vectorizedHashCode 70 = .ok (.iload_n 2, 1) := dk_28 (dk_at dksJ4_vectorizedHashCode_3 4 rfl rfl)
theorem dJ4_vectorizedHashCode_71 : decode cJ4_vectorizedHashCode 71 = .ok (.invokestatic 66, 3) := dk_184 0 66 (dk_at dksJ4_vectorizedHashCode_3 5 rfl rfl)
theorem dJ4_vectorizedHashCode_74 : decode cJ4_vectorizedHashCode 74 = .ok (.goto 83, 3) := dk_167 0 83 (dk_at dksJ4_vectorizedHashCode_3 8 rfl rfl)
theorem dJ4_vectorizedHashCode_77 : decode cJ4_vectorizedHashCode 77 = .ok (.iload_n 3, 1) := dk_29 (dk_at dksJ4_vectorizedHashCode_3 11 rfl rfl)
theorem dJ4_vectorizedHashCode_78 : decode cJ4_vectorizedHashCode 78 = .ok (.aload_n 0, 1) := dk_42 (dk_at dksJ4_vectorizedHashCode_3 12 rfl rfl)
theorem dJ4_vectorizedHashCode_79 : decode cJ4_vectorizedHashCode 79 = .ok (.checkcast 69, 3) := dk_192 0 69 (dk_at dksJ4_vectorizedHashCode_3 13 rfl rfl)
theorem dJ4_vectorizedHashCode_82 : decode cJ4_vectorizedHashCode 82 = .ok (.iload_n 1, 1) := dk_27 (dk_at dksJ4_vectorizedHashCode_3 16 rfl rfl)
theorem dJ4_vectorizedHashCode_83 : decode cJ4_vectorizedHashCode 83 = .ok (.iload_n 2, 1) := dk_28 (dk_at dksJ4_vectorizedHashCode_3 17 rfl rfl)
theorem dJ4_vectorizedHashCode_84 : decode cJ4_vectorizedHashCode 84 = .ok (.invokestatic 71, 3) := dk_184 0 71 (dk_at dksJ4_vectorizedHashCode_3 18 rfl rfl)
theorem dJ4_vectorizedHashCode_87 : decode cJ4_vectorizedHashCode 87 = .ok (.goto 70, 3) := dk_167 0 70 (dk_at dksJ4_vectorizedHashCode_3 21 rfl rfl)
theorem dJ4_vectorizedHashCode_90 : decode cJ4_vectorizedHashCode 90 = .ok (.iload_n 3, 1) := dk_29 (dk_at dksJ4_vectorizedHashCode_4 0 rfl rfl)
theorem dJ4_vectorizedHashCode_91 : decode cJ4_vectorizedHashCode 91 = .ok (.aload_n 0, 1) := dk_42 (dk_at dksJ4_vectorizedHashCode_4 1 rfl rfl)
theorem dJ4_vectorizedHashCode_92 : decode cJ4_vectorizedHashCode 92 = .ok (.checkcast 60, 3) := dk_192 0 60 (dk_at dksJ4_vectorizedHashCode_4 2 rfl rfl)
theorem dJ4_vectorizedHashCode_95 : decode cJ4_vectorizedHashCode 95 = .ok (.iload_n 1, 1) := dk_27 (dk_at dksJ4_vectorizedHashCode_4 5 rfl rfl)
theorem dJ4_vectorizedHashCode_96 : decode cJ4_vectorizedHashCode 96 = .ok (.iload_n 2, 1) := dk_28 (dk_at dksJ4_vectorizedHashCode_4 6 rfl rfl)
theorem dJ4_vectorizedHashCode_97 : decode cJ4_vectorizedHashCode 97 = .ok (.invokestatic 75, 3) := dk_184 0 75 (dk_at dksJ4_vectorizedHashCode_4 7 rfl rfl)
theorem dJ4_vectorizedHashCode_100 : decode cJ4_vectorizedHashCode 100 = .ok (.goto 57, 3) := dk_167 0 57 (dk_at dksJ4_vectorizedHashCode_4 10 rfl rfl)
theorem dJ4_vectorizedHashCode_103 : decode cJ4_vectorizedHashCode 103 = .ok (.iload_n 3, 1) := dk_29 (dk_at dksJ4_vectorizedHashCode_4 13 rfl rfl)
theorem dJ4_vectorizedHashCode_104 : decode cJ4_vectorizedHashCode 104 = .ok (.aload_n 0, 1) := dk_42 (dk_at dksJ4_vectorizedHashCode_4 14 rfl rfl)
theorem dJ4_vectorizedHashCode_105 : decode cJ4_vectorizedHashCode 105 = .ok (.checkcast 77, 3) := dk_192 0 77 (dk_at dksJ4_vectorizedHashCode_4 15 rfl rfl)
theorem dJ4_vectorizedHashCode_108 : decode cJ4_vectorizedHashCode 108 = .ok (.iload_n 1, 1) := dk_27 (dk_at dksJ4_vectorizedHashCode_4 18 rfl rfl)
theorem dJ4_vectorizedHashCode_109 : decode cJ4_vectorizedHashCode 109 = .ok (.iload_n 2, 1) := dk_28 (dk_at dksJ4_vectorizedHashCode_4 19 rfl rfl)
theorem dJ4_vectorizedHashCode_110 : decode cJ4_vectorizedHashCode 110 = .ok (.invokestatic 79, 3) := dk_184 0 79 (dk_at dksJ4_vectorizedHashCode_4 20 rfl rfl)
theorem dJ4_vectorizedHashCode_113 : decode cJ4_vectorizedHashCode 113 = .ok (.goto 44, 3) := dk_167 0 44 (dk_at dksJ4_vectorizedHashCode_5 0 rfl rfl)
theorem dJ4_vectorizedHashCode_116 : decode cJ4_vectorizedHashCode 116 = .ok (.iload_n 3, 1) := dk_29 (dk_at dksJ4_vectorizedHashCode_5 3 rfl rfl)
theorem dJ4_vectorizedHashCode_117 : decode cJ4_vectorizedHashCode 117 = .ok (.aload_n 0, 1) := dk_42 (dk_at dksJ4_vectorizedHashCode_5 4 rfl rfl)
theorem dJ4_vectorizedHashCode_118 : decode cJ4_vectorizedHashCode 118 = .ok (.checkcast 82, 3) := dk_192 0 82 (dk_at dksJ4_vectorizedHashCode_5 5 rfl rfl)
theorem dJ4_vectorizedHashCode_121 : decode cJ4_vectorizedHashCode 121 = .ok (.iload_n 1, 1) := dk_27 (dk_at dksJ4_vectorizedHashCode_5 8 rfl rfl)
theorem dJ4_vectorizedHashCode_122 : decode cJ4_vectorizedHashCode 122 = .ok (.iload_n 2, 1) := dk_28 (dk_at dksJ4_vectorizedHashCode_5 9 rfl rfl)
theorem dJ4_vectorizedHashCode_123 : decode cJ4_vectorizedHashCode 123 = .ok (.invokestatic 84, 3) := dk_184 0 84 (dk_at dksJ4_vectorizedHashCode_5 10 rfl rfl)
theorem dJ4_vectorizedHashCode_126 : decode cJ4_vectorizedHashCode 126 = .ok (.goto 31, 3) := dk_167 0 31 (dk_at dksJ4_vectorizedHashCode_5 13 rfl rfl)
theorem dJ4_vectorizedHashCode_129 : decode cJ4_vectorizedHashCode 129 = .ok (.new 87, 3) := dk_187 0 87 (dk_at dksJ4_vectorizedHashCode_5 16 rfl rfl)
theorem dJ4_vectorizedHashCode_132 : decode cJ4_vectorizedHashCode 132 = .ok (.dup, 1) := dk_89 (dk_at dksJ4_vectorizedHashCode_5 19 rfl rfl)
theorem dJ4_vectorizedHashCode_133 : decode cJ4_vectorizedHashCode 133 = .ok (.new 89, 3) := dk_187 0 89 (dk_at dksJ4_vectorizedHashCode_5 20 rfl rfl)
theorem dJ4_vectorizedHashCode_136 : decode cJ4_vectorizedHashCode 136 = .ok (.dup, 1) := dk_89 (dk_at dksJ4_vectorizedHashCode_5 23 rfl rfl)
theorem dJ4_vectorizedHashCode_137 : decode cJ4_vectorizedHashCode 137 = .ok (.invokespecial 91, 3) := dk_183 0 91 (dk_at dksJ4_vectorizedHashCode_6 0 rfl rfl)
theorem dJ4_vectorizedHashCode_140 : decode cJ4_vectorizedHashCode 140 = .ok (.ldc 92, 2) := dk_18 92 (dk_at dksJ4_vectorizedHashCode_6 3 rfl rfl)
theorem dJ4_vectorizedHashCode_142 : decode cJ4_vectorizedHashCode 142 = .ok (.invokevirtual 94, 3) := dk_182 0 94 (dk_at dksJ4_vectorizedHashCode_6 5 rfl rfl)
theorem dJ4_vectorizedHashCode_145 : decode cJ4_vectorizedHashCode 145 = .ok (.iload 4, 2) := dk_21 4 (dk_at dksJ4_vectorizedHashCode_6 8 rfl rfl)
theorem dJ4_vectorizedHashCode_147 : decode cJ4_vectorizedHashCode 147 = .ok (.invokevirtual 98, 3) := dk_182 0 98 (dk_at dksJ4_vectorizedHashCode_6 10 rfl rfl)
theorem dJ4_vectorizedHashCode_150 : decode cJ4_vectorizedHashCode 150 = .ok (.invokevirtual 101, 3) := dk_182 0 101 (dk_at dksJ4_vectorizedHashCode_6 13 rfl rfl)
theorem dJ4_vectorizedHashCode_153 : decode cJ4_vectorizedHashCode 153 = .ok (.invokespecial 105, 3) := dk_183 0 105 (dk_at dksJ4_vectorizedHashCode_6 16 rfl rfl)
theorem dJ4_vectorizedHashCode_156 : decode cJ4_vectorizedHashCode 156 = .ok (.athrow, 1) := dk_191 (dk_at dksJ4_vectorizedHashCode_6 19 rfl rfl)
theorem dJ4_vectorizedHashCode_157 : decode cJ4_vectorizedHashCode 157 = .ok (.ireturn, 1) := dk_172 (dk_at dksJ4_vectorizedHashCode_6 20 rfl rfl)
abbrev cJ4_signedHashCode : ByteArray := prog_30_method_5_code
def yJ4_signedHashCode : MethodName := ⟨RJ4, "signedHashCode", "(I[BII)I"⟩
def dkwJ4_signedHashCode_1 : List UInt8 := [17, 0, 255, 126, 96, 59, 132, 5, 1, 167, 255, 232, 26, 172]
abbrev dktJ4_signedHashCode_1 : List UInt8 := dkwJ4_signedHashCode_1 ++ []
def dkwJ4_signedHashCode_0 : List UInt8 := [28, 29, 96, 54, 4, 28, 54, 5, 21, 5, 21, 4, 162, 0, 23, 16, 31, 26, 104, 43, 21, 5, 51]
abbrev dktJ4_signedHashCode_0 : List UInt8 := dkwJ4_signedHashCode_0 ++ dktJ4_signedHashCode_1
theorem dksJ4_signedHashCode_0 : cJ4_signedHashCode.data.toList.drop 0 = dktJ4_signedHashCode_0 := by decide +kernel
theorem dksJ4_signedHashCode_1 : cJ4_signedHashCode.data.toList.drop 23 = dktJ4_signedHashCode_1 := dk_seg dksJ4_signedHashCode_0 23 rfl rfl
theorem dJ4_signedHashCode_0 : decode cJ4_signedHashCode 0 = .ok (.iload_n 2, 1) := dk_28 (dk_at dksJ4_signedHashCode_0 0 rfl rfl)
theorem dJ4_signedHashCode_1 : decode cJ4_signedHashCode 1 = .ok (.iload_n 3, 1) := dk_29 (dk_at dksJ4_signedHashCode_0 1 rfl rfl)
theorem dJ4_signedHashCode_2 : decode cJ4_signedHashCode 2 = .ok (.iadd, 1) := dk_96 (dk_at dksJ4_signedHashCode_0 2 rfl rfl)
theorem dJ4_signedHashCode_3 : decode cJ4_signedHashCode 3 = .ok (.istore 4, 2) := dk_54 4 (dk_at dksJ4_signedHashCode_0 3 rfl rfl)
theorem dJ4_signedHashCode_5 : decode cJ4_signedHashCode 5 = .ok (.iload_n 2, 1) := dk_28 (dk_at dksJ4_signedHashCode_0 5 rfl rfl)
theorem dJ4_signedHashCode_6 : decode cJ4_signedHashCode 6 = .ok (.istore 5, 2) := dk_54 5 (dk_at dksJ4_signedHashCode_0 6 rfl rfl)
theorem dJ4_signedHashCode_8 : decode cJ4_signedHashCode 8 = .ok (.iload 5, 2) := dk_21 5 (dk_at dksJ4_signedHashCode_0 8 rfl rfl)
theorem dJ4_signedHashCode_10 : decode cJ4_signedHashCode 10 = .ok (.iload 4, 2) := dk_21 4 (dk_at dksJ4_signedHashCode_0 10 rfl rfl)
theorem dJ4_signedHashCode_12 : decode cJ4_signedHashCode 12 = .ok (.if_icmp .ge 23, 3) := dk_162 0 23 (dk_at dksJ4_signedHashCode_0 12 rfl rfl)
theorem dJ4_signedHashCode_15 : decode cJ4_signedHashCode 15 = .ok (.bipush 31, 2) := dk_16 31 (dk_at dksJ4_signedHashCode_0 15 rfl rfl)
theorem dJ4_signedHashCode_17 : decode cJ4_signedHashCode 17 = .ok (.iload_n 0, 1) := dk_26 (dk_at dksJ4_signedHashCode_0 17 rfl rfl)
theorem dJ4_signedHashCode_18 : decode cJ4_signedHashCode 18 = .ok (.imul, 1) := dk_104 (dk_at dksJ4_signedHashCode_0 18 rfl rfl)
theorem dJ4_signedHashCode_19 : decode cJ4_signedHashCode 19 = .ok (.aload_n 1, 1) := dk_43 (dk_at dksJ4_signedHashCode_0 19 rfl rfl)
theorem dJ4_signedHashCode_20 : decode cJ4_signedHashCode 20 = .ok (.iload 5, 2) := dk_21 5 (dk_at dksJ4_signedHashCode_0 20 rfl rfl)
theorem dJ4_signedHashCode_22 : decode cJ4_signedHashCode 22 = .ok (.baload, 1) := dk_51 (dk_at dksJ4_signedHashCode_0 22 rfl rfl)
theorem dJ4_signedHashCode_23 : decode cJ4_signedHashCode 23 = .ok (.sipush 255, 3) := dk_17 0 255 (dk_at dksJ4_signedHashCode_1 0 rfl rfl)
theorem dJ4_signedHashCode_26 : decode cJ4_signedHashCode 26 = .ok (.iand, 1) := dk_126 (dk_at dksJ4_signedHashCode_1 3 rfl rfl)
theorem dJ4_signedHashCode_27 : decode cJ4_signedHashCode 27 = .ok (.iadd, 1) := dk_96 (dk_at dksJ4_signedHashCode_1 4 rfl rfl)
theorem dJ4_signedHashCode_28 : decode cJ4_signedHashCode 28 = .ok (.istore_n 0, 1) := dk_59 (dk_at dksJ4_signedHashCode_1 5 rfl rfl)
theorem dJ4_signedHashCode_29 : decode cJ4_signedHashCode 29 = .ok (.iinc 5 1, 3) := dk_132 5 1 (dk_at dksJ4_signedHashCode_1 6 rfl rfl)
theorem dJ4_signedHashCode_32 : decode cJ4_signedHashCode 32 = .ok (.goto (-24), 3) := dk_167 255 232 (dk_at dksJ4_signedHashCode_1 9 rfl rfl)
theorem dJ4_signedHashCode_35 : decode cJ4_signedHashCode 35 = .ok (.iload_n 0, 1) := dk_26 (dk_at dksJ4_signedHashCode_1 12 rfl rfl)
theorem dJ4_signedHashCode_36 : decode cJ4_signedHashCode 36 = .ok (.ireturn, 1) := dk_172 (dk_at dksJ4_signedHashCode_1 13 rfl rfl)
abbrev cJ4_utf16hashCode : ByteArray := prog_30_method_10_code
def yJ4_utf16hashCode : MethodName := ⟨RJ4, "utf16hashCode", "(I[BII)I"⟩
def dkwJ4_utf16hashCode_1 : List UInt8 := [21, 5, 185, 0, 110, 3, 0, 96, 59, 132, 5, 1, 167, 255, 229, 26, 172]
abbrev dktJ4_utf16hashCode_1 : List UInt8 := dkwJ4_utf16hashCode_1 ++ []
def dkwJ4_utf16hashCode_0 : List UInt8 := [28, 29, 96, 54, 4, 28, 54, 5, 21, 5, 21, 4, 162, 0, 26, 16, 31, 26, 104, 178, 0, 106, 43]
abbrev dktJ4_utf16hashCode_0 : List UInt8 := dkwJ4_utf16hashCode_0 ++ dktJ4_utf16hashCode_1
theorem dksJ4_utf16hashCode_0 : cJ4_utf16hashCode.data.toList.drop 0 = dktJ4_utf16hashCode_0 := by decide +kernel
theorem dksJ4_utf16hashCode_1 : cJ4_utf16hashCode.data.toList.drop 23 = dktJ4_utf16hashCode_1 := dk_seg dksJ4_utf16hashCode_0 23 rfl rfl
theorem dJ4_utf16hashCode_0 : decode cJ4_utf16hashCode 0 = .ok (.iload_n 2, 1) := dk_28 (dk_at dksJ4_utf16hashCode_0 0 rfl rfl)
theorem dJ4_utf16hashCode_1 : decode cJ4_utf16hashCode 1 = .ok (.iload_n 3, 1) := dk_29 (dk_at dksJ4_utf16hashCode_0 1 rfl rfl)
theorem dJ4_utf16hashCode_2 : decode cJ4_utf16hashCode 2 = .ok (.iadd, 1) := dk_96 (dk_at dksJ4_utf16hashCode_0 2 rfl rfl)
theorem dJ4_utf16hashCode_3 : decode cJ4_utf16hashCode 3 = .ok (.istore 4, 2) := dk_54 4 (dk_at dksJ4_utf16hashCode_0 3 rfl rfl)
theorem dJ4_utf16hashCode_5 : decode cJ4_utf16hashCode 5 = .ok (.iload_n 2, 1) := dk_28 (dk_at dksJ4_utf16hashCode_0 5 rfl rfl)
theorem dJ4_utf16hashCode_6 : decode cJ4_utf16hashCode 6 = .ok (.istore 5, 2) := dk_54 5 (dk_at dksJ4_utf16hashCode_0 6 rfl rfl)
theorem dJ4_utf16hashCode_8 : decode cJ4_utf16hashCode 8 = .ok (.iload 5, 2) := dk_21 5 (dk_at dksJ4_utf16hashCode_0 8 rfl rfl)
theorem dJ4_utf16hashCode_10 : decode cJ4_utf16hashCode 10 = .ok (.iload 4, 2) := dk_21 4 (dk_at dksJ4_utf16hashCode_0 10 rfl rfl)
theorem dJ4_utf16hashCode_12 : decode cJ4_utf16hashCode 12 = .ok (.if_icmp .ge 26, 3) := dk_162 0 26 (dk_at dksJ4_utf16hashCode_0 12 rfl rfl)
theorem dJ4_utf16hashCode_15 : decode cJ4_utf16hashCode 15 = .ok (.bipush 31, 2) := dk_16 31 (dk_at dksJ4_utf16hashCode_0 15 rfl rfl)
theorem dJ4_utf16hashCode_17 : decode cJ4_utf16hashCode 17 = .ok (.iload_n 0, 1) := dk_26 (dk_at dksJ4_utf16hashCode_0 17 rfl rfl)
theorem dJ4_utf16hashCode_18 : decode cJ4_utf16hashCode 18 = .ok (.imul, 1) := dk_104 (dk_at dksJ4_utf16hashCode_0 18 rfl rfl)
theorem dJ4_utf16hashCode_19 : decode cJ4_utf16hashCode 19 = .ok (.getstatic 106, 3) := dk_178 0 106 (dk_at dksJ4_utf16hashCode_0 19 rfl rfl)
theorem dJ4_utf16hashCode_22 : decode cJ4_utf16hashCode 22 = .ok (.aload_n 1, 1) := dk_43 (dk_at dksJ4_utf16hashCode_0 22 rfl rfl)
theorem dJ4_utf16hashCode_23 : decode cJ4_utf16hashCode 23 = .ok (.iload 5, 2) := dk_21 5 (dk_at dksJ4_utf16hashCode_1 0 rfl rfl)
theorem dJ4_utf16hashCode_25 : decode cJ4_utf16hashCode 25 = .ok (.invokeinterface 110 3, 5) := by decide +kernel
theorem dJ4_utf16hashCode_30 : decode cJ4_utf16hashCode 30 = .ok (.iadd, 1) := dk_96 (dk_at dksJ4_utf16hashCode_1 7 rfl rfl)
theorem dJ4_utf16hashCode_31 : decode cJ4_utf16hashCode 31 = .ok (.istore_n 0, 1) := dk_59 (dk_at dksJ4_utf16hashCode_1 8 rfl rfl)
theorem dJ4_utf16hashCode_32 : decode cJ4_utf16hashCode 32 = .ok (.iinc 5 1, 3) := dk_132 5 1 (dk_at dksJ4_utf16hashCode_1 9 rfl rfl)
theorem dJ4_utf16hashCode_35 : decode cJ4_utf16hashCode 35 = .ok (.goto (-27), 3) := dk_167 255 229 (dk_at dksJ4_utf16hashCode_1 12 rfl rfl)
theorem dJ4_utf16hashCode_38 : decode cJ4_utf16hashCode 38 = .ok (.iload_n 0, 1) := dk_26 (dk_at dksJ4_utf16hashCode_1 15 rfl rfl)
theorem dJ4_utf16hashCode_39 : decode cJ4_utf16hashCode 39 = .ok (.ireturn, 1) := dk_172 (dk_at dksJ4_utf16hashCode_1 16 rfl rfl)
abbrev cJ4_hashCode : ByteArray := prog_30_method_7_code
def yJ4_hashCode : MethodName := ⟨RJ4, "hashCode", "(I[CII)I"⟩
def dkwJ4_hashCode_1 : List UInt8 := [59, 132, 5, 1, 167, 255, 236, 26, 172]
abbrev dktJ4_hashCode_1 : List UInt8 := dkwJ4_hashCode_1 ++ []
def dkwJ4_hashCode_0 : List UInt8 := [28, 29, 96, 54, 4, 28, 54, 5, 21, 5, 21, 4, 162, 0, 19, 16, 31, 26, 104, 43, 21, 5, 52, 96]
abbrev dktJ4_hashCode_0 : List UInt8 := dkwJ4_hashCode_0 ++ dktJ4_hashCode_1
theorem dksJ4_hashCode_0 : cJ4_hashCode.data.toList.drop 0 = dktJ4_hashCode_0 := by decide +kernel
theorem dksJ4_hashCode_1 : cJ4_hashCode.data.toList.drop 24 = dktJ4_hashCode_1 := dk_seg dksJ4_hashCode_0 24 rfl rfl
theorem dJ4_hashCode_0 : decode cJ4_hashCode 0 = .ok (.iload_n 2, 1) := dk_28 (dk_at dksJ4_hashCode_0 0 rfl rfl)
theorem dJ4_hashCode_1 : decode cJ4_hashCode 1 = .ok (.iload_n 3, 1) := dk_29 (dk_at dksJ4_hashCode_0 1 rfl rfl)
theorem dJ4_hashCode_2 : decode cJ4_hashCode 2 = .ok (.iadd, 1) := dk_96 (dk_at dksJ4_hashCode_0 2 rfl rfl)
theorem dJ4_hashCode_3 : decode cJ4_hashCode 3 = .ok (.istore 4, 2) := dk_54 4 (dk_at dksJ4_hashCode_0 3 rfl rfl)
theorem dJ4_hashCode_5 : decode cJ4_hashCode 5 = .ok (.iload_n 2, 1) := dk_28 (dk_at dksJ4_hashCode_0 5 rfl rfl)
theorem dJ4_hashCode_6 : decode cJ4_hashCode 6 = .ok (.istore 5, 2) := dk_54 5 (dk_at dksJ4_hashCode_0 6 rfl rfl)
theorem dJ4_hashCode_8 : decode cJ4_hashCode 8 = .ok (.iload 5, 2) := dk_21 5 (dk_at dksJ4_hashCode_0 8 rfl rfl)
theorem dJ4_hashCode_10 : decode cJ4_hashCode 10 = .ok (.iload 4, 2) := dk_21 4 (dk_at dksJ4_hashCode_0 10 rfl rfl)
theorem dJ4_hashCode_12 : decode cJ4_hashCode 12 = .ok (.if_icmp .ge 19, 3) := dk_162 0 19 (dk_at dksJ4_hashCode_0 12 rfl rfl)
theorem dJ4_hashCode_15 : decode cJ4_hashCode 15 = .ok (.bipush 31, 2) := dk_16 31 (dk_at dksJ4_hashCode_0 15 rfl rfl)
theorem dJ4_hashCode_17 : decode cJ4_hashCode 17 = .ok (.iload_n 0, 1) := dk_26 (dk_at dksJ4_hashCode_0 17 rfl rfl)
theorem dJ4_hashCode_18 : decode cJ4_hashCode 18 = .ok (.imul, 1) := dk_104 (dk_at dksJ4_hashCode_0 18 rfl rfl)
theorem dJ4_hashCode_19 : decode cJ4_hashCode 19 = .ok (.aload_n 1, 1) := dk_43 (dk_at dksJ4_hashCode_0 19 rfl rfl)
theorem dJ4_hashCode_20 : decode cJ4_hashCode 20 = .ok (.iload 5, 2) := dk_21 5 (dk_at dksJ4_hashCode_0 20 rfl rfl)
theorem dJ4_hashCode_22 : decode cJ4_hashCode 22 = .ok (.caload, 1) := dk_52 (dk_at dksJ4_hashCode_0 22 rfl rfl)
theorem dJ4_hashCode_23 : decode cJ4_hashCode 23 = .ok (.iadd, 1) := dk_96 (dk_at dksJ4_hashCode_0 23 rfl rfl)
theorem dJ4_hashCode_24 : decode cJ4_hashCode 24 = .ok (.istore_n 0, 1) := dk_59 (dk_at dksJ4_hashCode_1 0 rfl rfl)
theorem dJ4_hashCode_25 : decode cJ4_hashCode 25 = .ok (.iinc 5 1, 3) := dk_132 5 1 (dk_at dksJ4_hashCode_1 1 rfl rfl)
theorem dJ4_hashCode_28 : decode cJ4_hashCode 28 = .ok (.goto (-20), 3) := dk_167 255 236 (dk_at dksJ4_hashCode_1 4 rfl rfl)
theorem dJ4_hashCode_31 : decode cJ4_hashCode 31 = .ok (.iload_n 0, 1) := dk_26 (dk_at dksJ4_hashCode_1 7 rfl rfl)
theorem dJ4_hashCode_32 : decode cJ4_hashCode 32 = .ok (.ireturn, 1) := dk_172 (dk_at dksJ4_hashCode_1 8 rfl rfl)
abbrev cJ4_hashCode_2 : ByteArray := prog_30_method_6_code
def yJ4_hashCode_2 : MethodName := ⟨RJ4, "hashCode", "(I[BII)I"⟩
def dkwJ4_hashCode_2_1 : List UInt8 := [59, 132, 5, 1, 167, 255, 236, 26, 172]
abbrev dktJ4_hashCode_2_1 : List UInt8 := dkwJ4_hashCode_2_1 ++ []
def dkwJ4_hashCode_2_0 : List UInt8 := [28, 29, 96, 54, 4, 28, 54, 5, 21, 5, 21, 4, 162, 0, 19, 16, 31, 26, 104, 43, 21, 5, 51, 96]
abbrev dktJ4_hashCode_2_0 : List UInt8 := dkwJ4_hashCode_2_0 ++ dktJ4_hashCode_2_1
theorem dksJ4_hashCode_2_0 : cJ4_hashCode_2.data.toList.drop 0 = dktJ4_hashCode_2_0 := by decide +kernel
theorem dksJ4_hashCode_2_1 : cJ4_hashCode_2.data.toList.drop 24 = dktJ4_hashCode_2_1 := dk_seg dksJ4_hashCode_2_0 24 rfl rfl
theorem dJ4_hashCode_2_0 : decode cJ4_hashCode_2 0 = .ok (.iload_n 2, 1) := dk_28 (dk_at dksJ4_hashCode_2_0 0 rfl rfl)
theorem dJ4_hashCode_2_1 : decode cJ4_hashCode_2 1 = .ok (.iload_n 3, 1) := dk_29 (dk_at dksJ4_hashCode_2_0 1 rfl rfl)
theorem dJ4_hashCode_2_2 : decode cJ4_hashCode_2 2 = .ok (.iadd, 1) := dk_96 (dk_at dksJ4_hashCode_2_0 2 rfl rfl)
theorem dJ4_hashCode_2_3 : decode cJ4_hashCode_2 3 = .ok (.istore 4, 2) := dk_54 4 (dk_at dksJ4_hashCode_2_0 3 rfl rfl)
theorem dJ4_hashCode_2_5 : decode cJ4_hashCode_2 5 = .ok (.iload_n 2, 1) := dk_28 (dk_at dksJ4_hashCode_2_0 5 rfl rfl)
theorem dJ4_hashCode_2_6 : decode cJ4_hashCode_2 6 = .ok (.istore 5, 2) := dk_54 5 (dk_at dksJ4_hashCode_2_0 6 rfl rfl)
theorem dJ4_hashCode_2_8 : decode cJ4_hashCode_2 8 = .ok (.iload 5, 2) := dk_21 5 (dk_at dksJ4_hashCode_2_0 8 rfl rfl)
theorem dJ4_hashCode_2_10 : decode cJ4_hashCode_2 10 = .ok (.iload 4, 2) := dk_21 4 (dk_at dksJ4_hashCode_2_0 10 rfl rfl)
theorem dJ4_hashCode_2_12 : decode cJ4_hashCode_2 12 = .ok (.if_icmp .ge 19, 3) := dk_162 0 19 (dk_at dksJ4_hashCode_2_0 12 rfl rfl)
theorem dJ4_hashCode_2_15 : decode cJ4_hashCode_2 15 = .ok (.bipush 31, 2) := dk_16 31 (dk_at dksJ4_hashCode_2_0 15 rfl rfl)
theorem dJ4_hashCode_2_17 : decode cJ4_hashCode_2 17 = .ok (.iload_n 0, 1) := dk_26 (dk_at dksJ4_hashCode_2_0 17 rfl rfl)
theorem dJ4_hashCode_2_18 : decode cJ4_hashCode_2 18 = .ok (.imul, 1) := dk_104 (dk_at dksJ4_hashCode_2_0 18 rfl rfl)
theorem dJ4_hashCode_2_19 : decode cJ4_hashCode_2 19 = .ok (.aload_n 1, 1) := dk_43 (dk_at dksJ4_hashCode_2_0 19 rfl rfl)
theorem dJ4_hashCode_2_20 : decode cJ4_hashCode_2 20 = .ok (.iload 5, 2) := dk_21 5 (dk_at dksJ4_hashCode_2_0 20 rfl rfl)
theorem dJ4_hashCode_2_22 : decode cJ4_hashCode_2 22 = .ok (.baload, 1) := dk_51 (dk_at dksJ4_hashCode_2_0 22 rfl rfl)
theorem dJ4_hashCode_2_23 : decode cJ4_hashCode_2 23 = .ok (.iadd, 1) := dk_96 (dk_at dksJ4_hashCode_2_0 23 rfl rfl)
theorem dJ4_hashCode_2_24 : decode cJ4_hashCode_2 24 = .ok (.istore_n 0, 1) := dk_59 (dk_at dksJ4_hashCode_2_1 0 rfl rfl)
theorem dJ4_hashCode_2_25 : decode cJ4_hashCode_2 25 = .ok (.iinc 5 1, 3) := dk_132 5 1 (dk_at dksJ4_hashCode_2_1 1 rfl rfl)
theorem dJ4_hashCode_2_28 : decode cJ4_hashCode_2 28 = .ok (.goto (-20), 3) := dk_167 255 236 (dk_at dksJ4_hashCode_2_1 4 rfl rfl)
theorem dJ4_hashCode_2_31 : decode cJ4_hashCode_2 31 = .ok (.iload_n 0, 1) := dk_26 (dk_at dksJ4_hashCode_2_1 7 rfl rfl)
theorem dJ4_hashCode_2_32 : decode cJ4_hashCode_2 32 = .ok (.ireturn, 1) := dk_172 (dk_at dksJ4_hashCode_2_1 8 rfl rfl)
abbrev cJ4_hashCode_3 : ByteArray := prog_30_method_8_code
def yJ4_hashCode_3 : MethodName := ⟨RJ4, "hashCode", "(I[SII)I"⟩
def dkwJ4_hashCode_3_1 : List UInt8 := [59, 132, 5, 1, 167, 255, 236, 26, 172]
abbrev dktJ4_hashCode_3_1 : List UInt8 := dkwJ4_hashCode_3_1 ++ []
def dkwJ4_hashCode_3_0 : List UInt8 := [28, 29, 96, 54, 4, 28, 54, 5, 21, 5, 21, 4, 162, 0, 19, 16, 31, 26, 104, 43, 21, 5, 53, 96]
abbrev dktJ4_hashCode_3_0 : List UInt8 := dkwJ4_hashCode_3_0 ++ dktJ4_hashCode_3_1
theorem dksJ4_hashCode_3_0 : cJ4_hashCode_3.data.toList.drop 0 = dktJ4_hashCode_3_0 := by decide +kernel
theorem dksJ4_hashCode_3_1 : cJ4_hashCode_3.data.toList.drop 24 = dktJ4_hashCode_3_1 := dk_seg dksJ4_hashCode_3_0 24 rfl rfl
theorem dJ4_hashCode_3_0 : decode cJ4_hashCode_3 0 = .ok (.iload_n 2, 1) := dk_28 (dk_at dksJ4_hashCode_3_0 0 rfl rfl)
theorem dJ4_hashCode_3_1 : decode cJ4_hashCode_3 1 = .ok (.iload_n 3, 1) := dk_29 (dk_at dksJ4_hashCode_3_0 1 rfl rfl)
theorem dJ4_hashCode_3_2 : decode cJ4_hashCode_3 2 = .ok (.iadd, 1) := dk_96 (dk_at dksJ4_hashCode_3_0 2 rfl rfl)
theorem dJ4_hashCode_3_3 : decode cJ4_hashCode_3 3 = .ok (.istore 4, 2) := dk_54 4 (dk_at dksJ4_hashCode_3_0 3 rfl rfl)
theorem dJ4_hashCode_3_5 : decode cJ4_hashCode_3 5 = .ok (.iload_n 2, 1) := dk_28 (dk_at dksJ4_hashCode_3_0 5 rfl rfl)
theorem dJ4_hashCode_3_6 : decode cJ4_hashCode_3 6 = .ok (.istore 5, 2) := dk_54 5 (dk_at dksJ4_hashCode_3_0 6 rfl rfl)
theorem dJ4_hashCode_3_8 : decode cJ4_hashCode_3 8 = .ok (.iload 5, 2) := dk_21 5 (dk_at dksJ4_hashCode_3_0 8 rfl rfl)
theorem dJ4_hashCode_3_10 : decode cJ4_hashCode_3 10 = .ok (.iload 4, 2) := dk_21 4 (dk_at dksJ4_hashCode_3_0 10 rfl rfl)
theorem dJ4_hashCode_3_12 : decode cJ4_hashCode_3 12 = .ok (.if_icmp .ge 19, 3) := dk_162 0 19 (dk_at dksJ4_hashCode_3_0 12 rfl rfl)
theorem dJ4_hashCode_3_15 : decode cJ4_hashCode_3 15 = .ok (.bipush 31, 2) := dk_16 31 (dk_at dksJ4_hashCode_3_0 15 rfl rfl)
theorem dJ4_hashCode_3_17 : decode cJ4_hashCode_3 17 = .ok (.iload_n 0, 1) := dk_26 (dk_at dksJ4_hashCode_3_0 17 rfl rfl)
theorem dJ4_hashCode_3_18 : decode cJ4_hashCode_3 18 = .ok (.imul, 1) := dk_104 (dk_at dksJ4_hashCode_3_0 18 rfl rfl)
theorem dJ4_hashCode_3_19 : decode cJ4_hashCode_3 19 = .ok (.aload_n 1, 1) := dk_43 (dk_at dksJ4_hashCode_3_0 19 rfl rfl)
theorem dJ4_hashCode_3_20 : decode cJ4_hashCode_3 20 = .ok (.iload 5, 2) := dk_21 5 (dk_at dksJ4_hashCode_3_0 20 rfl rfl)
theorem dJ4_hashCode_3_22 : decode cJ4_hashCode_3 22 = .ok (.saload, 1) := dk_53 (dk_at dksJ4_hashCode_3_0 22 rfl rfl)
theorem dJ4_hashCode_3_23 : decode cJ4_hashCode_3 23 = .ok (.iadd, 1) := dk_96 (dk_at dksJ4_hashCode_3_0 23 rfl rfl)
theorem dJ4_hashCode_3_24 : decode cJ4_hashCode_3 24 = .ok (.istore_n 0, 1) := dk_59 (dk_at dksJ4_hashCode_3_1 0 rfl rfl)
theorem dJ4_hashCode_3_25 : decode cJ4_hashCode_3 25 = .ok (.iinc 5 1, 3) := dk_132 5 1 (dk_at dksJ4_hashCode_3_1 1 rfl rfl)
theorem dJ4_hashCode_3_28 : decode cJ4_hashCode_3 28 = .ok (.goto (-20), 3) := dk_167 255 236 (dk_at dksJ4_hashCode_3_1 4 rfl rfl)
theorem dJ4_hashCode_3_31 : decode cJ4_hashCode_3 31 = .ok (.iload_n 0, 1) := dk_26 (dk_at dksJ4_hashCode_3_1 7 rfl rfl)
theorem dJ4_hashCode_3_32 : decode cJ4_hashCode_3 32 = .ok (.ireturn, 1) := dk_172 (dk_at dksJ4_hashCode_3_1 8 rfl rfl)
abbrev cJ4_hashCode_4 : ByteArray := prog_30_method_9_code
def yJ4_hashCode_4 : MethodName := ⟨RJ4, "hashCode", "(I[III)I"⟩
def dkwJ4_hashCode_4_1 : List UInt8 := [59, 132, 5, 1, 167, 255, 236, 26, 172]
abbrev dktJ4_hashCode_4_1 : List UInt8 := dkwJ4_hashCode_4_1 ++ []
def dkwJ4_hashCode_4_0 : List UInt8 := [28, 29, 96, 54, 4, 28, 54, 5, 21, 5, 21, 4, 162, 0, 19, 16, 31, 26, 104, 43, 21, 5, 46, 96]
abbrev dktJ4_hashCode_4_0 : List UInt8 := dkwJ4_hashCode_4_0 ++ dktJ4_hashCode_4_1
theorem dksJ4_hashCode_4_0 : cJ4_hashCode_4.data.toList.drop 0 = dktJ4_hashCode_4_0 := by decide +kernel
theorem dksJ4_hashCode_4_1 : cJ4_hashCode_4.data.toList.drop 24 = dktJ4_hashCode_4_1 := dk_seg dksJ4_hashCode_4_0 24 rfl rfl
theorem dJ4_hashCode_4_0 : decode cJ4_hashCode_4 0 = .ok (.iload_n 2, 1) := dk_28 (dk_at dksJ4_hashCode_4_0 0 rfl rfl)
theorem dJ4_hashCode_4_1 : decode cJ4_hashCode_4 1 = .ok (.iload_n 3, 1) := dk_29 (dk_at dksJ4_hashCode_4_0 1 rfl rfl)
theorem dJ4_hashCode_4_2 : decode cJ4_hashCode_4 2 = .ok (.iadd, 1) := dk_96 (dk_at dksJ4_hashCode_4_0 2 rfl rfl)
theorem dJ4_hashCode_4_3 : decode cJ4_hashCode_4 3 = .ok (.istore 4, 2) := dk_54 4 (dk_at dksJ4_hashCode_4_0 3 rfl rfl)
theorem dJ4_hashCode_4_5 : decode cJ4_hashCode_4 5 = .ok (.iload_n 2, 1) := dk_28 (dk_at dksJ4_hashCode_4_0 5 rfl rfl)
theorem dJ4_hashCode_4_6 : decode cJ4_hashCode_4 6 = .ok (.istore 5, 2) := dk_54 5 (dk_at dksJ4_hashCode_4_0 6 rfl rfl)
theorem dJ4_hashCode_4_8 : decode cJ4_hashCode_4 8 = .ok (.iload 5, 2) := dk_21 5 (dk_at dksJ4_hashCode_4_0 8 rfl rfl)
theorem dJ4_hashCode_4_10 : decode cJ4_hashCode_4 10 = .ok (.iload 4, 2) := dk_21 4 (dk_at dksJ4_hashCode_4_0 10 rfl rfl)
theorem dJ4_hashCode_4_12 : decode cJ4_hashCode_4 12 = .ok (.if_icmp .ge 19, 3) := dk_162 0 19 (dk_at dksJ4_hashCode_4_0 12 rfl rfl)
theorem dJ4_hashCode_4_15 : decode cJ4_hashCode_4 15 = .ok (.bipush 31, 2) := dk_16 31 (dk_at dksJ4_hashCode_4_0 15 rfl rfl)
theorem dJ4_hashCode_4_17 : decode cJ4_hashCode_4 17 = .ok (.iload_n 0, 1) := dk_26 (dk_at dksJ4_hashCode_4_0 17 rfl rfl)
theorem dJ4_hashCode_4_18 : decode cJ4_hashCode_4 18 = .ok (.imul, 1) := dk_104 (dk_at dksJ4_hashCode_4_0 18 rfl rfl)
theorem dJ4_hashCode_4_19 : decode cJ4_hashCode_4 19 = .ok (.aload_n 1, 1) := dk_43 (dk_at dksJ4_hashCode_4_0 19 rfl rfl)
theorem dJ4_hashCode_4_20 : decode cJ4_hashCode_4 20 = .ok (.iload 5, 2) := dk_21 5 (dk_at dksJ4_hashCode_4_0 20 rfl rfl)
theorem dJ4_hashCode_4_22 : decode cJ4_hashCode_4 22 = .ok (.iaload, 1) := dk_46 (dk_at dksJ4_hashCode_4_0 22 rfl rfl)
theorem dJ4_hashCode_4_23 : decode cJ4_hashCode_4 23 = .ok (.iadd, 1) := dk_96 (dk_at dksJ4_hashCode_4_0 23 rfl rfl)
theorem dJ4_hashCode_4_24 : decode cJ4_hashCode_4 24 = .ok (.istore_n 0, 1) := dk_59 (dk_at dksJ4_hashCode_4_1 0 rfl rfl)
theorem dJ4_hashCode_4_25 : decode cJ4_hashCode_4 25 = .ok (.iinc 5 1, 3) := dk_132 5 1 (dk_at dksJ4_hashCode_4_1 1 rfl rfl)
theorem dJ4_hashCode_4_28 : decode cJ4_hashCode_4 28 = .ok (.goto (-20), 3) := dk_167 255 236 (dk_at dksJ4_hashCode_4_1 4 rfl rfl)
theorem dJ4_hashCode_4_31 : decode cJ4_hashCode_4 31 = .ok (.iload_n 0, 1) := dk_26 (dk_at dksJ4_hashCode_4_1 7 rfl rfl)
theorem dJ4_hashCode_4_32 : decode cJ4_hashCode_4 32 = .ok (.ireturn, 1) := dk_172 (dk_at dksJ4_hashCode_4_1 8 rfl rfl)
theorem q70 : (Jvm.Cond.initialized "jdk/internal/util/ArraysSupport") ∈ lw_all := lw_g (lw_at lw_m1 10 rfl) rfl
theorem q318 : (Jvm.Cond.static ({ cls := "jdk/internal/util/ArraysSupport", name := "newLength", desc := "(III)I" } : Jvm.MethodName)) ∈ lw_all := lw_g (lw_at lw_m2 18 rfl) rfl
theorem q319 : (Jvm.Cond.code ({ cls := "jdk/internal/util/ArraysSupport", name := "newLength", desc := "(III)I" } : Jvm.MethodName) prog_30_method_27_code (4 : Nat) (Option.some Jvm.ClassFile.FieldType.int)) ∈ lw_all := lw_g (lw_at lw_m2 19 rfl) rfl
theorem q320 : (Jvm.Cond.methodLink "jdk/internal/util/ArraysSupport" (194 : Nat) ({ cls := "java/lang/Math", name := "max", desc := "(II)I" } : Jvm.MethodName)) ∈ lw_all := lw_g (lw_at lw_m2 20 rfl) rfl
theorem q323 : (Jvm.Cond.constant "jdk/internal/util/ArraysSupport" (200 : Nat) (2147483639 : Int32)) ∈ lw_all := lw_g (lw_at lw_m2 23 rfl) rfl
theorem q324 : (Jvm.Cond.methodLink "jdk/internal/util/ArraysSupport" (201 : Nat) ({ cls := "jdk/internal/util/ArraysSupport", name := "hugeLength", desc := "(II)I" } : Jvm.MethodName)) ∈ lw_all := lw_g (lw_at lw_m2 24 rfl) rfl
theorem q325 : (Jvm.Cond.static ({ cls := "jdk/internal/util/ArraysSupport", name := "hugeLength", desc := "(II)I" } : Jvm.MethodName)) ∈ lw_all := lw_g (lw_at lw_m2 25 rfl) rfl
theorem q326 : (Jvm.Cond.code ({ cls := "jdk/internal/util/ArraysSupport", name := "hugeLength", desc := "(II)I" } : Jvm.MethodName) prog_30_method_28_code (3 : Nat) (Option.some Jvm.ClassFile.FieldType.int)) ∈ lw_all := lw_g (lw_at lw_m2 26 rfl) rfl
theorem q602 : (Jvm.Cond.static ({ cls := "jdk/internal/util/ArraysSupport", name := "vectorizedHashCode", desc := "(Ljava/lang/Object;IIII)I" } : Jvm.MethodName)) ∈ lw_all := lw_g (lw_at lw_m3 62 rfl) rfl
theorem q603 : (Jvm.Cond.code ({ cls := "jdk/internal/util/ArraysSupport", name := "vectorizedHashCode", desc := "(Ljava/lang/Object;IIII)I" } : Jvm.MethodName) prog_30_method_4_code (5 : Nat) (Option.some Jvm.ClassFile.FieldType.int)) ∈ lw_all := lw_g (lw_at lw_m3 63 rfl) rfl
theorem q604 : (Jvm.Cond.classLink "jdk/internal/util/ArraysSupport" (60 : Nat) "[B") ∈ lw_all := lw_g (lw_at lw_m3 64 rfl) rfl
theorem q605 : (Jvm.Cond.methodLink "jdk/internal/util/ArraysSupport" (62 : Nat) ({ cls := "jdk/internal/util/ArraysSupport", name := "signedHashCode", desc := "(I[BII)I" } : Jvm.MethodName)) ∈ lw_all := lw_g (lw_at lw_m3 65 rfl) rfl
theorem q606 : (Jvm.Cond.static ({ cls := "jdk/internal/util/ArraysSupport", name := "signedHashCode", desc := "(I[BII)I" } : Jvm.MethodName)) ∈ lw_all := lw_g (lw_at lw_m3 66 rfl) rfl
theorem q607 : (Jvm.Cond.code ({ cls := "jdk/internal/util/ArraysSupport", name := "signedHashCode", desc := "(I[BII)I" } : Jvm.MethodName) prog_30_method_5_code (6 : Nat) (Option.some Jvm.ClassFile.FieldType.int)) ∈ lw_all := lw_g (lw_at lw_m3 67 rfl) rfl
theorem q608 : (Jvm.Cond.methodLink "jdk/internal/util/ArraysSupport" (66 : Nat) ({ cls := "jdk/internal/util/ArraysSupport", name := "utf16hashCode", desc := "(I[BII)I" } : Jvm.MethodName)) ∈ lw_all := lw_g (lw_at lw_m3 68 rfl) rfl
theorem q609 : (Jvm.Cond.static ({ cls := "jdk/internal/util/ArraysSupport", name := "utf16hashCode", desc := "(I[BII)I" } : Jvm.MethodName)) ∈ lw_all := lw_g (lw_at lw_m3 69 rfl) rfl
theorem q610 : (Jvm.Cond.code ({ cls := "jdk/internal/util/ArraysSupport", name := "utf16hashCode", desc := "(I[BII)I" } : Jvm.MethodName) prog_30_method_10_code (6 : Nat) (Option.some Jvm.ClassFile.FieldType.int)) ∈ lw_all := lw_g (lw_at lw_m3 70 rfl) rfl
theorem q611 : (Jvm.Cond.fieldLink "jdk/internal/util/ArraysSupport" (106 : Nat) "jdk/internal/util/ArraysSupport" "JLA" "Ljdk/internal/access/JavaLangAccess;") ∈ lw_all := lw_g (lw_at lw_m3 71 rfl) rfl
theorem q612 : (Jvm.Cond.laysStatic "jdk/internal/util/ArraysSupport" "JLA" "Ljdk/internal/access/JavaLangAccess;") ∈ lw_tbl := lw_at lw_m3 72 rfl
theorem q613 : (Jvm.Cond.interfaceEntry "jdk/internal/util/ArraysSupport" (110 : Nat)) ∈ lw_tbl := lw_at lw_m3 73 rfl
theorem q614 : (Jvm.Cond.methodLink "jdk/internal/util/ArraysSupport" (110 : Nat) ({ cls := "jdk/internal/access/JavaLangAccess", name := "getUTF16Char", desc := "([BI)C" } : Jvm.MethodName)) ∈ lw_all := lw_g (lw_at lw_m3 74 rfl) rfl
theorem q624 : (Jvm.Cond.classLink "jdk/internal/util/ArraysSupport" (69 : Nat) "[C") ∈ lw_all := lw_g (lw_at lw_m3 84 rfl) rfl
theorem q625 : (Jvm.Cond.methodLink "jdk/internal/util/ArraysSupport" (71 : Nat) ({ cls := "jdk/internal/util/ArraysSupport", name := "hashCode", desc := "(I[CII)I" } : Jvm.MethodName)) ∈ lw_all := lw_g (lw_at lw_m3 85 rfl) rfl
theorem q626 : (Jvm.Cond.static ({ cls := "jdk/internal/util/ArraysSupport", name := "hashCode", desc := "(I[CII)I" } : Jvm.MethodName)) ∈ lw_all := lw_g (lw_at lw_m3 86 rfl) rfl
theorem q627 : (Jvm.Cond.code ({ cls := "jdk/internal/util/ArraysSupport", name := "hashCode", desc := "(I[CII)I" } : Jvm.MethodName) prog_30_method_7_code (6 : Nat) (Option.some Jvm.ClassFile.FieldType.int)) ∈ lw_all := lw_g (lw_at lw_m3 87 rfl) rfl
theorem q628 : (Jvm.Cond.methodLink "jdk/internal/util/ArraysSupport" (75 : Nat) ({ cls := "jdk/internal/util/ArraysSupport", name := "hashCode", desc := "(I[BII)I" } : Jvm.MethodName)) ∈ lw_all := lw_g (lw_at lw_m3 88 rfl) rfl
theorem q629 : (Jvm.Cond.static ({ cls := "jdk/internal/util/ArraysSupport", name := "hashCode", desc := "(I[BII)I" } : Jvm.MethodName)) ∈ lw_all := lw_g (lw_at lw_m3 89 rfl) rfl
theorem q630 : (Jvm.Cond.code ({ cls := "jdk/internal/util/ArraysSupport", name := "hashCode", desc := "(I[BII)I" } : Jvm.MethodName) prog_30_method_6_code (6 : Nat) (Option.some Jvm.ClassFile.FieldType.int)) ∈ lw_all := lw_g (lw_at lw_m3 90 rfl) rfl
theorem q631 : (Jvm.Cond.classLink "jdk/internal/util/ArraysSupport" (77 : Nat) "[S") ∈ lw_all := lw_g (lw_at lw_m3 91 rfl) rfl
theorem q632 : (Jvm.Cond.methodLink "jdk/internal/util/ArraysSupport" (79 : Nat) ({ cls := "jdk/internal/util/ArraysSupport", name := "hashCode", desc := "(I[SII)I" } : Jvm.MethodName)) ∈ lw_all := lw_g (lw_at lw_m3 92 rfl) rfl
theorem q633 : (Jvm.Cond.static ({ cls := "jdk/internal/util/ArraysSupport", name := "hashCode", desc := "(I[SII)I" } : Jvm.MethodName)) ∈ lw_all := lw_g (lw_at lw_m3 93 rfl) rfl
theorem q634 : (Jvm.Cond.code ({ cls := "jdk/internal/util/ArraysSupport", name := "hashCode", desc := "(I[SII)I" } : Jvm.MethodName) prog_30_method_8_code (6 : Nat) (Option.some Jvm.ClassFile.FieldType.int)) ∈ lw_all := lw_g (lw_at lw_m3 94 rfl) rfl
theorem q635 : (Jvm.Cond.classLink "jdk/internal/util/ArraysSupport" (82 : Nat) "[I") ∈ lw_all := lw_g (lw_at lw_m3 95 rfl) rfl
theorem q636 : (Jvm.Cond.methodLink "jdk/internal/util/ArraysSupport" (84 : Nat) ({ cls := "jdk/internal/util/ArraysSupport", name := "hashCode", desc := "(I[III)I" } : Jvm.MethodName)) ∈ lw_all := lw_g (lw_at lw_m3 96 rfl) rfl
theorem q637 : (Jvm.Cond.static ({ cls := "jdk/internal/util/ArraysSupport", name := "hashCode", desc := "(I[III)I" } : Jvm.MethodName)) ∈ lw_all := lw_g (lw_at lw_m3 97 rfl) rfl
theorem q638 : (Jvm.Cond.code ({ cls := "jdk/internal/util/ArraysSupport", name := "hashCode", desc := "(I[III)I" } : Jvm.MethodName) prog_30_method_9_code (6 : Nat) (Option.some Jvm.ClassFile.FieldType.int)) ∈ lw_all := lw_g (lw_at lw_m3 98 rfl) rfl

/-! java/lang/Math -/
set_option maxRecDepth 100000
def RJ5 : String := "java/lang/Math"
abbrev cJ5_max : ByteArray := prog_20_method_65_code
def yJ5_max : MethodName := ⟨RJ5, "max", "(II)I"⟩
def dkwJ5_max_0 : List UInt8 := [26, 27, 161, 0, 7, 26, 167, 0, 4, 27, 172]
abbrev dktJ5_max_0 : List UInt8 := dkwJ5_max_0 ++ []
theorem dksJ5_max_0 : cJ5_max.data.toList.drop 0 = dktJ5_max_0 := by decide +kernel
theorem dJ5_max_0 : decode cJ5_max 0 = .ok (.iload_n 0, 1) := dk_26 (dk_at dksJ5_max_0 0 rfl rfl)
theorem dJ5_max_1 : decode cJ5_max 1 = .ok (.iload_n 1, 1) := dk_27 (dk_at dksJ5_max_0 1 rfl rfl)
theorem dJ5_max_2 : decode cJ5_max 2 = .ok (.if_icmp .lt 7, 3) := dk_161 0 7 (dk_at dksJ5_max_0 2 rfl rfl)
theorem dJ5_max_5 : decode cJ5_max 5 = .ok (.iload_n 0, 1) := dk_26 (dk_at dksJ5_max_0 5 rfl rfl)
theorem dJ5_max_6 : decode cJ5_max 6 = .ok (.goto 4, 3) := dk_167 0 4 (dk_at dksJ5_max_0 6 rfl rfl)
theorem dJ5_max_9 : decode cJ5_max 9 = .ok (.iload_n 1, 1) := dk_27 (dk_at dksJ5_max_0 9 rfl rfl)
theorem dJ5_max_10 : decode cJ5_max 10 = .ok (.ireturn, 1) := dk_172 (dk_at dksJ5_max_0 10 rfl rfl)
abbrev cJ5_min : ByteArray := prog_20_method_69_code
def yJ5_min : MethodName := ⟨RJ5, "min", "(II)I"⟩
def dkwJ5_min_0 : List UInt8 := [26, 27, 163, 0, 7, 26, 167, 0, 4, 27, 172]
abbrev dktJ5_min_0 : List UInt8 := dkwJ5_min_0 ++ []
theorem dksJ5_min_0 : cJ5_min.data.toList.drop 0 = dktJ5_min_0 := by decide +kernel
theorem dJ5_min_0 : decode cJ5_min 0 = .ok (.iload_n 0, 1) := dk_26 (dk_at dksJ5_min_0 0 rfl rfl)
theorem dJ5_min_1 : decode cJ5_min 1 = .ok (.iload_n 1, 1) := dk_27 (dk_at dksJ5_min_0 1 rfl rfl)
theorem dJ5_min_2 : decode cJ5_min 2 = .ok (.if_icmp .gt 7, 3) := dk_163 0 7 (dk_at dksJ5_min_0 2 rfl rfl)
theorem dJ5_min_5 : decode cJ5_min 5 = .ok (.iload_n 0, 1) := dk_26 (dk_at dksJ5_min_0 5 rfl rfl)
theorem dJ5_min_6 : decode cJ5_min 6 = .ok (.goto 4, 3) := dk_167 0 4 (dk_at dksJ5_min_0 6 rfl rfl)
theorem dJ5_min_9 : decode cJ5_min 9 = .ok (.iload_n 1, 1) := dk_27 (dk_at dksJ5_min_0 9 rfl rfl)
theorem dJ5_min_10 : decode cJ5_min 10 = .ok (.ireturn, 1) := dk_172 (dk_at dksJ5_min_0 10 rfl rfl)
abbrev cJ5_abs : ByteArray := prog_20_method_59_code
def yJ5_abs : MethodName := ⟨RJ5, "abs", "(I)I"⟩
def dkwJ5_abs_0 : List UInt8 := [26, 156, 0, 8, 26, 116, 167, 0, 4, 26, 172]
abbrev dktJ5_abs_0 : List UInt8 := dkwJ5_abs_0 ++ []
theorem dksJ5_abs_0 : cJ5_abs.data.toList.drop 0 = dktJ5_abs_0 := by decide +kernel
theorem dJ5_abs_0 : decode cJ5_abs 0 = .ok (.iload_n 0, 1) := dk_26 (dk_at dksJ5_abs_0 0 rfl rfl)
theorem dJ5_abs_1 : decode cJ5_abs 1 = .ok (.ifCond .ge 8, 3) := dk_156 0 8 (dk_at dksJ5_abs_0 1 rfl rfl)
theorem dJ5_abs_4 : decode cJ5_abs 4 = .ok (.iload_n 0, 1) := dk_26 (dk_at dksJ5_abs_0 4 rfl rfl)
theorem dJ5_abs_5 : decode cJ5_abs 5 = .ok (.ineg, 1) := dk_116 (dk_at dksJ5_abs_0 5 rfl rfl)
theorem dJ5_abs_6 : decode cJ5_abs 6 = .ok (.goto 4, 3) := dk_167 0 4 (dk_at dksJ5_abs_0 6 rfl rfl)
theorem dJ5_abs_9 : decode cJ5_abs 9 = .ok (.iload_n 0, 1) := dk_26 (dk_at dksJ5_abs_0 9 rfl rfl)
theorem dJ5_abs_10 : decode cJ5_abs 10 = .ok (.ireturn, 1) := dk_172 (dk_at dksJ5_abs_0 10 rfl rfl)
theorem q71 : (Jvm.Cond.initialized "java/lang/Math") ∈ lw_all := lw_g (lw_at lw_m1 11 rfl) rfl
theorem q321 : (Jvm.Cond.static ({ cls := "java/lang/Math", name := "max", desc := "(II)I" } : Jvm.MethodName)) ∈ lw_all := lw_g (lw_at lw_m2 21 rfl) rfl
theorem q322 : (Jvm.Cond.code ({ cls := "java/lang/Math", name := "max", desc := "(II)I" } : Jvm.MethodName) prog_20_method_65_code (2 : Nat) (Option.some Jvm.ClassFile.FieldType.int)) ∈ lw_all := lw_g (lw_at lw_m2 22 rfl) rfl
theorem q339 : (Jvm.Cond.static ({ cls := "java/lang/Math", name := "min", desc := "(II)I" } : Jvm.MethodName)) ∈ lw_all := lw_g (lw_at lw_m2 39 rfl) rfl
theorem q340 : (Jvm.Cond.code ({ cls := "java/lang/Math", name := "min", desc := "(II)I" } : Jvm.MethodName) prog_20_method_69_code (2 : Nat) (Option.some Jvm.ClassFile.FieldType.int)) ∈ lw_all := lw_g (lw_at lw_m2 40 rfl) rfl
theorem q1014 : (Jvm.Cond.static ({ cls := "java/lang/Math", name := "abs", desc := "(I)I" } : Jvm.MethodName)) ∈ lw_all := lw_g (lw_at lw_m4 234 rfl) rfl
theorem q1015 : (Jvm.Cond.code ({ cls := "java/lang/Math", name := "abs", desc := "(I)I" } : Jvm.MethodName) prog_20_method_59_code (1 : Nat) (Option.some Jvm.ClassFile.FieldType.int)) ∈ lw_all := lw_g (lw_at lw_m4 235 rfl) rfl

/-! java/util/Arrays -/
set_option maxRecDepth 100000
def RJ6 : String := "java/util/Arrays"
abbrev cJ6_copyOf : ByteArray := prog_28_method_121_code
def yJ6_copyOf : MethodName := ⟨RJ6, "copyOf", "([BI)[B"⟩
def dkwJ6_copyOf_1 : List UInt8 := [27, 184, 1, 48, 184, 0, 150, 44, 176]
abbrev dktJ6_copyOf_1 : List UInt8 := dkwJ6_copyOf_1 ++ []
def dkwJ6_copyOf_0 : List UInt8 := [27, 42, 190, 160, 0, 11, 42, 182, 1, 54, 192, 1, 55, 176, 27, 188, 8, 77, 42, 3, 44, 3, 42, 190]
abbrev dktJ6_copyOf_0 : List UInt8 := dkwJ6_copyOf_0 ++ dktJ6_copyOf_1
theorem dksJ6_copyOf_0 : cJ6_copyOf.data.toList.drop 0 = dktJ6_copyOf_0 := by decide +kernel
theorem dksJ6_copyOf_1 : cJ6_copyOf.data.toList.drop 24 = dktJ6_copyOf_1 := dk_seg dksJ6_copyOf_0 24 rfl rfl
theorem dJ6_copyOf_0 : decode cJ6_copyOf 0 = .ok (.iload_n 1, 1) := dk_27 (dk_at dksJ6_copyOf_0 0 rfl rfl)
theorem dJ6_copyOf_1 : decode cJ6_copyOf 1 = .ok (.aload_n 0, 1) := dk_42 (dk_at dksJ6_copyOf_0 1 rfl rfl)
theorem dJ6_copyOf_2 : decode cJ6_copyOf 2 = .ok (.arraylength, 1) := dk_190 (dk_at dksJ6_copyOf_0 2 rfl rfl)
theorem dJ6_copyOf_3 : decode cJ6_copyOf 3 = .ok (.if_icmp .ne 11, 3) := dk_160 0 11 (dk_at dksJ6_copyOf_0 3 rfl rfl)
theorem dJ6_copyOf_6 : decode cJ6_copyOf 6 = .ok (.aload_n 0, 1) := dk_42 (dk_at dksJ6_copyOf_0 6 rfl rfl)
theorem dJ6_copyOf_7 : decode cJ6_copyOf 7 = .ok (.invokevirtual 310, 3) := dk_182 1 54 (dk_at dksJ6_copyOf_0 7 rfl rfl)
theorem dJ6_copyOf_10 : decode cJ6_copyOf 10 = .ok (.checkcast 311, 3) := dk_192 1 55 (dk_at dksJ6_copyOf_0 10 rfl rfl)
theorem dJ6_copyOf_13 : decode cJ6_copyOf 13 = .ok (.areturn, 1) := dk_176 (dk_at dksJ6_copyOf_0 13 rfl rfl)
theorem dJ6_copyOf_14 : decode cJ6_copyOf 14 = .ok (.iload_n 1, 1) := dk_27 (dk_at dksJ6_copyOf_0 14 rfl rfl)
theorem dJ6_copyOf_15 : decode cJ6_copyOf 15 = .ok (.newarray .byte, 2) := dk_188_8 (dk_at dksJ6_copyOf_0 15 rfl rfl)
theorem dJ6_copyOf_17 : decode cJ6_copyOf 17 = .ok (.astore_n 2, 1) := dk_77 (dk_at dksJ6_copyOf_0 17 rfl rfl)
theorem dJ6_copyOf_18 : decode cJ6_copyOf 18 = .ok (.aload_n 0, 1) := dk_42 (dk_at dksJ6_copyOf_0 18 rfl rfl)
theorem dJ6_copyOf_19 : decode cJ6_copyOf 19 = .ok (.iconst 0, 1) := dk_3 (dk_at dksJ6_copyOf_0 19 rfl rfl)
theorem dJ6_copyOf_20 : decode cJ6_copyOf 20 = .ok (.aload_n 2, 1) := dk_44 (dk_at dksJ6_copyOf_0 20 rfl rfl)
theorem dJ6_copyOf_21 : decode cJ6_copyOf 21 = .ok (.iconst 0, 1) := dk_3 (dk_at dksJ6_copyOf_0 21 rfl rfl)
theorem dJ6_copyOf_22 : decode cJ6_copyOf 22 = .ok (.aload_n 0, 1) := dk_42 (dk_at dksJ6_copyOf_0 22 rfl rfl)
theorem dJ6_copyOf_23 : decode cJ6_copyOf 23 = .ok (.arraylength, 1) := dk_190 (dk_at dksJ6_copyOf_0 23 rfl rfl)
theorem dJ6_copyOf_24 : decode cJ6_copyOf 24 = .ok (.iload_n 1, 1) := dk_27 (dk_at dksJ6_copyOf_1 0 rfl rfl)
theorem dJ6_copyOf_25 : decode cJ6_copyOf 25 = .ok (.invokestatic 304, 3) := dk_184 1 48 (dk_at dksJ6_copyOf_1 1 rfl rfl)
theorem dJ6_copyOf_28 : decode cJ6_copyOf 28 = .ok (.invokestatic 150, 3) := dk_184 0 150 (dk_at dksJ6_copyOf_1 4 rfl rfl)
theorem dJ6_copyOf_31 : decode cJ6_copyOf 31 = .ok (.aload_n 2, 1) := dk_44 (dk_at dksJ6_copyOf_1 7 rfl rfl)
theorem dJ6_copyOf_32 : decode cJ6_copyOf 32 = .ok (.areturn, 1) := dk_176 (dk_at dksJ6_copyOf_1 8 rfl rfl)
abbrev cJ6_copyOfRange : ByteArray := prog_28_method_132_code
def yJ6_copyOfRange : MethodName := ⟨RJ6, "copyOfRange", "([BII)[B"⟩
def dkwJ6_copyOfRange_1 : List UInt8 := [176]
abbrev dktJ6_copyOfRange_1 : List UInt8 := dkwJ6_copyOfRange_1 ++ []
def dkwJ6_copyOfRange_0 : List UInt8 := [27, 154, 0, 9, 28, 42, 190, 159, 0, 10, 42, 27, 28, 184, 1, 83, 176, 42, 182, 1, 54, 192, 1, 55]
abbrev dktJ6_copyOfRange_0 : List UInt8 := dkwJ6_copyOfRange_0 ++ dktJ6_copyOfRange_1
theorem dksJ6_copyOfRange_0 : cJ6_copyOfRange.data.toList.drop 0 = dktJ6_copyOfRange_0 := by decide +kernel
theorem dksJ6_copyOfRange_1 : cJ6_copyOfRange.data.toList.drop 24 = dktJ6_copyOfRange_1 := dk_seg dksJ6_copyOfRange_0 24 rfl rfl
theorem dJ6_copyOfRange_0 : decode cJ6_copyOfRange 0 = .ok (.iload_n 1, 1) := dk_27 (dk_at dksJ6_copyOfRange_0 0 rfl rfl)
theorem dJ6_copyOfRange_1 : decode cJ6_copyOfRange 1 = .ok (.ifCond .ne 9, 3) := dk_154 0 9 (dk_at dksJ6_copyOfRange_0 1 rfl rfl)
theorem dJ6_copyOfRange_4 : decode cJ6_copyOfRange 4 = .ok (.iload_n 2, 1) := dk_28 (dk_at dksJ6_copyOfRange_0 4 rfl rfl)
theorem dJ6_copyOfRange_5 : decode cJ6_copyOfRange 5 = .ok (.aload_n 0, 1) := dk_42 (dk_at dksJ6_copyOfRange_0 5 rfl rfl)
theorem dJ6_copyOfRange_6 : decode cJ6_copyOfRange 6 = .ok (.arraylength, 1) := dk_190 (dk_at dksJ6_copyOfRange_0 6 rfl rfl)
theorem dJ6_copyOfRange_7 : decode cJ6_copyOfRange 7 = .ok (.if_icmp .eq 10, 3) := dk_159 0 10 (dk_at dksJ6_copyOfRange_0 7 rfl rfl)
theorem dJ6_copyOfRange_10 : decode cJ6_copyOfRange 10 = .ok (.aload_n 0, 1) := dk_42 (dk_at dksJ6_copyOfRange_0 10 rfl rfl)
theorem dJ6_copyOfRange_11 : decode cJ6_copyOfRange 11 = .ok (.iload_n 1, 1) := dk_27 (dk_at dksJ6_copyOfRange_0 11 rfl rfl)
theorem dJ6_copyOfRange_12 : decode cJ6_copyOfRange 12 = .ok (.iload_n 2, 1) := dk_28 (dk_at dksJ6_copyOfRange_0 12 rfl rfl)
theorem dJ6_copyOfRange_13 : decode cJ6_copyOfRange 13 = .ok (.invokestatic 339, 3) := dk_184 1 83 (dk_at dksJ6_copyOfRange_0 13 rfl rfl)
theorem dJ6_copyOfRange_16 : decode cJ6_copyOfRange 16 = .ok (.areturn, 1) := dk_176 (dk_at dksJ6_copyOfRange_0 16 rfl rfl)
theorem dJ6_copyOfRange_17 : decode cJ6_copyOfRange 17 = .ok (.aload_n 0, 1) := dk_42 (dk_at dksJ6_copyOfRange_0 17 rfl rfl)
theorem dJ6_copyOfRange_18 : decode cJ6_copyOfRange 18 = .ok (.invokevirtual 310, 3) := dk_182 1 54 (dk_at dksJ6_copyOfRange_0 18 rfl rfl)
theorem dJ6_copyOfRange_21 : decode cJ6_copyOfRange 21 = .ok (.checkcast 311, 3) := dk_192 1 55 (dk_at dksJ6_copyOfRange_0 21 rfl rfl)
theorem dJ6_copyOfRange_24 : decode cJ6_copyOfRange 24 = .ok (.areturn, 1) := dk_176 (dk_at dksJ6_copyOfRange_1 0 rfl rfl)
abbrev cJ6_copyOfRangeByte : ByteArray := prog_28_method_133_code
def yJ6_copyOfRangeByte : MethodName := ⟨RJ6, "copyOfRangeByte", "([BII)[B"⟩
def dkwJ6_copyOfRangeByte_1 : List UInt8 := [184, 1, 48, 184, 0, 150, 25, 4, 176]
abbrev dktJ6_copyOfRangeByte_1 : List UInt8 := dkwJ6_copyOfRangeByte_1 ++ []
def dkwJ6_copyOfRangeByte_0 : List UInt8 := [27, 28, 184, 1, 87, 28, 27, 100, 62, 29, 188, 8, 58, 4, 42, 27, 25, 4, 3, 42, 190, 27, 100, 29]
abbrev dktJ6_copyOfRangeByte_0 : List UInt8 := dkwJ6_copyOfRangeByte_0 ++ dktJ6_copyOfRangeByte_1
theorem dksJ6_copyOfRangeByte_0 : cJ6_copyOfRangeByte.data.toList.drop 0 = dktJ6_copyOfRangeByte_0 := by decide +kernel
theorem dksJ6_copyOfRangeByte_1 : cJ6_copyOfRangeByte.data.toList.drop 24 = dktJ6_copyOfRangeByte_1 := dk_seg dksJ6_copyOfRangeByte_0 24 rfl rfl
theorem dJ6_copyOfRangeByte_0 : decode cJ6_copyOfRangeByte 0 = .ok (.iload_n 1, 1) := dk_27 (dk_at dksJ6_copyOfRangeByte_0 0 rfl rfl)
theorem dJ6_copyOfRangeByte_1 : decode cJ6_copyOfRangeByte 1 = .ok (.iload_n 2, 1) := dk_28 (dk_at dksJ6_copyOfRangeByte_0 1 rfl rfl)
theorem dJ6_copyOfRangeByte_2 : decode cJ6_copyOfRangeByte 2 = .ok (.invokestatic 343, 3) := dk_184 1 87 (dk_at dksJ6_copyOfRangeByte_0 2 rfl rfl)
theorem dJ6_copyOfRangeByte_5 : decode cJ6_copyOfRangeByte 5 = .ok (.iload_n 2, 1) := dk_28 (dk_at dksJ6_copyOfRangeByte_0 5 rfl rfl)
theorem dJ6_copyOfRangeByte_6 : decode cJ6_copyOfRangeByte 6 = .ok (.iload_n 1, 1) := dk_27 (dk_at dksJ6_copyOfRangeByte_0 6 rfl rfl)
theorem dJ6_copyOfRangeByte_7 : decode cJ6_copyOfRangeByte 7 = .ok (.isub, 1) := dk_100 (dk_at dksJ6_copyOfRangeByte_0 7 rfl rfl)
theorem dJ6_copyOfRangeByte_8 : decode cJ6_copyOfRangeByte 8 = .ok (.istore_n 3, 1) := dk_62 (dk_at dksJ6_copyOfRangeByte_0 8 rfl rfl)
theorem dJ6_copyOfRangeByte_9 : decode cJ6_copyOfRangeByte 9 = .ok (.iload_n 3, 1) := dk_29 (dk_at dksJ6_copyOfRangeByte_0 9 rfl rfl)
theorem dJ6_copyOfRangeByte_10 : decode cJ6_copyOfRangeByte 10 = .ok (.newarray .byte, 2) := dk_188_8 (dk_at dksJ6_copyOfRangeByte_0 10 rfl rfl)
theorem dJ6_copyOfRangeByte_12 : decode cJ6_copyOfRangeByte 12 = .ok (.astore 4, 2) := dk_58 4 (dk_at dksJ6_copyOfRangeByte_0 12 rfl rfl)
theorem dJ6_copyOfRangeByte_14 : decode cJ6_copyOfRangeByte 14 = .ok (.aload_n 0, 1) := dk_42 (dk_at dksJ6_copyOfRangeByte_0 14 rfl rfl)
theorem dJ6_copyOfRangeByte_15 : decode cJ6_copyOfRangeByte 15 = .ok (.iload_n 1, 1) := dk_27 (dk_at dksJ6_copyOfRangeByte_0 15 rfl rfl)
theorem dJ6_copyOfRangeByte_16 : decode cJ6_copyOfRangeByte 16 = .ok (.aload 4, 2) := dk_25 4 (dk_at dksJ6_copyOfRangeByte_0 16 rfl rfl)
theorem dJ6_copyOfRangeByte_18 : decode cJ6_copyOfRangeByte 18 = .ok (.iconst 0, 1) := dk_3 (dk_at dksJ6_copyOfRangeByte_0 18 rfl rfl)
theorem dJ6_copyOfRangeByte_19 : decode cJ6_copyOfRangeByte 19 = .ok (.aload_n 0, 1) := dk_42 (dk_at dksJ6_copyOfRangeByte_0 19 rfl rfl)
theorem dJ6_copyOfRangeByte_20 : decode cJ6_copyOfRangeByte 20 = .ok (.arraylength, 1) := dk_190 (dk_at dksJ6_copyOfRangeByte_0 20 rfl rfl)
theorem dJ6_copyOfRangeByte_21 : decode cJ6_copyOfRangeByte 21 = .ok (.iload_n 1, 1) := dk_27 (dk_at dksJ6_copyOfRangeByte_0 21 rfl rfl)
theorem dJ6_copyOfRangeByte_22 : decode cJ6_copyOfRangeByte 22 = .ok (.isub, 1) := dk_100 (dk_at dksJ6_copyOfRangeByte_0 22 rfl rfl)
theorem dJ6_copyOfRangeByte_23 : decode cJ6_copyOfRangeByte 23 = .ok (.iload_n 3, 1) := dk_29 (dk_at dksJ6_copyOfRangeByte_0 23 rfl rfl)
theorem dJ6_copyOfRangeByte_24 : decode cJ6_copyOfRangeByte 24 = .ok (.invokestatic 304, 3) := dk_184 1 48 (dk_at dksJ6_copyOfRangeByte_1 0 rfl rfl)
theorem dJ6_copyOfRangeByte_27 : decode cJ6_copyOfRangeByte 27 = .ok (.invokestatic 150, 3) := dk_184 0 150 (dk_at dksJ6_copyOfRangeByte_1 3 rfl rfl)
theorem dJ6_copyOfRangeByte_30 : decode cJ6_copyOfRangeByte 30 = .ok (.aload 4, 2) := dk_25 4 (dk_at dksJ6_copyOfRangeByte_1 6 rfl rfl)
theorem dJ6_copyOfRangeByte_32 : decode cJ6_copyOfRangeByte 32 = .ok (.areturn, 1) := dk_176 (dk_at dksJ6_copyOfRangeByte_1 8 rfl rfl)
abbrev cJ6_checkLength : ByteArray := prog_28_method_131_code
def yJ6_checkLength : MethodName := ⟨RJ6, "checkLength", "(II)V"⟩
def dkwJ6_checkLength_1 : List UInt8 := [182, 0, 50, 27, 182, 0, 54, 182, 0, 61, 183, 0, 65, 191, 177]
abbrev dktJ6_checkLength_1 : List UInt8 := dkwJ6_checkLength_1 ++ []
def dkwJ6_checkLength_0 : List UInt8 := [27, 26, 162, 0, 35, 187, 0, 43, 89, 187, 0, 45, 89, 183, 0, 47, 26, 182, 0, 54, 19, 1, 81]
abbrev dktJ6_checkLength_0 : List UInt8 := dkwJ6_checkLength_0 ++ dktJ6_checkLength_1
theorem dksJ6_checkLength_0 : cJ6_checkLength.data.toList.drop 0 = dktJ6_checkLength_0 := by decide +kernel
theorem dksJ6_checkLength_1 : cJ6_checkLength.data.toList.drop 23 = dktJ6_checkLength_1 := dk_seg dksJ6_checkLength_0 23 rfl rfl
theorem dJ6_checkLength_0 : decode cJ6_checkLength 0 = .ok (.iload_n 1, 1) := dk_27 (dk_at dksJ6_checkLength_0 0 rfl rfl)
theorem dJ6_checkLength_1 : decode cJ6_checkLength 1 = .ok (.iload_n 0, 1) := dk_26 (dk_at dksJ6_checkLength_0 1 rfl rfl)
theorem dJ6_checkLength_2 : decode cJ6_checkLength 2 = .ok (.if_icmp .ge 35, 3) := dk_162 0 35 (dk_at dksJ6_checkLength_0 2 rfl rfl)
theorem dJ6_checkLength_5 : decode cJ6_checkLength 5 = .ok (.new 43, 3) := dk_187 0 43 (dk_at dksJ6_checkLength_0 5 rfl rfl)
theorem dJ6_checkLength_8 : decode cJ6_checkLength 8 = .ok (.dup, 1) := dk_89 (dk_at dksJ6_checkLength_0 8 rfl rfl)
theorem dJ6_checkLength_9 : decode cJ6_checkLength 9 = .ok (.new 45, 3) := dk_187 0 45 (dk_at dksJ6_checkLength_0 9 rfl rfl)
theorem dJ6_checkLength_12 : decode cJ6_checkLength 12 = .ok (.dup, 1) := dk_89 (dk_at dksJ6_checkLength_0 12 rfl rfl)
theorem dJ6_checkLength_13 : decode cJ6_checkLength 13 = .ok (.invokespecial 47, 3) := dk_183 0 47 (dk_at dksJ6_checkLength_0 13 rfl rfl)
theorem dJ6_checkLength_16 : decode cJ6_checkLength 16 = .ok (.iload_n 0, 1) := dk_26 (dk_at dksJ6_checkLength_0 16 rfl rfl)
theorem dJ6_checkLength_17 : decode cJ6_checkLength 17 = .ok (.invokevirtual 54, 3) := dk_182 0 54 (dk_at dksJ6_checkLength_0 17 rfl rfl)
theorem dJ6_checkLength_20 : decode cJ6_checkLength 20 = .ok (.ldc_w 337, 3) := dk_19 1 81 (dk_at dksJ6_checkLength_0 20 rfl rfl)
theorem dJ6_checkLength_23 : decode cJ6_checkLength 23 = .ok (.invokevirtual 50, 3) := dk_182 0 50 (dk_at dksJ6_checkLength_1 0 rfl rfl)
theorem dJ6_checkLength_26 : decode cJ6_checkLength 26 = .ok (.iload_n 1, 1) := dk_27 (dk_at dksJ6_checkLength_1 3 rfl rfl)
theorem dJ6_checkLength_27 : decode cJ6_checkLength 27 = .ok (.invokevirtual 54, 3) := dk_182 0 54 (dk_at dksJ6_checkLength_1 4 rfl rfl)
theorem dJ6_checkLength_30 : decode cJ6_checkLength 30 = .ok (.invokevirtual 61, 3) := dk_182 0 61 (dk_at dksJ6_checkLength_1 7 rfl rfl)
theorem dJ6_checkLength_33 : decode cJ6_checkLength 33 = .ok (.invokespecial 65, 3) := dk_183 0 65 (dk_at dksJ6_checkLength_1 10 rfl rfl)
theorem dJ6_checkLength_36 : decode cJ6_checkLength 36 = .ok (.athrow, 1) := dk_191 (dk_at dksJ6_checkLength_1 13 rfl rfl)
theorem dJ6_checkLength_37 : decode cJ6_checkLength 37 = .ok (.return_, 1) := dk_177 (dk_at dksJ6_checkLength_1 14 rfl rfl)
abbrev cJ6_fill : ByteArray := prog_28_method_104_code
def yJ6_fill : MethodName := ⟨RJ6, "fill", "([IIII)V"⟩
def dkwJ6_fill_1 : List UInt8 := [167, 255, 242, 177]
abbrev dktJ6_fill_1 : List UInt8 := dkwJ6_fill_1 ++ []
def dkwJ6_fill_0 : List UInt8 := [42, 190, 27, 28, 184, 0, 13, 27, 54, 4, 21, 4, 28, 162, 0, 14, 42, 21, 4, 29, 79, 132, 4, 1]
abbrev dktJ6_fill_0 : List UInt8 := dkwJ6_fill_0 ++ dktJ6_fill_1
theorem dksJ6_fill_0 : cJ6_fill.data.toList.drop 0 = dktJ6_fill_0 := by decide +kernel
theorem dksJ6_fill_1 : cJ6_fill.data.toList.drop 24 = dktJ6_fill_1 := dk_seg dksJ6_fill_0 24 rfl rfl
theorem dJ6_fill_0 : decode cJ6_fill 0 = .ok (.aload_n 0, 1) := dk_42 (dk_at dksJ6_fill_0 0 rfl rfl)
theorem dJ6_fill_1 : decode cJ6_fill 1 = .ok (.arraylength, 1) := dk_190 (dk_at dksJ6_fill_0 1 rfl rfl)
theorem dJ6_fill_2 : decode cJ6_fill 2 = .ok (.iload_n 1, 1) := dk_27 (dk_at dksJ6_fill_0 2 rfl rfl)
theorem dJ6_fill_3 : decode cJ6_fill 3 = .ok (.iload_n 2, 1) := dk_28 (dk_at dksJ6_fill_0 3 rfl rfl)
theorem dJ6_fill_4 : decode cJ6_fill 4 = .ok (.invokestatic 13, 3) := dk_184 0 13 (dk_at dksJ6_fill_0 4 rfl rfl)
theorem dJ6_fill_7 : decode cJ6_fill 7 = .ok (.iload_n 1, 1) := dk_27 (dk_at dksJ6_fill_0 7 rfl rfl)
theorem dJ6_fill_8 : decode cJ6_fill 8 = .ok (.istore 4, 2) := dk_54 4 (dk_at dksJ6_fill_0 8 rfl rfl)
theorem dJ6_fill_10 : decode cJ6_fill 10 = .ok (.iload 4, 2) := dk_21 4 (dk_at dksJ6_fill_0 10 rfl rfl)
theorem dJ6_fill_12 : decode cJ6_fill 12 = .ok (.iload_n 2, 1) := dk_28 (dk_at dksJ6_fill_0 12 rfl rfl)
theorem dJ6_fill_13 : decode cJ6_fill 13 = .ok (.if_icmp .ge 14, 3) := dk_162 0 14 (dk_at dksJ6_fill_0 13 rfl rfl)
theorem dJ6_fill_16 : decode cJ6_fill 16 = .ok (.aload_n 0, 1) := dk_42 (dk_at dksJ6_fill_0 16 rfl rfl)
theorem dJ6_fill_17 : decode cJ6_fill 17 = .ok (.iload 4, 2) := dk_21 4 (dk_at dksJ6_fill_0 17 rfl rfl)
theorem dJ6_fill_19 : decode cJ6_fill 19 = .ok (.iload_n 3, 1) := dk_29 (dk_at dksJ6_fill_0 19 rfl rfl)
theorem dJ6_fill_20 : decode cJ6_fill 20 = .ok (.iastore, 1) := dk_79 (dk_at dksJ6_fill_0 20 rfl rfl)
theorem dJ6_fill_21 : decode cJ6_fill 21 = .ok (.iinc 4 1, 3) := dk_132 4 1 (dk_at dksJ6_fill_0 21 rfl rfl)
theorem dJ6_fill_24 : decode cJ6_fill 24 = .ok (.goto (-14), 3) := dk_167 255 242 (dk_at dksJ6_fill_1 0 rfl rfl)
theorem dJ6_fill_27 : decode cJ6_fill 27 = .ok (.return_, 1) := dk_177 (dk_at dksJ6_fill_1 3 rfl rfl)
abbrev cJ6_rangeCheck : ByteArray := prog_28_method_30_code
def yJ6_rangeCheck : MethodName := ⟨RJ6, "rangeCheck", "(III)V"⟩
def dkwJ6_rangeCheck_3 : List UInt8 := [183, 0, 70, 191, 177]
abbrev dktJ6_rangeCheck_3 : List UInt8 := dkwJ6_rangeCheck_3 ++ []
def dkwJ6_rangeCheck_2 : List UInt8 := [27, 156, 0, 12, 187, 0, 68, 89, 27, 183, 0, 70, 191, 28, 26, 164, 0, 12, 187, 0, 68, 89, 28]
abbrev dktJ6_rangeCheck_2 : List UInt8 := dkwJ6_rangeCheck_2 ++ dktJ6_rangeCheck_3
def dkwJ6_rangeCheck_1 : List UInt8 := [182, 0, 54, 18, 57, 182, 0, 50, 28, 182, 0, 54, 18, 59, 182, 0, 50, 182, 0, 61, 183, 0, 65, 191]
abbrev dktJ6_rangeCheck_1 : List UInt8 := dkwJ6_rangeCheck_1 ++ dktJ6_rangeCheck_2
def dkwJ6_rangeCheck_0 : List UInt8 := [27, 28, 164, 0, 44, 187, 0, 43, 89, 187, 0, 45, 89, 183, 0, 47, 18, 48, 182, 0, 50, 27]
abbrev dktJ6_rangeCheck_0 : List UInt8 := dkwJ6_rangeCheck_0 ++ dktJ6_rangeCheck_1
theorem dksJ6_rangeCheck_0 : cJ6_rangeCheck.data.toList.drop 0 = dktJ6_rangeCheck_0 := by decide +kernel
theorem dksJ6_rangeCheck_1 : cJ6_rangeCheck.data.toList.drop 22 = dktJ6_rangeCheck_1 := dk_seg dksJ6_rangeCheck_0 22 rfl rfl
theorem dksJ6_rangeCheck_2 : cJ6_rangeCheck.data.toList.drop 46 = dktJ6_rangeCheck_2 := dk_seg dksJ6_rangeCheck_1 24 rfl rfl
theorem dksJ6_rangeCheck_3 : cJ6_rangeCheck.data.toList.drop 69 = dktJ6_rangeCheck_3 := dk_seg dksJ6_rangeCheck_2 23 rfl rfl
theorem dJ6_rangeCheck_0 : decode cJ6_rangeCheck 0 = .ok (.iload_n 1, 1) := dk_27 (dk_at dksJ6_rangeCheck_0 0 rfl rfl)
theorem dJ6_rangeCheck_1 : decode cJ6_rangeCheck 1 = .ok (.iload_n 2, 1) := dk_28 (dk_at dksJ6_rangeCheck_0 1 rfl rfl)
theorem dJ6_rangeCheck_2 : decode cJ6_rangeCheck 2 = .ok (.if_icmp .le 44, 3) := dk_164 0 44 (dk_at dksJ6_rangeCheck_0 2 rfl rfl)
theorem dJ6_rangeCheck_5 : decode cJ6_rangeCheck 5 = .ok (.new 43, 3) := dk_187 0 43 (dk_at dksJ6_rangeCheck_0 5 rfl rfl)
theorem dJ6_rangeCheck_8 : decode cJ6_rangeCheck 8 = .ok (.dup, 1) := dk_89 (dk_at dksJ6_rangeCheck_0 8 rfl rfl)
theorem dJ6_rangeCheck_9 : decode cJ6_rangeCheck 9 = .ok (.new 45, 3) := dk_187 0 45 (dk_at dksJ6_rangeCheck_0 9 rfl rfl)
theorem dJ6_rangeCheck_12 : decode cJ6_rangeCheck 12 = .ok (.dup, 1) := dk_89 (dk_at dksJ6_rangeCheck_0 12 rfl rfl)
theorem dJ6_rangeCheck_13 : decode cJ6_rangeCheck 13 = .ok (.invokespecial 47, 3) := dk_183 0 47 (dk_at dksJ6_rangeCheck_0 13 rfl rfl)
theorem dJ6_rangeCheck_16 : decode cJ6_rangeCheck 16 = .ok (.ldc 48, 2) := dk_18 48 (dk_at dksJ6_rangeCheck_0 16 rfl rfl)
theorem dJ6_rangeCheck_18 : decode cJ6_rangeCheck 18 = .ok (.invokevirtual 50, 3) := dk_182 0 50 (dk_at dksJ6_rangeCheck_0 18 rfl rfl)
theorem dJ6_rangeCheck_21 : decode cJ6_rangeCheck 21 = .ok (.iload_n 1, 1) := dk_27 (dk_at dksJ6_rangeCheck_0 21 rfl rfl)
theorem dJ6_rangeCheck_22 : decode cJ6_rangeCheck 22 = .ok (.invokevirtual 54, 3) := dk_182 0 54 (dk_at dksJ6_rangeCheck_1 0 rfl rfl)
theorem dJ6_rangeCheck_25 : decode cJ6_rangeCheck 25 = .ok (.ldc 57, 2) := dk_18 57 (dk_at dksJ6_rangeCheck_1 3 rfl rfl)
theorem dJ6_rangeCheck_27 : decode cJ6_rangeCheck 27 = .ok (.invokevirtual 50, 3) := dk_182 0 50 (dk_at dksJ6_rangeCheck_1 5 rfl rfl)
theorem dJ6_rangeCheck_30 : decode cJ6_rangeCheck 30 = .ok (.iload_n 2, 1) := dk_28 (dk_at dksJ6_rangeCheck_1 8 rfl rfl)
theorem dJ6_rangeCheck_31 : decode cJ6_rangeCheck 31 = .ok (.invokevirtual 54, 3) := dk_182 0 54 (dk_at dksJ6_rangeCheck_1 9 rfl rfl)
theorem dJ6_rangeCheck_34 : decode cJ6_rangeCheck 34 = .ok (.ldc 59, 2) := dk_18 59 (dk_at dksJ6_rangeCheck_1 12 rfl rfl)
theorem dJ6_rangeCheck_36 : decode cJ6_rangeCheck 36 = .ok (.invokevirtual 50, 3) := dk_182 0 50 (dk_at dksJ6_rangeCheck_1 14 rfl rfl)
theorem dJ6_rangeCheck_39 : decode cJ6_rangeCheck 39 = .ok (.invokevirtual 61, 3) := dk_182 0 61 (dk_at dksJ6_rangeCheck_1 17 rfl rfl)
theorem dJ6_rangeCheck_42 : decode cJ6_rangeCheck 42 = .ok (.invokespecial 65, 3) := dk_183 0 65 (dk_at dksJ6_rangeCheck_1 20 rfl rfl)
theorem dJ6_rangeCheck_45 : decode cJ6_rangeCheck 45 = .ok (.athrow, 1) := dk_191 (dk_at dksJ6_rangeCheck_1 23 rfl rfl)
theorem dJ6_rangeCheck_46 : decode cJ6_rangeCheck 46 = .ok (.iload_n 1, 1) := dk_27 (dk_at dksJ6_rangeCheck_2 0 rfl rfl)
theorem dJ6_rangeCheck_47 : decode cJ6_rangeCheck 47 = .ok (.ifCond .ge 12, 3) := dk_156 0 12 (dk_at dksJ6_rangeCheck_2 1 rfl rfl)
theorem dJ6_rangeCheck_50 : decode cJ6_rangeCheck 50 = .ok (.new 68, 3) := dk_187 0 68 (dk_at dksJ6_rangeCheck_2 4 rfl rfl)
theorem dJ6_rangeCheck_53 : decode cJ6_rangeCheck 53 = .ok (.dup, 1) := dk_89 (dk_at dksJ6_rangeCheck_2 7 rfl rfl)
theorem dJ6_rangeCheck_54 : decode cJ6_rangeCheck 54 = .ok (.iload_n 1, 1) := dk_27 (dk_at dksJ6_rangeCheck_2 8 rfl rfl)
theorem dJ6_rangeCheck_55 : decode cJ6_rangeCheck 55 = .ok (.invokespecial 70, 3) := dk_183 0 70 (dk_at dksJ6_rangeCheck_2 9 rfl rfl)
theorem dJ6_rangeCheck_58 : decode cJ6_rangeCheck 58 = .ok (.athrow, 1) := dk_191 (dk_at dksJ6_rangeCheck_2 12 rfl rfl)
theorem dJ6_rangeCheck_59 : decode cJ6_rangeCheck 59 = .ok (.iload_n 2, 1) := dk_28 (dk_at dksJ6_rangeCheck_2 13 rfl rfl)
theorem dJ6_rangeCheck_60 : decode cJ6_rangeCheck 60 = .ok (.iload_n 0, 1) := dk_26 (dk_at dksJ6_rangeCheck_2 14 rfl rfl)
theorem dJ6_rangeCheck_61 : decode cJ6_rangeCheck 61 = .ok (.if_icmp .le 12, 3) := dk_164 0 12 (dk_at dksJ6_rangeCheck_2 15 rfl rfl)
theorem dJ6_rangeCheck_64 : decode cJ6_rangeCheck 64 = .ok (.new 68, 3) := dk_187 0 68 (dk_at dksJ6_rangeCheck_2 18 rfl rfl)
theorem dJ6_rangeCheck_67 : decode cJ6_rangeCheck 67 = .ok (.dup, 1) := dk_89 (dk_at dksJ6_rangeCheck_2 21 rfl rfl)
theorem dJ6_rangeCheck_68 : decode cJ6_rangeCheck 68 = .ok (.iload_n 2, 1) := dk_28 (dk_at dksJ6_rangeCheck_2 22 rfl rfl)
theorem dJ6_rangeCheck_69 : decode cJ6_rangeCheck 69 = .ok (.invokespecial 70, 3) := dk_183 0 70 (dk_at dksJ6_rangeCheck_3 0 rfl rfl)
theorem dJ6_rangeCheck_72 : decode cJ6_rangeCheck 72 = .ok (.athrow, 1) := dk_191 (dk_at dksJ6_rangeCheck_3 3 rfl rfl)
theorem dJ6_rangeCheck_73 : decode cJ6_rangeCheck 73 = .ok (.return_, 1) := dk_177 (dk_at dksJ6_rangeCheck_3 4 rfl rfl)
abbrev cJ6_fill_2 : ByteArray := prog_28_method_103_code
def yJ6_fill_2 : MethodName := ⟨RJ6, "fill", "([II)V"⟩
def dkwJ6_fill_2_0 : List UInt8 := [3, 61, 42, 190, 62, 28, 29, 162, 0, 13, 42, 28, 27, 79, 132, 2, 1, 167, 255, 244, 177]
abbrev dktJ6_fill_2_0 : List UInt8 := dkwJ6_fill_2_0 ++ []
theorem dksJ6_fill_2_0 : cJ6_fill_2.data.toList.drop 0 = dktJ6_fill_2_0 := by decide +kernel
theorem dJ6_fill_2_0 : decode cJ6_fill_2 0 = .ok (.iconst 0, 1) := dk_3 (dk_at dksJ6_fill_2_0 0 rfl rfl)
theorem dJ6_fill_2_1 : decode cJ6_fill_2 1 = .ok (.istore_n 2, 1) := dk_61 (dk_at dksJ6_fill_2_0 1 rfl rfl)
theorem dJ6_fill_2_2 : decode cJ6_fill_2 2 = .ok (.aload_n 0, 1) := dk_42 (dk_at dksJ6_fill_2_0 2 rfl rfl)
theorem dJ6_fill_2_3 : decode cJ6_fill_2 3 = .ok (.arraylength, 1) := dk_190 (dk_at dksJ6_fill_2_0 3 rfl rfl)
theorem dJ6_fill_2_4 : decode cJ6_fill_2 4 = .ok (.istore_n 3, 1) := dk_62 (dk_at dksJ6_fill_2_0 4 rfl rfl)
theorem dJ6_fill_2_5 : decode cJ6_fill_2 5 = .ok (.iload_n 2, 1) := dk_28 (dk_at dksJ6_fill_2_0 5 rfl rfl)
theorem dJ6_fill_2_6 : decode cJ6_fill_2 6 = .ok (.iload_n 3, 1) := dk_29 (dk_at dksJ6_fill_2_0 6 rfl rfl)
theorem dJ6_fill_2_7 : decode cJ6_fill_2 7 = .ok (.if_icmp .ge 13, 3) := dk_162 0 13 (dk_at dksJ6_fill_2_0 7 rfl rfl)
theorem dJ6_fill_2_10 : decode cJ6_fill_2 10 = .ok (.aload_n 0, 1) := dk_42 (dk_at dksJ6_fill_2_0 10 rfl rfl)
theorem dJ6_fill_2_11 : decode cJ6_fill_2 11 = .ok (.iload_n 2, 1) := dk_28 (dk_at dksJ6_fill_2_0 11 rfl rfl)
theorem dJ6_fill_2_12 : decode cJ6_fill_2 12 = .ok (.iload_n 1, 1) := dk_27 (dk_at dksJ6_fill_2_0 12 rfl rfl)
theorem dJ6_fill_2_13 : decode cJ6_fill_2 13 = .ok (.iastore, 1) := dk_79 (dk_at dksJ6_fill_2_0 13 rfl rfl)
theorem dJ6_fill_2_14 : decode cJ6_fill_2 14 = .ok (.iinc 2 1, 3) := dk_132 2 1 (dk_at dksJ6_fill_2_0 14 rfl rfl)
theorem dJ6_fill_2_17 : decode cJ6_fill_2 17 = .ok (.goto (-12), 3) := dk_167 255 244 (dk_at dksJ6_fill_2_0 17 rfl rfl)
theorem dJ6_fill_2_20 : decode cJ6_fill_2 20 = .ok (.return_, 1) := dk_177 (dk_at dksJ6_fill_2_0 20 rfl rfl)
abbrev cJ6_fill_3 : ByteArray := prog_28_method_112_code
def yJ6_fill_3 : MethodName := ⟨RJ6, "fill", "([ZIIZ)V"⟩
def dkwJ6_fill_3_1 : List UInt8 := [167, 255, 242, 177]
abbrev dktJ6_fill_3_1 : List UInt8 := dkwJ6_fill_3_1 ++ []
def dkwJ6_fill_3_0 : List UInt8 := [42, 190, 27, 28, 184, 0, 13, 27, 54, 4, 21, 4, 28, 162, 0, 14, 42, 21, 4, 29, 84, 132, 4, 1]
abbrev dktJ6_fill_3_0 : List UInt8 := dkwJ6_fill_3_0 ++ dktJ6_fill_3_1
theorem dksJ6_fill_3_0 : cJ6_fill_3.data.toList.drop 0 = dktJ6_fill_3_0 := by decide +kernel
theorem dksJ6_fill_3_1 : cJ6_fill_3.data.toList.drop 24 = dktJ6_fill_3_1 := dk_seg dksJ6_fill_3_0 24 rfl rfl
theorem dJ6_fill_3_0 : decode cJ6_fill_3 0 = .ok (.aload_n 0, 1) := dk_42 (dk_at dksJ6_fill_3_0 0 rfl rfl)
theorem dJ6_fill_3_1 : decode cJ6_fill_3 1 = .ok (.arraylength, 1) := dk_190 (dk_at dksJ6_fill_3_0 1 rfl rfl)
theorem dJ6_fill_3_2 : decode cJ6_fill_3 2 = .ok (.iload_n 1, 1) := dk_27 (dk_at dksJ6_fill_3_0 2 rfl rfl)
theorem dJ6_fill_3_3 : decode cJ6_fill_3 3 = .ok (.iload_n 2, 1) := dk_28 (dk_at dksJ6_fill_3_0 3 rfl rfl)
theorem dJ6_fill_3_4 : decode cJ6_fill_3 4 = .ok (.invokestatic 13, 3) := dk_184 0 13 (dk_at dksJ6_fill_3_0 4 rfl rfl)
theorem dJ6_fill_3_7 : decode cJ6_fill_3 7 = .ok (.iload_n 1, 1) := dk_27 (dk_at dksJ6_fill_3_0 7 rfl rfl)
theorem dJ6_fill_3_8 : decode cJ6_fill_3 8 = .ok (.istore 4, 2) := dk_54 4 (dk_at dksJ6_fill_3_0 8 rfl rfl)
theorem dJ6_fill_3_10 : decode cJ6_fill_3 10 = .ok (.iload 4, 2) := dk_21 4 (dk_at dksJ6_fill_3_0 10 rfl rfl)
theorem dJ6_fill_3_12 : decode cJ6_fill_3 12 = .ok (.iload_n 2, 1) := dk_28 (dk_at dksJ6_fill_3_0 12 rfl rfl)
theorem dJ6_fill_3_13 : decode cJ6_fill_3 13 = .ok (.if_icmp .ge 14, 3) := dk_162 0 14 (dk_at dksJ6_fill_3_0 13 rfl rfl)
theorem dJ6_fill_3_16 : decode cJ6_fill_3 16 = .ok (.aload_n 0, 1) := dk_42 (dk_at dksJ6_fill_3_0 16 rfl rfl)
theorem dJ6_fill_3_17 : decode cJ6_fill_3 17 = .ok (.iload 4, 2) := dk_21 4 (dk_at dksJ6_fill_3_0 17 rfl rfl)
theorem dJ6_fill_3_19 : decode cJ6_fill_3 19 = .ok (.iload_n 3, 1) := dk_29 (dk_at dksJ6_fill_3_0 19 rfl rfl)
theorem dJ6_fill_3_20 : decode cJ6_fill_3 20 = .ok (.bastore, 1) := dk_84 (dk_at dksJ6_fill_3_0 20 rfl rfl)
theorem dJ6_fill_3_21 : decode cJ6_fill_3 21 = .ok (.iinc 4 1, 3) := dk_132 4 1 (dk_at dksJ6_fill_3_0 21 rfl rfl)
theorem dJ6_fill_3_24 : decode cJ6_fill_3 24 = .ok (.goto (-14), 3) := dk_167 255 242 (dk_at dksJ6_fill_3_1 0 rfl rfl)
theorem dJ6_fill_3_27 : decode cJ6_fill_3 27 = .ok (.return_, 1) := dk_177 (dk_at dksJ6_fill_3_1 3 rfl rfl)
theorem q72 : (Jvm.Cond.initialized "java/util/Arrays") ∈ lw_all := lw_g (lw_at lw_m1 12 rfl) rfl
theorem q329 : (Jvm.Cond.static ({ cls := "java/util/Arrays", name := "copyOf", desc := "([BI)[B" } : Jvm.MethodName)) ∈ lw_all := lw_g (lw_at lw_m2 29 rfl) rfl
theorem q330 : (Jvm.Cond.code ({ cls := "java/util/Arrays", name := "copyOf", desc := "([BI)[B" } : Jvm.MethodName) prog_28_method_121_code (3 : Nat) (Option.some (Jvm.ClassFile.FieldType.array Jvm.ClassFile.FieldType.byte))) ∈ lw_all := lw_g (lw_at lw_m2 30 rfl) rfl
theorem q331 : (Jvm.Cond.methodLink "java/util/Arrays" (310 : Nat) ({ cls := "[B", name := "clone", desc := "()Ljava/lang/Object;" } : Jvm.MethodName)) ∈ lw_all := lw_g (lw_at lw_m2 31 rfl) rfl
theorem q337 : (Jvm.Cond.classLink "java/util/Arrays" (311 : Nat) "[B") ∈ lw_all := lw_g (lw_at lw_m2 37 rfl) rfl
theorem q338 : (Jvm.Cond.methodLink "java/util/Arrays" (304 : Nat) ({ cls := "java/lang/Math", name := "min", desc := "(II)I" } : Jvm.MethodName)) ∈ lw_all := lw_g (lw_at lw_m2 38 rfl) rfl
theorem q341 : (Jvm.Cond.methodLink "java/util/Arrays" (150 : Nat) ({ cls := "java/lang/System", name := "arraycopy", desc := "(Ljava/lang/Object;ILjava/lang/Object;II)V" } : Jvm.MethodName)) ∈ lw_all := lw_g (lw_at lw_m2 41 rfl) rfl
theorem q425 : (Jvm.Cond.static ({ cls := "java/util/Arrays", name := "copyOfRange", desc := "([BII)[B" } : Jvm.MethodName)) ∈ lw_all := lw_g (lw_at lw_m2 125 rfl) rfl
theorem q426 : (Jvm.Cond.code ({ cls := "java/util/Arrays", name := "copyOfRange", desc := "([BII)[B" } : Jvm.MethodName) prog_28_method_132_code (3 : Nat) (Option.some (Jvm.ClassFile.FieldType.array Jvm.ClassFile.FieldType.byte))) ∈ lw_all := lw_g (lw_at lw_m2 126 rfl) rfl
theorem q427 : (Jvm.Cond.methodLink "java/util/Arrays" (339 : Nat) ({ cls := "java/util/Arrays", name := "copyOfRangeByte", desc := "([BII)[B" } : Jvm.MethodName)) ∈ lw_all := lw_g (lw_at lw_m2 127 rfl) rfl
theorem q428 : (Jvm.Cond.static ({ cls := "java/util/Arrays", name := "copyOfRangeByte", desc := "([BII)[B" } : Jvm.MethodName)) ∈ lw_all := lw_g (lw_at lw_m2 128 rfl) rfl
theorem q429 : (Jvm.Cond.code ({ cls := "java/util/Arrays", name := "copyOfRangeByte", desc := "([BII)[B" } : Jvm.MethodName) prog_28_method_133_code (5 : Nat) (Option.some (Jvm.ClassFile.FieldType.array Jvm.ClassFile.FieldType.byte))) ∈ lw_all := lw_g (lw_at lw_m2 129 rfl) rfl
theorem q430 : (Jvm.Cond.methodLink "java/util/Arrays" (343 : Nat) ({ cls := "java/util/Arrays", name := "checkLength", desc := "(II)V" } : Jvm.MethodName)) ∈ lw_all := lw_g (lw_at lw_m2 130 rfl) rfl
theorem q431 : (Jvm.Cond.static ({ cls := "java/util/Arrays", name := "checkLength", desc := "(II)V" } : Jvm.MethodName)) ∈ lw_all := lw_g (lw_at lw_m2 131 rfl) rfl
theorem q432 : (Jvm.Cond.code ({ cls := "java/util/Arrays", name := "checkLength", desc := "(II)V" } : Jvm.MethodName) prog_28_method_131_code (2 : Nat) (Option.none : Option Jvm.ClassFile.FieldType)) ∈ lw_all := lw_g (lw_at lw_m2 132 rfl) rfl
theorem q933 : (Jvm.Cond.static ({ cls := "java/util/Arrays", name := "fill", desc := "([IIII)V" } : Jvm.MethodName)) ∈ lw_all := lw_g (lw_at lw_m4 153 rfl) rfl
theorem q934 : (Jvm.Cond.code ({ cls := "java/util/Arrays", name := "fill", desc := "([IIII)V" } : Jvm.MethodName) prog_28_method_104_code (5 : Nat) (Option.none : Option Jvm.ClassFile.FieldType)) ∈ lw_all := lw_g (lw_at lw_m4 154 rfl) rfl
theorem q935 : (Jvm.Cond.methodLink "java/util/Arrays" (13 : Nat) ({ cls := "java/util/Arrays", name := "rangeCheck", desc := "(III)V" } : Jvm.MethodName)) ∈ lw_all := lw_g (lw_at lw_m4 155 rfl) rfl
theorem q936 : (Jvm.Cond.static ({ cls := "java/util/Arrays", name := "rangeCheck", desc := "(III)V" } : Jvm.MethodName)) ∈ lw_all := lw_g (lw_at lw_m4 156 rfl) rfl
theorem q937 : (Jvm.Cond.code ({ cls := "java/util/Arrays", name := "rangeCheck", desc := "(III)V" } : Jvm.MethodName) prog_28_method_30_code (3 : Nat) (Option.none : Option Jvm.ClassFile.FieldType)) ∈ lw_all := lw_g (lw_at lw_m4 157 rfl) rfl
theorem q939 : (Jvm.Cond.static ({ cls := "java/util/Arrays", name := "fill", desc := "([II)V" } : Jvm.MethodName)) ∈ lw_all := lw_g (lw_at lw_m4 159 rfl) rfl
theorem q940 : (Jvm.Cond.code ({ cls := "java/util/Arrays", name := "fill", desc := "([II)V" } : Jvm.MethodName) prog_28_method_103_code (4 : Nat) (Option.none : Option Jvm.ClassFile.FieldType)) ∈ lw_all := lw_g (lw_at lw_m4 160 rfl) rfl
theorem q959 : (Jvm.Cond.static ({ cls := "java/util/Arrays", name := "fill", desc := "([ZIIZ)V" } : Jvm.MethodName)) ∈ lw_all := lw_g (lw_at lw_m4 179 rfl) rfl
theorem q960 : (Jvm.Cond.code ({ cls := "java/util/Arrays", name := "fill", desc := "([ZIIZ)V" } : Jvm.MethodName) prog_28_method_112_code (5 : Nat) (Option.none : Option Jvm.ClassFile.FieldType)) ∈ lw_all := lw_g (lw_at lw_m4 180 rfl) rfl

/-! java/lang/StringLatin1 -/
set_option maxRecDepth 100000
def RJ7 : String := "java/lang/StringLatin1"
abbrev cJ7_canEncode : ByteArray := prog_23_method_3_code
def yJ7_canEncode : MethodName := ⟨RJ7, "canEncode", "(C)Z"⟩
def dkwJ7_canEncode_0 : List UInt8 := [26, 17, 0, 255, 163, 0, 7, 4, 167, 0, 4, 3, 172]
abbrev dktJ7_canEncode_0 : List UInt8 := dkwJ7_canEncode_0 ++ []
theorem dksJ7_canEncode_0 : cJ7_canEncode.data.toList.drop 0 = dktJ7_canEncode_0 := by decide +kernel
theorem dJ7_canEncode_0 : decode cJ7_canEncode 0 = .ok (.iload_n 0, 1) := dk_26 (dk_at dksJ7_canEncode_0 0 rfl rfl)
theorem dJ7_canEncode_1 : decode cJ7_canEncode 1 = .ok (.sipush 255, 3) := dk_17 0 255 (dk_at dksJ7_canEncode_0 1 rfl rfl)
theorem dJ7_canEncode_4 : decode cJ7_canEncode 4 = .ok (.if_icmp .gt 7, 3) := dk_163 0 7 (dk_at dksJ7_canEncode_0 4 rfl rfl)
theorem dJ7_canEncode_7 : decode cJ7_canEncode 7 = .ok (.iconst 1, 1) := dk_4 (dk_at dksJ7_canEncode_0 7 rfl rfl)
theorem dJ7_canEncode_8 : decode cJ7_canEncode 8 = .ok (.goto 4, 3) := dk_167 0 4 (dk_at dksJ7_canEncode_0 8 rfl rfl)
theorem dJ7_canEncode_11 : decode cJ7_canEncode 11 = .ok (.iconst 0, 1) := dk_3 (dk_at dksJ7_canEncode_0 11 rfl rfl)
theorem dJ7_canEncode_12 : decode cJ7_canEncode 12 = .ok (.ireturn, 1) := dk_172 (dk_at dksJ7_canEncode_0 12 rfl rfl)
abbrev cJ7_inflate : ByteArray := prog_23_method_50_code
def yJ7_inflate : MethodName := ⟨RJ7, "inflate", "([BI[BII)V"⟩
def dkwJ7_inflate_0 : List UInt8 := [42, 27, 44, 29, 21, 4, 184, 0, 240, 177]
abbrev dktJ7_inflate_0 : List UInt8 := dkwJ7_inflate_0 ++ []
theorem dksJ7_inflate_0 : cJ7_inflate.data.toList.drop 0 = dktJ7_inflate_0 := by decide +kernel
theorem dJ7_inflate_0 : decode cJ7_inflate 0 = .ok (.aload_n 0, 1) := dk_42 (dk_at dksJ7_inflate_0 0 rfl rfl)
theorem dJ7_inflate_1 : decode cJ7_inflate 1 = .ok (.iload_n 1, 1) := dk_27 (dk_at dksJ7_inflate_0 1 rfl rfl)
theorem dJ7_inflate_2 : decode cJ7_inflate 2 = .ok (.aload_n 2, 1) := dk_44 (dk_at dksJ7_inflate_0 2 rfl rfl)
theorem dJ7_inflate_3 : decode cJ7_inflate 3 = .ok (.iload_n 3, 1) := dk_29 (dk_at dksJ7_inflate_0 3 rfl rfl)
theorem dJ7_inflate_4 : decode cJ7_inflate 4 = .ok (.iload 4, 2) := dk_21 4 (dk_at dksJ7_inflate_0 4 rfl rfl)
theorem dJ7_inflate_6 : decode cJ7_inflate 6 = .ok (.invokestatic 240, 3) := dk_184 0 240 (dk_at dksJ7_inflate_0 6 rfl rfl)
theorem dJ7_inflate_9 : decode cJ7_inflate 9 = .ok (.return_, 1) := dk_177 (dk_at dksJ7_inflate_0 9 rfl rfl)
abbrev cJ7_equals : ByteArray := prog_23_method_13_code
def yJ7_equals : MethodName := ⟨RJ7, "equals", "([B[B)Z"⟩
def dkwJ7_equals_1 : List UInt8 := [3, 172, 132, 2, 1, 167, 255, 236, 4, 172, 3, 172]
abbrev dktJ7_equals_1 : List UInt8 := dkwJ7_equals_1 ++ []
def dkwJ7_equals_0 : List UInt8 := [42, 190, 43, 190, 160, 0, 30, 3, 61, 28, 42, 190, 162, 0, 20, 42, 28, 51, 43, 28, 51, 159, 0, 5]
abbrev dktJ7_equals_0 : List UInt8 := dkwJ7_equals_0 ++ dktJ7_equals_1
theorem dksJ7_equals_0 : cJ7_equals.data.toList.drop 0 = dktJ7_equals_0 := by decide +kernel
theorem dksJ7_equals_1 : cJ7_equals.data.toList.drop 24 = dktJ7_equals_1 := dk_seg dksJ7_equals_0 24 rfl rfl
theorem dJ7_equals_0 : decode cJ7_equals 0 = .ok (.aload_n 0, 1) := dk_42 (dk_at dksJ7_equals_0 0 rfl rfl)
theorem dJ7_equals_1 : decode cJ7_equals 1 = .ok (.arraylength, 1) := dk_190 (dk_at dksJ7_equals_0 1 rfl rfl)
theorem dJ7_equals_2 : decode cJ7_equals 2 = .ok (.aload_n 1, 1) := dk_43 (dk_at dksJ7_equals_0 2 rfl rfl)
theorem dJ7_equals_3 : decode cJ7_equals 3 = .ok (.arraylength, 1) := dk_190 (dk_at dksJ7_equals_0 3 rfl rfl)
theorem dJ7_equals_4 : decode cJ7_equals 4 = .ok (.if_icmp .ne 30, 3) := dk_160 0 30 (dk_at dksJ7_equals_0 4 rfl rfl)
theorem dJ7_equals_7 : decode cJ7_equals 7 = .ok (.iconst 0, 1) := dk_3 (dk_at dksJ7_equals_0 7 rfl rfl)
theorem dJ7_equals_8 : decode cJ7_equals 8 = .ok (.istore_n 2, 1) := dk_61 (dk_at dksJ7_equals_0 8 rfl rfl)
theorem dJ7_equals_9 : decode cJ7_equals 9 = .ok (.iload_n 2, 1) := dk_28 (dk_at dksJ7_equals_0 9 rfl rfl)
theorem dJ7_equals_10 : decode cJ7_equals 10 = .ok (.aload_n 0, 1) := dk_42 (dk_at dksJ7_equals_0 10 rfl rfl)
theorem dJ7_equals_11 : decode cJ7_equals 11 = .ok (.arraylength, 1) := dk_190 (dk_at dksJ7_equals_0 11 rfl rfl)
theorem dJ7_equals_12 : decode cJ7_equals 12 = .ok (.if_icmp .ge 20, 3) := dk_162 0 20 (dk_at dksJ7_equals_0 12 rfl rfl)
theorem dJ7_equals_15 : decode cJ7_equals 15 = .ok (.aload_n 0, 1) := dk_42 (dk_at dksJ7_equals_0 15 rfl rfl)
theorem dJ7_equals_16 : decode cJ7_equals 16 = .ok (.iload_n 2, 1) := dk_28 (dk_at dksJ7_equals_0 16 rfl rfl)
theorem dJ7_equals_17 : decode cJ7_equals 17 = .ok (.baload, 1) := dk_51 (dk_at dksJ7_equals_0 17 rfl rfl)
theorem dJ7_equals_18 : decode cJ7_equals 18 = .ok (.aload_n 1, 1) := dk_43 (dk_at dksJ7_equals_0 18 rfl rfl)
theorem dJ7_equals_19 : decode cJ7_equals 19 = .ok (.iload_n 2, 1) := dk_28 (dk_at dksJ7_equals_0 19 rfl rfl)
theorem dJ7_equals_20 : decode cJ7_equals 20 = .ok (.baload, 1) := dk_51 (dk_at dksJ7_equals_0 20 rfl rfl)
theorem dJ7_equals_21 : decode cJ7_equals 21 = .ok (.if_icmp .eq 5, 3) := dk_159 0 5 (dk_at dksJ7_equals_0 21 rfl rfl)
theorem dJ7_equals_24 : decode cJ7_equals 24 = .ok (.iconst 0, 1) := dk_3 (dk_at dksJ7_equals_1 0 rfl rfl)
theorem dJ7_equals_25 : decode cJ7_equals 25 = .ok (.ireturn, 1) := dk_172 (dk_at dksJ7_equals_1 1 rfl rfl)
theorem dJ7_equals_26 : decode cJ7_equals 26 = .ok (.iinc 2 1, 3) := dk_132 2 1 (dk_at dksJ7_equals_1 2 rfl rfl)
theorem dJ7_equals_29 : decode cJ7_equals 29 = .ok (.goto (-20), 3) := dk_167 255 236 (dk_at dksJ7_equals_1 5 rfl rfl)
theorem dJ7_equals_32 : decode cJ7_equals 32 = .ok (.iconst 1, 1) := dk_4 (dk_at dksJ7_equals_1 8 rfl rfl)
theorem dJ7_equals_33 : decode cJ7_equals 33 = .ok (.ireturn, 1) := dk_172 (dk_at dksJ7_equals_1 9 rfl rfl)
theorem dJ7_equals_34 : decode cJ7_equals 34 = .ok (.iconst 0, 1) := dk_3 (dk_at dksJ7_equals_1 10 rfl rfl)
theorem dJ7_equals_35 : decode cJ7_equals 35 = .ok (.ireturn, 1) := dk_172 (dk_at dksJ7_equals_1 11 rfl rfl)
abbrev cJ7_hashCode : ByteArray := prog_23_method_21_code
def yJ7_hashCode : MethodName := ⟨RJ7, "hashCode", "([B)I"⟩
def dkwJ7_hashCode_2 : List UInt8 := [3, 167, 0, 22, 42, 3, 51, 17, 0, 255, 126, 167, 0, 12, 42, 3, 42, 190, 3, 7, 184, 0, 84, 172]
abbrev dktJ7_hashCode_2 : List UInt8 := dkwJ7_hashCode_2 ++ []
def dkwJ7_hashCode_1 : List UInt8 := [171, 0, 0, 0, 0, 40, 0, 0, 0, 2, 0, 0, 0, 0, 0, 0, 0, 26, 0, 0, 0, 1, 0, 0, 0, 30]
abbrev dktJ7_hashCode_1 : List UInt8 := dkwJ7_hashCode_1 ++ dktJ7_hashCode_2
def dkwJ7_hashCode_0 : List UInt8 := [42, 190]
abbrev dktJ7_hashCode_0 : List UInt8 := dkwJ7_hashCode_0 ++ dktJ7_hashCode_1
theorem dksJ7_hashCode_0 : cJ7_hashCode.data.toList.drop 0 = dktJ7_hashCode_0 := by decide +kernel
theorem dksJ7_hashCode_1 : cJ7_hashCode.data.toList.drop 2 = dktJ7_hashCode_1 := dk_seg dksJ7_hashCode_0 2 rfl rfl
theorem dksJ7_hashCode_2 : cJ7_hashCode.data.toList.drop 28 = dktJ7_hashCode_2 := dk_seg dksJ7_hashCode_1 26 rfl rfl
theorem dJ7_hashCode_0 : decode cJ7_hashCode 0 = .ok (.aload_n 0, 1) := dk_42 (dk_at dksJ7_hashCode_0 0 rfl rfl)
theorem dJ7_hashCode_1 : decode cJ7_hashCode 1 = .ok (.arraylength, 1) := dk_190 (dk_at dksJ7_hashCode_0 1 rfl rfl)
theorem dJ7_hashCode_2 : decode cJ7_hashCode 2 = .ok (.lookupswitch 40 #[(0, 26), (1, 30)], 26) := by decide +kernel
theorem dJ7_hashCode_28 : decode cJ7_hashCode 28 = .ok (.iconst 0, 1) := dk_3 (dk_at dksJ7_hashCode_2 0 rfl rfl)
theorem dJ7_hashCode_29 : decode cJ7_hashCode 29 = .ok (.goto 22, 3) := dk_167 0 22 (dk_at dksJ7_hashCode_2 1 rfl rfl)
theorem dJ7_hashCode_32 : decode cJ7_hashCode 32 = .ok (.aload_n 0, 1) := dk_42 (dk_at dksJ7_hashCode_2 4 rfl rfl)
theorem dJ7_hashCode_33 : decode cJ7_hashCode 33 = .ok (.iconst 0, 1) := dk_3 (dk_at dksJ7_hashCode_2 5 rfl rfl)
theorem dJ7_hashCode_34 : decode cJ7_hashCode 34 = .ok (.baload, 1) := dk_51 (dk_at dksJ7_hashCode_2 6 rfl rfl)
theorem dJ7_hashCode_35 : decode cJ7_hashCode 35 = .ok (.sipush 255, 3) := dk_17 0 255 (dk_at dksJ7_hashCode_2 7 rfl rfl)
theorem dJ7_hashCode_38 : decode cJ7_hashCode 38 = .ok (.iand, 1) := dk_126 (dk_at dksJ7_hashCode_2 10 rfl rfl)
theorem dJ7_hashCode_39 : decode cJ7_hashCode 39 = .ok (.goto 12, 3) := dk_167 0 12 (dk_at dksJ7_hashCode_2 11 rfl rfl)
theorem dJ7_hashCode_42 : decode cJ7_hashCode 42 = .ok (.aload_n 0, 1) := dk_42 (dk_at dksJ7_hashCode_2 14 rfl rfl)
theorem dJ7_hashCode_43 : decode cJ7_hashCode 43 = .ok (.iconst 0, 1) := dk_3 (dk_at dksJ7_hashCode_2 15 rfl rfl)
theorem dJ7_hashCode_44 : decode cJ7_hashCode 44 = .ok (.aload_n 0, 1) := dk_42 (dk_at dksJ7_hashCode_2 16 rfl rfl)
theorem dJ7_hashCode_45 : decode cJ7_hashCode 45 = .ok (.arraylength, 1) := dk_190 (dk_at dksJ7_hashCode_2 17 rfl rfl)
theorem dJ7_hashCode_46 : decode cJ7_hashCode 46 = .ok (.iconst 0, 1) := dk_3 (dk_at dksJ7_hashCode_2 18 rfl rfl)
theorem dJ7_hashCode_47 : decode cJ7_hashCode 47 = .ok (.iconst 4, 1) := dk_7 (dk_at dksJ7_hashCode_2 19 rfl rfl)
theorem dJ7_hashCode_48 : decode cJ7_hashCode 48 = .ok (.invokestatic 84, 3) := dk_184 0 84 (dk_at dksJ7_hashCode_2 20 rfl rfl)
theorem dJ7_hashCode_51 : decode cJ7_hashCode 51 = .ok (.ireturn, 1) := dk_172 (dk_at dksJ7_hashCode_2 23 rfl rfl)
theorem q74 : (Jvm.Cond.initialized "java/lang/StringLatin1") ∈ lw_all := lw_g (lw_at lw_m1 14 rfl) rfl
theorem q350 : (Jvm.Cond.static ({ cls := "java/lang/StringLatin1", name := "canEncode", desc := "(C)Z" } : Jvm.MethodName)) ∈ lw_all := lw_g (lw_at lw_m2 50 rfl) rfl
theorem q351 : (Jvm.Cond.code ({ cls := "java/lang/StringLatin1", name := "canEncode", desc := "(C)Z" } : Jvm.MethodName) prog_23_method_3_code (1 : Nat) (Option.some Jvm.ClassFile.FieldType.boolean)) ∈ lw_all := lw_g (lw_at lw_m2 51 rfl) rfl
theorem q357 : (Jvm.Cond.static ({ cls := "java/lang/StringLatin1", name := "inflate", desc := "([BI[BII)V" } : Jvm.MethodName)) ∈ lw_all := lw_g (lw_at lw_m2 57 rfl) rfl
theorem q358 : (Jvm.Cond.code ({ cls := "java/lang/StringLatin1", name := "inflate", desc := "([BI[BII)V" } : Jvm.MethodName) prog_23_method_50_code (5 : Nat) (Option.none : Option Jvm.ClassFile.FieldType)) ∈ lw_all := lw_g (lw_at lw_m2 58 rfl) rfl
theorem q359 : (Jvm.Cond.methodLink "java/lang/StringLatin1" (240 : Nat) ({ cls := "java/lang/StringUTF16", name := "inflate", desc := "([BI[BII)V" } : Jvm.MethodName)) ∈ lw_all := lw_g (lw_at lw_m2 59 rfl) rfl
theorem q467 : (Jvm.Cond.static ({ cls := "java/lang/StringLatin1", name := "equals", desc := "([B[B)Z" } : Jvm.MethodName)) ∈ lw_all := lw_g (lw_at lw_m2 167 rfl) rfl
theorem q468 : (Jvm.Cond.code ({ cls := "java/lang/StringLatin1", name := "equals", desc := "([B[B)Z" } : Jvm.MethodName) prog_23_method_13_code (3 : Nat) (Option.some Jvm.ClassFile.FieldType.boolean)) ∈ lw_all := lw_g (lw_at lw_m2 168 rfl) rfl
theorem q599 : (Jvm.Cond.static ({ cls := "java/lang/StringLatin1", name := "hashCode", desc := "([B)I" } : Jvm.MethodName)) ∈ lw_all := lw_g (lw_at lw_m3 59 rfl) rfl
theorem q600 : (Jvm.Cond.code ({ cls := "java/lang/StringLatin1", name := "hashCode", desc := "([B)I" } : Jvm.MethodName) prog_23_method_21_code (1 : Nat) (Option.some Jvm.ClassFile.FieldType.int)) ∈ lw_all := lw_g (lw_at lw_m3 60 rfl) rfl
theorem q601 : (Jvm.Cond.methodLink "java/lang/StringLatin1" (84 : Nat) ({ cls := "jdk/internal/util/ArraysSupport", name := "vectorizedHashCode", desc := "(Ljava/lang/Object;IIII)I" } : Jvm.MethodName)) ∈ lw_all := lw_g (lw_at lw_m3 61 rfl) rfl

/-! jdk/internal/util/Preconditions -/
set_option maxRecDepth 100000
def RJ8 : String := "jdk/internal/util/Preconditions"
abbrev cJ8_checkFromIndexSize : ByteArray := prog_31_method_13_code
def yJ8_checkFromIndexSize : MethodName := ⟨RJ8, "checkFromIndexSize", "(IIILjava/util/function/BiFunction;)I"⟩
def dkwJ8_checkFromIndexSize_1 : List UInt8 := [172]
abbrev dktJ8_checkFromIndexSize_1 : List UInt8 := dkwJ8_checkFromIndexSize_1 ++ []
def dkwJ8_checkFromIndexSize_0 : List UInt8 := [28, 26, 128, 27, 128, 155, 0, 10, 27, 28, 26, 100, 164, 0, 11, 45, 26, 27, 28, 184, 0, 103, 191, 26]
abbrev dktJ8_checkFromIndexSize_0 : List UInt8 := dkwJ8_checkFromIndexSize_0 ++ dktJ8_checkFromIndexSize_1
theorem dksJ8_checkFromIndexSize_0 : cJ8_checkFromIndexSize.data.toList.drop 0 = dktJ8_checkFromIndexSize_0 := by decide +kernel
theorem dksJ8_checkFromIndexSize_1 : cJ8_checkFromIndexSize.data.toList.drop 24 = dktJ8_checkFromIndexSize_1 := dk_seg dksJ8_checkFromIndexSize_0 24 rfl rfl
theorem dJ8_checkFromIndexSize_0 : decode cJ8_checkFromIndexSize 0 = .ok (.iload_n 2, 1) := dk_28 (dk_at dksJ8_checkFromIndexSize_0 0 rfl rfl)
theorem dJ8_checkFromIndexSize_1 : decode cJ8_checkFromIndexSize 1 = .ok (.iload_n 0, 1) := dk_26 (dk_at dksJ8_checkFromIndexSize_0 1 rfl rfl)
theorem dJ8_checkFromIndexSize_2 : decode cJ8_checkFromIndexSize 2 = .ok (.ior, 1) := dk_128 (dk_at dksJ8_checkFromIndexSize_0 2 rfl rfl)
theorem dJ8_checkFromIndexSize_3 : decode cJ8_checkFromIndexSize 3 = .ok (.iload_n 1, 1) := dk_27 (dk_at dksJ8_checkFromIndexSize_0 3 rfl rfl)
theorem dJ8_checkFromIndexSize_4 : decode cJ8_checkFromIndexSize 4 = .ok (.ior, 1) := dk_128 (dk_at dksJ8_checkFromIndexSize_0 4 rfl rfl)
theorem dJ8_checkFromIndexSize_5 : decode cJ8_checkFromIndexSize 5 = .ok (.ifCond .lt 10, 3) := dk_155 0 10 (dk_at dksJ8_checkFromIndexSize_0 5 rfl rfl)
theorem dJ8_checkFromIndexSize_8 : decode cJ8_checkFromIndexSize 8 = .ok (.iload_n 1, 1) := dk_27 (dk_at dksJ8_checkFromIndexSize_0 8 rfl rfl)
theorem dJ8_checkFromIndexSize_9 : decode cJ8_checkFromIndexSize 9 = .ok (.iload_n 2, 1) := dk_28 (dk_at dksJ8_checkFromIndexSize_0 9 rfl rfl)
theorem dJ8_checkFromIndexSize_10 : decode cJ8_checkFromIndexSize 10 = .ok (.iload_n 0, 1) := dk_26 (dk_at dksJ8_checkFromIndexSize_0 10 rfl rfl)
theorem dJ8_checkFromIndexSize_11 : decode cJ8_checkFromIndexSize 11 = .ok (.isub, 1) := dk_100 (dk_at dksJ8_checkFromIndexSize_0 11 rfl rfl)
theorem dJ8_checkFromIndexSize_12 : decode cJ8_checkFromIndexSize 12 = .ok (.if_icmp .le 11, 3) := dk_164 0 11 (dk_at dksJ8_checkFromIndexSize_0 12 rfl rfl)
theorem dJ8_checkFromIndexSize_15 : decode cJ8_checkFromIndexSize 15 = .ok (.aload_n 3, 1) := dk_45 (dk_at dksJ8_checkFromIndexSize_0 15 rfl rfl)
theorem dJ8_checkFromIndexSize_16 : decode cJ8_checkFromIndexSize 16 = .ok (.iload_n 0, 1) := dk_26 (dk_at dksJ8_checkFromIndexSize_0 16 rfl rfl)
theorem dJ8_checkFromIndexSize_17 : decode cJ8_checkFromIndexSize 17 = .ok (.iload_n 1, 1) := dk_27 (dk_at dksJ8_checkFromIndexSize_0 17 rfl rfl)
theorem dJ8_checkFromIndexSize_18 : decode cJ8_checkFromIndexSize 18 = .ok (.iload_n 2, 1) := dk_28 (dk_at dksJ8_checkFromIndexSize_0 18 rfl rfl)
theorem dJ8_checkFromIndexSize_19 : decode cJ8_checkFromIndexSize 19 = .ok (.invokestatic 103, 3) := dk_184 0 103 (dk_at dksJ8_checkFromIndexSize_0 19 rfl rfl)
theorem dJ8_checkFromIndexSize_22 : decode cJ8_checkFromIndexSize 22 = .ok (.athrow, 1) := dk_191 (dk_at dksJ8_checkFromIndexSize_0 22 rfl rfl)
theorem dJ8_checkFromIndexSize_23 : decode cJ8_checkFromIndexSize 23 = .ok (.iload_n 0, 1) := dk_26 (dk_at dksJ8_checkFromIndexSize_0 23 rfl rfl)
theorem dJ8_checkFromIndexSize_24 : decode cJ8_checkFromIndexSize 24 = .ok (.ireturn, 1) := dk_172 (dk_at dksJ8_checkFromIndexSize_1 0 rfl rfl)
abbrev cJ8_checkIndex : ByteArray := prog_31_method_11_code
def yJ8_checkIndex : MethodName := ⟨RJ8, "checkIndex", "(IILjava/util/function/BiFunction;)I"⟩
def dkwJ8_checkIndex_0 : List UInt8 := [26, 155, 0, 8, 26, 27, 161, 0, 10, 44, 26, 27, 184, 0, 95, 191, 26, 172]
abbrev dktJ8_checkIndex_0 : List UInt8 := dkwJ8_checkIndex_0 ++ []
theorem dksJ8_checkIndex_0 : cJ8_checkIndex.data.toList.drop 0 = dktJ8_checkIndex_0 := by decide +kernel
theorem dJ8_checkIndex_0 : decode cJ8_checkIndex 0 = .ok (.iload_n 0, 1) := dk_26 (dk_at dksJ8_checkIndex_0 0 rfl rfl)
theorem dJ8_checkIndex_1 : decode cJ8_checkIndex 1 = .ok (.ifCond .lt 8, 3) := dk_155 0 8 (dk_at dksJ8_checkIndex_0 1 rfl rfl)
theorem dJ8_checkIndex_4 : decode cJ8_checkIndex 4 = .ok (.iload_n 0, 1) := dk_26 (dk_at dksJ8_checkIndex_0 4 rfl rfl)
theorem dJ8_checkIndex_5 : decode cJ8_checkIndex 5 = .ok (.iload_n 1, 1) := dk_27 (dk_at dksJ8_checkIndex_0 5 rfl rfl)
theorem dJ8_checkIndex_6 : decode cJ8_checkIndex 6 = .ok (.if_icmp .lt 10, 3) := dk_161 0 10 (dk_at dksJ8_checkIndex_0 6 rfl rfl)
theorem dJ8_checkIndex_9 : decode cJ8_checkIndex 9 = .ok (.aload_n 2, 1) := dk_44 (dk_at dksJ8_checkIndex_0 9 rfl rfl)
theorem dJ8_checkIndex_10 : decode cJ8_checkIndex 10 = .ok (.iload_n 0, 1) := dk_26 (dk_at dksJ8_checkIndex_0 10 rfl rfl)
theorem dJ8_checkIndex_11 : decode cJ8_checkIndex 11 = .ok (.iload_n 1, 1) := dk_27 (dk_at dksJ8_checkIndex_0 11 rfl rfl)
theorem dJ8_checkIndex_12 : decode cJ8_checkIndex 12 = .ok (.invokestatic 95, 3) := dk_184 0 95 (dk_at dksJ8_checkIndex_0 12 rfl rfl)
theorem dJ8_checkIndex_15 : decode cJ8_checkIndex 15 = .ok (.athrow, 1) := dk_191 (dk_at dksJ8_checkIndex_0 15 rfl rfl)
theorem dJ8_checkIndex_16 : decode cJ8_checkIndex 16 = .ok (.iload_n 0, 1) := dk_26 (dk_at dksJ8_checkIndex_0 16 rfl rfl)
theorem dJ8_checkIndex_17 : decode cJ8_checkIndex 17 = .ok (.ireturn, 1) := dk_172 (dk_at dksJ8_checkIndex_0 17 rfl rfl)
theorem q75 : (Jvm.Cond.initialized "jdk/internal/util/Preconditions") ∈ lw_all := lw_g (lw_at lw_m1 15 rfl) rfl
theorem q372 : (Jvm.Cond.laysStatic "jdk/internal/util/Preconditions" "SIOOBE_FORMATTER" "Ljava/util/function/BiFunction;") ∈ lw_tbl := lw_at lw_m2 72 rfl
theorem q374 : (Jvm.Cond.static ({ cls := "jdk/internal/util/Preconditions", name := "checkFromIndexSize", desc := "(IIILjava/util/function/BiFunction;)I" } : Jvm.MethodName)) ∈ lw_all := lw_g (lw_at lw_m2 74 rfl) rfl
theorem q375 : (Jvm.Cond.code ({ cls := "jdk/internal/util/Preconditions", name := "checkFromIndexSize", desc := "(IIILjava/util/function/BiFunction;)I" } : Jvm.MethodName) prog_31_method_13_code (4 : Nat) (Option.some Jvm.ClassFile.FieldType.int)) ∈ lw_all := lw_g (lw_at lw_m2 75 rfl) rfl
theorem q395 : (Jvm.Cond.static ({ cls := "jdk/internal/util/Preconditions", name := "checkIndex", desc := "(IILjava/util/function/BiFunction;)I" } : Jvm.MethodName)) ∈ lw_all := lw_g (lw_at lw_m2 95 rfl) rfl
theorem q396 : (Jvm.Cond.code ({ cls := "jdk/internal/util/Preconditions", name := "checkIndex", desc := "(IILjava/util/function/BiFunction;)I" } : Jvm.MethodName) prog_31_method_11_code (3 : Nat) (Option.some Jvm.ClassFile.FieldType.int)) ∈ lw_all := lw_g (lw_at lw_m2 96 rfl) rfl

/-! java/lang/Throwable -/
set_option maxRecDepth 100000
def RJ9 : String := "java/lang/Throwable"
def TJ9 : u_T := fun k => match k with
  | 0 => ("java/lang/Throwable", "cause", "Ljava/lang/Throwable;", false)
  | 1 => ("java/lang/Throwable", "stackTrace", "[Ljava/lang/StackTraceElement;", false)
  | 2 => ("java/lang/Throwable", "suppressedExceptions", "Ljava/util/List;", false)
  | 3 => ("java/lang/Throwable", "detailMessage", "Ljava/lang/String;", false)
  | _ => ("java/lang/Throwable", "backtrace", "Ljava/lang/Object;", false)
def tyJ9 : Nat → FieldType := fun k => match k with
  | 0 => .object "java/lang/Throwable"
  | 1 => .array (.object "java/lang/StackTraceElement")
  | 2 => .object "java/util/List"
  | 3 => .object "java/lang/String"
  | _ => .object "java/lang/Object"
abbrev wsJ90 : List Cond := u_ws RJ9 TJ9 5
theorem nmJ9 : ∀ a, a < 5 → ∀ b, b < 5 → a ≠ b → (TJ9 a).2.1 ≠ (TJ9 b).2.1 := by decide +kernel
theorem tyJ9_ok : ∀ k, k < 5 → parseFieldDescriptor (TJ9 k).2.2.1 = some (tyJ9 k) := by decide +kernel
abbrev cJ9_init : ByteArray := prog_27_method_1_code
def yJ9_init : MethodName := ⟨RJ9, "<init>", "()V"⟩
def dkwJ9_init_1 : List UInt8 := [182, 0, 27, 87, 177]
abbrev dktJ9_init_1 : List UInt8 := dkwJ9_init_1 ++ []
def dkwJ9_init_0 : List UInt8 := [42, 183, 0, 1, 42, 42, 181, 0, 7, 42, 178, 0, 13, 181, 0, 17, 42, 178, 0, 20, 181, 0, 24, 42]
abbrev dktJ9_init_0 : List UInt8 := dkwJ9_init_0 ++ dktJ9_init_1
theorem dksJ9_init_0 : cJ9_init.data.toList.drop 0 = dktJ9_init_0 := by decide +kernel
theorem dksJ9_init_1 : cJ9_init.data.toList.drop 24 = dktJ9_init_1 := dk_seg dksJ9_init_0 24 rfl rfl
theorem dJ9_init_0 : decode cJ9_init 0 = .ok (.aload_n 0, 1) := dk_42 (dk_at dksJ9_init_0 0 rfl rfl)
theorem dJ9_init_1 : decode cJ9_init 1 = .ok (.invokespecial 1, 3) := dk_183 0 1 (dk_at dksJ9_init_0 1 rfl rfl)
theorem dJ9_init_4 : decode cJ9_init 4 = .ok (.aload_n 0, 1) := dk_42 (dk_at dksJ9_init_0 4 rfl rfl)
theorem dJ9_init_5 : decode cJ9_init 5 = .ok (.aload_n 0, 1) := dk_42 (dk_at dksJ9_init_0 5 rfl rfl)
theorem dJ9_init_6 : decode cJ9_init 6 = .ok (.putfield 7, 3) := dk_181 0 7 (dk_at dksJ9_init_0 6 rfl rfl)
theorem dJ9_init_9 : decode cJ9_init 9 = .ok (.aload_n 0, 1) := dk_42 (dk_at dksJ9_init_0 9 rfl rfl)
theorem dJ9_init_10 : decode cJ9_init 10 = .ok (.getstatic 13, 3) := dk_178 0 13 (dk_at dksJ9_init_0 10 rfl rfl)
theorem dJ9_init_13 : decode cJ9_init 13 = .ok (.putfield 17, 3) := dk_181 0 17 (dk_at dksJ9_init_0 13 rfl rfl)
theorem dJ9_init_16 : decode cJ9_init 16 = .ok (.aload_n 0, 1) := dk_42 (dk_at dksJ9_init_0 16 rfl rfl)
theorem dJ9_init_17 : decode cJ9_init 17 = .ok (.getstatic 20, 3) := dk_178 0 20 (dk_at dksJ9_init_0 17 rfl rfl)
theorem dJ9_init_20 : decode cJ9_init 20 = .ok (.putfield 24, 3) := dk_181 0 24 (dk_at dksJ9_init_0 20 rfl rfl)
theorem dJ9_init_23 : decode cJ9_init 23 = .ok (.aload_n 0, 1) := dk_42 (dk_at dksJ9_init_0 23 rfl rfl)
theorem dJ9_init_24 : decode cJ9_init 24 = .ok (.invokevirtual 27, 3) := dk_182 0 27 (dk_at dksJ9_init_1 0 rfl rfl)
theorem dJ9_init_27 : decode cJ9_init 27 = .ok (.pop, 1) := dk_87 (dk_at dksJ9_init_1 3 rfl rfl)
theorem dJ9_init_28 : decode cJ9_init 28 = .ok (.return_, 1) := dk_177 (dk_at dksJ9_init_1 4 rfl rfl)
abbrev cJ9_init_2 : ByteArray := prog_27_method_5_code
def yJ9_init_2 : MethodName := ⟨RJ9, "<init>", "(Ljava/lang/String;Ljava/lang/Throwable;ZZ)V"⟩
def dkwJ9_init_2_2 : List UInt8 := [44, 181, 0, 7, 29, 154, 0, 8, 42, 1, 181, 0, 24, 177]
abbrev dktJ9_init_2_2 : List UInt8 := dkwJ9_init_2_2 ++ []
def dkwJ9_init_2_1 : List UInt8 := [21, 4, 153, 0, 11, 42, 182, 0, 27, 87, 167, 0, 8, 42, 1, 181, 0, 17, 42, 43, 181, 0, 31, 42]
abbrev dktJ9_init_2_1 : List UInt8 := dkwJ9_init_2_1 ++ dktJ9_init_2_2
def dkwJ9_init_2_0 : List UInt8 := [42, 183, 0, 1, 42, 42, 181, 0, 7, 42, 178, 0, 13, 181, 0, 17, 42, 178, 0, 20, 181, 0, 24]
abbrev dktJ9_init_2_0 : List UInt8 := dkwJ9_init_2_0 ++ dktJ9_init_2_1
theorem dksJ9_init_2_0 : cJ9_init_2.data.toList.drop 0 = dktJ9_init_2_0 := by decide +kernel
theorem dksJ9_init_2_1 : cJ9_init_2.data.toList.drop 23 = dktJ9_init_2_1 := dk_seg dksJ9_init_2_0 23 rfl rfl
theorem dksJ9_init_2_2 : cJ9_init_2.data.toList.drop 47 = dktJ9_init_2_2 := dk_seg dksJ9_init_2_1 24 rfl rfl
theorem dJ9_init_2_0 : decode cJ9_init_2 0 = .ok (.aload_n 0, 1) := dk_42 (dk_at dksJ9_init_2_0 0 rfl rfl)
theorem dJ9_init_2_1 : decode cJ9_init_2 1 = .ok (.invokespecial 1, 3) := dk_183 0 1 (dk_at dksJ9_init_2_0 1 rfl rfl)
theorem dJ9_init_2_4 : decode cJ9_init_2 4 = .ok (.aload_n 0, 1) := dk_42 (dk_at dksJ9_init_2_0 4 rfl rfl)
theorem dJ9_init_2_5 : decode cJ9_init_2 5 = .ok (.aload_n 0, 1) := dk_42 (dk_at dksJ9_init_2_0 5 rfl rfl)
theorem dJ9_init_2_6 : decode cJ9_init_2 6 = .ok (.putfield 7, 3) := dk_181 0 7 (dk_at dksJ9_init_2_0 6 rfl rfl)
theorem dJ9_init_2_9 : decode cJ9_init_2 9 = .ok (.aload_n 0, 1) := dk_42 (dk_at dksJ9_init_2_0 9 rfl rfl)
theorem dJ9_init_2_10 : decode cJ9_init_2 10 = .ok (.getstatic 13, 3) := dk_178 0 13 (dk_at dksJ9_init_2_0 10 rfl rfl)
theorem dJ9_init_2_13 : decode cJ9_init_2 13 = .ok (.putfield 17, 3) := dk_181 0 17 (dk_at dksJ9_init_2_0 13 rfl rfl)
theorem dJ9_init_2_16 : decode cJ9_init_2 16 = .ok (.aload_n 0, 1) := dk_42 (dk_at dksJ9_init_2_0 16 rfl rfl)
theorem dJ9_init_2_17 : decode cJ9_init_2 17 = .ok (.getstatic 20, 3) := dk_178 0 20 (dk_at dksJ9_init_2_0 17 rfl rfl)
theorem dJ9_init_2_20 : decode cJ9_init_2 20 = .ok (.putfield 24, 3) := dk_181 0 24 (dk_at dksJ9_init_2_0 20 rfl rfl)
theorem dJ9_init_2_23 : decode cJ9_init_2 23 = .ok (.iload 4, 2) := dk_21 4 (dk_at dksJ9_init_2_1 0 rfl rfl)
theorem dJ9_init_2_25 : decode cJ9_init_2 25 = .ok (.ifCond .eq 11, 3) := dk_153 0 11 (dk_at dksJ9_init_2_1 2 rfl rfl)
theorem dJ9_init_2_28 : decode cJ9_init_2 28 = .ok (.aload_n 0, 1) := dk_42 (dk_at dksJ9_init_2_1 5 rfl rfl)
theorem dJ9_init_2_29 : decode cJ9_init_2 29 = .ok (.invokevirtual 27, 3) := dk_182 0 27 (dk_at dksJ9_init_2_1 6 rfl rfl)
theorem dJ9_init_2_32 : decode cJ9_init_2 32 = .ok (.pop, 1) := dk_87 (dk_at dksJ9_init_2_1 9 rfl rfl)
theorem dJ9_init_2_33 : decode cJ9_init_2 33 = .ok (.goto 8, 3) := dk_167 0 8 (dk_at dksJ9_init_2_1 10 rfl rfl)
theorem dJ9_init_2_36 : decode cJ9_init_2 36 = .ok (.aload_n 0, 1) := dk_42 (dk_at dksJ9_init_2_1 13 rfl rfl)
theorem dJ9_init_2_37 : decode cJ9_init_2 37 = .ok (.aconst_null, 1) := dk_1 (dk_at dksJ9_init_2_1 14 rfl rfl)
theorem dJ9_init_2_38 : decode cJ9_init_2 38 = .ok (.putfield 17, 3) := dk_181 0 17 (dk_at dksJ9_init_2_1 15 rfl rfl)
theorem dJ9_init_2_41 : decode cJ9_init_2 41 = .ok (.aload_n 0, 1) := dk_42 (dk_at dksJ9_init_2_1 18 rfl rfl)
theorem dJ9_init_2_42 : decode cJ9_init_2 42 = .ok (.aload_n 1, 1) := dk_43 (dk_at dksJ9_init_2_1 19 rfl rfl)
theorem dJ9_init_2_43 : decode cJ9_init_2 43 = .ok (.putfield 31, 3) := dk_181 0 31 (dk_at dksJ9_init_2_1 20 rfl rfl)
theorem dJ9_init_2_46 : decode cJ9_init_2 46 = .ok (.aload_n 0, 1) := dk_42 (dk_at dksJ9_init_2_1 23 rfl rfl)
theorem dJ9_init_2_47 : decode cJ9_init_2 47 = .ok (.aload_n 2, 1) := dk_44 (dk_at dksJ9_init_2_2 0 rfl rfl)
theorem dJ9_init_2_48 : decode cJ9_init_2 48 = .ok (.putfield 7, 3) := dk_181 0 7 (dk_at dksJ9_init_2_2 1 rfl rfl)
theorem dJ9_init_2_51 : decode cJ9_init_2 51 = .ok (.iload_n 3, 1) := dk_29 (dk_at dksJ9_init_2_2 4 rfl rfl)
theorem dJ9_init_2_52 : decode cJ9_init_2 52 = .ok (.ifCond .ne 8, 3) := dk_154 0 8 (dk_at dksJ9_init_2_2 5 rfl rfl)
theorem dJ9_init_2_55 : decode cJ9_init_2 55 = .ok (.aload_n 0, 1) := dk_42 (dk_at dksJ9_init_2_2 8 rfl rfl)
theorem dJ9_init_2_56 : decode cJ9_init_2 56 = .ok (.aconst_null, 1) := dk_1 (dk_at dksJ9_init_2_2 9 rfl rfl)
theorem dJ9_init_2_57 : decode cJ9_init_2 57 = .ok (.putfield 24, 3) := dk_181 0 24 (dk_at dksJ9_init_2_2 10 rfl rfl)
theorem dJ9_init_2_60 : decode cJ9_init_2 60 = .ok (.return_, 1) := dk_177 (dk_at dksJ9_init_2_2 13 rfl rfl)
theorem q76 : (Jvm.Cond.initialized "java/lang/Throwable") ∈ lw_all := lw_g (lw_at lw_m1 16 rfl) rfl
theorem q477 : (Jvm.Cond.declares ({ cls := "java/lang/Throwable", name := "<init>", desc := "()V" } : Jvm.MethodName)) ∈ lw_tbl := lw_at lw_m2 177 rfl
theorem q478 : (Jvm.Cond.declares ({ cls := "java/lang/Throwable", name := "<init>", desc := "(Ljava/lang/String;)V" } : Jvm.MethodName)) ∈ lw_tbl := lw_at lw_m2 178 rfl
theorem q482 : (Jvm.Cond.lays "java/lang/Throwable" "java/lang/Throwable" "cause" "Ljava/lang/Throwable;") ∈ lw_all := lw_g (lw_at lw_m2 182 rfl) rfl
theorem q484 : (Jvm.Cond.lays "java/lang/Throwable" "java/lang/Throwable" "stackTrace" "[Ljava/lang/StackTraceElement;") ∈ lw_all := lw_g (lw_at lw_m2 184 rfl) rfl
theorem q486 : (Jvm.Cond.lays "java/lang/Throwable" "java/lang/Throwable" "suppressedExceptions" "Ljava/util/List;") ∈ lw_all := lw_g (lw_at lw_m2 186 rfl) rfl
theorem q488 : (Jvm.Cond.lays "java/lang/Throwable" "java/lang/Throwable" "detailMessage" "Ljava/lang/String;") ∈ lw_all := lw_g (lw_at lw_m2 188 rfl) rfl
theorem q490 : (Jvm.Cond.lays "java/lang/Throwable" "java/lang/Throwable" "backtrace" "Ljava/lang/Object;") ∈ lw_all := lw_g (lw_at lw_m2 190 rfl) rfl
theorem q491 : (Jvm.Cond.fieldLink "java/lang/Throwable" (198 : Nat) "java/lang/Throwable" "backtrace" "Ljava/lang/Object;") ∈ lw_all := lw_g (lw_at lw_m2 191 rfl) rfl
theorem q492 : (Jvm.Cond.superclass "java/lang/Throwable" "java/lang/Object") ∈ lw_all := lw_g (lw_at lw_m2 192 rfl) rfl
theorem q493 : (Jvm.Cond.instanceMethod ({ cls := "java/lang/Throwable", name := "<init>", desc := "()V" } : Jvm.MethodName)) ∈ lw_all := lw_g (lw_at lw_m2 193 rfl) rfl
theorem q494 : (Jvm.Cond.code ({ cls := "java/lang/Throwable", name := "<init>", desc := "()V" } : Jvm.MethodName) prog_27_method_1_code (1 : Nat) (Option.none : Option Jvm.ClassFile.FieldType)) ∈ lw_all := lw_g (lw_at lw_m2 194 rfl) rfl
theorem q495 : (Jvm.Cond.methodLink "java/lang/Throwable" (1 : Nat) ({ cls := "java/lang/Object", name := "<init>", desc := "()V" } : Jvm.MethodName)) ∈ lw_all := lw_g (lw_at lw_m2 195 rfl) rfl
theorem q496 : (Jvm.Cond.fieldLink "java/lang/Throwable" (13 : Nat) "java/lang/Throwable" "UNASSIGNED_STACK" "[Ljava/lang/StackTraceElement;") ∈ lw_all := lw_g (lw_at lw_m2 196 rfl) rfl
theorem q497 : (Jvm.Cond.laysStatic "java/lang/Throwable" "UNASSIGNED_STACK" "[Ljava/lang/StackTraceElement;") ∈ lw_tbl := lw_at lw_m2 197 rfl
theorem q498 : (Jvm.Cond.fieldLink "java/lang/Throwable" (20 : Nat) "java/lang/Throwable" "SUPPRESSED_SENTINEL" "Ljava/util/List;") ∈ lw_all := lw_g (lw_at lw_m2 198 rfl) rfl
theorem q499 : (Jvm.Cond.laysStatic "java/lang/Throwable" "SUPPRESSED_SENTINEL" "Ljava/util/List;") ∈ lw_tbl := lw_at lw_m2 199 rfl
theorem q500 : (Jvm.Cond.methodLink "java/lang/Throwable" (27 : Nat) ({ cls := "java/lang/Throwable", name := "fillInStackTrace", desc := "()Ljava/lang/Throwable;" } : Jvm.MethodName)) ∈ lw_all := lw_g (lw_at lw_m2 200 rfl) rfl
theorem q501 : (Jvm.Cond.instanceMethod ({ cls := "java/lang/Throwable", name := "fillInStackTrace", desc := "()Ljava/lang/Throwable;" } : Jvm.MethodName)) ∈ lw_all := lw_g (lw_at lw_m2 201 rfl) rfl
theorem q502 : (Jvm.Cond.sameMethod "java/lang/Throwable" "java/lang/Throwable" "fillInStackTrace" "()Ljava/lang/Throwable;") ∈ lw_all := lw_g (lw_at lw_m2 202 rfl) rfl
theorem q503 : (Jvm.Cond.codeSync ({ cls := "java/lang/Throwable", name := "fillInStackTrace", desc := "()Ljava/lang/Throwable;" } : Jvm.MethodName) prog_27_method_18_code (1 : Nat) (Option.some (Jvm.ClassFile.FieldType.object "java/lang/Throwable"))) ∈ lw_all := lw_g (lw_at lw_m2 203 rfl) rfl
theorem q504 : (Jvm.Cond.methodLink "java/lang/Throwable" (202 : Nat) ({ cls := "java/lang/Throwable", name := "fillInStackTrace", desc := "(I)Ljava/lang/Throwable;" } : Jvm.MethodName)) ∈ lw_all := lw_g (lw_at lw_m2 204 rfl) rfl
theorem q505 : (Jvm.Cond.privateMethod ({ cls := "java/lang/Throwable", name := "fillInStackTrace", desc := "(I)Ljava/lang/Throwable;" } : Jvm.MethodName)) ∈ lw_tbl := lw_at lw_m2 205 rfl
theorem q506 : (Jvm.Cond.instanceMethod ({ cls := "java/lang/Throwable", name := "fillInStackTrace", desc := "(I)Ljava/lang/Throwable;" } : Jvm.MethodName)) ∈ lw_all := lw_g (lw_at lw_m2 206 rfl) rfl
theorem q507 : (Jvm.Cond.instantiable "java/lang/Throwable" (6 : Nat)) ∈ lw_all := lw_g (lw_at lw_m2 207 rfl) rfl
theorem q508 : (Jvm.Cond.native ({ cls := "java/lang/Throwable", name := "fillInStackTrace", desc := "(I)Ljava/lang/Throwable;" } : Jvm.MethodName)) ∈ lw_all := lw_g (lw_at lw_m2 208 rfl) rfl
theorem q516 : (Jvm.Cond.instanceMethod ({ cls := "java/lang/Throwable", name := "<init>", desc := "(Ljava/lang/String;Ljava/lang/Throwable;ZZ)V" } : Jvm.MethodName)) ∈ lw_all := lw_g (lw_at lw_m2 216 rfl) rfl
theorem q517 : (Jvm.Cond.code ({ cls := "java/lang/Throwable", name := "<init>", desc := "(Ljava/lang/String;Ljava/lang/Throwable;ZZ)V" } : Jvm.MethodName) prog_27_method_5_code (5 : Nat) (Option.none : Option Jvm.ClassFile.FieldType)) ∈ lw_all := lw_g (lw_at lw_m2 217 rfl) rfl
theorem q522 : (Jvm.Cond.fieldLink "java/lang/Throwable" (198 : Nat) "java/lang/Throwable" "backtrace" "Ljava/lang/Object;") ∈ lw_all := lw_g (lw_at lw_m2 222 rfl) rfl
theorem q523 : (Jvm.Cond.fieldLink "java/lang/Throwable" (31 : Nat) "java/lang/Throwable" "detailMessage" "Ljava/lang/String;") ∈ lw_all := lw_g (lw_at lw_m2 223 rfl) rfl
theorem q524 : (Jvm.Cond.fieldLink "java/lang/Throwable" (7 : Nat) "java/lang/Throwable" "cause" "Ljava/lang/Throwable;") ∈ lw_all := lw_g (lw_at lw_m2 224 rfl) rfl
theorem q525 : (Jvm.Cond.fieldLink "java/lang/Throwable" (17 : Nat) "java/lang/Throwable" "stackTrace" "[Ljava/lang/StackTraceElement;") ∈ lw_all := lw_g (lw_at lw_m2 225 rfl) rfl
theorem q526 : (Jvm.Cond.fieldLink "java/lang/Throwable" (24 : Nat) "java/lang/Throwable" "suppressedExceptions" "Ljava/util/List;") ∈ lw_all := lw_g (lw_at lw_m2 226 rfl) rfl
theorem q531 : (Jvm.Cond.soleField "java/lang/Throwable" "backtrace") ∈ lw_all := lw_g (lw_at lw_m2 231 rfl) rfl
theorem q532 : (Jvm.Cond.soleField "java/lang/Throwable" "detailMessage") ∈ lw_all := lw_g (lw_at lw_m2 232 rfl) rfl
theorem q533 : (Jvm.Cond.soleField "java/lang/Throwable" "cause") ∈ lw_all := lw_g (lw_at lw_m2 233 rfl) rfl
theorem q534 : (Jvm.Cond.soleField "java/lang/Throwable" "stackTrace") ∈ lw_all := lw_g (lw_at lw_m2 234 rfl) rfl
theorem q536 : (Jvm.Cond.soleField "java/lang/Throwable" "depth") ∈ lw_all := lw_g (lw_at lw_m2 236 rfl) rfl
theorem q537 : (Jvm.Cond.soleField "java/lang/Throwable" "suppressedExceptions") ∈ lw_all := lw_g (lw_at lw_m2 237 rfl) rfl
theorem q1509 : (Jvm.Cond.sameMethod "java/lang/Throwable" "java/lang/Throwable" "fillInStackTrace" "(I)Ljava/lang/Throwable;") ∈ lw_all := lw_g (lw_at lw_m7 9 rfl) rfl
theorem in_J9 : ∀ w ∈ wsJ90, w ∈ lw_all := lw_in wsJ90 [482, 484, 486, 488, 490] (by decide +kernel) (by decide +kernel)

/-! java/lang/Exception -/
set_option maxRecDepth 100000
def RJ10 : String := "java/lang/Exception"
abbrev cJ10_init : ByteArray := prog_18_method_5_code
def yJ10_init : MethodName := ⟨RJ10, "<init>", "(Ljava/lang/String;Ljava/lang/Throwable;ZZ)V"⟩
def dkwJ10_init_0 : List UInt8 := [42, 43, 44, 29, 21, 4, 183, 0, 16, 177]
abbrev dktJ10_init_0 : List UInt8 := dkwJ10_init_0 ++ []
theorem dksJ10_init_0 : cJ10_init.data.toList.drop 0 = dktJ10_init_0 := by decide +kernel
theorem dJ10_init_0 : decode cJ10_init 0 = .ok (.aload_n 0, 1) := dk_42 (dk_at dksJ10_init_0 0 rfl rfl)
theorem dJ10_init_1 : decode cJ10_init 1 = .ok (.aload_n 1, 1) := dk_43 (dk_at dksJ10_init_0 1 rfl rfl)
theorem dJ10_init_2 : decode cJ10_init 2 = .ok (.aload_n 2, 1) := dk_44 (dk_at dksJ10_init_0 2 rfl rfl)
theorem dJ10_init_3 : decode cJ10_init 3 = .ok (.iload_n 3, 1) := dk_29 (dk_at dksJ10_init_0 3 rfl rfl)
theorem dJ10_init_4 : decode cJ10_init 4 = .ok (.iload 4, 2) := dk_21 4 (dk_at dksJ10_init_0 4 rfl rfl)
theorem dJ10_init_6 : decode cJ10_init 6 = .ok (.invokespecial 16, 3) := dk_183 0 16 (dk_at dksJ10_init_0 6 rfl rfl)
theorem dJ10_init_9 : decode cJ10_init 9 = .ok (.return_, 1) := dk_177 (dk_at dksJ10_init_0 9 rfl rfl)
theorem q77 : (Jvm.Cond.initialized "java/lang/Exception") ∈ lw_all := lw_g (lw_at lw_m1 17 rfl) rfl
theorem q475 : (Jvm.Cond.declares ({ cls := "java/lang/Exception", name := "<init>", desc := "()V" } : Jvm.MethodName)) ∈ lw_tbl := lw_at lw_m2 175 rfl
theorem q476 : (Jvm.Cond.declares ({ cls := "java/lang/Exception", name := "<init>", desc := "(Ljava/lang/String;)V" } : Jvm.MethodName)) ∈ lw_tbl := lw_at lw_m2 176 rfl
theorem q513 : (Jvm.Cond.instanceMethod ({ cls := "java/lang/Exception", name := "<init>", desc := "(Ljava/lang/String;Ljava/lang/Throwable;ZZ)V" } : Jvm.MethodName)) ∈ lw_all := lw_g (lw_at lw_m2 213 rfl) rfl
theorem q514 : (Jvm.Cond.code ({ cls := "java/lang/Exception", name := "<init>", desc := "(Ljava/lang/String;Ljava/lang/Throwable;ZZ)V" } : Jvm.MethodName) prog_18_method_5_code (5 : Nat) (Option.none : Option Jvm.ClassFile.FieldType)) ∈ lw_all := lw_g (lw_at lw_m2 214 rfl) rfl
theorem q515 : (Jvm.Cond.methodLink "java/lang/Exception" (16 : Nat) ({ cls := "java/lang/Throwable", name := "<init>", desc := "(Ljava/lang/String;Ljava/lang/Throwable;ZZ)V" } : Jvm.MethodName)) ∈ lw_all := lw_g (lw_at lw_m2 215 rfl) rfl

/-! java/lang/Integer -/
set_option maxRecDepth 100000
def RJ11 : String := "java/lang/Integer"
abbrev cJ11_bitCount : ByteArray := prog_19_method_49_code
def yJ11_bitCount : MethodName := ⟨RJ11, "bitCount", "(I)I"⟩
def dkwJ11_bitCount_2 : List UInt8 := [26, 16, 63, 126, 172]
abbrev dktJ11_bitCount_2 : List UInt8 := dkwJ11_bitCount_2 ++ []
def dkwJ11_bitCount_1 : List UInt8 := [26, 26, 7, 124, 96, 19, 1, 11, 126, 59, 26, 26, 16, 8, 124, 96, 59, 26, 26, 16, 16, 124, 96, 59]
abbrev dktJ11_bitCount_1 : List UInt8 := dkwJ11_bitCount_1 ++ dktJ11_bitCount_2
def dkwJ11_bitCount_0 : List UInt8 := [26, 26, 4, 124, 19, 1, 9, 126, 100, 59, 26, 19, 1, 10, 126, 26, 5, 124, 19, 1, 10, 126, 96, 59]
abbrev dktJ11_bitCount_0 : List UInt8 := dkwJ11_bitCount_0 ++ dktJ11_bitCount_1
theorem dksJ11_bitCount_0 : cJ11_bitCount.data.toList.drop 0 = dktJ11_bitCount_0 := by decide +kernel
theorem dksJ11_bitCount_1 : cJ11_bitCount.data.toList.drop 24 = dktJ11_bitCount_1 := dk_seg dksJ11_bitCount_0 24 rfl rfl
theorem dksJ11_bitCount_2 : cJ11_bitCount.data.toList.drop 48 = dktJ11_bitCount_2 := dk_seg dksJ11_bitCount_1 24 rfl rfl
theorem dJ11_bitCount_0 : decode cJ11_bitCount 0 = .ok (.iload_n 0, 1) := dk_26 (dk_at dksJ11_bitCount_0 0 rfl rfl)
theorem dJ11_bitCount_1 : decode cJ11_bitCount 1 = .ok (.iload_n 0, 1) := dk_26 (dk_at dksJ11_bitCount_0 1 rfl rfl)
theorem dJ11_bitCount_2 : decode cJ11_bitCount 2 = .ok (.iconst 1, 1) := dk_4 (dk_at dksJ11_bitCount_0 2 rfl rfl)
theorem dJ11_bitCount_3 : decode cJ11_bitCount 3 = .ok (.iushr, 1) := dk_124 (dk_at dksJ11_bitCount_0 3 rfl rfl)
theorem dJ11_bitCount_4 : decode cJ11_bitCount 4 = .ok (.ldc_w 265, 3) := dk_19 1 9 (dk_at dksJ11_bitCount_0 4 rfl rfl)
theorem dJ11_bitCount_7 : decode cJ11_bitCount 7 = .ok (.iand, 1) := dk_126 (dk_at dksJ11_bitCount_0 7 rfl rfl)
theorem dJ11_bitCount_8 : decode cJ11_bitCount 8 = .ok (.isub, 1) := dk_100 (dk_at dksJ11_bitCount_0 8 rfl rfl)
theorem dJ11_bitCount_9 : decode cJ11_bitCount 9 = .ok (.istore_n 0, 1) := dk_59 (dk_at dksJ11_bitCount_0 9 rfl rfl)
theorem dJ11_bitCount_10 : decode cJ11_bitCount 10 = .ok (.iload_n 0, 1) := dk_26 (dk_at dksJ11_bitCount_0 10 rfl rfl)
theorem dJ11_bitCount_11 : decode cJ11_bitCount 11 = .ok (.ldc_w 266, 3) := dk_19 1 10 (dk_at dksJ11_bitCount_0 11 rfl rfl)
theorem dJ11_bitCount_14 : decode cJ11_bitCount 14 = .ok (.iand, 1) := dk_126 (dk_at dksJ11_bitCount_0 14 rfl rfl)
theorem dJ11_bitCount_15 : decode cJ11_bitCount 15 = .ok (.iload_n 0, 1) := dk_26 (dk_at dksJ11_bitCount_0 15 rfl rfl)
theorem dJ11_bitCount_16 : decode cJ11_bitCount 16 = .ok (.iconst 2, 1) := dk_5 (dk_at dksJ11_bitCount_0 16 rfl rfl)
theorem dJ11_bitCount_17 : decode cJ11_bitCount 17 = .ok (.iushr, 1) := dk_124 (dk_at dksJ11_bitCount_0 17 rfl rfl)
theorem dJ11_bitCount_18 : decode cJ11_bitCount 18 = .ok (.ldc_w 266, 3) := dk_19 1 10 (dk_at dksJ11_bitCount_0 18 rfl rfl)
theorem dJ11_bitCount_21 : decode cJ11_bitCount 21 = .ok (.iand, 1) := dk_126 (dk_at dksJ11_bitCount_0 21 rfl rfl)
theorem dJ11_bitCount_22 : decode cJ11_bitCount 22 = .ok (.iadd, 1) := dk_96 (dk_at dksJ11_bitCount_0 22 rfl rfl)
theorem dJ11_bitCount_23 : decode cJ11_bitCount 23 = .ok (.istore_n 0, 1) := dk_59 (dk_at dksJ11_bitCount_0 23 rfl rfl)
theorem dJ11_bitCount_24 : decode cJ11_bitCount 24 = .ok (.iload_n 0, 1) := dk_26 (dk_at dksJ11_bitCount_1 0 rfl rfl)
theorem dJ11_bitCount_25 : decode cJ11_bitCount 25 = .ok (.iload_n 0, 1) := dk_26 (dk_at dksJ11_bitCount_1 1 rfl rfl)
theorem dJ11_bitCount_26 : decode cJ11_bitCount 26 = .ok (.iconst 4, 1) := dk_7 (dk_at dksJ11_bitCount_1 2 rfl rfl)
theorem dJ11_bitCount_27 : decode cJ11_bitCount 27 = .ok (.iushr, 1) := dk_124 (dk_at dksJ11_bitCount_1 3 rfl rfl)
theorem dJ11_bitCount_28 : decode cJ11_bitCount 28 = .ok (.iadd, 1) := dk_96 (dk_at dksJ11_bitCount_1 4 rfl rfl)
theorem dJ11_bitCount_29 : decode cJ11_bitCount 29 = .ok (.ldc_w 267, 3) := dk_19 1 11 (dk_at dksJ11_bitCount_1 5 rfl rfl)
theorem dJ11_bitCount_32 : decode cJ11_bitCount 32 = .ok (.iand, 1) := dk_126 (dk_at dksJ11_bitCount_1 8 rfl rfl)
theorem dJ11_bitCount_33 : decode cJ11_bitCount 33 = .ok (.istore_n 0, 1) := dk_59 (dk_at dksJ11_bitCount_1 9 rfl rfl)
theorem dJ11_bitCount_34 : decode cJ11_bitCount 34 = .ok (.iload_n 0, 1) := dk_26 (dk_at dksJ11_bitCount_1 10 rfl rfl)
theorem dJ11_bitCount_35 : decode cJ11_bitCount 35 = .ok (.iload_n 0, 1) := dk_26 (dk_at dksJ11_bitCount_1 11 rfl rfl)
theorem dJ11_bitCount_36 : decode cJ11_bitCount 36 = .ok (.bipush 8, 2) := dk_16 8 (dk_at dksJ11_bitCount_1 12 rfl rfl)
theorem dJ11_bitCount_38 : decode cJ11_bitCount 38 = .ok (.iushr, 1) := dk_124 (dk_at dksJ11_bitCount_1 14 rfl rfl)
theorem dJ11_bitCount_39 : decode cJ11_bitCount 39 = .ok (.iadd, 1) := dk_96 (dk_at dksJ11_bitCount_1 15 rfl rfl)
theorem dJ11_bitCount_40 : decode cJ11_bitCount 40 = .ok (.istore_n 0, 1) := dk_59 (dk_at dksJ11_bitCount_1 16 rfl rfl)
theorem dJ11_bitCount_41 : decode cJ11_bitCount 41 = .ok (.iload_n 0, 1) := dk_26 (dk_at dksJ11_bitCount_1 17 rfl rfl)
theorem dJ11_bitCount_42 : decode cJ11_bitCount 42 = .ok (.iload_n 0, 1) := dk_26 (dk_at dksJ11_bitCount_1 18 rfl rfl)
theorem dJ11_bitCount_43 : decode cJ11_bitCount 43 = .ok (.bipush 16, 2) := dk_16 16 (dk_at dksJ11_bitCount_1 19 rfl rfl)
theorem dJ11_bitCount_45 : decode cJ11_bitCount 45 = .ok (.iushr, 1) := dk_124 (dk_at dksJ11_bitCount_1 21 rfl rfl)
theorem dJ11_bitCount_46 : decode cJ11_bitCount 46 = .ok (.iadd, 1) := dk_96 (dk_at dksJ11_bitCount_1 22 rfl rfl)
theorem dJ11_bitCount_47 : decode cJ11_bitCount 47 = .ok (.istore_n 0, 1) := dk_59 (dk_at dksJ11_bitCount_1 23 rfl rfl)
theorem dJ11_bitCount_48 : decode cJ11_bitCount 48 = .ok (.iload_n 0, 1) := dk_26 (dk_at dksJ11_bitCount_2 0 rfl rfl)
theorem dJ11_bitCount_49 : decode cJ11_bitCount 49 = .ok (.bipush 63, 2) := dk_16 63 (dk_at dksJ11_bitCount_2 1 rfl rfl)
theorem dJ11_bitCount_51 : decode cJ11_bitCount 51 = .ok (.iand, 1) := dk_126 (dk_at dksJ11_bitCount_2 3 rfl rfl)
theorem dJ11_bitCount_52 : decode cJ11_bitCount 52 = .ok (.ireturn, 1) := dk_172 (dk_at dksJ11_bitCount_2 4 rfl rfl)
theorem q87 : (Jvm.Cond.initialized "java/lang/Integer") ∈ lw_all := lw_g (lw_at lw_m1 27 rfl) rfl
theorem q1030 : (Jvm.Cond.static ({ cls := "java/lang/Integer", name := "bitCount", desc := "(I)I" } : Jvm.MethodName)) ∈ lw_all := lw_g (lw_at lw_m5 10 rfl) rfl
theorem q1031 : (Jvm.Cond.code ({ cls := "java/lang/Integer", name := "bitCount", desc := "(I)I" } : Jvm.MethodName) prog_19_method_49_code (1 : Nat) (Option.some Jvm.ClassFile.FieldType.int)) ∈ lw_all := lw_g (lw_at lw_m5 11 rfl) rfl
theorem q1032 : (Jvm.Cond.constant "java/lang/Integer" (265 : Nat) (1431655765 : Int32)) ∈ lw_all := lw_g (lw_at lw_m5 12 rfl) rfl
theorem q1033 : (Jvm.Cond.constant "java/lang/Integer" (266 : Nat) (858993459 : Int32)) ∈ lw_all := lw_g (lw_at lw_m5 13 rfl) rfl
theorem q1034 : (Jvm.Cond.constant "java/lang/Integer" (267 : Nat) (252645135 : Int32)) ∈ lw_all := lw_g (lw_at lw_m5 14 rfl) rfl

/-! java/lang/Object -/
set_option maxRecDepth 100000
def RJ12 : String := "java/lang/Object"
abbrev cJ12_init : ByteArray := object_method_1_code
def yJ12_init : MethodName := ⟨RJ12, "<init>", "()V"⟩
theorem dJ12_init_0 : decode cJ12_init 0 = .ok (.return_, 1) := by decide +kernel
theorem q94 : (Jvm.Cond.instanceMethod ({ cls := "java/lang/Object", name := "<init>", desc := "()V" } : Jvm.MethodName)) ∈ lw_all := lw_g (lw_at lw_m1 34 rfl) rfl
theorem q95 : (Jvm.Cond.code ({ cls := "java/lang/Object", name := "<init>", desc := "()V" } : Jvm.MethodName) object_method_1_code (1 : Nat) (Option.none : Option Jvm.ClassFile.FieldType)) ∈ lw_all := lw_g (lw_at lw_m1 35 rfl) rfl
theorem q333 : (Jvm.Cond.native ({ cls := "java/lang/Object", name := "clone", desc := "()Ljava/lang/Object;" } : Jvm.MethodName)) ∈ lw_all := lw_g (lw_at lw_m2 33 rfl) rfl
theorem q334 : (Jvm.Cond.instanceMethod ({ cls := "java/lang/Object", name := "clone", desc := "()Ljava/lang/Object;" } : Jvm.MethodName)) ∈ lw_all := lw_g (lw_at lw_m2 34 rfl) rfl

/-! java/lang/System$2 -/
set_option maxRecDepth 100000
def RJ13 : String := "java/lang/System$2"
abbrev cJ13_getUTF16Char : ByteArray := prog_26_method_45_code
def yJ13_getUTF16Char : MethodName := ⟨RJ13, "getUTF16Char", "([BI)C"⟩
def dkwJ13_getUTF16Char_0 : List UInt8 := [43, 28, 184, 0, 185, 172]
abbrev dktJ13_getUTF16Char_0 : List UInt8 := dkwJ13_getUTF16Char_0 ++ []
theorem dksJ13_getUTF16Char_0 : cJ13_getUTF16Char.data.toList.drop 0 = dktJ13_getUTF16Char_0 := by decide +kernel
theorem dJ13_getUTF16Char_0 : decode cJ13_getUTF16Char 0 = .ok (.aload_n 1, 1) := dk_43 (dk_at dksJ13_getUTF16Char_0 0 rfl rfl)
theorem dJ13_getUTF16Char_1 : decode cJ13_getUTF16Char 1 = .ok (.iload_n 2, 1) := dk_28 (dk_at dksJ13_getUTF16Char_0 1 rfl rfl)
theorem dJ13_getUTF16Char_2 : decode cJ13_getUTF16Char 2 = .ok (.invokestatic 185, 3) := dk_184 0 185 (dk_at dksJ13_getUTF16Char_0 2 rfl rfl)
theorem dJ13_getUTF16Char_5 : decode cJ13_getUTF16Char 5 = .ok (.ireturn, 1) := dk_172 (dk_at dksJ13_getUTF16Char_0 5 rfl rfl)
theorem q617 : (Jvm.Cond.castable "java/lang/System$2" "jdk/internal/access/JavaLangAccess") ∈ lw_tbl := lw_at lw_m3 77 rfl
theorem q618 : (Jvm.Cond.selects "java/lang/System$2" ({ cls := "jdk/internal/access/JavaLangAccess", name := "getUTF16Char", desc := "([BI)C" } : Jvm.MethodName) ({ cls := "java/lang/System$2", name := "getUTF16Char", desc := "([BI)C" } : Jvm.MethodName)) ∈ lw_all := lw_g (lw_at lw_m3 78 rfl) rfl
theorem q619 : (Jvm.Cond.unhidden "java/lang/System$2" "getUTF16Char" "([BI)C") ∈ lw_tbl := lw_at lw_m3 79 rfl
theorem q620 : (Jvm.Cond.instanceMethod ({ cls := "java/lang/System$2", name := "getUTF16Char", desc := "([BI)C" } : Jvm.MethodName)) ∈ lw_all := lw_g (lw_at lw_m3 80 rfl) rfl
theorem q621 : (Jvm.Cond.publicMethod ({ cls := "java/lang/System$2", name := "getUTF16Char", desc := "([BI)C" } : Jvm.MethodName)) ∈ lw_tbl := lw_at lw_m3 81 rfl
theorem q622 : (Jvm.Cond.code ({ cls := "java/lang/System$2", name := "getUTF16Char", desc := "([BI)C" } : Jvm.MethodName) prog_26_method_45_code (3 : Nat) (Option.some Jvm.ClassFile.FieldType.char)) ∈ lw_all := lw_g (lw_at lw_m3 82 rfl) rfl
theorem q623 : (Jvm.Cond.methodLink "java/lang/System$2" (185 : Nat) ({ cls := "java/lang/StringUTF16", name := "getChar", desc := "([BI)C" } : Jvm.MethodName)) ∈ lw_all := lw_g (lw_at lw_m3 83 rfl) rfl

