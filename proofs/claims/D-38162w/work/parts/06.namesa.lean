/-! HyperVane -/
set_option maxRecDepth 100000
def RX1 : String := "HyperVane"
def TX1 : u_T := fun k => match k with
  | _ => ("HyperVane", "machine", "LHyperVane$Machine;", true)
def tyX1 : Nat → FieldType := fun k => match k with
  | _ => .object "HyperVane$Machine"
abbrev wsX10 : List Cond := u_ws RX1 TX1 1
theorem nmX1 : ∀ a, a < 1 → ∀ b, b < 1 → a ≠ b → (TX1 a).2.1 ≠ (TX1 b).2.1 := by decide +kernel
theorem tyX1_ok : ∀ k, k < 1 → parseFieldDescriptor (TX1 k).2.2.1 = some (tyX1 k) := by decide +kernel
abbrev cX1_init : ByteArray := prog_1_method_7_code
def yX1_init : MethodName := ⟨RX1, "<init>", "()V"⟩
def dkwX1_init_1 : List UInt8 := [177]
abbrev dktX1_init_1 : List UInt8 := dkwX1_init_1 ++ []
def dkwX1_init_0 : List UInt8 := [42, 183, 0, 33, 42, 187, 0, 36, 89, 183, 0, 38, 181, 0, 39, 42, 180, 0, 39, 7, 182, 0, 43, 87]
abbrev dktX1_init_0 : List UInt8 := dkwX1_init_0 ++ dktX1_init_1
theorem dksX1_init_0 : cX1_init.data.toList.drop 0 = dktX1_init_0 := by decide +kernel
theorem dksX1_init_1 : cX1_init.data.toList.drop 24 = dktX1_init_1 := dk_seg dksX1_init_0 24 rfl rfl
theorem dX1_init_0 : decode cX1_init 0 = .ok (.aload_n 0, 1) := dk_42 (dk_at dksX1_init_0 0 rfl rfl)
theorem dX1_init_1 : decode cX1_init 1 = .ok (.invokespecial 33, 3) := dk_183 0 33 (dk_at dksX1_init_0 1 rfl rfl)
theorem dX1_init_4 : decode cX1_init 4 = .ok (.aload_n 0, 1) := dk_42 (dk_at dksX1_init_0 4 rfl rfl)
theorem dX1_init_5 : decode cX1_init 5 = .ok (.new 36, 3) := dk_187 0 36 (dk_at dksX1_init_0 5 rfl rfl)
theorem dX1_init_8 : decode cX1_init 8 = .ok (.dup, 1) := dk_89 (dk_at dksX1_init_0 8 rfl rfl)
theorem dX1_init_9 : decode cX1_init 9 = .ok (.invokespecial 38, 3) := dk_183 0 38 (dk_at dksX1_init_0 9 rfl rfl)
theorem dX1_init_12 : decode cX1_init 12 = .ok (.putfield 39, 3) := dk_181 0 39 (dk_at dksX1_init_0 12 rfl rfl)
theorem dX1_init_15 : decode cX1_init 15 = .ok (.aload_n 0, 1) := dk_42 (dk_at dksX1_init_0 15 rfl rfl)
theorem dX1_init_16 : decode cX1_init 16 = .ok (.getfield 39, 3) := dk_180 0 39 (dk_at dksX1_init_0 16 rfl rfl)
theorem dX1_init_19 : decode cX1_init 19 = .ok (.iconst 4, 1) := dk_7 (dk_at dksX1_init_0 19 rfl rfl)
theorem dX1_init_20 : decode cX1_init 20 = .ok (.invokevirtual 43, 3) := dk_182 0 43 (dk_at dksX1_init_0 20 rfl rfl)
theorem dX1_init_23 : decode cX1_init 23 = .ok (.pop, 1) := dk_87 (dk_at dksX1_init_0 23 rfl rfl)
theorem dX1_init_24 : decode cX1_init 24 = .ok (.return_, 1) := dk_177 (dk_at dksX1_init_1 0 rfl rfl)
abbrev cX1_digest : ByteArray := prog_1_method_44_code
def yX1_digest : MethodName := ⟨RX1, "digest", "()J"⟩
def dkwX1_digest_5 : List UInt8 := [184, 0, 252, 133, 184, 1, 67, 64, 132, 5, 1, 167, 255, 234, 167, 255, 208, 31, 173]
abbrev dktX1_digest_5 : List UInt8 := dkwX1_digest_5 ++ []
def dkwX1_digest_4 : List UInt8 := [185, 1, 17, 1, 0, 192, 0, 238, 58, 4, 3, 54, 5, 21, 5, 6, 162, 0, 22, 31, 25, 4, 21, 5]
abbrev dktX1_digest_4 : List UInt8 := dkwX1_digest_4 ++ dktX1_digest_5
def dkwX1_digest_3 : List UInt8 := [167, 255, 228, 42, 180, 0, 39, 180, 0, 223, 182, 1, 8, 78, 45, 185, 1, 12, 1, 0, 153, 0, 45, 45]
abbrev dktX1_digest_3 : List UInt8 := dkwX1_digest_3 ++ dktX1_digest_4
def dkwX1_digest_2 : List UInt8 := [153, 0, 25, 45, 185, 1, 17, 1, 0, 192, 0, 55, 58, 4, 42, 31, 25, 4, 182, 1, 70, 64]
abbrev dktX1_digest_2 : List UInt8 := dkwX1_digest_2 ++ dktX1_digest_3
def dkwX1_digest_1 : List UInt8 := [132, 3, 1, 167, 255, 236, 42, 180, 0, 39, 180, 0, 47, 182, 1, 8, 78, 45, 185, 1, 12, 1, 0]
abbrev dktX1_digest_1 : List UInt8 := dkwX1_digest_1 ++ dktX1_digest_2
def dkwX1_digest_0 : List UInt8 := [20, 1, 65, 64, 3, 62, 29, 16, 11, 162, 0, 20, 31, 42, 29, 182, 1, 43, 133, 184, 1, 67, 64]
abbrev dktX1_digest_0 : List UInt8 := dkwX1_digest_0 ++ dktX1_digest_1
theorem dksX1_digest_0 : cX1_digest.data.toList.drop 0 = dktX1_digest_0 := by decide +kernel
theorem dksX1_digest_1 : cX1_digest.data.toList.drop 23 = dktX1_digest_1 := dk_seg dksX1_digest_0 23 rfl rfl
theorem dksX1_digest_2 : cX1_digest.data.toList.drop 46 = dktX1_digest_2 := dk_seg dksX1_digest_1 23 rfl rfl
theorem dksX1_digest_3 : cX1_digest.data.toList.drop 68 = dktX1_digest_3 := dk_seg dksX1_digest_2 22 rfl rfl
theorem dksX1_digest_4 : cX1_digest.data.toList.drop 92 = dktX1_digest_4 := dk_seg dksX1_digest_3 24 rfl rfl
theorem dksX1_digest_5 : cX1_digest.data.toList.drop 116 = dktX1_digest_5 := dk_seg dksX1_digest_4 24 rfl rfl
theorem dX1_digest_0 : decode cX1_digest 0 = .ok (.ldc2_w 321, 3) := dk_20 1 65 (dk_at dksX1_digest_0 0 rfl rfl)
theorem dX1_digest_3 : decode cX1_digest 3 = .ok (.lstore_n 1, 1) := dk_64 (dk_at dksX1_digest_0 3 rfl rfl)
theorem dX1_digest_4 : decode cX1_digest 4 = .ok (.iconst 0, 1) := dk_3 (dk_at dksX1_digest_0 4 rfl rfl)
theorem dX1_digest_5 : decode cX1_digest 5 = .ok (.istore_n 3, 1) := dk_62 (dk_at dksX1_digest_0 5 rfl rfl)
theorem dX1_digest_6 : decode cX1_digest 6 = .ok (.iload_n 3, 1) := dk_29 (dk_at dksX1_digest_0 6 rfl rfl)
theorem dX1_digest_7 : decode cX1_digest 7 = .ok (.bipush 11, 2) := dk_16 11 (dk_at dksX1_digest_0 7 rfl rfl)
theorem dX1_digest_9 : decode cX1_digest 9 = .ok (.if_icmp .ge 20, 3) := dk_162 0 20 (dk_at dksX1_digest_0 9 rfl rfl)
theorem dX1_digest_12 : decode cX1_digest 12 = .ok (.lload_n 1, 1) := dk_31 (dk_at dksX1_digest_0 12 rfl rfl)
theorem dX1_digest_13 : decode cX1_digest 13 = .ok (.aload_n 0, 1) := dk_42 (dk_at dksX1_digest_0 13 rfl rfl)
theorem dX1_digest_14 : decode cX1_digest 14 = .ok (.iload_n 3, 1) := dk_29 (dk_at dksX1_digest_0 14 rfl rfl)
theorem dX1_digest_15 : decode cX1_digest 15 = .ok (.invokevirtual 299, 3) := dk_182 1 43 (dk_at dksX1_digest_0 15 rfl rfl)
theorem dX1_digest_18 : decode cX1_digest 18 = .ok (.i2l, 1) := dk_133 (dk_at dksX1_digest_0 18 rfl rfl)
theorem dX1_digest_19 : decode cX1_digest 19 = .ok (.invokestatic 323, 3) := dk_184 1 67 (dk_at dksX1_digest_0 19 rfl rfl)
theorem dX1_digest_22 : decode cX1_digest 22 = .ok (.lstore_n 1, 1) := dk_64 (dk_at dksX1_digest_0 22 rfl rfl)
theorem dX1_digest_23 : decode cX1_digest 23 = .ok (.iinc 3 1, 3) := dk_132 3 1 (dk_at dksX1_digest_1 0 rfl rfl)
theorem dX1_digest_26 : decode cX1_digest 26 = .ok (.goto (-20), 3) := dk_167 255 236 (dk_at dksX1_digest_1 3 rfl rfl)
theorem dX1_digest_29 : decode cX1_digest 29 = .ok (.aload_n 0, 1) := dk_42 (dk_at dksX1_digest_1 6 rfl rfl)
theorem dX1_digest_30 : decode cX1_digest 30 = .ok (.getfield 39, 3) := dk_180 0 39 (dk_at dksX1_digest_1 7 rfl rfl)
theorem dX1_digest_33 : decode cX1_digest 33 = .ok (.getfield 47, 3) := dk_180 0 47 (dk_at dksX1_digest_1 10 rfl rfl)
theorem dX1_digest_36 : decode cX1_digest 36 = .ok (.invokevirtual 264, 3) := dk_182 1 8 (dk_at dksX1_digest_1 13 rfl rfl)
theorem dX1_digest_39 : decode cX1_digest 39 = .ok (.astore_n 3, 1) := dk_78 (dk_at dksX1_digest_1 16 rfl rfl)
theorem dX1_digest_40 : decode cX1_digest 40 = .ok (.aload_n 3, 1) := dk_45 (dk_at dksX1_digest_1 17 rfl rfl)
theorem dX1_digest_41 : decode cX1_digest 41 = .ok (.invokeinterface 268 1, 5) := by decide +kernel
theorem dX1_digest_46 : decode cX1_digest 46 = .ok (.ifCond .eq 25, 3) := dk_153 0 25 (dk_at dksX1_digest_2 0 rfl rfl)
theorem dX1_digest_49 : decode cX1_digest 49 = .ok (.aload_n 3, 1) := dk_45 (dk_at dksX1_digest_2 3 rfl rfl)
theorem dX1_digest_50 : decode cX1_digest 50 = .ok (.invokeinterface 273 1, 5) := by decide +kernel
theorem dX1_digest_55 : decode cX1_digest 55 = .ok (.checkcast 55, 3) := dk_192 0 55 (dk_at dksX1_digest_2 9 rfl rfl)
theorem dX1_digest_58 : decode cX1_digest 58 = .ok (.astore 4, 2) := dk_58 4 (dk_at dksX1_digest_2 12 rfl rfl)
theorem dX1_digest_60 : decode cX1_digest 60 = .ok (.aload_n 0, 1) := dk_42 (dk_at dksX1_digest_2 14 rfl rfl)
theorem dX1_digest_61 : decode cX1_digest 61 = .ok (.lload_n 1, 1) := dk_31 (dk_at dksX1_digest_2 15 rfl rfl)
theorem dX1_digest_62 : decode cX1_digest 62 = .ok (.aload 4, 2) := dk_25 4 (dk_at dksX1_digest_2 16 rfl rfl)
theorem dX1_digest_64 : decode cX1_digest 64 = .ok (.invokevirtual 326, 3) := dk_182 1 70 (dk_at dksX1_digest_2 18 rfl rfl)
theorem dX1_digest_67 : decode cX1_digest 67 = .ok (.lstore_n 1, 1) := dk_64 (dk_at dksX1_digest_2 21 rfl rfl)
theorem dX1_digest_68 : decode cX1_digest 68 = .ok (.goto (-28), 3) := dk_167 255 228 (dk_at dksX1_digest_3 0 rfl rfl)
theorem dX1_digest_71 : decode cX1_digest 71 = .ok (.aload_n 0, 1) := dk_42 (dk_at dksX1_digest_3 3 rfl rfl)
theorem dX1_digest_72 : decode cX1_digest 72 = .ok (.getfield 39, 3) := dk_180 0 39 (dk_at dksX1_digest_3 4 rfl rfl)
theorem dX1_digest_75 : decode cX1_digest 75 = .ok (.getfield 223, 3) := dk_180 0 223 (dk_at dksX1_digest_3 7 rfl rfl)
theorem dX1_digest_78 : decode cX1_digest 78 = .ok (.invokevirtual 264, 3) := dk_182 1 8 (dk_at dksX1_digest_3 10 rfl rfl)
theorem dX1_digest_81 : decode cX1_digest 81 = .ok (.astore_n 3, 1) := dk_78 (dk_at dksX1_digest_3 13 rfl rfl)
theorem dX1_digest_82 : decode cX1_digest 82 = .ok (.aload_n 3, 1) := dk_45 (dk_at dksX1_digest_3 14 rfl rfl)
theorem dX1_digest_83 : decode cX1_digest 83 = .ok (.invokeinterface 268 1, 5) := by decide +kernel
theorem dX1_digest_88 : decode cX1_digest 88 = .ok (.ifCond .eq 45, 3) := dk_153 0 45 (dk_at dksX1_digest_3 20 rfl rfl)
theorem dX1_digest_91 : decode cX1_digest 91 = .ok (.aload_n 3, 1) := dk_45 (dk_at dksX1_digest_3 23 rfl rfl)
theorem dX1_digest_92 : decode cX1_digest 92 = .ok (.invokeinterface 273 1, 5) := by decide +kernel
theorem dX1_digest_97 : decode cX1_digest 97 = .ok (.checkcast 238, 3) := dk_192 0 238 (dk_at dksX1_digest_4 5 rfl rfl)
theorem dX1_digest_100 : decode cX1_digest 100 = .ok (.astore 4, 2) := dk_58 4 (dk_at dksX1_digest_4 8 rfl rfl)
theorem dX1_digest_102 : decode cX1_digest 102 = .ok (.iconst 0, 1) := dk_3 (dk_at dksX1_digest_4 10 rfl rfl)
theorem dX1_digest_103 : decode cX1_digest 103 = .ok (.istore 5, 2) := dk_54 5 (dk_at dksX1_digest_4 11 rfl rfl)
theorem dX1_digest_105 : decode cX1_digest 105 = .ok (.iload 5, 2) := dk_21 5 (dk_at dksX1_digest_4 13 rfl rfl)
theorem dX1_digest_107 : decode cX1_digest 107 = .ok (.iconst 3, 1) := dk_6 (dk_at dksX1_digest_4 15 rfl rfl)
theorem dX1_digest_108 : decode cX1_digest 108 = .ok (.if_icmp .ge 22, 3) := dk_162 0 22 (dk_at dksX1_digest_4 16 rfl rfl)
theorem dX1_digest_111 : decode cX1_digest 111 = .ok (.lload_n 1, 1) := dk_31 (dk_at dksX1_digest_4 19 rfl rfl)
theorem dX1_digest_112 : decode cX1_digest 112 = .ok (.aload 4, 2) := dk_25 4 (dk_at dksX1_digest_4 20 rfl rfl)
theorem dX1_digest_114 : decode cX1_digest 114 = .ok (.iload 5, 2) := dk_21 5 (dk_at dksX1_digest_4 22 rfl rfl)
theorem dX1_digest_116 : decode cX1_digest 116 = .ok (.invokestatic 252, 3) := dk_184 0 252 (dk_at dksX1_digest_5 0 rfl rfl)
theorem dX1_digest_119 : decode cX1_digest 119 = .ok (.i2l, 1) := dk_133 (dk_at dksX1_digest_5 3 rfl rfl)
theorem dX1_digest_120 : decode cX1_digest 120 = .ok (.invokestatic 323, 3) := dk_184 1 67 (dk_at dksX1_digest_5 4 rfl rfl)
theorem dX1_digest_123 : decode cX1_digest 123 = .ok (.lstore_n 1, 1) := dk_64 (dk_at dksX1_digest_5 7 rfl rfl)
theorem dX1_digest_124 : decode cX1_digest 124 = .ok (.iinc 5 1, 3) := dk_132 5 1 (dk_at dksX1_digest_5 8 rfl rfl)
theorem dX1_digest_127 : decode cX1_digest 127 = .ok (.goto (-22), 3) := dk_167 255 234 (dk_at dksX1_digest_5 11 rfl rfl)
theorem dX1_digest_130 : decode cX1_digest 130 = .ok (.goto (-48), 3) := dk_167 255 208 (dk_at dksX1_digest_5 14 rfl rfl)
theorem dX1_digest_133 : decode cX1_digest 133 = .ok (.lload_n 1, 1) := dk_31 (dk_at dksX1_digest_5 17 rfl rfl)
theorem dX1_digest_134 : decode cX1_digest 134 = .ok (.lreturn, 1) := dk_173 (dk_at dksX1_digest_5 18 rfl rfl)
abbrev cX1_count : ByteArray := prog_1_method_34_code
def yX1_count : MethodName := ⟨RX1, "count", "(I)I"⟩
def dkwX1_count_11 : List UInt8 := [172]
abbrev dktX1_count_11 : List UInt8 := dkwX1_count_11 ++ []
def dkwX1_count_10 : List UInt8 := [180, 0, 39, 180, 1, 37, 79, 89, 16, 10, 42, 180, 0, 39, 180, 1, 40, 79, 58, 4, 25, 4, 27, 46]
abbrev dktX1_count_10 : List UInt8 := dkwX1_count_10 ++ dktX1_count_11
def dkwX1_count_9 : List UInt8 := [180, 1, 31, 79, 89, 16, 7, 42, 180, 0, 39, 180, 1, 34, 79, 89, 16, 8, 29, 79, 89, 16, 9, 42]
abbrev dktX1_count_9 : List UInt8 := dkwX1_count_9 ++ dktX1_count_10
def dkwX1_count_8 : List UInt8 := [184, 1, 24, 79, 89, 8, 42, 180, 0, 39, 180, 1, 28, 184, 1, 24, 79, 89, 16, 6, 42, 180, 0, 39]
abbrev dktX1_count_8 : List UInt8 := dkwX1_count_8 ++ dktX1_count_9
def dkwX1_count_7 : List UInt8 := [42, 180, 0, 39, 180, 0, 223, 182, 0, 65, 79, 89, 6, 28, 79, 89, 7, 42, 180, 0, 39, 180, 1, 21]
abbrev dktX1_count_7 : List UInt8 := dkwX1_count_7 ++ dktX1_count_8
def dkwX1_count_6 : List UInt8 := [3, 42, 180, 0, 39, 180, 0, 47, 182, 0, 65, 79, 89, 4, 42, 180, 0, 39, 180, 0, 118, 79, 89, 5]
abbrev dktX1_count_6 : List UInt8 := dkwX1_count_6 ++ dktX1_count_7
def dkwX1_count_5 : List UInt8 := [21, 8, 46, 54, 9, 29, 21, 9, 96, 62, 132, 8, 1, 167, 255, 234, 167, 255, 194, 16, 11, 188, 10, 89]
abbrev dktX1_count_5 : List UInt8 := dkwX1_count_5 ++ dktX1_count_6
def dkwX1_count_4 : List UInt8 := [25, 5, 180, 0, 216, 58, 6, 25, 6, 190, 54, 7, 3, 54, 8, 21, 8, 21, 7, 162, 0, 21, 25, 6]
abbrev dktX1_count_4 : List UInt8 := dkwX1_count_4 ++ dktX1_count_5
def dkwX1_count_3 : List UInt8 := [58, 4, 25, 4, 185, 1, 12, 1, 0, 153, 0, 58, 25, 4, 185, 1, 17, 1, 0, 192, 0, 55, 58, 5]
abbrev dktX1_count_3 : List UInt8 := dkwX1_count_3 ++ dktX1_count_4
def dkwX1_count_2 : List UInt8 := [4, 167, 0, 4, 3, 184, 0, 162, 96, 61, 167, 255, 215, 42, 180, 0, 39, 180, 0, 47, 182, 1, 8]
abbrev dktX1_count_2 : List UInt8 := dkwX1_count_2 ++ dktX1_count_3
def dkwX1_count_1 : List UInt8 := [153, 0, 37, 25, 4, 185, 1, 17, 1, 0, 192, 0, 238, 58, 5, 28, 25, 5, 180, 0, 237, 199, 0, 7]
abbrev dktX1_count_1 : List UInt8 := dkwX1_count_1 ++ dktX1_count_2
def dkwX1_count_0 : List UInt8 := [3, 61, 3, 62, 42, 180, 0, 39, 180, 0, 223, 182, 1, 8, 58, 4, 25, 4, 185, 1, 12, 1, 0]
abbrev dktX1_count_0 : List UInt8 := dkwX1_count_0 ++ dktX1_count_1
theorem dksX1_count_0 : cX1_count.data.toList.drop 0 = dktX1_count_0 := by decide +kernel
theorem dksX1_count_1 : cX1_count.data.toList.drop 23 = dktX1_count_1 := dk_seg dksX1_count_0 23 rfl rfl
theorem dksX1_count_2 : cX1_count.data.toList.drop 47 = dktX1_count_2 := dk_seg dksX1_count_1 24 rfl rfl
theorem dksX1_count_3 : cX1_count.data.toList.drop 70 = dktX1_count_3 := dk_seg dksX1_count_2 23 rfl rfl
theorem dksX1_count_4 : cX1_count.data.toList.drop 94 = dktX1_count_4 := dk_seg dksX1_count_3 24 rfl rfl
theorem dksX1_count_5 : cX1_count.data.toList.drop 118 = dktX1_count_5 := dk_seg dksX1_count_4 24 rfl rfl
theorem dksX1_count_6 : cX1_count.data.toList.drop 142 = dktX1_count_6 := dk_seg dksX1_count_5 24 rfl rfl
theorem dksX1_count_7 : cX1_count.data.toList.drop 166 = dktX1_count_7 := dk_seg dksX1_count_6 24 rfl rfl
theorem dksX1_count_8 : cX1_count.data.toList.drop 190 = dktX1_count_8 := dk_seg dksX1_count_7 24 rfl rfl
theorem dksX1_count_9 : cX1_count.data.toList.drop 214 = dktX1_count_9 := dk_seg dksX1_count_8 24 rfl rfl
theorem dksX1_count_10 : cX1_count.data.toList.drop 238 = dktX1_count_10 := dk_seg dksX1_count_9 24 rfl rfl
theorem dksX1_count_11 : cX1_count.data.toList.drop 262 = dktX1_count_11 := dk_seg dksX1_count_10 24 rfl rfl
theorem dX1_count_0 : decode cX1_count 0 = .ok (.iconst 0, 1) := dk_3 (dk_at dksX1_count_0 0 rfl rfl)
theorem dX1_count_1 : decode cX1_count 1 = .ok (.istore_n 2, 1) := dk_61 (dk_at dksX1_count_0 1 rfl rfl)
theorem dX1_count_2 : decode cX1_count 2 = .ok (.iconst 0, 1) := dk_3 (dk_at dksX1_count_0 2 rfl rfl)
theorem dX1_count_3 : decode cX1_count 3 = .ok (.istore_n 3, 1) := dk_62 (dk_at dksX1_count_0 3 rfl rfl)
theorem dX1_count_4 : decode cX1_count 4 = .ok (.aload_n 0, 1) := dk_42 (dk_at dksX1_count_0 4 rfl rfl)
theorem dX1_count_5 : decode cX1_count 5 = .ok (.getfield 39, 3) := dk_180 0 39 (dk_at dksX1_count_0 5 rfl rfl)
theorem dX1_count_8 : decode cX1_count 8 = .ok (.getfield 223, 3) := dk_180 0 223 (dk_at dksX1_count_0 8 rfl rfl)
theorem dX1_count_11 : decode cX1_count 11 = .ok (.invokevirtual 264, 3) := dk_182 1 8 (dk_at dksX1_count_0 11 rfl rfl)
theorem dX1_count_14 : decode cX1_count 14 = .ok (.astore 4, 2) := dk_58 4 (dk_at dksX1_count_0 14 rfl rfl)
theorem dX1_count_16 : decode cX1_count 16 = .ok (.aload 4, 2) := dk_25 4 (dk_at dksX1_count_0 16 rfl rfl)
theorem dX1_count_18 : decode cX1_count 18 = .ok (.invokeinterface 268 1, 5) := by decide +kernel
theorem dX1_count_23 : decode cX1_count 23 = .ok (.ifCond .eq 37, 3) := dk_153 0 37 (dk_at dksX1_count_1 0 rfl rfl)
theorem dX1_count_26 : decode cX1_count 26 = .ok (.aload 4, 2) := dk_25 4 (dk_at dksX1_count_1 3 rfl rfl)
theorem dX1_count_28 : decode cX1_count 28 = .ok (.invokeinterface 273 1, 5) := by decide +kernel
theorem dX1_count_33 : decode cX1_count 33 = .ok (.checkcast 238, 3) := dk_192 0 238 (dk_at dksX1_count_1 10 rfl rfl)
theorem dX1_count_36 : decode cX1_count 36 = .ok (.astore 5, 2) := dk_58 5 (dk_at dksX1_count_1 13 rfl rfl)
theorem dX1_count_38 : decode cX1_count 38 = .ok (.iload_n 2, 1) := dk_28 (dk_at dksX1_count_1 15 rfl rfl)
theorem dX1_count_39 : decode cX1_count 39 = .ok (.aload 5, 2) := dk_25 5 (dk_at dksX1_count_1 16 rfl rfl)
theorem dX1_count_41 : decode cX1_count 41 = .ok (.getfield 237, 3) := dk_180 0 237 (dk_at dksX1_count_1 18 rfl rfl)
theorem dX1_count_44 : decode cX1_count 44 = .ok (.ifnonnull 7, 3) := dk_199 0 7 (dk_at dksX1_count_1 21 rfl rfl)
theorem dX1_count_47 : decode cX1_count 47 = .ok (.iconst 1, 1) := dk_4 (dk_at dksX1_count_2 0 rfl rfl)
theorem dX1_count_48 : decode cX1_count 48 = .ok (.goto 4, 3) := dk_167 0 4 (dk_at dksX1_count_2 1 rfl rfl)
theorem dX1_count_51 : decode cX1_count 51 = .ok (.iconst 0, 1) := dk_3 (dk_at dksX1_count_2 4 rfl rfl)
theorem dX1_count_52 : decode cX1_count 52 = .ok (.invokestatic 162, 3) := dk_184 0 162 (dk_at dksX1_count_2 5 rfl rfl)
theorem dX1_count_55 : decode cX1_count 55 = .ok (.iadd, 1) := dk_96 (dk_at dksX1_count_2 8 rfl rfl)
theorem dX1_count_56 : decode cX1_count 56 = .ok (.istore_n 2, 1) := dk_61 (dk_at dksX1_count_2 9 rfl rfl)
theorem dX1_count_57 : decode cX1_count 57 = .ok (.goto (-41), 3) := dk_167 255 215 (dk_at dksX1_count_2 10 rfl rfl)
theorem dX1_count_60 : decode cX1_count 60 = .ok (.aload_n 0, 1) := dk_42 (dk_at dksX1_count_2 13 rfl rfl)
theorem dX1_count_61 : decode cX1_count 61 = .ok (.getfield 39, 3) := dk_180 0 39 (dk_at dksX1_count_2 14 rfl rfl)
theorem dX1_count_64 : decode cX1_count 64 = .ok (.getfield 47, 3) := dk_180 0 47 (dk_at dksX1_count_2 17 rfl rfl)
theorem dX1_count_67 : decode cX1_count 67 = .ok (.invokevirtual 264, 3) := dk_182 1 8 (dk_at dksX1_count_2 20 rfl rfl)
theorem dX1_count_70 : decode cX1_count 70 = .ok (.astore 4, 2) := dk_58 4 (dk_at dksX1_count_3 0 rfl rfl)
theorem dX1_count_72 : decode cX1_count 72 = .ok (.aload 4, 2) := dk_25 4 (dk_at dksX1_count_3 2 rfl rfl)
theorem dX1_count_74 : decode cX1_count 74 = .ok (.invokeinterface 268 1, 5) := by decide +kernel
theorem dX1_count_79 : decode cX1_count 79 = .ok (.ifCond .eq 58, 3) := dk_153 0 58 (dk_at dksX1_count_3 9 rfl rfl)
theorem dX1_count_82 : decode cX1_count 82 = .ok (.aload 4, 2) := dk_25 4 (dk_at dksX1_count_3 12 rfl rfl)
theorem dX1_count_84 : decode cX1_count 84 = .ok (.invokeinterface 273 1, 5) := by decide +kernel
theorem dX1_count_89 : decode cX1_count 89 = .ok (.checkcast 55, 3) := dk_192 0 55 (dk_at dksX1_count_3 19 rfl rfl)
theorem dX1_count_92 : decode cX1_count 92 = .ok (.astore 5, 2) := dk_58 5 (dk_at dksX1_count_3 22 rfl rfl)
theorem dX1_count_94 : decode cX1_count 94 = .ok (.aload 5, 2) := dk_25 5 (dk_at dksX1_count_4 0 rfl rfl)
theorem dX1_count_96 : decode cX1_count 96 = .ok (.getfield 216, 3) := dk_180 0 216 (dk_at dksX1_count_4 2 rfl rfl)
theorem dX1_count_99 : decode cX1_count 99 = .ok (.astore 6, 2) := dk_58 6 (dk_at dksX1_count_4 5 rfl rfl)
theorem dX1_count_101 : decode cX1_count 101 = .ok (.aload 6, 2) := dk_25 6 (dk_at dksX1_count_4 7 rfl rfl)
theorem dX1_count_103 : decode cX1_count 103 = .ok (.arraylength, 1) := dk_190 (dk_at dksX1_count_4 9 rfl rfl)
theorem dX1_count_104 : decode cX1_count 104 = .ok (.istore 7, 2) := dk_54 7 (dk_at dksX1_count_4 10 rfl rfl)
theorem dX1_count_106 : decode cX1_count 106 = .ok (.iconst 0, 1) := dk_3 (dk_at dksX1_count_4 12 rfl rfl)
theorem dX1_count_107 : decode cX1_count 107 = .ok (.istore 8, 2) := dk_54 8 (dk_at dksX1_count_4 13 rfl rfl)
theorem dX1_count_109 : decode cX1_count 109 = .ok (.iload 8, 2) := dk_21 8 (dk_at dksX1_count_4 15 rfl rfl)
theorem dX1_count_111 : decode cX1_count 111 = .ok (.iload 7, 2) := dk_21 7 (dk_at dksX1_count_4 17 rfl rfl)
theorem dX1_count_113 : decode cX1_count 113 = .ok (.if_icmp .ge 21, 3) := dk_162 0 21 (dk_at dksX1_count_4 19 rfl rfl)
theorem dX1_count_116 : decode cX1_count 116 = .ok (.aload 6, 2) := dk_25 6 (dk_at dksX1_count_4 22 rfl rfl)
theorem dX1_count_118 : decode cX1_count 118 = .ok (.iload 8, 2) := dk_21 8 (dk_at dksX1_count_5 0 rfl rfl)
theorem dX1_count_120 : decode cX1_count 120 = .ok (.iaload, 1) := dk_46 (dk_at dksX1_count_5 2 rfl rfl)
theorem dX1_count_121 : decode cX1_count 121 = .ok (.istore 9, 2) := dk_54 9 (dk_at dksX1_count_5 3 rfl rfl)
theorem dX1_count_123 : decode cX1_count 123 = .ok (.iload_n 3, 1) := dk_29 (dk_at dksX1_count_5 5 rfl rfl)
theorem dX1_count_124 : decode cX1_count 124 = .ok (.iload 9, 2) := dk_21 9 (dk_at dksX1_count_5 6 rfl rfl)
theorem dX1_count_126 : decode cX1_count 126 = .ok (.iadd, 1) := dk_96 (dk_at dksX1_count_5 8 rfl rfl)
theorem dX1_count_127 : decode cX1_count 127 = .ok (.istore_n 3, 1) := dk_62 (dk_at dksX1_count_5 9 rfl rfl)
theorem dX1_count_128 : decode cX1_count 128 = .ok (.iinc 8 1, 3) := dk_132 8 1 (dk_at dksX1_count_5 10 rfl rfl)
theorem dX1_count_131 : decode cX1_count 131 = .ok (.goto (-22), 3) := dk_167 255 234 (dk_at dksX1_count_5 13 rfl rfl)
theorem dX1_count_134 : decode cX1_count 134 = .ok (.goto (-62), 3) := dk_167 255 194 (dk_at dksX1_count_5 16 rfl rfl)
theorem dX1_count_137 : decode cX1_count 137 = .ok (.bipush 11, 2) := dk_16 11 (dk_at dksX1_count_5 19 rfl rfl)
theorem dX1_count_139 : decode cX1_count 139 = .ok (.newarray .int, 2) := dk_188_10 (dk_at dksX1_count_5 21 rfl rfl)
theorem dX1_count_141 : decode cX1_count 141 = .ok (.dup, 1) := dk_89 (dk_at dksX1_count_5 23 rfl rfl)
theorem dX1_count_142 : decode cX1_count 142 = .ok (.iconst 0, 1) := dk_3 (dk_at dksX1_count_6 0 rfl rfl)
theorem dX1_count_143 : decode cX1_count 143 = .ok (.aload_n 0, 1) := dk_42 (dk_at dksX1_count_6 1 rfl rfl)
theorem dX1_count_144 : decode cX1_count 144 = .ok (.getfield 39, 3) := dk_180 0 39 (dk_at dksX1_count_6 2 rfl rfl)
theorem dX1_count_147 : decode cX1_count 147 = .ok (.getfield 47, 3) := dk_180 0 47 (dk_at dksX1_count_6 5 rfl rfl)
theorem dX1_count_150 : decode cX1_count 150 = .ok (.invokevirtual 65, 3) := dk_182 0 65 (dk_at dksX1_count_6 8 rfl rfl)
theorem dX1_count_153 : decode cX1_count 153 = .ok (.iastore, 1) := dk_79 (dk_at dksX1_count_6 11 rfl rfl)
theorem dX1_count_154 : decode cX1_count 154 = .ok (.dup, 1) := dk_89 (dk_at dksX1_count_6 12 rfl rfl)
theorem dX1_count_155 : decode cX1_count 155 = .ok (.iconst 1, 1) := dk_4 (dk_at dksX1_count_6 13 rfl rfl)
theorem dX1_count_156 : decode cX1_count 156 = .ok (.aload_n 0, 1) := dk_42 (dk_at dksX1_count_6 14 rfl rfl)
theorem dX1_count_157 : decode cX1_count 157 = .ok (.getfield 39, 3) := dk_180 0 39 (dk_at dksX1_count_6 15 rfl rfl)
theorem dX1_count_160 : decode cX1_count 160 = .ok (.getfield 118, 3) := dk_180 0 118 (dk_at dksX1_count_6 18 rfl rfl)
theorem dX1_count_163 : decode cX1_count 163 = .ok (.iastore, 1) := dk_79 (dk_at dksX1_count_6 21 rfl rfl)
theorem dX1_count_164 : decode cX1_count 164 = .ok (.dup, 1) := dk_89 (dk_at dksX1_count_6 22 rfl rfl)
theorem dX1_count_165 : decode cX1_count 165 = .ok (.iconst 2, 1) := dk_5 (dk_at dksX1_count_6 23 rfl rfl)
theorem dX1_count_166 : decode cX1_count 166 = .ok (.aload_n 0, 1) := dk_42 (dk_at dksX1_count_7 0 rfl rfl)
theorem dX1_count_167 : decode cX1_count 167 = .ok (.getfield 39, 3) := dk_180 0 39 (dk_at dksX1_count_7 1 rfl rfl)
theorem dX1_count_170 : decode cX1_count 170 = .ok (.getfield 223, 3) := dk_180 0 223 (dk_at dksX1_count_7 4 rfl rfl)
theorem dX1_count_173 : decode cX1_count 173 = .ok (.invokevirtual 65, 3) := dk_182 0 65 (dk_at dksX1_count_7 7 rfl rfl)
theorem dX1_count_176 : decode cX1_count 176 = .ok (.iastore, 1) := dk_79 (dk_at dksX1_count_7 10 rfl rfl)
theorem dX1_count_177 : decode cX1_count 177 = .ok (.dup, 1) := dk_89 (dk_at dksX1_count_7 11 rfl rfl)
theorem dX1_count_178 : decode cX1_count 178 = .ok (.iconst 3, 1) := dk_6 (dk_at dksX1_count_7 12 rfl rfl)
theorem dX1_count_179 : decode cX1_count 179 = .ok (.iload_n 2, 1) := dk_28 (dk_at dksX1_count_7 13 rfl rfl)
theorem dX1_count_180 : decode cX1_count 180 = .ok (.iastore, 1) := dk_79 (dk_at dksX1_count_7 14 rfl rfl)
theorem dX1_count_181 : decode cX1_count 181 = .ok (.dup, 1) := dk_89 (dk_at dksX1_count_7 15 rfl rfl)
theorem dX1_count_182 : decode cX1_count 182 = .ok (.iconst 4, 1) := dk_7 (dk_at dksX1_count_7 16 rfl rfl)
theorem dX1_count_183 : decode cX1_count 183 = .ok (.aload_n 0, 1) := dk_42 (dk_at dksX1_count_7 17 rfl rfl)
theorem dX1_count_184 : decode cX1_count 184 = .ok (.getfield 39, 3) := dk_180 0 39 (dk_at dksX1_count_7 18 rfl rfl)
theorem dX1_count_187 : decode cX1_count 187 = .ok (.getfield 277, 3) := dk_180 1 21 (dk_at dksX1_count_7 21 rfl rfl)
theorem dX1_count_190 : decode cX1_count 190 = .ok (.invokestatic 280, 3) := dk_184 1 24 (dk_at dksX1_count_8 0 rfl rfl)
theorem dX1_count_193 : decode cX1_count 193 = .ok (.iastore, 1) := dk_79 (dk_at dksX1_count_8 3 rfl rfl)
theorem dX1_count_194 : decode cX1_count 194 = .ok (.dup, 1) := dk_89 (dk_at dksX1_count_8 4 rfl rfl)
theorem dX1_count_195 : decode cX1_count 195 = .ok (.iconst 5, 1) := dk_8 (dk_at dksX1_count_8 5 rfl rfl)
theorem dX1_count_196 : decode cX1_count 196 = .ok (.aload_n 0, 1) := dk_42 (dk_at dksX1_count_8 6 rfl rfl)
theorem dX1_count_197 : decode cX1_count 197 = .ok (.getfield 39, 3) := dk_180 0 39 (dk_at dksX1_count_8 7 rfl rfl)
theorem dX1_count_200 : decode cX1_count 200 = .ok (.getfield 284, 3) := dk_180 1 28 (dk_at dksX1_count_8 10 rfl rfl)
theorem dX1_count_203 : decode cX1_count 203 = .ok (.invokestatic 280, 3) := dk_184 1 24 (dk_at dksX1_count_8 13 rfl rfl)
theorem dX1_count_206 : decode cX1_count 206 = .ok (.iastore, 1) := dk_79 (dk_at dksX1_count_8 16 rfl rfl)
theorem dX1_count_207 : decode cX1_count 207 = .ok (.dup, 1) := dk_89 (dk_at dksX1_count_8 17 rfl rfl)
theorem dX1_count_208 : decode cX1_count 208 = .ok (.bipush 6, 2) := dk_16 6 (dk_at dksX1_count_8 18 rfl rfl)
theorem dX1_count_210 : decode cX1_count 210 = .ok (.aload_n 0, 1) := dk_42 (dk_at dksX1_count_8 20 rfl rfl)
theorem dX1_count_211 : decode cX1_count 211 = .ok (.getfield 39, 3) := dk_180 0 39 (dk_at dksX1_count_8 21 rfl rfl)
theorem dX1_count_214 : decode cX1_count 214 = .ok (.getfield 287, 3) := dk_180 1 31 (dk_at dksX1_count_9 0 rfl rfl)
theorem dX1_count_217 : decode cX1_count 217 = .ok (.iastore, 1) := dk_79 (dk_at dksX1_count_9 3 rfl rfl)
theorem dX1_count_218 : decode cX1_count 218 = .ok (.dup, 1) := dk_89 (dk_at dksX1_count_9 4 rfl rfl)
theorem dX1_count_219 : decode cX1_count 219 = .ok (.bipush 7, 2) := dk_16 7 (dk_at dksX1_count_9 5 rfl rfl)
theorem dX1_count_221 : decode cX1_count 221 = .ok (.aload_n 0, 1) := dk_42 (dk_at dksX1_count_9 7 rfl rfl)
theorem dX1_count_222 : decode cX1_count 222 = .ok (.getfield 39, 3) := dk_180 0 39 (dk_at dksX1_count_9 8 rfl rfl)
theorem dX1_count_225 : decode cX1_count 225 = .ok (.getfield 290, 3) := dk_180 1 34 (dk_at dksX1_count_9 11 rfl rfl)
theorem dX1_count_228 : decode cX1_count 228 = .ok (.iastore, 1) := dk_79 (dk_at dksX1_count_9 14 rfl rfl)
theorem dX1_count_229 : decode cX1_count 229 = .ok (.dup, 1) := dk_89 (dk_at dksX1_count_9 15 rfl rfl)
theorem dX1_count_230 : decode cX1_count 230 = .ok (.bipush 8, 2) := dk_16 8 (dk_at dksX1_count_9 16 rfl rfl)
theorem dX1_count_232 : decode cX1_count 232 = .ok (.iload_n 3, 1) := dk_29 (dk_at dksX1_count_9 18 rfl rfl)
theorem dX1_count_233 : decode cX1_count 233 = .ok (.iastore, 1) := dk_79 (dk_at dksX1_count_9 19 rfl rfl)
theorem dX1_count_234 : decode cX1_count 234 = .ok (.dup, 1) := dk_89 (dk_at dksX1_count_9 20 rfl rfl)
theorem dX1_count_235 : decode cX1_count 235 = .ok (.bipush 9, 2) := dk_16 9 (dk_at dksX1_count_9 21 rfl rfl)
theorem dX1_count_237 : decode cX1_count 237 = .ok (.aload_n 0, 1) := dk_42 (dk_at dksX1_count_9 23 rfl rfl)
theorem dX1_count_238 : decode cX1_count 238 = .ok (.getfield 39, 3) := dk_180 0 39 (dk_at dksX1_count_10 0 rfl rfl)
theorem dX1_count_241 : decode cX1_count 241 = .ok (.getfield 293, 3) := dk_180 1 37 (dk_at dksX1_count_10 3 rfl rfl)
theorem dX1_count_244 : decode cX1_count 244 = .ok (.iastore, 1) := dk_79 (dk_at dksX1_count_10 6 rfl rfl)
theorem dX1_count_245 : decode cX1_count 245 = .ok (.dup, 1) := dk_89 (dk_at dksX1_count_10 7 rfl rfl)
theorem dX1_count_246 : decode cX1_count 246 = .ok (.bipush 10, 2) := dk_16 10 (dk_at dksX1_count_10 8 rfl rfl)
theorem dX1_count_248 : decode cX1_count 248 = .ok (.aload_n 0, 1) := dk_42 (dk_at dksX1_count_10 10 rfl rfl)
theorem dX1_count_249 : decode cX1_count 249 = .ok (.getfield 39, 3) := dk_180 0 39 (dk_at dksX1_count_10 11 rfl rfl)
theorem dX1_count_252 : decode cX1_count 252 = .ok (.getfield 296, 3) := dk_180 1 40 (dk_at dksX1_count_10 14 rfl rfl)
theorem dX1_count_255 : decode cX1_count 255 = .ok (.iastore, 1) := dk_79 (dk_at dksX1_count_10 17 rfl rfl)
theorem dX1_count_256 : decode cX1_count 256 = .ok (.astore 4, 2) := dk_58 4 (dk_at dksX1_count_10 18 rfl rfl)
theorem dX1_count_258 : decode cX1_count 258 = .ok (.aload 4, 2) := dk_25 4 (dk_at dksX1_count_10 20 rfl rfl)
theorem dX1_count_260 : decode cX1_count 260 = .ok (.iload_n 1, 1) := dk_27 (dk_at dksX1_count_10 22 rfl rfl)
theorem dX1_count_261 : decode cX1_count 261 = .ok (.iaload, 1) := dk_46 (dk_at dksX1_count_10 23 rfl rfl)
theorem dX1_count_262 : decode cX1_count 262 = .ok (.ireturn, 1) := dk_172 (dk_at dksX1_count_11 0 rfl rfl)
abbrev cX1_one : ByteArray := prog_1_method_6_code
def yX1_one : MethodName := ⟨RX1, "one", "(Z)I"⟩
def dkwX1_one_0 : List UInt8 := [26, 153, 0, 7, 4, 167, 0, 4, 3, 172]
abbrev dktX1_one_0 : List UInt8 := dkwX1_one_0 ++ []
theorem dksX1_one_0 : cX1_one.data.toList.drop 0 = dktX1_one_0 := by decide +kernel
theorem dX1_one_0 : decode cX1_one 0 = .ok (.iload_n 0, 1) := dk_26 (dk_at dksX1_one_0 0 rfl rfl)
theorem dX1_one_1 : decode cX1_one 1 = .ok (.ifCond .eq 7, 3) := dk_153 0 7 (dk_at dksX1_one_0 1 rfl rfl)
theorem dX1_one_4 : decode cX1_one 4 = .ok (.iconst 1, 1) := dk_4 (dk_at dksX1_one_0 4 rfl rfl)
theorem dX1_one_5 : decode cX1_one 5 = .ok (.goto 4, 3) := dk_167 0 4 (dk_at dksX1_one_0 5 rfl rfl)
theorem dX1_one_8 : decode cX1_one 8 = .ok (.iconst 0, 1) := dk_3 (dk_at dksX1_one_0 8 rfl rfl)
theorem dX1_one_9 : decode cX1_one 9 = .ok (.ireturn, 1) := dk_172 (dk_at dksX1_one_0 9 rfl rfl)
abbrev cX1_numberOf : ByteArray := prog_1_method_33_code
def yX1_numberOf : MethodName := ⟨RX1, "numberOf", "(LHyperVane$Guest;)I"⟩
def dkwX1_numberOf_0 : List UInt8 := [42, 199, 0, 7, 2, 167, 0, 7, 42, 180, 0, 243, 172]
abbrev dktX1_numberOf_0 : List UInt8 := dkwX1_numberOf_0 ++ []
theorem dksX1_numberOf_0 : cX1_numberOf.data.toList.drop 0 = dktX1_numberOf_0 := by decide +kernel
theorem dX1_numberOf_0 : decode cX1_numberOf 0 = .ok (.aload_n 0, 1) := dk_42 (dk_at dksX1_numberOf_0 0 rfl rfl)
theorem dX1_numberOf_1 : decode cX1_numberOf 1 = .ok (.ifnonnull 7, 3) := dk_199 0 7 (dk_at dksX1_numberOf_0 1 rfl rfl)
theorem dX1_numberOf_4 : decode cX1_numberOf 4 = .ok (.iconst (-1), 1) := dk_2 (dk_at dksX1_numberOf_0 4 rfl rfl)
theorem dX1_numberOf_5 : decode cX1_numberOf 5 = .ok (.goto 7, 3) := dk_167 0 7 (dk_at dksX1_numberOf_0 5 rfl rfl)
theorem dX1_numberOf_8 : decode cX1_numberOf 8 = .ok (.aload_n 0, 1) := dk_42 (dk_at dksX1_numberOf_0 8 rfl rfl)
theorem dX1_numberOf_9 : decode cX1_numberOf 9 = .ok (.getfield 243, 3) := dk_180 0 243 (dk_at dksX1_numberOf_0 9 rfl rfl)
theorem dX1_numberOf_12 : decode cX1_numberOf 12 = .ok (.ireturn, 1) := dk_172 (dk_at dksX1_numberOf_0 12 rfl rfl)
abbrev cX1_add : ByteArray := prog_1_method_43_code
def yX1_add : MethodName := ⟨RX1, "add", "(JJ)J"⟩
def dkwX1_add_0 : List UInt8 := [30, 20, 1, 63, 105, 32, 97, 173]
abbrev dktX1_add_0 : List UInt8 := dkwX1_add_0 ++ []
theorem dksX1_add_0 : cX1_add.data.toList.drop 0 = dktX1_add_0 := by decide +kernel
theorem dX1_add_0 : decode cX1_add 0 = .ok (.lload_n 0, 1) := dk_30 (dk_at dksX1_add_0 0 rfl rfl)
theorem dX1_add_1 : decode cX1_add 1 = .ok (.ldc2_w 319, 3) := dk_20 1 63 (dk_at dksX1_add_0 1 rfl rfl)
theorem dX1_add_4 : decode cX1_add 4 = .ok (.lmul, 1) := dk_105 (dk_at dksX1_add_0 4 rfl rfl)
theorem dX1_add_5 : decode cX1_add 5 = .ok (.lload_n 2, 1) := dk_32 (dk_at dksX1_add_0 5 rfl rfl)
theorem dX1_add_6 : decode cX1_add 6 = .ok (.ladd, 1) := dk_97 (dk_at dksX1_add_0 6 rfl rfl)
theorem dX1_add_7 : decode cX1_add 7 = .ok (.lreturn, 1) := dk_173 (dk_at dksX1_add_0 7 rfl rfl)
abbrev cX1_addGuest : ByteArray := prog_1_method_45_code
def yX1_addGuest : MethodName := ⟨RX1, "addGuest", "(JLHyperVane$Guest;)J"⟩
def dkwX1_addGuest_12 : List UInt8 := [184, 1, 67, 167, 0, 5, 22, 4, 173]
abbrev dktX1_addGuest_12 : List UInt8 := dkwX1_addGuest_12 ++ []
def dkwX1_addGuest_11 : List UInt8 := [184, 1, 67, 55, 4, 45, 184, 0, 134, 153, 0, 21, 22, 4, 42, 45, 180, 0, 243, 5, 182, 1, 60, 133]
abbrev dktX1_addGuest_11 : List UInt8 := dkwX1_addGuest_11 ++ dktX1_addGuest_12
def dkwX1_addGuest_10 : List UInt8 := [184, 1, 67, 55, 4, 132, 9, 1, 167, 255, 202, 22, 4, 42, 45, 180, 0, 243, 16, 10, 182, 1, 56, 133]
abbrev dktX1_addGuest_10 : List UInt8 := dkwX1_addGuest_10 ++ dktX1_addGuest_11
def dkwX1_addGuest_9 : List UInt8 := [184, 1, 67, 45, 21, 10, 4, 184, 1, 50, 133, 184, 1, 67, 45, 21, 10, 2, 184, 1, 50, 133]
abbrev dktX1_addGuest_9 : List UInt8 := dkwX1_addGuest_9 ++ dktX1_addGuest_10
def dkwX1_addGuest_8 : List UInt8 := [21, 9, 21, 8, 162, 0, 53, 25, 7, 21, 9, 46, 54, 10, 22, 4, 45, 21, 10, 3, 184, 1, 50, 133]
abbrev dktX1_addGuest_8 : List UInt8 := dkwX1_addGuest_8 ++ dktX1_addGuest_9
def dkwX1_addGuest_7 : List UInt8 := [79, 89, 4, 8, 79, 89, 5, 16, 12, 79, 58, 6, 25, 6, 58, 7, 25, 7, 190, 54, 8, 3, 54, 9]
abbrev dktX1_addGuest_7 : List UInt8 := dkwX1_addGuest_7 ++ dktX1_addGuest_8
def dkwX1_addGuest_6 : List UInt8 := [45, 21, 6, 184, 1, 5, 133, 184, 1, 67, 55, 4, 132, 6, 1, 167, 255, 229, 6, 188, 10, 89, 3, 3]
abbrev dktX1_addGuest_6 : List UInt8 := dkwX1_addGuest_6 ++ dktX1_addGuest_7
def dkwX1_addGuest_5 : List UInt8 := [167, 255, 230, 132, 6, 1, 167, 255, 214, 3, 54, 6, 45, 21, 6, 184, 1, 5, 2, 159, 0, 23, 22, 4]
abbrev dktX1_addGuest_5 : List UInt8 := dkwX1_addGuest_5 ++ dktX1_addGuest_6
def dkwX1_addGuest_4 : List UInt8 := [162, 0, 26, 22, 4, 42, 45, 21, 6, 21, 7, 182, 0, 233, 133, 184, 1, 67, 55, 4, 132, 7, 1]
abbrev dktX1_addGuest_4 : List UInt8 := dkwX1_addGuest_4 ++ dktX1_addGuest_5
def dkwX1_addGuest_3 : List UInt8 := [55, 4, 132, 8, 1, 167, 255, 229, 3, 54, 6, 21, 6, 16, 6, 162, 0, 41, 3, 54, 7, 21, 7, 7]
abbrev dktX1_addGuest_3 : List UInt8 := dkwX1_addGuest_3 ++ dktX1_addGuest_4
def dkwX1_addGuest_2 : List UInt8 := [54, 8, 21, 8, 21, 7, 162, 0, 26, 25, 6, 21, 8, 46, 54, 9, 22, 4, 21, 9, 133, 184, 1, 67]
abbrev dktX1_addGuest_2 : List UInt8 := dkwX1_addGuest_2 ++ dktX1_addGuest_3
def dkwX1_addGuest_1 : List UInt8 := [184, 1, 67, 55, 4, 132, 6, 1, 167, 255, 231, 45, 180, 0, 216, 58, 6, 25, 6, 190, 54, 7, 3]
abbrev dktX1_addGuest_1 : List UInt8 := dkwX1_addGuest_1 ++ dktX1_addGuest_2
def dkwX1_addGuest_0 : List UInt8 := [31, 55, 4, 3, 54, 6, 21, 6, 16, 16, 162, 0, 24, 22, 4, 42, 45, 21, 6, 182, 0, 213, 133]
abbrev dktX1_addGuest_0 : List UInt8 := dkwX1_addGuest_0 ++ dktX1_addGuest_1
theorem dksX1_addGuest_0 : cX1_addGuest.data.toList.drop 0 = dktX1_addGuest_0 := by decide +kernel
theorem dksX1_addGuest_1 : cX1_addGuest.data.toList.drop 23 = dktX1_addGuest_1 := dk_seg dksX1_addGuest_0 23 rfl rfl
theorem dksX1_addGuest_2 : cX1_addGuest.data.toList.drop 46 = dktX1_addGuest_2 := dk_seg dksX1_addGuest_1 23 rfl rfl
theorem dksX1_addGuest_3 : cX1_addGuest.data.toList.drop 70 = dktX1_addGuest_3 := dk_seg dksX1_addGuest_2 24 rfl rfl
theorem dksX1_addGuest_4 : cX1_addGuest.data.toList.drop 94 = dktX1_addGuest_4 := dk_seg dksX1_addGuest_3 24 rfl rfl
theorem dksX1_addGuest_5 : cX1_addGuest.data.toList.drop 117 = dktX1_addGuest_5 := dk_seg dksX1_addGuest_4 23 rfl rfl
theorem dksX1_addGuest_6 : cX1_addGuest.data.toList.drop 141 = dktX1_addGuest_6 := dk_seg dksX1_addGuest_5 24 rfl rfl
theorem dksX1_addGuest_7 : cX1_addGuest.data.toList.drop 165 = dktX1_addGuest_7 := dk_seg dksX1_addGuest_6 24 rfl rfl
theorem dksX1_addGuest_8 : cX1_addGuest.data.toList.drop 189 = dktX1_addGuest_8 := dk_seg dksX1_addGuest_7 24 rfl rfl
theorem dksX1_addGuest_9 : cX1_addGuest.data.toList.drop 213 = dktX1_addGuest_9 := dk_seg dksX1_addGuest_8 24 rfl rfl
theorem dksX1_addGuest_10 : cX1_addGuest.data.toList.drop 235 = dktX1_addGuest_10 := dk_seg dksX1_addGuest_9 22 rfl rfl
theorem dksX1_addGuest_11 : cX1_addGuest.data.toList.drop 259 = dktX1_addGuest_11 := dk_seg dksX1_addGuest_10 24 rfl rfl
theorem dksX1_addGuest_12 : cX1_addGuest.data.toList.drop 283 = dktX1_addGuest_12 := dk_seg dksX1_addGuest_11 24 rfl rfl
theorem dX1_addGuest_0 : decode cX1_addGuest 0 = .ok (.lload_n 1, 1) := dk_31 (dk_at dksX1_addGuest_0 0 rfl rfl)
theorem dX1_addGuest_1 : decode cX1_addGuest 1 = .ok (.lstore 4, 2) := dk_55 4 (dk_at dksX1_addGuest_0 1 rfl rfl)
theorem dX1_addGuest_3 : decode cX1_addGuest 3 = .ok (.iconst 0, 1) := dk_3 (dk_at dksX1_addGuest_0 3 rfl rfl)
theorem dX1_addGuest_4 : decode cX1_addGuest 4 = .ok (.istore 6, 2) := dk_54 6 (dk_at dksX1_addGuest_0 4 rfl rfl)
theorem dX1_addGuest_6 : decode cX1_addGuest 6 = .ok (.iload 6, 2) := dk_21 6 (dk_at dksX1_addGuest_0 6 rfl rfl)
theorem dX1_addGuest_8 : decode cX1_addGuest 8 = .ok (.bipush 16, 2) := dk_16 16 (dk_at dksX1_addGuest_0 8 rfl rfl)
theorem dX1_addGuest_10 : decode cX1_addGuest 10 = .ok (.if_icmp .ge 24, 3) := dk_162 0 24 (dk_at dksX1_addGuest_0 10 rfl rfl)
theorem dX1_addGuest_13 : decode cX1_addGuest 13 = .ok (.lload 4, 2) := dk_22 4 (dk_at dksX1_addGuest_0 13 rfl rfl)
theorem dX1_addGuest_15 : decode cX1_addGuest 15 = .ok (.aload_n 0, 1) := dk_42 (dk_at dksX1_addGuest_0 15 rfl rfl)
theorem dX1_addGuest_16 : decode cX1_addGuest 16 = .ok (.aload_n 3, 1) := dk_45 (dk_at dksX1_addGuest_0 16 rfl rfl)
theorem dX1_addGuest_17 : decode cX1_addGuest 17 = .ok (.iload 6, 2) := dk_21 6 (dk_at dksX1_addGuest_0 17 rfl rfl)
theorem dX1_addGuest_19 : decode cX1_addGuest 19 = .ok (.invokevirtual 213, 3) := dk_182 0 213 (dk_at dksX1_addGuest_0 19 rfl rfl)
theorem dX1_addGuest_22 : decode cX1_addGuest 22 = .ok (.i2l, 1) := dk_133 (dk_at dksX1_addGuest_0 22 rfl rfl)
theorem dX1_addGuest_23 : decode cX1_addGuest 23 = .ok (.invokestatic 323, 3) := dk_184 1 67 (dk_at dksX1_addGuest_1 0 rfl rfl)
theorem dX1_addGuest_26 : decode cX1_addGuest 26 = .ok (.lstore 4, 2) := dk_55 4 (dk_at dksX1_addGuest_1 3 rfl rfl)
theorem dX1_addGuest_28 : decode cX1_addGuest 28 = .ok (.iinc 6 1, 3) := dk_132 6 1 (dk_at dksX1_addGuest_1 5 rfl rfl)
theorem dX1_addGuest_31 : decode cX1_addGuest 31 = .ok (.goto (-25), 3) := dk_167 255 231 (dk_at dksX1_addGuest_1 8 rfl rfl)
theorem dX1_addGuest_34 : decode cX1_addGuest 34 = .ok (.aload_n 3, 1) := dk_45 (dk_at dksX1_addGuest_1 11 rfl rfl)
theorem dX1_addGuest_35 : decode cX1_addGuest 35 = .ok (.getfield 216, 3) := dk_180 0 216 (dk_at dksX1_addGuest_1 12 rfl rfl)
theorem dX1_addGuest_38 : decode cX1_addGuest 38 = .ok (.astore 6, 2) := dk_58 6 (dk_at dksX1_addGuest_1 15 rfl rfl)
theorem dX1_addGuest_40 : decode cX1_addGuest 40 = .ok (.aload 6, 2) := dk_25 6 (dk_at dksX1_addGuest_1 17 rfl rfl)
theorem dX1_addGuest_42 : decode cX1_addGuest 42 = .ok (.arraylength, 1) := dk_190 (dk_at dksX1_addGuest_1 19 rfl rfl)
theorem dX1_addGuest_43 : decode cX1_addGuest 43 = .ok (.istore 7, 2) := dk_54 7 (dk_at dksX1_addGuest_1 20 rfl rfl)
theorem dX1_addGuest_45 : decode cX1_addGuest 45 = .ok (.iconst 0, 1) := dk_3 (dk_at dksX1_addGuest_1 22 rfl rfl)
theorem dX1_addGuest_46 : decode cX1_addGuest 46 = .ok (.istore 8, 2) := dk_54 8 (dk_at dksX1_addGuest_2 0 rfl rfl)
theorem dX1_addGuest_48 : decode cX1_addGuest 48 = .ok (.iload 8, 2) := dk_21 8 (dk_at dksX1_addGuest_2 2 rfl rfl)
theorem dX1_addGuest_50 : decode cX1_addGuest 50 = .ok (.iload 7, 2) := dk_21 7 (dk_at dksX1_addGuest_2 4 rfl rfl)
theorem dX1_addGuest_52 : decode cX1_addGuest 52 = .ok (.if_icmp .ge 26, 3) := dk_162 0 26 (dk_at dksX1_addGuest_2 6 rfl rfl)
theorem dX1_addGuest_55 : decode cX1_addGuest 55 = .ok (.aload 6, 2) := dk_25 6 (dk_at dksX1_addGuest_2 9 rfl rfl)
theorem dX1_addGuest_57 : decode cX1_addGuest 57 = .ok (.iload 8, 2) := dk_21 8 (dk_at dksX1_addGuest_2 11 rfl rfl)
theorem dX1_addGuest_59 : decode cX1_addGuest 59 = .ok (.iaload, 1) := dk_46 (dk_at dksX1_addGuest_2 13 rfl rfl)
theorem dX1_addGuest_60 : decode cX1_addGuest 60 = .ok (.istore 9, 2) := dk_54 9 (dk_at dksX1_addGuest_2 14 rfl rfl)
theorem dX1_addGuest_62 : decode cX1_addGuest 62 = .ok (.lload 4, 2) := dk_22 4 (dk_at dksX1_addGuest_2 16 rfl rfl)
theorem dX1_addGuest_64 : decode cX1_addGuest 64 = .ok (.iload 9, 2) := dk_21 9 (dk_at dksX1_addGuest_2 18 rfl rfl)
theorem dX1_addGuest_66 : decode cX1_addGuest 66 = .ok (.i2l, 1) := dk_133 (dk_at dksX1_addGuest_2 20 rfl rfl)
theorem dX1_addGuest_67 : decode cX1_addGuest 67 = .ok (.invokestatic 323, 3) := dk_184 1 67 (dk_at dksX1_addGuest_2 21 rfl rfl)
theorem dX1_addGuest_70 : decode cX1_addGuest 70 = .ok (.lstore 4, 2) := dk_55 4 (dk_at dksX1_addGuest_3 0 rfl rfl)
theorem dX1_addGuest_72 : decode cX1_addGuest 72 = .ok (.iinc 8 1, 3) := dk_132 8 1 (dk_at dksX1_addGuest_3 2 rfl rfl)
theorem dX1_addGuest_75 : decode cX1_addGuest 75 = .ok (.goto (-27), 3) := dk_167 255 229 (dk_at dksX1_addGuest_3 5 rfl rfl)
theorem dX1_addGuest_78 : decode cX1_addGuest 78 = .ok (.iconst 0, 1) := dk_3 (dk_at dksX1_addGuest_3 8 rfl rfl)
theorem dX1_addGuest_79 : decode cX1_addGuest 79 = .ok (.istore 6, 2) := dk_54 6 (dk_at dksX1_addGuest_3 9 rfl rfl)
theorem dX1_addGuest_81 : decode cX1_addGuest 81 = .ok (.iload 6, 2) := dk_21 6 (dk_at dksX1_addGuest_3 11 rfl rfl)
theorem dX1_addGuest_83 : decode cX1_addGuest 83 = .ok (.bipush 6, 2) := dk_16 6 (dk_at dksX1_addGuest_3 13 rfl rfl)
theorem dX1_addGuest_85 : decode cX1_addGuest 85 = .ok (.if_icmp .ge 41, 3) := dk_162 0 41 (dk_at dksX1_addGuest_3 15 rfl rfl)
theorem dX1_addGuest_88 : decode cX1_addGuest 88 = .ok (.iconst 0, 1) := dk_3 (dk_at dksX1_addGuest_3 18 rfl rfl)
theorem dX1_addGuest_89 : decode cX1_addGuest 89 = .ok (.istore 7, 2) := dk_54 7 (dk_at dksX1_addGuest_3 19 rfl rfl)
theorem dX1_addGuest_91 : decode cX1_addGuest 91 = .ok (.iload 7, 2) := dk_21 7 (dk_at dksX1_addGuest_3 21 rfl rfl)
theorem dX1_addGuest_93 : decode cX1_addGuest 93 = .ok (.iconst 4, 1) := dk_7 (dk_at dksX1_addGuest_3 23 rfl rfl)
theorem dX1_addGuest_94 : decode cX1_addGuest 94 = .ok (.if_icmp .ge 26, 3) := dk_162 0 26 (dk_at dksX1_addGuest_4 0 rfl rfl)
theorem dX1_addGuest_97 : decode cX1_addGuest 97 = .ok (.lload 4, 2) := dk_22 4 (dk_at dksX1_addGuest_4 3 rfl rfl)
theorem dX1_addGuest_99 : decode cX1_addGuest 99 = .ok (.aload_n 0, 1) := dk_42 (dk_at dksX1_addGuest_4 5 rfl rfl)
theorem dX1_addGuest_100 : decode cX1_addGuest 100 = .ok (.aload_n 3, 1) := dk_45 (dk_at dksX1_addGuest_4 6 rfl rfl)
theorem dX1_addGuest_101 : decode cX1_addGuest 101 = .ok (.iload 6, 2) := dk_21 6 (dk_at dksX1_addGuest_4 7 rfl rfl)
theorem dX1_addGuest_103 : decode cX1_addGuest 103 = .ok (.iload 7, 2) := dk_21 7 (dk_at dksX1_addGuest_4 9 rfl rfl)
theorem dX1_addGuest_105 : decode cX1_addGuest 105 = .ok (.invokevirtual 233, 3) := dk_182 0 233 (dk_at dksX1_addGuest_4 11 rfl rfl)
theorem dX1_addGuest_108 : decode cX1_addGuest 108 = .ok (.i2l, 1) := dk_133 (dk_at dksX1_addGuest_4 14 rfl rfl)
theorem dX1_addGuest_109 : decode cX1_addGuest 109 = .ok (.invokestatic 323, 3) := dk_184 1 67 (dk_at dksX1_addGuest_4 15 rfl rfl)
theorem dX1_addGuest_112 : decode cX1_addGuest 112 = .ok (.lstore 4, 2) := dk_55 4 (dk_at dksX1_addGuest_4 18 rfl rfl)
theorem dX1_addGuest_114 : decode cX1_addGuest 114 = .ok (.iinc 7 1, 3) := dk_132 7 1 (dk_at dksX1_addGuest_4 20 rfl rfl)
theorem dX1_addGuest_117 : decode cX1_addGuest 117 = .ok (.goto (-26), 3) := dk_167 255 230 (dk_at dksX1_addGuest_5 0 rfl rfl)
theorem dX1_addGuest_120 : decode cX1_addGuest 120 = .ok (.iinc 6 1, 3) := dk_132 6 1 (dk_at dksX1_addGuest_5 3 rfl rfl)
theorem dX1_addGuest_123 : decode cX1_addGuest 123 = .ok (.goto (-42), 3) := dk_167 255 214 (dk_at dksX1_addGuest_5 6 rfl rfl)
theorem dX1_addGuest_126 : decode cX1_addGuest 126 = .ok (.iconst 0, 1) := dk_3 (dk_at dksX1_addGuest_5 9 rfl rfl)
theorem dX1_addGuest_127 : decode cX1_addGuest 127 = .ok (.istore 6, 2) := dk_54 6 (dk_at dksX1_addGuest_5 10 rfl rfl)
theorem dX1_addGuest_129 : decode cX1_addGuest 129 = .ok (.aload_n 3, 1) := dk_45 (dk_at dksX1_addGuest_5 12 rfl rfl)
theorem dX1_addGuest_130 : decode cX1_addGuest 130 = .ok (.iload 6, 2) := dk_21 6 (dk_at dksX1_addGuest_5 13 rfl rfl)
theorem dX1_addGuest_132 : decode cX1_addGuest 132 = .ok (.invokestatic 261, 3) := dk_184 1 5 (dk_at dksX1_addGuest_5 15 rfl rfl)
theorem dX1_addGuest_135 : decode cX1_addGuest 135 = .ok (.iconst (-1), 1) := dk_2 (dk_at dksX1_addGuest_5 18 rfl rfl)
theorem dX1_addGuest_136 : decode cX1_addGuest 136 = .ok (.if_icmp .eq 23, 3) := dk_159 0 23 (dk_at dksX1_addGuest_5 19 rfl rfl)
theorem dX1_addGuest_139 : decode cX1_addGuest 139 = .ok (.lload 4, 2) := dk_22 4 (dk_at dksX1_addGuest_5 22 rfl rfl)
theorem dX1_addGuest_141 : decode cX1_addGuest 141 = .ok (.aload_n 3, 1) := dk_45 (dk_at dksX1_addGuest_6 0 rfl rfl)
theorem dX1_addGuest_142 : decode cX1_addGuest 142 = .ok (.iload 6, 2) := dk_21 6 (dk_at dksX1_addGuest_6 1 rfl rfl)
theorem dX1_addGuest_144 : decode cX1_addGuest 144 = .ok (.invokestatic 261, 3) := dk_184 1 5 (dk_at dksX1_addGuest_6 3 rfl rfl)
theorem dX1_addGuest_147 : decode cX1_addGuest 147 = .ok (.i2l, 1) := dk_133 (dk_at dksX1_addGuest_6 6 rfl rfl)
theorem dX1_addGuest_148 : decode cX1_addGuest 148 = .ok (.invokestatic 323, 3) := dk_184 1 67 (dk_at dksX1_addGuest_6 7 rfl rfl)
theorem dX1_addGuest_151 : decode cX1_addGuest 151 = .ok (.lstore 4, 2) := dk_55 4 (dk_at dksX1_addGuest_6 10 rfl rfl)
theorem dX1_addGuest_153 : decode cX1_addGuest 153 = .ok (.iinc 6 1, 3) := dk_132 6 1 (dk_at dksX1_addGuest_6 12 rfl rfl)
theorem dX1_addGuest_156 : decode cX1_addGuest 156 = .ok (.goto (-27), 3) := dk_167 255 229 (dk_at dksX1_addGuest_6 15 rfl rfl)
theorem dX1_addGuest_159 : decode cX1_addGuest 159 = .ok (.iconst 3, 1) := dk_6 (dk_at dksX1_addGuest_6 18 rfl rfl)
theorem dX1_addGuest_160 : decode cX1_addGuest 160 = .ok (.newarray .int, 2) := dk_188_10 (dk_at dksX1_addGuest_6 19 rfl rfl)
theorem dX1_addGuest_162 : decode cX1_addGuest 162 = .ok (.dup, 1) := dk_89 (dk_at dksX1_addGuest_6 21 rfl rfl)
theorem dX1_addGuest_163 : decode cX1_addGuest 163 = .ok (.iconst 0, 1) := dk_3 (dk_at dksX1_addGuest_6 22 rfl rfl)
theorem dX1_addGuest_164 : decode cX1_addGuest 164 = .ok (.iconst 0, 1) := dk_3 (dk_at dksX1_addGuest_6 23 rfl rfl)
theorem dX1_addGuest_165 : decode cX1_addGuest 165 = .ok (.iastore, 1) := dk_79 (dk_at dksX1_addGuest_7 0 rfl rfl)
theorem dX1_addGuest_166 : decode cX1_addGuest 166 = .ok (.dup, 1) := dk_89 (dk_at dksX1_addGuest_7 1 rfl rfl)
theorem dX1_addGuest_167 : decode cX1_addGuest 167 = .ok (.iconst 1, 1) := dk_4 (dk_at dksX1_addGuest_7 2 rfl rfl)
theorem dX1_addGuest_168 : decode cX1_addGuest 168 = .ok (.iconst 5, 1) := dk_8 (dk_at dksX1_addGuest_7 3 rfl rfl)
theorem dX1_addGuest_169 : decode cX1_addGuest 169 = .ok (.iastore, 1) := dk_79 (dk_at dksX1_addGuest_7 4 rfl rfl)
theorem dX1_addGuest_170 : decode cX1_addGuest 170 = .ok (.dup, 1) := dk_89 (dk_at dksX1_addGuest_7 5 rfl rfl)
theorem dX1_addGuest_171 : decode cX1_addGuest 171 = .ok (.iconst 2, 1) := dk_5 (dk_at dksX1_addGuest_7 6 rfl rfl)
theorem dX1_addGuest_172 : decode cX1_addGuest 172 = .ok (.bipush 12, 2) := dk_16 12 (dk_at dksX1_addGuest_7 7 rfl rfl)
theorem dX1_addGuest_174 : decode cX1_addGuest 174 = .ok (.iastore, 1) := dk_79 (dk_at dksX1_addGuest_7 9 rfl rfl)
theorem dX1_addGuest_175 : decode cX1_addGuest 175 = .ok (.astore 6, 2) := dk_58 6 (dk_at dksX1_addGuest_7 10 rfl rfl)
theorem dX1_addGuest_177 : decode cX1_addGuest 177 = .ok (.aload 6, 2) := dk_25 6 (dk_at dksX1_addGuest_7 12 rfl rfl)
theorem dX1_addGuest_179 : decode cX1_addGuest 179 = .ok (.astore 7, 2) := dk_58 7 (dk_at dksX1_addGuest_7 14 rfl rfl)
theorem dX1_addGuest_181 : decode cX1_addGuest 181 = .ok (.aload 7, 2) := dk_25 7 (dk_at dksX1_addGuest_7 16 rfl rfl)
theorem dX1_addGuest_183 : decode cX1_addGuest 183 = .ok (.arraylength, 1) := dk_190 (dk_at dksX1_addGuest_7 18 rfl rfl)
theorem dX1_addGuest_184 : decode cX1_addGuest 184 = .ok (.istore 8, 2) := dk_54 8 (dk_at dksX1_addGuest_7 19 rfl rfl)
theorem dX1_addGuest_186 : decode cX1_addGuest 186 = .ok (.iconst 0, 1) := dk_3 (dk_at dksX1_addGuest_7 21 rfl rfl)
theorem dX1_addGuest_187 : decode cX1_addGuest 187 = .ok (.istore 9, 2) := dk_54 9 (dk_at dksX1_addGuest_7 22 rfl rfl)
theorem dX1_addGuest_189 : decode cX1_addGuest 189 = .ok (.iload 9, 2) := dk_21 9 (dk_at dksX1_addGuest_8 0 rfl rfl)
theorem dX1_addGuest_191 : decode cX1_addGuest 191 = .ok (.iload 8, 2) := dk_21 8 (dk_at dksX1_addGuest_8 2 rfl rfl)
theorem dX1_addGuest_193 : decode cX1_addGuest 193 = .ok (.if_icmp .ge 53, 3) := dk_162 0 53 (dk_at dksX1_addGuest_8 4 rfl rfl)
theorem dX1_addGuest_196 : decode cX1_addGuest 196 = .ok (.aload 7, 2) := dk_25 7 (dk_at dksX1_addGuest_8 7 rfl rfl)
theorem dX1_addGuest_198 : decode cX1_addGuest 198 = .ok (.iload 9, 2) := dk_21 9 (dk_at dksX1_addGuest_8 9 rfl rfl)
theorem dX1_addGuest_200 : decode cX1_addGuest 200 = .ok (.iaload, 1) := dk_46 (dk_at dksX1_addGuest_8 11 rfl rfl)
theorem dX1_addGuest_201 : decode cX1_addGuest 201 = .ok (.istore 10, 2) := dk_54 10 (dk_at dksX1_addGuest_8 12 rfl rfl)
theorem dX1_addGuest_203 : decode cX1_addGuest 203 = .ok (.lload 4, 2) := dk_22 4 (dk_at dksX1_addGuest_8 14 rfl rfl)
theorem dX1_addGuest_205 : decode cX1_addGuest 205 = .ok (.aload_n 3, 1) := dk_45 (dk_at dksX1_addGuest_8 16 rfl rfl)
theorem dX1_addGuest_206 : decode cX1_addGuest 206 = .ok (.iload 10, 2) := dk_21 10 (dk_at dksX1_addGuest_8 17 rfl rfl)
theorem dX1_addGuest_208 : decode cX1_addGuest 208 = .ok (.iconst 0, 1) := dk_3 (dk_at dksX1_addGuest_8 19 rfl rfl)
theorem dX1_addGuest_209 : decode cX1_addGuest 209 = .ok (.invokestatic 306, 3) := dk_184 1 50 (dk_at dksX1_addGuest_8 20 rfl rfl)
theorem dX1_addGuest_212 : decode cX1_addGuest 212 = .ok (.i2l, 1) := dk_133 (dk_at dksX1_addGuest_8 23 rfl rfl)
theorem dX1_addGuest_213 : decode cX1_addGuest 213 = .ok (.invokestatic 323, 3) := dk_184 1 67 (dk_at dksX1_addGuest_9 0 rfl rfl)
theorem dX1_addGuest_216 : decode cX1_addGuest 216 = .ok (.aload_n 3, 1) := dk_45 (dk_at dksX1_addGuest_9 3 rfl rfl)
theorem dX1_addGuest_217 : decode cX1_addGuest 217 = .ok (.iload 10, 2) := dk_21 10 (dk_at dksX1_addGuest_9 4 rfl rfl)
theorem dX1_addGuest_219 : decode cX1_addGuest 219 = .ok (.iconst 1, 1) := dk_4 (dk_at dksX1_addGuest_9 6 rfl rfl)
theorem dX1_addGuest_220 : decode cX1_addGuest 220 = .ok (.invokestatic 306, 3) := dk_184 1 50 (dk_at dksX1_addGuest_9 7 rfl rfl)
theorem dX1_addGuest_223 : decode cX1_addGuest 223 = .ok (.i2l, 1) := dk_133 (dk_at dksX1_addGuest_9 10 rfl rfl)
theorem dX1_addGuest_224 : decode cX1_addGuest 224 = .ok (.invokestatic 323, 3) := dk_184 1 67 (dk_at dksX1_addGuest_9 11 rfl rfl)
theorem dX1_addGuest_227 : decode cX1_addGuest 227 = .ok (.aload_n 3, 1) := dk_45 (dk_at dksX1_addGuest_9 14 rfl rfl)
theorem dX1_addGuest_228 : decode cX1_addGuest 228 = .ok (.iload 10, 2) := dk_21 10 (dk_at dksX1_addGuest_9 15 rfl rfl)
theorem dX1_addGuest_230 : decode cX1_addGuest 230 = .ok (.iconst (-1), 1) := dk_2 (dk_at dksX1_addGuest_9 17 rfl rfl)
theorem dX1_addGuest_231 : decode cX1_addGuest 231 = .ok (.invokestatic 306, 3) := dk_184 1 50 (dk_at dksX1_addGuest_9 18 rfl rfl)
theorem dX1_addGuest_234 : decode cX1_addGuest 234 = .ok (.i2l, 1) := dk_133 (dk_at dksX1_addGuest_9 21 rfl rfl)
theorem dX1_addGuest_235 : decode cX1_addGuest 235 = .ok (.invokestatic 323, 3) := dk_184 1 67 (dk_at dksX1_addGuest_10 0 rfl rfl)
theorem dX1_addGuest_238 : decode cX1_addGuest 238 = .ok (.lstore 4, 2) := dk_55 4 (dk_at dksX1_addGuest_10 3 rfl rfl)
theorem dX1_addGuest_240 : decode cX1_addGuest 240 = .ok (.iinc 9 1, 3) := dk_132 9 1 (dk_at dksX1_addGuest_10 5 rfl rfl)
theorem dX1_addGuest_243 : decode cX1_addGuest 243 = .ok (.goto (-54), 3) := dk_167 255 202 (dk_at dksX1_addGuest_10 8 rfl rfl)
theorem dX1_addGuest_246 : decode cX1_addGuest 246 = .ok (.lload 4, 2) := dk_22 4 (dk_at dksX1_addGuest_10 11 rfl rfl)
theorem dX1_addGuest_248 : decode cX1_addGuest 248 = .ok (.aload_n 0, 1) := dk_42 (dk_at dksX1_addGuest_10 13 rfl rfl)
theorem dX1_addGuest_249 : decode cX1_addGuest 249 = .ok (.aload_n 3, 1) := dk_45 (dk_at dksX1_addGuest_10 14 rfl rfl)
theorem dX1_addGuest_250 : decode cX1_addGuest 250 = .ok (.getfield 243, 3) := dk_180 0 243 (dk_at dksX1_addGuest_10 15 rfl rfl)
theorem dX1_addGuest_253 : decode cX1_addGuest 253 = .ok (.bipush 10, 2) := dk_16 10 (dk_at dksX1_addGuest_10 18 rfl rfl)
theorem dX1_addGuest_255 : decode cX1_addGuest 255 = .ok (.invokevirtual 312, 3) := dk_182 1 56 (dk_at dksX1_addGuest_10 20 rfl rfl)
theorem dX1_addGuest_258 : decode cX1_addGuest 258 = .ok (.i2l, 1) := dk_133 (dk_at dksX1_addGuest_10 23 rfl rfl)
theorem dX1_addGuest_259 : decode cX1_addGuest 259 = .ok (.invokestatic 323, 3) := dk_184 1 67 (dk_at dksX1_addGuest_11 0 rfl rfl)
theorem dX1_addGuest_262 : decode cX1_addGuest 262 = .ok (.lstore 4, 2) := dk_55 4 (dk_at dksX1_addGuest_11 3 rfl rfl)
theorem dX1_addGuest_264 : decode cX1_addGuest 264 = .ok (.aload_n 3, 1) := dk_45 (dk_at dksX1_addGuest_11 5 rfl rfl)
theorem dX1_addGuest_265 : decode cX1_addGuest 265 = .ok (.invokestatic 134, 3) := dk_184 0 134 (dk_at dksX1_addGuest_11 6 rfl rfl)
theorem dX1_addGuest_268 : decode cX1_addGuest 268 = .ok (.ifCond .eq 21, 3) := dk_153 0 21 (dk_at dksX1_addGuest_11 9 rfl rfl)
theorem dX1_addGuest_271 : decode cX1_addGuest 271 = .ok (.lload 4, 2) := dk_22 4 (dk_at dksX1_addGuest_11 12 rfl rfl)
theorem dX1_addGuest_273 : decode cX1_addGuest 273 = .ok (.aload_n 0, 1) := dk_42 (dk_at dksX1_addGuest_11 14 rfl rfl)
theorem dX1_addGuest_274 : decode cX1_addGuest 274 = .ok (.aload_n 3, 1) := dk_45 (dk_at dksX1_addGuest_11 15 rfl rfl)
theorem dX1_addGuest_275 : decode cX1_addGuest 275 = .ok (.getfield 243, 3) := dk_180 0 243 (dk_at dksX1_addGuest_11 16 rfl rfl)
theorem dX1_addGuest_278 : decode cX1_addGuest 278 = .ok (.iconst 2, 1) := dk_5 (dk_at dksX1_addGuest_11 19 rfl rfl)
theorem dX1_addGuest_279 : decode cX1_addGuest 279 = .ok (.invokevirtual 316, 3) := dk_182 1 60 (dk_at dksX1_addGuest_11 20 rfl rfl)
theorem dX1_addGuest_282 : decode cX1_addGuest 282 = .ok (.i2l, 1) := dk_133 (dk_at dksX1_addGuest_11 23 rfl rfl)
theorem dX1_addGuest_283 : decode cX1_addGuest 283 = .ok (.invokestatic 323, 3) := dk_184 1 67 (dk_at dksX1_addGuest_12 0 rfl rfl)
theorem dX1_addGuest_286 : decode cX1_addGuest 286 = .ok (.goto 5, 3) := dk_167 0 5 (dk_at dksX1_addGuest_12 3 rfl rfl)
theorem dX1_addGuest_289 : decode cX1_addGuest 289 = .ok (.lload 4, 2) := dk_22 4 (dk_at dksX1_addGuest_12 6 rfl rfl)
theorem dX1_addGuest_291 : decode cX1_addGuest 291 = .ok (.lreturn, 1) := dk_173 (dk_at dksX1_addGuest_12 8 rfl rfl)
abbrev cX1_told : ByteArray := prog_1_method_24_code
def yX1_told : MethodName := ⟨RX1, "told", "(LHyperVane$Guest;I)I"⟩
def dkwX1_told_6 : List UInt8 := [172]
abbrev dktX1_told_6 : List UInt8 := dkwX1_told_6 ++ []
def dkwX1_told_5 : List UInt8 := [180, 0, 207, 79, 89, 16, 14, 43, 180, 0, 210, 79, 89, 16, 15, 43, 180, 0, 108, 79, 78, 45, 28, 46]
abbrev dktX1_told_5 : List UInt8 := dkwX1_told_5 ++ dktX1_told_6
def dkwX1_told_4 : List UInt8 := [89, 16, 11, 42, 43, 5, 182, 0, 201, 79, 89, 16, 12, 43, 182, 0, 204, 79, 89, 16, 13, 43]
abbrev dktX1_told_4 : List UInt8 := dkwX1_told_4 ++ dktX1_told_5
def dkwX1_told_3 : List UInt8 := [180, 0, 198, 79, 89, 16, 9, 42, 43, 3, 182, 0, 201, 79, 89, 16, 10, 42, 43, 4, 182, 0, 201, 79]
abbrev dktX1_told_3 : List UInt8 := dkwX1_told_3 ++ dktX1_told_4
def dkwX1_told_2 : List UInt8 := [180, 0, 189, 79, 89, 16, 6, 43, 180, 0, 192, 79, 89, 16, 7, 43, 180, 0, 195, 79, 89, 16, 8, 43]
abbrev dktX1_told_2 : List UInt8 := dkwX1_told_2 ++ dktX1_told_3
def dkwX1_told_1 : List UInt8 := [180, 0, 81, 180, 0, 180, 79, 89, 6, 43, 180, 0, 183, 79, 89, 7, 43, 180, 0, 186, 79, 89, 8, 43]
abbrev dktX1_told_1 : List UInt8 := dkwX1_told_1 ++ dktX1_told_2
def dkwX1_told_0 : List UInt8 := [16, 16, 188, 10, 89, 3, 43, 180, 0, 101, 79, 89, 4, 43, 180, 0, 81, 180, 0, 177, 79, 89, 5, 43]
abbrev dktX1_told_0 : List UInt8 := dkwX1_told_0 ++ dktX1_told_1
theorem dksX1_told_0 : cX1_told.data.toList.drop 0 = dktX1_told_0 := by decide +kernel
theorem dksX1_told_1 : cX1_told.data.toList.drop 24 = dktX1_told_1 := dk_seg dksX1_told_0 24 rfl rfl
theorem dksX1_told_2 : cX1_told.data.toList.drop 48 = dktX1_told_2 := dk_seg dksX1_told_1 24 rfl rfl
theorem dksX1_told_3 : cX1_told.data.toList.drop 72 = dktX1_told_3 := dk_seg dksX1_told_2 24 rfl rfl
theorem dksX1_told_4 : cX1_told.data.toList.drop 96 = dktX1_told_4 := dk_seg dksX1_told_3 24 rfl rfl
theorem dksX1_told_5 : cX1_told.data.toList.drop 118 = dktX1_told_5 := dk_seg dksX1_told_4 22 rfl rfl
theorem dksX1_told_6 : cX1_told.data.toList.drop 142 = dktX1_told_6 := dk_seg dksX1_told_5 24 rfl rfl
theorem dX1_told_0 : decode cX1_told 0 = .ok (.bipush 16, 2) := dk_16 16 (dk_at dksX1_told_0 0 rfl rfl)
theorem dX1_told_2 : decode cX1_told 2 = .ok (.newarray .int, 2) := dk_188_10 (dk_at dksX1_told_0 2 rfl rfl)
theorem dX1_told_4 : decode cX1_told 4 = .ok (.dup, 1) := dk_89 (dk_at dksX1_told_0 4 rfl rfl)
theorem dX1_told_5 : decode cX1_told 5 = .ok (.iconst 0, 1) := dk_3 (dk_at dksX1_told_0 5 rfl rfl)
theorem dX1_told_6 : decode cX1_told 6 = .ok (.aload_n 1, 1) := dk_43 (dk_at dksX1_told_0 6 rfl rfl)
theorem dX1_told_7 : decode cX1_told 7 = .ok (.getfield 101, 3) := dk_180 0 101 (dk_at dksX1_told_0 7 rfl rfl)
theorem dX1_told_10 : decode cX1_told 10 = .ok (.iastore, 1) := dk_79 (dk_at dksX1_told_0 10 rfl rfl)
theorem dX1_told_11 : decode cX1_told 11 = .ok (.dup, 1) := dk_89 (dk_at dksX1_told_0 11 rfl rfl)
theorem dX1_told_12 : decode cX1_told 12 = .ok (.iconst 1, 1) := dk_4 (dk_at dksX1_told_0 12 rfl rfl)
theorem dX1_told_13 : decode cX1_told 13 = .ok (.aload_n 1, 1) := dk_43 (dk_at dksX1_told_0 13 rfl rfl)
theorem dX1_told_14 : decode cX1_told 14 = .ok (.getfield 81, 3) := dk_180 0 81 (dk_at dksX1_told_0 14 rfl rfl)
theorem dX1_told_17 : decode cX1_told 17 = .ok (.getfield 177, 3) := dk_180 0 177 (dk_at dksX1_told_0 17 rfl rfl)
theorem dX1_told_20 : decode cX1_told 20 = .ok (.iastore, 1) := dk_79 (dk_at dksX1_told_0 20 rfl rfl)
theorem dX1_told_21 : decode cX1_told 21 = .ok (.dup, 1) := dk_89 (dk_at dksX1_told_0 21 rfl rfl)
theorem dX1_told_22 : decode cX1_told 22 = .ok (.iconst 2, 1) := dk_5 (dk_at dksX1_told_0 22 rfl rfl)
theorem dX1_told_23 : decode cX1_told 23 = .ok (.aload_n 1, 1) := dk_43 (dk_at dksX1_told_0 23 rfl rfl)
theorem dX1_told_24 : decode cX1_told 24 = .ok (.getfield 81, 3) := dk_180 0 81 (dk_at dksX1_told_1 0 rfl rfl)
theorem dX1_told_27 : decode cX1_told 27 = .ok (.getfield 180, 3) := dk_180 0 180 (dk_at dksX1_told_1 3 rfl rfl)
theorem dX1_told_30 : decode cX1_told 30 = .ok (.iastore, 1) := dk_79 (dk_at dksX1_told_1 6 rfl rfl)
theorem dX1_told_31 : decode cX1_told 31 = .ok (.dup, 1) := dk_89 (dk_at dksX1_told_1 7 rfl rfl)
theorem dX1_told_32 : decode cX1_told 32 = .ok (.iconst 3, 1) := dk_6 (dk_at dksX1_told_1 8 rfl rfl)
theorem dX1_told_33 : decode cX1_told 33 = .ok (.aload_n 1, 1) := dk_43 (dk_at dksX1_told_1 9 rfl rfl)
theorem dX1_told_34 : decode cX1_told 34 = .ok (.getfield 183, 3) := dk_180 0 183 (dk_at dksX1_told_1 10 rfl rfl)
theorem dX1_told_37 : decode cX1_told 37 = .ok (.iastore, 1) := dk_79 (dk_at dksX1_told_1 13 rfl rfl)
theorem dX1_told_38 : decode cX1_told 38 = .ok (.dup, 1) := dk_89 (dk_at dksX1_told_1 14 rfl rfl)
theorem dX1_told_39 : decode cX1_told 39 = .ok (.iconst 4, 1) := dk_7 (dk_at dksX1_told_1 15 rfl rfl)
theorem dX1_told_40 : decode cX1_told 40 = .ok (.aload_n 1, 1) := dk_43 (dk_at dksX1_told_1 16 rfl rfl)
theorem dX1_told_41 : decode cX1_told 41 = .ok (.getfield 186, 3) := dk_180 0 186 (dk_at dksX1_told_1 17 rfl rfl)
theorem dX1_told_44 : decode cX1_told 44 = .ok (.iastore, 1) := dk_79 (dk_at dksX1_told_1 20 rfl rfl)
theorem dX1_told_45 : decode cX1_told 45 = .ok (.dup, 1) := dk_89 (dk_at dksX1_told_1 21 rfl rfl)
theorem dX1_told_46 : decode cX1_told 46 = .ok (.iconst 5, 1) := dk_8 (dk_at dksX1_told_1 22 rfl rfl)
theorem dX1_told_47 : decode cX1_told 47 = .ok (.aload_n 1, 1) := dk_43 (dk_at dksX1_told_1 23 rfl rfl)
theorem dX1_told_48 : decode cX1_told 48 = .ok (.getfield 189, 3) := dk_180 0 189 (dk_at dksX1_told_2 0 rfl rfl)
theorem dX1_told_51 : decode cX1_told 51 = .ok (.iastore, 1) := dk_79 (dk_at dksX1_told_2 3 rfl rfl)
theorem dX1_told_52 : decode cX1_told 52 = .ok (.dup, 1) := dk_89 (dk_at dksX1_told_2 4 rfl rfl)
theorem dX1_told_53 : decode cX1_told 53 = .ok (.bipush 6, 2) := dk_16 6 (dk_at dksX1_told_2 5 rfl rfl)
theorem dX1_told_55 : decode cX1_told 55 = .ok (.aload_n 1, 1) := dk_43 (dk_at dksX1_told_2 7 rfl rfl)
theorem dX1_told_56 : decode cX1_told 56 = .ok (.getfield 192, 3) := dk_180 0 192 (dk_at dksX1_told_2 8 rfl rfl)
theorem dX1_told_59 : decode cX1_told 59 = .ok (.iastore, 1) := dk_79 (dk_at dksX1_told_2 11 rfl rfl)
theorem dX1_told_60 : decode cX1_told 60 = .ok (.dup, 1) := dk_89 (dk_at dksX1_told_2 12 rfl rfl)
theorem dX1_told_61 : decode cX1_told 61 = .ok (.bipush 7, 2) := dk_16 7 (dk_at dksX1_told_2 13 rfl rfl)
theorem dX1_told_63 : decode cX1_told 63 = .ok (.aload_n 1, 1) := dk_43 (dk_at dksX1_told_2 15 rfl rfl)
theorem dX1_told_64 : decode cX1_told 64 = .ok (.getfield 195, 3) := dk_180 0 195 (dk_at dksX1_told_2 16 rfl rfl)
theorem dX1_told_67 : decode cX1_told 67 = .ok (.iastore, 1) := dk_79 (dk_at dksX1_told_2 19 rfl rfl)
theorem dX1_told_68 : decode cX1_told 68 = .ok (.dup, 1) := dk_89 (dk_at dksX1_told_2 20 rfl rfl)
theorem dX1_told_69 : decode cX1_told 69 = .ok (.bipush 8, 2) := dk_16 8 (dk_at dksX1_told_2 21 rfl rfl)
theorem dX1_told_71 : decode cX1_told 71 = .ok (.aload_n 1, 1) := dk_43 (dk_at dksX1_told_2 23 rfl rfl)
theorem dX1_told_72 : decode cX1_told 72 = .ok (.getfield 198, 3) := dk_180 0 198 (dk_at dksX1_told_3 0 rfl rfl)
theorem dX1_told_75 : decode cX1_told 75 = .ok (.iastore, 1) := dk_79 (dk_at dksX1_told_3 3 rfl rfl)
theorem dX1_told_76 : decode cX1_told 76 = .ok (.dup, 1) := dk_89 (dk_at dksX1_told_3 4 rfl rfl)
theorem dX1_told_77 : decode cX1_told 77 = .ok (.bipush 9, 2) := dk_16 9 (dk_at dksX1_told_3 5 rfl rfl)
theorem dX1_told_79 : decode cX1_told 79 = .ok (.aload_n 0, 1) := dk_42 (dk_at dksX1_told_3 7 rfl rfl)
theorem dX1_told_80 : decode cX1_told 80 = .ok (.aload_n 1, 1) := dk_43 (dk_at dksX1_told_3 8 rfl rfl)
theorem dX1_told_81 : decode cX1_told 81 = .ok (.iconst 0, 1) := dk_3 (dk_at dksX1_told_3 9 rfl rfl)
theorem dX1_told_82 : decode cX1_told 82 = .ok (.invokevirtual 201, 3) := dk_182 0 201 (dk_at dksX1_told_3 10 rfl rfl)
theorem dX1_told_85 : decode cX1_told 85 = .ok (.iastore, 1) := dk_79 (dk_at dksX1_told_3 13 rfl rfl)
theorem dX1_told_86 : decode cX1_told 86 = .ok (.dup, 1) := dk_89 (dk_at dksX1_told_3 14 rfl rfl)
theorem dX1_told_87 : decode cX1_told 87 = .ok (.bipush 10, 2) := dk_16 10 (dk_at dksX1_told_3 15 rfl rfl)
theorem dX1_told_89 : decode cX1_told 89 = .ok (.aload_n 0, 1) := dk_42 (dk_at dksX1_told_3 17 rfl rfl)
theorem dX1_told_90 : decode cX1_told 90 = .ok (.aload_n 1, 1) := dk_43 (dk_at dksX1_told_3 18 rfl rfl)
theorem dX1_told_91 : decode cX1_told 91 = .ok (.iconst 1, 1) := dk_4 (dk_at dksX1_told_3 19 rfl rfl)
theorem dX1_told_92 : decode cX1_told 92 = .ok (.invokevirtual 201, 3) := dk_182 0 201 (dk_at dksX1_told_3 20 rfl rfl)
theorem dX1_told_95 : decode cX1_told 95 = .ok (.iastore, 1) := dk_79 (dk_at dksX1_told_3 23 rfl rfl)
theorem dX1_told_96 : decode cX1_told 96 = .ok (.dup, 1) := dk_89 (dk_at dksX1_told_4 0 rfl rfl)
theorem dX1_told_97 : decode cX1_told 97 = .ok (.bipush 11, 2) := dk_16 11 (dk_at dksX1_told_4 1 rfl rfl)
theorem dX1_told_99 : decode cX1_told 99 = .ok (.aload_n 0, 1) := dk_42 (dk_at dksX1_told_4 3 rfl rfl)
theorem dX1_told_100 : decode cX1_told 100 = .ok (.aload_n 1, 1) := dk_43 (dk_at dksX1_told_4 4 rfl rfl)
theorem dX1_told_101 : decode cX1_told 101 = .ok (.iconst 2, 1) := dk_5 (dk_at dksX1_told_4 5 rfl rfl)
theorem dX1_told_102 : decode cX1_told 102 = .ok (.invokevirtual 201, 3) := dk_182 0 201 (dk_at dksX1_told_4 6 rfl rfl)
theorem dX1_told_105 : decode cX1_told 105 = .ok (.iastore, 1) := dk_79 (dk_at dksX1_told_4 9 rfl rfl)
theorem dX1_told_106 : decode cX1_told 106 = .ok (.dup, 1) := dk_89 (dk_at dksX1_told_4 10 rfl rfl)
theorem dX1_told_107 : decode cX1_told 107 = .ok (.bipush 12, 2) := dk_16 12 (dk_at dksX1_told_4 11 rfl rfl)
theorem dX1_told_109 : decode cX1_told 109 = .ok (.aload_n 1, 1) := dk_43 (dk_at dksX1_told_4 13 rfl rfl)
theorem dX1_told_110 : decode cX1_told 110 = .ok (.invokevirtual 204, 3) := dk_182 0 204 (dk_at dksX1_told_4 14 rfl rfl)
theorem dX1_told_113 : decode cX1_told 113 = .ok (.iastore, 1) := dk_79 (dk_at dksX1_told_4 17 rfl rfl)
theorem dX1_told_114 : decode cX1_told 114 = .ok (.dup, 1) := dk_89 (dk_at dksX1_told_4 18 rfl rfl)
theorem dX1_told_115 : decode cX1_told 115 = .ok (.bipush 13, 2) := dk_16 13 (dk_at dksX1_told_4 19 rfl rfl)
theorem dX1_told_117 : decode cX1_told 117 = .ok (.aload_n 1, 1) := dk_43 (dk_at dksX1_told_4 21 rfl rfl)
theorem dX1_told_118 : decode cX1_told 118 = .ok (.getfield 207, 3) := dk_180 0 207 (dk_at dksX1_told_5 0 rfl rfl)
theorem dX1_told_121 : decode cX1_told 121 = .ok (.iastore, 1) := dk_79 (dk_at dksX1_told_5 3 rfl rfl)
theorem dX1_told_122 : decode cX1_told 122 = .ok (.dup, 1) := dk_89 (dk_at dksX1_told_5 4 rfl rfl)
theorem dX1_told_123 : decode cX1_told 123 = .ok (.bipush 14, 2) := dk_16 14 (dk_at dksX1_told_5 5 rfl rfl)
theorem dX1_told_125 : decode cX1_told 125 = .ok (.aload_n 1, 1) := dk_43 (dk_at dksX1_told_5 7 rfl rfl)
theorem dX1_told_126 : decode cX1_told 126 = .ok (.getfield 210, 3) := dk_180 0 210 (dk_at dksX1_told_5 8 rfl rfl)
theorem dX1_told_129 : decode cX1_told 129 = .ok (.iastore, 1) := dk_79 (dk_at dksX1_told_5 11 rfl rfl)
theorem dX1_told_130 : decode cX1_told 130 = .ok (.dup, 1) := dk_89 (dk_at dksX1_told_5 12 rfl rfl)
theorem dX1_told_131 : decode cX1_told 131 = .ok (.bipush 15, 2) := dk_16 15 (dk_at dksX1_told_5 13 rfl rfl)
theorem dX1_told_133 : decode cX1_told 133 = .ok (.aload_n 1, 1) := dk_43 (dk_at dksX1_told_5 15 rfl rfl)
theorem dX1_told_134 : decode cX1_told 134 = .ok (.getfield 108, 3) := dk_180 0 108 (dk_at dksX1_told_5 16 rfl rfl)
theorem dX1_told_137 : decode cX1_told 137 = .ok (.iastore, 1) := dk_79 (dk_at dksX1_told_5 19 rfl rfl)
theorem dX1_told_138 : decode cX1_told 138 = .ok (.astore_n 3, 1) := dk_78 (dk_at dksX1_told_5 20 rfl rfl)
theorem dX1_told_139 : decode cX1_told 139 = .ok (.aload_n 3, 1) := dk_45 (dk_at dksX1_told_5 21 rfl rfl)
theorem dX1_told_140 : decode cX1_told 140 = .ok (.iload_n 2, 1) := dk_28 (dk_at dksX1_told_5 22 rfl rfl)
theorem dX1_told_141 : decode cX1_told 141 = .ok (.iaload, 1) := dk_46 (dk_at dksX1_told_5 23 rfl rfl)
theorem dX1_told_142 : decode cX1_told 142 = .ok (.ireturn, 1) := dk_172 (dk_at dksX1_told_6 0 rfl rfl)
abbrev cX1_manyIn : ByteArray := prog_1_method_22_code
def yX1_manyIn : MethodName := ⟨RX1, "manyIn", "(LHyperVane$Guest;I)I"⟩
def dkwX1_manyIn_1 : List UInt8 := [4, 167, 0, 4, 3, 184, 0, 162, 96, 62, 132, 4, 1, 167, 255, 224, 29, 172]
abbrev dktX1_manyIn_1 : List UInt8 := dkwX1_manyIn_1 ++ []
def dkwX1_manyIn_0 : List UInt8 := [3, 62, 3, 54, 4, 21, 4, 16, 6, 162, 0, 31, 29, 42, 43, 21, 4, 182, 0, 159, 28, 160, 0, 7]
abbrev dktX1_manyIn_0 : List UInt8 := dkwX1_manyIn_0 ++ dktX1_manyIn_1
theorem dksX1_manyIn_0 : cX1_manyIn.data.toList.drop 0 = dktX1_manyIn_0 := by decide +kernel
theorem dksX1_manyIn_1 : cX1_manyIn.data.toList.drop 24 = dktX1_manyIn_1 := dk_seg dksX1_manyIn_0 24 rfl rfl
theorem dX1_manyIn_0 : decode cX1_manyIn 0 = .ok (.iconst 0, 1) := dk_3 (dk_at dksX1_manyIn_0 0 rfl rfl)
theorem dX1_manyIn_1 : decode cX1_manyIn 1 = .ok (.istore_n 3, 1) := dk_62 (dk_at dksX1_manyIn_0 1 rfl rfl)
theorem dX1_manyIn_2 : decode cX1_manyIn 2 = .ok (.iconst 0, 1) := dk_3 (dk_at dksX1_manyIn_0 2 rfl rfl)
theorem dX1_manyIn_3 : decode cX1_manyIn 3 = .ok (.istore 4, 2) := dk_54 4 (dk_at dksX1_manyIn_0 3 rfl rfl)
theorem dX1_manyIn_5 : decode cX1_manyIn 5 = .ok (.iload 4, 2) := dk_21 4 (dk_at dksX1_manyIn_0 5 rfl rfl)
theorem dX1_manyIn_7 : decode cX1_manyIn 7 = .ok (.bipush 6, 2) := dk_16 6 (dk_at dksX1_manyIn_0 7 rfl rfl)
theorem dX1_manyIn_9 : decode cX1_manyIn 9 = .ok (.if_icmp .ge 31, 3) := dk_162 0 31 (dk_at dksX1_manyIn_0 9 rfl rfl)
theorem dX1_manyIn_12 : decode cX1_manyIn 12 = .ok (.iload_n 3, 1) := dk_29 (dk_at dksX1_manyIn_0 12 rfl rfl)
theorem dX1_manyIn_13 : decode cX1_manyIn 13 = .ok (.aload_n 0, 1) := dk_42 (dk_at dksX1_manyIn_0 13 rfl rfl)
theorem dX1_manyIn_14 : decode cX1_manyIn 14 = .ok (.aload_n 1, 1) := dk_43 (dk_at dksX1_manyIn_0 14 rfl rfl)
theorem dX1_manyIn_15 : decode cX1_manyIn 15 = .ok (.iload 4, 2) := dk_21 4 (dk_at dksX1_manyIn_0 15 rfl rfl)
theorem dX1_manyIn_17 : decode cX1_manyIn 17 = .ok (.invokevirtual 159, 3) := dk_182 0 159 (dk_at dksX1_manyIn_0 17 rfl rfl)
theorem dX1_manyIn_20 : decode cX1_manyIn 20 = .ok (.iload_n 2, 1) := dk_28 (dk_at dksX1_manyIn_0 20 rfl rfl)
theorem dX1_manyIn_21 : decode cX1_manyIn 21 = .ok (.if_icmp .ne 7, 3) := dk_160 0 7 (dk_at dksX1_manyIn_0 21 rfl rfl)
theorem dX1_manyIn_24 : decode cX1_manyIn 24 = .ok (.iconst 1, 1) := dk_4 (dk_at dksX1_manyIn_1 0 rfl rfl)
theorem dX1_manyIn_25 : decode cX1_manyIn 25 = .ok (.goto 4, 3) := dk_167 0 4 (dk_at dksX1_manyIn_1 1 rfl rfl)
theorem dX1_manyIn_28 : decode cX1_manyIn 28 = .ok (.iconst 0, 1) := dk_3 (dk_at dksX1_manyIn_1 4 rfl rfl)
theorem dX1_manyIn_29 : decode cX1_manyIn 29 = .ok (.invokestatic 162, 3) := dk_184 0 162 (dk_at dksX1_manyIn_1 5 rfl rfl)
theorem dX1_manyIn_32 : decode cX1_manyIn 32 = .ok (.iadd, 1) := dk_96 (dk_at dksX1_manyIn_1 8 rfl rfl)
theorem dX1_manyIn_33 : decode cX1_manyIn 33 = .ok (.istore_n 3, 1) := dk_62 (dk_at dksX1_manyIn_1 9 rfl rfl)
theorem dX1_manyIn_34 : decode cX1_manyIn 34 = .ok (.iinc 4 1, 3) := dk_132 4 1 (dk_at dksX1_manyIn_1 10 rfl rfl)
theorem dX1_manyIn_37 : decode cX1_manyIn 37 = .ok (.goto (-32), 3) := dk_167 255 224 (dk_at dksX1_manyIn_1 13 rfl rfl)
theorem dX1_manyIn_40 : decode cX1_manyIn 40 = .ok (.iload_n 3, 1) := dk_29 (dk_at dksX1_manyIn_1 16 rfl rfl)
theorem dX1_manyIn_41 : decode cX1_manyIn 41 = .ok (.ireturn, 1) := dk_172 (dk_at dksX1_manyIn_1 17 rfl rfl)
abbrev cX1_where : ByteArray := prog_1_method_23_code
def yX1_where : MethodName := ⟨RX1, "where", "(LHyperVane$Guest;I)I"⟩
def dkwX1_where_1 : List UInt8 := [167, 0, 17, 43, 180, 0, 174, 28, 51, 153, 0, 7, 5, 167, 0, 4, 6, 172]
abbrev dktX1_where_1 : List UInt8 := dkwX1_where_1 ++ []
def dkwX1_where_0 : List UInt8 := [42, 180, 0, 39, 43, 28, 182, 0, 166, 198, 0, 5, 3, 172, 43, 180, 0, 170, 28, 51, 153, 0, 7, 4]
abbrev dktX1_where_0 : List UInt8 := dkwX1_where_0 ++ dktX1_where_1
theorem dksX1_where_0 : cX1_where.data.toList.drop 0 = dktX1_where_0 := by decide +kernel
theorem dksX1_where_1 : cX1_where.data.toList.drop 24 = dktX1_where_1 := dk_seg dksX1_where_0 24 rfl rfl
theorem dX1_where_0 : decode cX1_where 0 = .ok (.aload_n 0, 1) := dk_42 (dk_at dksX1_where_0 0 rfl rfl)
theorem dX1_where_1 : decode cX1_where 1 = .ok (.getfield 39, 3) := dk_180 0 39 (dk_at dksX1_where_0 1 rfl rfl)
theorem dX1_where_4 : decode cX1_where 4 = .ok (.aload_n 1, 1) := dk_43 (dk_at dksX1_where_0 4 rfl rfl)
theorem dX1_where_5 : decode cX1_where 5 = .ok (.iload_n 2, 1) := dk_28 (dk_at dksX1_where_0 5 rfl rfl)
theorem dX1_where_6 : decode cX1_where 6 = .ok (.invokevirtual 166, 3) := dk_182 0 166 (dk_at dksX1_where_0 6 rfl rfl)
theorem dX1_where_9 : decode cX1_where 9 = .ok (.ifnull 5, 3) := dk_198 0 5 (dk_at dksX1_where_0 9 rfl rfl)
theorem dX1_where_12 : decode cX1_where 12 = .ok (.iconst 0, 1) := dk_3 (dk_at dksX1_where_0 12 rfl rfl)
theorem dX1_where_13 : decode cX1_where 13 = .ok (.ireturn, 1) := dk_172 (dk_at dksX1_where_0 13 rfl rfl)
theorem dX1_where_14 : decode cX1_where 14 = .ok (.aload_n 1, 1) := dk_43 (dk_at dksX1_where_0 14 rfl rfl)
theorem dX1_where_15 : decode cX1_where 15 = .ok (.getfield 170, 3) := dk_180 0 170 (dk_at dksX1_where_0 15 rfl rfl)
theorem dX1_where_18 : decode cX1_where 18 = .ok (.iload_n 2, 1) := dk_28 (dk_at dksX1_where_0 18 rfl rfl)
theorem dX1_where_19 : decode cX1_where 19 = .ok (.baload, 1) := dk_51 (dk_at dksX1_where_0 19 rfl rfl)
theorem dX1_where_20 : decode cX1_where 20 = .ok (.ifCond .eq 7, 3) := dk_153 0 7 (dk_at dksX1_where_0 20 rfl rfl)
theorem dX1_where_23 : decode cX1_where 23 = .ok (.iconst 1, 1) := dk_4 (dk_at dksX1_where_0 23 rfl rfl)
theorem dX1_where_24 : decode cX1_where 24 = .ok (.goto 17, 3) := dk_167 0 17 (dk_at dksX1_where_1 0 rfl rfl)
theorem dX1_where_27 : decode cX1_where 27 = .ok (.aload_n 1, 1) := dk_43 (dk_at dksX1_where_1 3 rfl rfl)
theorem dX1_where_28 : decode cX1_where 28 = .ok (.getfield 174, 3) := dk_180 0 174 (dk_at dksX1_where_1 4 rfl rfl)
theorem dX1_where_31 : decode cX1_where 31 = .ok (.iload_n 2, 1) := dk_28 (dk_at dksX1_where_1 7 rfl rfl)
theorem dX1_where_32 : decode cX1_where 32 = .ok (.baload, 1) := dk_51 (dk_at dksX1_where_1 8 rfl rfl)
theorem dX1_where_33 : decode cX1_where 33 = .ok (.ifCond .eq 7, 3) := dk_153 0 7 (dk_at dksX1_where_1 9 rfl rfl)
theorem dX1_where_36 : decode cX1_where 36 = .ok (.iconst 2, 1) := dk_5 (dk_at dksX1_where_1 12 rfl rfl)
theorem dX1_where_37 : decode cX1_where 37 = .ok (.goto 4, 3) := dk_167 0 4 (dk_at dksX1_where_1 13 rfl rfl)
theorem dX1_where_40 : decode cX1_where 40 = .ok (.iconst 3, 1) := dk_6 (dk_at dksX1_where_1 16 rfl rfl)
theorem dX1_where_41 : decode cX1_where 41 = .ok (.ireturn, 1) := dk_172 (dk_at dksX1_where_1 17 rfl rfl)
abbrev cX1_toldOfPage : ByteArray := prog_1_method_27_code
def yX1_toldOfPage : MethodName := ⟨RX1, "toldOfPage", "(LHyperVane$Guest;II)I"⟩
def dkwX1_toldOfPage_3 : List UInt8 := [167, 0, 4, 3, 184, 0, 162, 172]
abbrev dktX1_toldOfPage_3 : List UInt8 := dkwX1_toldOfPage_3 ++ []
def dkwX1_toldOfPage_2 : List UInt8 := [182, 0, 159, 167, 0, 27, 43, 182, 0, 128, 153, 0, 16, 43, 180, 0, 230, 28, 51, 153, 0, 7, 4]
abbrev dktX1_toldOfPage_2 : List UInt8 := dkwX1_toldOfPage_2 ++ dktX1_toldOfPage_3
def dkwX1_toldOfPage_1 : List UInt8 := [180, 0, 223, 42, 180, 0, 39, 43, 28, 182, 0, 166, 182, 0, 226, 172, 29, 5, 160, 0, 12, 42, 43, 28]
abbrev dktX1_toldOfPage_1 : List UInt8 := dkwX1_toldOfPage_1 ++ dktX1_toldOfPage_2
def dkwX1_toldOfPage_0 : List UInt8 := [29, 154, 0, 13, 43, 180, 0, 81, 180, 0, 220, 28, 46, 172, 29, 4, 160, 0, 23, 42, 180, 0, 39]
abbrev dktX1_toldOfPage_0 : List UInt8 := dkwX1_toldOfPage_0 ++ dktX1_toldOfPage_1
theorem dksX1_toldOfPage_0 : cX1_toldOfPage.data.toList.drop 0 = dktX1_toldOfPage_0 := by decide +kernel
theorem dksX1_toldOfPage_1 : cX1_toldOfPage.data.toList.drop 23 = dktX1_toldOfPage_1 := dk_seg dksX1_toldOfPage_0 23 rfl rfl
theorem dksX1_toldOfPage_2 : cX1_toldOfPage.data.toList.drop 47 = dktX1_toldOfPage_2 := dk_seg dksX1_toldOfPage_1 24 rfl rfl
theorem dksX1_toldOfPage_3 : cX1_toldOfPage.data.toList.drop 70 = dktX1_toldOfPage_3 := dk_seg dksX1_toldOfPage_2 23 rfl rfl
theorem dX1_toldOfPage_0 : decode cX1_toldOfPage 0 = .ok (.iload_n 3, 1) := dk_29 (dk_at dksX1_toldOfPage_0 0 rfl rfl)
theorem dX1_toldOfPage_1 : decode cX1_toldOfPage 1 = .ok (.ifCond .ne 13, 3) := dk_154 0 13 (dk_at dksX1_toldOfPage_0 1 rfl rfl)
theorem dX1_toldOfPage_4 : decode cX1_toldOfPage 4 = .ok (.aload_n 1, 1) := dk_43 (dk_at dksX1_toldOfPage_0 4 rfl rfl)
theorem dX1_toldOfPage_5 : decode cX1_toldOfPage 5 = .ok (.getfield 81, 3) := dk_180 0 81 (dk_at dksX1_toldOfPage_0 5 rfl rfl)
theorem dX1_toldOfPage_8 : decode cX1_toldOfPage 8 = .ok (.getfield 220, 3) := dk_180 0 220 (dk_at dksX1_toldOfPage_0 8 rfl rfl)
theorem dX1_toldOfPage_11 : decode cX1_toldOfPage 11 = .ok (.iload_n 2, 1) := dk_28 (dk_at dksX1_toldOfPage_0 11 rfl rfl)
theorem dX1_toldOfPage_12 : decode cX1_toldOfPage 12 = .ok (.iaload, 1) := dk_46 (dk_at dksX1_toldOfPage_0 12 rfl rfl)
theorem dX1_toldOfPage_13 : decode cX1_toldOfPage 13 = .ok (.ireturn, 1) := dk_172 (dk_at dksX1_toldOfPage_0 13 rfl rfl)
theorem dX1_toldOfPage_14 : decode cX1_toldOfPage 14 = .ok (.iload_n 3, 1) := dk_29 (dk_at dksX1_toldOfPage_0 14 rfl rfl)
theorem dX1_toldOfPage_15 : decode cX1_toldOfPage 15 = .ok (.iconst 1, 1) := dk_4 (dk_at dksX1_toldOfPage_0 15 rfl rfl)
theorem dX1_toldOfPage_16 : decode cX1_toldOfPage 16 = .ok (.if_icmp .ne 23, 3) := dk_160 0 23 (dk_at dksX1_toldOfPage_0 16 rfl rfl)
theorem dX1_toldOfPage_19 : decode cX1_toldOfPage 19 = .ok (.aload_n 0, 1) := dk_42 (dk_at dksX1_toldOfPage_0 19 rfl rfl)
theorem dX1_toldOfPage_20 : decode cX1_toldOfPage 20 = .ok (.getfield 39, 3) := dk_180 0 39 (dk_at dksX1_toldOfPage_0 20 rfl rfl)
theorem dX1_toldOfPage_23 : decode cX1_toldOfPage 23 = .ok (.getfield 223, 3) := dk_180 0 223 (dk_at dksX1_toldOfPage_1 0 rfl rfl)
theorem dX1_toldOfPage_26 : decode cX1_toldOfPage 26 = .ok (.aload_n 0, 1) := dk_42 (dk_at dksX1_toldOfPage_1 3 rfl rfl)
theorem dX1_toldOfPage_27 : decode cX1_toldOfPage 27 = .ok (.getfield 39, 3) := dk_180 0 39 (dk_at dksX1_toldOfPage_1 4 rfl rfl)
theorem dX1_toldOfPage_30 : decode cX1_toldOfPage 30 = .ok (.aload_n 1, 1) := dk_43 (dk_at dksX1_toldOfPage_1 7 rfl rfl)
theorem dX1_toldOfPage_31 : decode cX1_toldOfPage 31 = .ok (.iload_n 2, 1) := dk_28 (dk_at dksX1_toldOfPage_1 8 rfl rfl)
theorem dX1_toldOfPage_32 : decode cX1_toldOfPage 32 = .ok (.invokevirtual 166, 3) := dk_182 0 166 (dk_at dksX1_toldOfPage_1 9 rfl rfl)
theorem dX1_toldOfPage_35 : decode cX1_toldOfPage 35 = .ok (.invokevirtual 226, 3) := dk_182 0 226 (dk_at dksX1_toldOfPage_1 12 rfl rfl)
theorem dX1_toldOfPage_38 : decode cX1_toldOfPage 38 = .ok (.ireturn, 1) := dk_172 (dk_at dksX1_toldOfPage_1 15 rfl rfl)
theorem dX1_toldOfPage_39 : decode cX1_toldOfPage 39 = .ok (.iload_n 3, 1) := dk_29 (dk_at dksX1_toldOfPage_1 16 rfl rfl)
theorem dX1_toldOfPage_40 : decode cX1_toldOfPage 40 = .ok (.iconst 2, 1) := dk_5 (dk_at dksX1_toldOfPage_1 17 rfl rfl)
theorem dX1_toldOfPage_41 : decode cX1_toldOfPage 41 = .ok (.if_icmp .ne 12, 3) := dk_160 0 12 (dk_at dksX1_toldOfPage_1 18 rfl rfl)
theorem dX1_toldOfPage_44 : decode cX1_toldOfPage 44 = .ok (.aload_n 0, 1) := dk_42 (dk_at dksX1_toldOfPage_1 21 rfl rfl)
theorem dX1_toldOfPage_45 : decode cX1_toldOfPage 45 = .ok (.aload_n 1, 1) := dk_43 (dk_at dksX1_toldOfPage_1 22 rfl rfl)
theorem dX1_toldOfPage_46 : decode cX1_toldOfPage 46 = .ok (.iload_n 2, 1) := dk_28 (dk_at dksX1_toldOfPage_1 23 rfl rfl)
theorem dX1_toldOfPage_47 : decode cX1_toldOfPage 47 = .ok (.invokevirtual 159, 3) := dk_182 0 159 (dk_at dksX1_toldOfPage_2 0 rfl rfl)
theorem dX1_toldOfPage_50 : decode cX1_toldOfPage 50 = .ok (.goto 27, 3) := dk_167 0 27 (dk_at dksX1_toldOfPage_2 3 rfl rfl)
theorem dX1_toldOfPage_53 : decode cX1_toldOfPage 53 = .ok (.aload_n 1, 1) := dk_43 (dk_at dksX1_toldOfPage_2 6 rfl rfl)
theorem dX1_toldOfPage_54 : decode cX1_toldOfPage 54 = .ok (.invokevirtual 128, 3) := dk_182 0 128 (dk_at dksX1_toldOfPage_2 7 rfl rfl)
theorem dX1_toldOfPage_57 : decode cX1_toldOfPage 57 = .ok (.ifCond .eq 16, 3) := dk_153 0 16 (dk_at dksX1_toldOfPage_2 10 rfl rfl)
theorem dX1_toldOfPage_60 : decode cX1_toldOfPage 60 = .ok (.aload_n 1, 1) := dk_43 (dk_at dksX1_toldOfPage_2 13 rfl rfl)
theorem dX1_toldOfPage_61 : decode cX1_toldOfPage 61 = .ok (.getfield 230, 3) := dk_180 0 230 (dk_at dksX1_toldOfPage_2 14 rfl rfl)
theorem dX1_toldOfPage_64 : decode cX1_toldOfPage 64 = .ok (.iload_n 2, 1) := dk_28 (dk_at dksX1_toldOfPage_2 17 rfl rfl)
theorem dX1_toldOfPage_65 : decode cX1_toldOfPage 65 = .ok (.baload, 1) := dk_51 (dk_at dksX1_toldOfPage_2 18 rfl rfl)
theorem dX1_toldOfPage_66 : decode cX1_toldOfPage 66 = .ok (.ifCond .eq 7, 3) := dk_153 0 7 (dk_at dksX1_toldOfPage_2 19 rfl rfl)
theorem dX1_toldOfPage_69 : decode cX1_toldOfPage 69 = .ok (.iconst 1, 1) := dk_4 (dk_at dksX1_toldOfPage_2 22 rfl rfl)
theorem dX1_toldOfPage_70 : decode cX1_toldOfPage 70 = .ok (.goto 4, 3) := dk_167 0 4 (dk_at dksX1_toldOfPage_3 0 rfl rfl)
theorem dX1_toldOfPage_73 : decode cX1_toldOfPage 73 = .ok (.iconst 0, 1) := dk_3 (dk_at dksX1_toldOfPage_3 3 rfl rfl)
theorem dX1_toldOfPage_74 : decode cX1_toldOfPage 74 = .ok (.invokestatic 162, 3) := dk_184 0 162 (dk_at dksX1_toldOfPage_3 4 rfl rfl)
theorem dX1_toldOfPage_77 : decode cX1_toldOfPage 77 = .ok (.ireturn, 1) := dk_172 (dk_at dksX1_toldOfPage_3 7 rfl rfl)
abbrev cX1_loggedOf : ByteArray := prog_1_method_31_code
def yX1_loggedOf : MethodName := ⟨RX1, "loggedOf", "(LHyperVane$Guest;I)I"⟩
def dkwX1_loggedOf_1 : List UInt8 := [167, 0, 20, 42, 180, 0, 97, 180, 0, 141, 27, 182, 0, 255, 192, 1, 0, 182, 1, 2, 172]
abbrev dktX1_loggedOf_1 : List UInt8 := dkwX1_loggedOf_1 ++ []
def dkwX1_loggedOf_0 : List UInt8 := [42, 180, 0, 97, 198, 0, 17, 27, 42, 180, 0, 97, 180, 0, 141, 182, 0, 65, 161, 0, 7, 2]
abbrev dktX1_loggedOf_0 : List UInt8 := dkwX1_loggedOf_0 ++ dktX1_loggedOf_1
theorem dksX1_loggedOf_0 : cX1_loggedOf.data.toList.drop 0 = dktX1_loggedOf_0 := by decide +kernel
theorem dksX1_loggedOf_1 : cX1_loggedOf.data.toList.drop 22 = dktX1_loggedOf_1 := dk_seg dksX1_loggedOf_0 22 rfl rfl
theorem dX1_loggedOf_0 : decode cX1_loggedOf 0 = .ok (.aload_n 0, 1) := dk_42 (dk_at dksX1_loggedOf_0 0 rfl rfl)
theorem dX1_loggedOf_1 : decode cX1_loggedOf 1 = .ok (.getfield 97, 3) := dk_180 0 97 (dk_at dksX1_loggedOf_0 1 rfl rfl)
theorem dX1_loggedOf_4 : decode cX1_loggedOf 4 = .ok (.ifnull 17, 3) := dk_198 0 17 (dk_at dksX1_loggedOf_0 4 rfl rfl)
theorem dX1_loggedOf_7 : decode cX1_loggedOf 7 = .ok (.iload_n 1, 1) := dk_27 (dk_at dksX1_loggedOf_0 7 rfl rfl)
theorem dX1_loggedOf_8 : decode cX1_loggedOf 8 = .ok (.aload_n 0, 1) := dk_42 (dk_at dksX1_loggedOf_0 8 rfl rfl)
theorem dX1_loggedOf_9 : decode cX1_loggedOf 9 = .ok (.getfield 97, 3) := dk_180 0 97 (dk_at dksX1_loggedOf_0 9 rfl rfl)
theorem dX1_loggedOf_12 : decode cX1_loggedOf 12 = .ok (.getfield 141, 3) := dk_180 0 141 (dk_at dksX1_loggedOf_0 12 rfl rfl)
theorem dX1_loggedOf_15 : decode cX1_loggedOf 15 = .ok (.invokevirtual 65, 3) := dk_182 0 65 (dk_at dksX1_loggedOf_0 15 rfl rfl)
theorem dX1_loggedOf_18 : decode cX1_loggedOf 18 = .ok (.if_icmp .lt 7, 3) := dk_161 0 7 (dk_at dksX1_loggedOf_0 18 rfl rfl)
theorem dX1_loggedOf_21 : decode cX1_loggedOf 21 = .ok (.iconst (-1), 1) := dk_2 (dk_at dksX1_loggedOf_0 21 rfl rfl)
theorem dX1_loggedOf_22 : decode cX1_loggedOf 22 = .ok (.goto 20, 3) := dk_167 0 20 (dk_at dksX1_loggedOf_1 0 rfl rfl)
theorem dX1_loggedOf_25 : decode cX1_loggedOf 25 = .ok (.aload_n 0, 1) := dk_42 (dk_at dksX1_loggedOf_1 3 rfl rfl)
theorem dX1_loggedOf_26 : decode cX1_loggedOf 26 = .ok (.getfield 97, 3) := dk_180 0 97 (dk_at dksX1_loggedOf_1 4 rfl rfl)
theorem dX1_loggedOf_29 : decode cX1_loggedOf 29 = .ok (.getfield 141, 3) := dk_180 0 141 (dk_at dksX1_loggedOf_1 7 rfl rfl)
theorem dX1_loggedOf_32 : decode cX1_loggedOf 32 = .ok (.iload_n 1, 1) := dk_27 (dk_at dksX1_loggedOf_1 10 rfl rfl)
theorem dX1_loggedOf_33 : decode cX1_loggedOf 33 = .ok (.invokevirtual 255, 3) := dk_182 0 255 (dk_at dksX1_loggedOf_1 11 rfl rfl)
theorem dX1_loggedOf_36 : decode cX1_loggedOf 36 = .ok (.checkcast 256, 3) := dk_192 1 0 (dk_at dksX1_loggedOf_1 14 rfl rfl)
theorem dX1_loggedOf_39 : decode cX1_loggedOf 39 = .ok (.invokevirtual 258, 3) := dk_182 1 2 (dk_at dksX1_loggedOf_1 17 rfl rfl)
theorem dX1_loggedOf_42 : decode cX1_loggedOf 42 = .ok (.ireturn, 1) := dk_172 (dk_at dksX1_loggedOf_1 20 rfl rfl)
abbrev cX1_replayedOf : ByteArray := prog_1_method_37_code
def yX1_replayedOf : MethodName := ⟨RX1, "replayedOf", "(LHyperVane$Guest;II)I"⟩
def dkwX1_replayedOf_1 : List UInt8 := [2, 172, 28, 2, 160, 0, 10, 45, 180, 0, 180, 167, 0, 9, 45, 180, 0, 220, 28, 46, 172]
abbrev dktX1_replayedOf_1 : List UInt8 := dkwX1_replayedOf_1 ++ []
def dkwX1_replayedOf_0 : List UInt8 := [42, 180, 0, 97, 199, 0, 7, 1, 167, 0, 11, 42, 180, 0, 97, 27, 182, 1, 46, 78, 45, 199, 0, 5]
abbrev dktX1_replayedOf_0 : List UInt8 := dkwX1_replayedOf_0 ++ dktX1_replayedOf_1
theorem dksX1_replayedOf_0 : cX1_replayedOf.data.toList.drop 0 = dktX1_replayedOf_0 := by decide +kernel
theorem dksX1_replayedOf_1 : cX1_replayedOf.data.toList.drop 24 = dktX1_replayedOf_1 := dk_seg dksX1_replayedOf_0 24 rfl rfl
theorem dX1_replayedOf_0 : decode cX1_replayedOf 0 = .ok (.aload_n 0, 1) := dk_42 (dk_at dksX1_replayedOf_0 0 rfl rfl)
theorem dX1_replayedOf_1 : decode cX1_replayedOf 1 = .ok (.getfield 97, 3) := dk_180 0 97 (dk_at dksX1_replayedOf_0 1 rfl rfl)
theorem dX1_replayedOf_4 : decode cX1_replayedOf 4 = .ok (.ifnonnull 7, 3) := dk_199 0 7 (dk_at dksX1_replayedOf_0 4 rfl rfl)
theorem dX1_replayedOf_7 : decode cX1_replayedOf 7 = .ok (.aconst_null, 1) := dk_1 (dk_at dksX1_replayedOf_0 7 rfl rfl)
theorem dX1_replayedOf_8 : decode cX1_replayedOf 8 = .ok (.goto 11, 3) := dk_167 0 11 (dk_at dksX1_replayedOf_0 8 rfl rfl)
theorem dX1_replayedOf_11 : decode cX1_replayedOf 11 = .ok (.aload_n 0, 1) := dk_42 (dk_at dksX1_replayedOf_0 11 rfl rfl)
theorem dX1_replayedOf_12 : decode cX1_replayedOf 12 = .ok (.getfield 97, 3) := dk_180 0 97 (dk_at dksX1_replayedOf_0 12 rfl rfl)
theorem dX1_replayedOf_15 : decode cX1_replayedOf 15 = .ok (.iload_n 1, 1) := dk_27 (dk_at dksX1_replayedOf_0 15 rfl rfl)
theorem dX1_replayedOf_16 : decode cX1_replayedOf 16 = .ok (.invokevirtual 302, 3) := dk_182 1 46 (dk_at dksX1_replayedOf_0 16 rfl rfl)
theorem dX1_replayedOf_19 : decode cX1_replayedOf 19 = .ok (.astore_n 3, 1) := dk_78 (dk_at dksX1_replayedOf_0 19 rfl rfl)
theorem dX1_replayedOf_20 : decode cX1_replayedOf 20 = .ok (.aload_n 3, 1) := dk_45 (dk_at dksX1_replayedOf_0 20 rfl rfl)
theorem dX1_replayedOf_21 : decode cX1_replayedOf 21 = .ok (.ifnonnull 5, 3) := dk_199 0 5 (dk_at dksX1_replayedOf_0 21 rfl rfl)
theorem dX1_replayedOf_24 : decode cX1_replayedOf 24 = .ok (.iconst (-1), 1) := dk_2 (dk_at dksX1_replayedOf_1 0 rfl rfl)
theorem dX1_replayedOf_25 : decode cX1_replayedOf 25 = .ok (.ireturn, 1) := dk_172 (dk_at dksX1_replayedOf_1 1 rfl rfl)
theorem dX1_replayedOf_26 : decode cX1_replayedOf 26 = .ok (.iload_n 2, 1) := dk_28 (dk_at dksX1_replayedOf_1 2 rfl rfl)
theorem dX1_replayedOf_27 : decode cX1_replayedOf 27 = .ok (.iconst (-1), 1) := dk_2 (dk_at dksX1_replayedOf_1 3 rfl rfl)
theorem dX1_replayedOf_28 : decode cX1_replayedOf 28 = .ok (.if_icmp .ne 10, 3) := dk_160 0 10 (dk_at dksX1_replayedOf_1 4 rfl rfl)
theorem dX1_replayedOf_31 : decode cX1_replayedOf 31 = .ok (.aload_n 3, 1) := dk_45 (dk_at dksX1_replayedOf_1 7 rfl rfl)
theorem dX1_replayedOf_32 : decode cX1_replayedOf 32 = .ok (.getfield 180, 3) := dk_180 0 180 (dk_at dksX1_replayedOf_1 8 rfl rfl)
theorem dX1_replayedOf_35 : decode cX1_replayedOf 35 = .ok (.goto 9, 3) := dk_167 0 9 (dk_at dksX1_replayedOf_1 11 rfl rfl)
theorem dX1_replayedOf_38 : decode cX1_replayedOf 38 = .ok (.aload_n 3, 1) := dk_45 (dk_at dksX1_replayedOf_1 14 rfl rfl)
theorem dX1_replayedOf_39 : decode cX1_replayedOf 39 = .ok (.getfield 220, 3) := dk_180 0 220 (dk_at dksX1_replayedOf_1 15 rfl rfl)
theorem dX1_replayedOf_42 : decode cX1_replayedOf 42 = .ok (.iload_n 2, 1) := dk_28 (dk_at dksX1_replayedOf_1 18 rfl rfl)
theorem dX1_replayedOf_43 : decode cX1_replayedOf 43 = .ok (.iaload, 1) := dk_46 (dk_at dksX1_replayedOf_1 19 rfl rfl)
theorem dX1_replayedOf_44 : decode cX1_replayedOf 44 = .ok (.ireturn, 1) := dk_172 (dk_at dksX1_replayedOf_1 20 rfl rfl)
abbrev cX1_doneBy : ByteArray := prog_1_method_39_code
def yX1_doneBy : MethodName := ⟨RX1, "doneBy", "(II)I"⟩
def dkwX1_doneBy_2 : List UInt8 := [172]
abbrev dktX1_doneBy_2 : List UInt8 := dkwX1_doneBy_2 ++ []
def dkwX1_doneBy_1 : List UInt8 := [192, 0, 55, 180, 0, 192, 42, 180, 0, 39, 180, 0, 47, 27, 182, 0, 255, 192, 0, 55, 180, 0, 192, 100]
abbrev dktX1_doneBy_1 : List UInt8 := dkwX1_doneBy_1 ++ dktX1_doneBy_2
def dkwX1_doneBy_0 : List UInt8 := [42, 180, 0, 39, 182, 1, 53, 78, 45, 28, 182, 0, 156, 87, 45, 180, 0, 47, 27, 182, 0, 255]
abbrev dktX1_doneBy_0 : List UInt8 := dkwX1_doneBy_0 ++ dktX1_doneBy_1
theorem dksX1_doneBy_0 : cX1_doneBy.data.toList.drop 0 = dktX1_doneBy_0 := by decide +kernel
theorem dksX1_doneBy_1 : cX1_doneBy.data.toList.drop 22 = dktX1_doneBy_1 := dk_seg dksX1_doneBy_0 22 rfl rfl
theorem dksX1_doneBy_2 : cX1_doneBy.data.toList.drop 46 = dktX1_doneBy_2 := dk_seg dksX1_doneBy_1 24 rfl rfl
theorem dX1_doneBy_0 : decode cX1_doneBy 0 = .ok (.aload_n 0, 1) := dk_42 (dk_at dksX1_doneBy_0 0 rfl rfl)
theorem dX1_doneBy_1 : decode cX1_doneBy 1 = .ok (.getfield 39, 3) := dk_180 0 39 (dk_at dksX1_doneBy_0 1 rfl rfl)
theorem dX1_doneBy_4 : decode cX1_doneBy 4 = .ok (.invokevirtual 309, 3) := dk_182 1 53 (dk_at dksX1_doneBy_0 4 rfl rfl)
theorem dX1_doneBy_7 : decode cX1_doneBy 7 = .ok (.astore_n 3, 1) := dk_78 (dk_at dksX1_doneBy_0 7 rfl rfl)
theorem dX1_doneBy_8 : decode cX1_doneBy 8 = .ok (.aload_n 3, 1) := dk_45 (dk_at dksX1_doneBy_0 8 rfl rfl)
theorem dX1_doneBy_9 : decode cX1_doneBy 9 = .ok (.iload_n 2, 1) := dk_28 (dk_at dksX1_doneBy_0 9 rfl rfl)
theorem dX1_doneBy_10 : decode cX1_doneBy 10 = .ok (.invokevirtual 156, 3) := dk_182 0 156 (dk_at dksX1_doneBy_0 10 rfl rfl)
theorem dX1_doneBy_13 : decode cX1_doneBy 13 = .ok (.pop, 1) := dk_87 (dk_at dksX1_doneBy_0 13 rfl rfl)
theorem dX1_doneBy_14 : decode cX1_doneBy 14 = .ok (.aload_n 3, 1) := dk_45 (dk_at dksX1_doneBy_0 14 rfl rfl)
theorem dX1_doneBy_15 : decode cX1_doneBy 15 = .ok (.getfield 47, 3) := dk_180 0 47 (dk_at dksX1_doneBy_0 15 rfl rfl)
theorem dX1_doneBy_18 : decode cX1_doneBy 18 = .ok (.iload_n 1, 1) := dk_27 (dk_at dksX1_doneBy_0 18 rfl rfl)
theorem dX1_doneBy_19 : decode cX1_doneBy 19 = .ok (.invokevirtual 255, 3) := dk_182 0 255 (dk_at dksX1_doneBy_0 19 rfl rfl)
theorem dX1_doneBy_22 : decode cX1_doneBy 22 = .ok (.checkcast 55, 3) := dk_192 0 55 (dk_at dksX1_doneBy_1 0 rfl rfl)
theorem dX1_doneBy_25 : decode cX1_doneBy 25 = .ok (.getfield 192, 3) := dk_180 0 192 (dk_at dksX1_doneBy_1 3 rfl rfl)
theorem dX1_doneBy_28 : decode cX1_doneBy 28 = .ok (.aload_n 0, 1) := dk_42 (dk_at dksX1_doneBy_1 6 rfl rfl)
theorem dX1_doneBy_29 : decode cX1_doneBy 29 = .ok (.getfield 39, 3) := dk_180 0 39 (dk_at dksX1_doneBy_1 7 rfl rfl)
theorem dX1_doneBy_32 : decode cX1_doneBy 32 = .ok (.getfield 47, 3) := dk_180 0 47 (dk_at dksX1_doneBy_1 10 rfl rfl)
theorem dX1_doneBy_35 : decode cX1_doneBy 35 = .ok (.iload_n 1, 1) := dk_27 (dk_at dksX1_doneBy_1 13 rfl rfl)
theorem dX1_doneBy_36 : decode cX1_doneBy 36 = .ok (.invokevirtual 255, 3) := dk_182 0 255 (dk_at dksX1_doneBy_1 14 rfl rfl)
theorem dX1_doneBy_39 : decode cX1_doneBy 39 = .ok (.checkcast 55, 3) := dk_192 0 55 (dk_at dksX1_doneBy_1 17 rfl rfl)
theorem dX1_doneBy_42 : decode cX1_doneBy 42 = .ok (.getfield 192, 3) := dk_180 0 192 (dk_at dksX1_doneBy_1 20 rfl rfl)
theorem dX1_doneBy_45 : decode cX1_doneBy 45 = .ok (.isub, 1) := dk_100 (dk_at dksX1_doneBy_1 23 rfl rfl)
theorem dX1_doneBy_46 : decode cX1_doneBy 46 = .ok (.ireturn, 1) := dk_172 (dk_at dksX1_doneBy_2 0 rfl rfl)
abbrev cX1_canMove : ByteArray := prog_1_method_16_code
def yX1_canMove : MethodName := ⟨RX1, "canMove", "(LHyperVane$Guest;)Z"⟩
def dkwX1_canMove_0 : List UInt8 := [42, 182, 0, 90, 154, 0, 14, 42, 182, 0, 128, 154, 0, 7, 4, 167, 0, 4, 3, 172]
abbrev dktX1_canMove_0 : List UInt8 := dkwX1_canMove_0 ++ []
theorem dksX1_canMove_0 : cX1_canMove.data.toList.drop 0 = dktX1_canMove_0 := by decide +kernel
theorem dX1_canMove_0 : decode cX1_canMove 0 = .ok (.aload_n 0, 1) := dk_42 (dk_at dksX1_canMove_0 0 rfl rfl)
theorem dX1_canMove_1 : decode cX1_canMove 1 = .ok (.invokevirtual 90, 3) := dk_182 0 90 (dk_at dksX1_canMove_0 1 rfl rfl)
theorem dX1_canMove_4 : decode cX1_canMove 4 = .ok (.ifCond .ne 14, 3) := dk_154 0 14 (dk_at dksX1_canMove_0 4 rfl rfl)
theorem dX1_canMove_7 : decode cX1_canMove 7 = .ok (.aload_n 0, 1) := dk_42 (dk_at dksX1_canMove_0 7 rfl rfl)
theorem dX1_canMove_8 : decode cX1_canMove 8 = .ok (.invokevirtual 128, 3) := dk_182 0 128 (dk_at dksX1_canMove_0 8 rfl rfl)
theorem dX1_canMove_11 : decode cX1_canMove 11 = .ok (.ifCond .ne 7, 3) := dk_154 0 7 (dk_at dksX1_canMove_0 11 rfl rfl)
theorem dX1_canMove_14 : decode cX1_canMove 14 = .ok (.iconst 1, 1) := dk_4 (dk_at dksX1_canMove_0 14 rfl rfl)
theorem dX1_canMove_15 : decode cX1_canMove 15 = .ok (.goto 4, 3) := dk_167 0 4 (dk_at dksX1_canMove_0 15 rfl rfl)
theorem dX1_canMove_18 : decode cX1_canMove 18 = .ok (.iconst 0, 1) := dk_3 (dk_at dksX1_canMove_0 18 rfl rfl)
theorem dX1_canMove_19 : decode cX1_canMove 19 = .ok (.ireturn, 1) := dk_172 (dk_at dksX1_canMove_0 19 rfl rfl)
abbrev cX1_awayBy : ByteArray := prog_1_method_41_code
def yX1_awayBy : MethodName := ⟨RX1, "awayBy", "(II)I"⟩
def dkwX1_awayBy_2 : List UInt8 := [182, 0, 90, 153, 0, 6, 21, 5, 172, 132, 5, 1, 167, 255, 229, 2, 172]
abbrev dktX1_awayBy_2 : List UInt8 := dkwX1_awayBy_2 ++ []
def dkwX1_awayBy_1 : List UInt8 := [28, 182, 0, 138, 87, 4, 54, 5, 21, 5, 16, 40, 163, 0, 26, 45, 4, 182, 0, 156, 87, 25, 4]
abbrev dktX1_awayBy_1 : List UInt8 := dkwX1_awayBy_1 ++ dktX1_awayBy_2
def dkwX1_awayBy_0 : List UInt8 := [42, 180, 0, 39, 182, 1, 53, 78, 45, 180, 0, 47, 27, 182, 0, 255, 192, 0, 55, 58, 4, 45, 25, 4]
abbrev dktX1_awayBy_0 : List UInt8 := dkwX1_awayBy_0 ++ dktX1_awayBy_1
theorem dksX1_awayBy_0 : cX1_awayBy.data.toList.drop 0 = dktX1_awayBy_0 := by decide +kernel
theorem dksX1_awayBy_1 : cX1_awayBy.data.toList.drop 24 = dktX1_awayBy_1 := dk_seg dksX1_awayBy_0 24 rfl rfl
theorem dksX1_awayBy_2 : cX1_awayBy.data.toList.drop 47 = dktX1_awayBy_2 := dk_seg dksX1_awayBy_1 23 rfl rfl
theorem dX1_awayBy_0 : decode cX1_awayBy 0 = .ok (.aload_n 0, 1) := dk_42 (dk_at dksX1_awayBy_0 0 rfl rfl)
theorem dX1_awayBy_1 : decode cX1_awayBy 1 = .ok (.getfield 39, 3) := dk_180 0 39 (dk_at dksX1_awayBy_0 1 rfl rfl)
theorem dX1_awayBy_4 : decode cX1_awayBy 4 = .ok (.invokevirtual 309, 3) := dk_182 1 53 (dk_at dksX1_awayBy_0 4 rfl rfl)
theorem dX1_awayBy_7 : decode cX1_awayBy 7 = .ok (.astore_n 3, 1) := dk_78 (dk_at dksX1_awayBy_0 7 rfl rfl)
theorem dX1_awayBy_8 : decode cX1_awayBy 8 = .ok (.aload_n 3, 1) := dk_45 (dk_at dksX1_awayBy_0 8 rfl rfl)
theorem dX1_awayBy_9 : decode cX1_awayBy 9 = .ok (.getfield 47, 3) := dk_180 0 47 (dk_at dksX1_awayBy_0 9 rfl rfl)
theorem dX1_awayBy_12 : decode cX1_awayBy 12 = .ok (.iload_n 1, 1) := dk_27 (dk_at dksX1_awayBy_0 12 rfl rfl)
theorem dX1_awayBy_13 : decode cX1_awayBy 13 = .ok (.invokevirtual 255, 3) := dk_182 0 255 (dk_at dksX1_awayBy_0 13 rfl rfl)
theorem dX1_awayBy_16 : decode cX1_awayBy 16 = .ok (.checkcast 55, 3) := dk_192 0 55 (dk_at dksX1_awayBy_0 16 rfl rfl)
theorem dX1_awayBy_19 : decode cX1_awayBy 19 = .ok (.astore 4, 2) := dk_58 4 (dk_at dksX1_awayBy_0 19 rfl rfl)
theorem dX1_awayBy_21 : decode cX1_awayBy 21 = .ok (.aload_n 3, 1) := dk_45 (dk_at dksX1_awayBy_0 21 rfl rfl)
theorem dX1_awayBy_22 : decode cX1_awayBy 22 = .ok (.aload 4, 2) := dk_25 4 (dk_at dksX1_awayBy_0 22 rfl rfl)
theorem dX1_awayBy_24 : decode cX1_awayBy 24 = .ok (.iload_n 2, 1) := dk_28 (dk_at dksX1_awayBy_1 0 rfl rfl)
theorem dX1_awayBy_25 : decode cX1_awayBy 25 = .ok (.invokevirtual 138, 3) := dk_182 0 138 (dk_at dksX1_awayBy_1 1 rfl rfl)
theorem dX1_awayBy_28 : decode cX1_awayBy 28 = .ok (.pop, 1) := dk_87 (dk_at dksX1_awayBy_1 4 rfl rfl)
theorem dX1_awayBy_29 : decode cX1_awayBy 29 = .ok (.iconst 1, 1) := dk_4 (dk_at dksX1_awayBy_1 5 rfl rfl)
theorem dX1_awayBy_30 : decode cX1_awayBy 30 = .ok (.istore 5, 2) := dk_54 5 (dk_at dksX1_awayBy_1 6 rfl rfl)
theorem dX1_awayBy_32 : decode cX1_awayBy 32 = .ok (.iload 5, 2) := dk_21 5 (dk_at dksX1_awayBy_1 8 rfl rfl)
theorem dX1_awayBy_34 : decode cX1_awayBy 34 = .ok (.bipush 40, 2) := dk_16 40 (dk_at dksX1_awayBy_1 10 rfl rfl)
theorem dX1_awayBy_36 : decode cX1_awayBy 36 = .ok (.if_icmp .gt 26, 3) := dk_163 0 26 (dk_at dksX1_awayBy_1 12 rfl rfl)
theorem dX1_awayBy_39 : decode cX1_awayBy 39 = .ok (.aload_n 3, 1) := dk_45 (dk_at dksX1_awayBy_1 15 rfl rfl)
theorem dX1_awayBy_40 : decode cX1_awayBy 40 = .ok (.iconst 1, 1) := dk_4 (dk_at dksX1_awayBy_1 16 rfl rfl)
theorem dX1_awayBy_41 : decode cX1_awayBy 41 = .ok (.invokevirtual 156, 3) := dk_182 0 156 (dk_at dksX1_awayBy_1 17 rfl rfl)
theorem dX1_awayBy_44 : decode cX1_awayBy 44 = .ok (.pop, 1) := dk_87 (dk_at dksX1_awayBy_1 20 rfl rfl)
theorem dX1_awayBy_45 : decode cX1_awayBy 45 = .ok (.aload 4, 2) := dk_25 4 (dk_at dksX1_awayBy_1 21 rfl rfl)
theorem dX1_awayBy_47 : decode cX1_awayBy 47 = .ok (.invokevirtual 90, 3) := dk_182 0 90 (dk_at dksX1_awayBy_2 0 rfl rfl)
theorem dX1_awayBy_50 : decode cX1_awayBy 50 = .ok (.ifCond .eq 6, 3) := dk_153 0 6 (dk_at dksX1_awayBy_2 3 rfl rfl)
theorem dX1_awayBy_53 : decode cX1_awayBy 53 = .ok (.iload 5, 2) := dk_21 5 (dk_at dksX1_awayBy_2 6 rfl rfl)
theorem dX1_awayBy_55 : decode cX1_awayBy 55 = .ok (.ireturn, 1) := dk_172 (dk_at dksX1_awayBy_2 8 rfl rfl)
theorem dX1_awayBy_56 : decode cX1_awayBy 56 = .ok (.iinc 5 1, 3) := dk_132 5 1 (dk_at dksX1_awayBy_2 9 rfl rfl)
theorem dX1_awayBy_59 : decode cX1_awayBy 59 = .ok (.goto (-27), 3) := dk_167 255 229 (dk_at dksX1_awayBy_2 12 rfl rfl)
theorem dX1_awayBy_62 : decode cX1_awayBy 62 = .ok (.iconst (-1), 1) := dk_2 (dk_at dksX1_awayBy_2 15 rfl rfl)
theorem dX1_awayBy_63 : decode cX1_awayBy 63 = .ok (.ireturn, 1) := dk_172 (dk_at dksX1_awayBy_2 16 rfl rfl)
abbrev cX1_told_2 : ByteArray := prog_1_method_29_code
def yX1_told_2 : MethodName := ⟨RX1, "told", "(LHyperVane$Frame;I)I"⟩
def dkwX1_told_2_1 : List UInt8 := [167, 0, 19, 27, 4, 160, 0, 10, 42, 180, 0, 246, 167, 0, 7, 42, 180, 0, 249, 172]
abbrev dktX1_told_2_1 : List UInt8 := dkwX1_told_2_1 ++ []
def dkwX1_told_2_0 : List UInt8 := [27, 154, 0, 24, 42, 180, 0, 237, 199, 0, 7, 2, 167, 0, 29, 42, 180, 0, 237, 180, 0, 243]
abbrev dktX1_told_2_0 : List UInt8 := dkwX1_told_2_0 ++ dktX1_told_2_1
theorem dksX1_told_2_0 : cX1_told_2.data.toList.drop 0 = dktX1_told_2_0 := by decide +kernel
theorem dksX1_told_2_1 : cX1_told_2.data.toList.drop 22 = dktX1_told_2_1 := dk_seg dksX1_told_2_0 22 rfl rfl
theorem dX1_told_2_0 : decode cX1_told_2 0 = .ok (.iload_n 1, 1) := dk_27 (dk_at dksX1_told_2_0 0 rfl rfl)
theorem dX1_told_2_1 : decode cX1_told_2 1 = .ok (.ifCond .ne 24, 3) := dk_154 0 24 (dk_at dksX1_told_2_0 1 rfl rfl)
theorem dX1_told_2_4 : decode cX1_told_2 4 = .ok (.aload_n 0, 1) := dk_42 (dk_at dksX1_told_2_0 4 rfl rfl)
theorem dX1_told_2_5 : decode cX1_told_2 5 = .ok (.getfield 237, 3) := dk_180 0 237 (dk_at dksX1_told_2_0 5 rfl rfl)
theorem dX1_told_2_8 : decode cX1_told_2 8 = .ok (.ifnonnull 7, 3) := dk_199 0 7 (dk_at dksX1_told_2_0 8 rfl rfl)
theorem dX1_told_2_11 : decode cX1_told_2 11 = .ok (.iconst (-1), 1) := dk_2 (dk_at dksX1_told_2_0 11 rfl rfl)
theorem dX1_told_2_12 : decode cX1_told_2 12 = .ok (.goto 29, 3) := dk_167 0 29 (dk_at dksX1_told_2_0 12 rfl rfl)
theorem dX1_told_2_15 : decode cX1_told_2 15 = .ok (.aload_n 0, 1) := dk_42 (dk_at dksX1_told_2_0 15 rfl rfl)
theorem dX1_told_2_16 : decode cX1_told_2 16 = .ok (.getfield 237, 3) := dk_180 0 237 (dk_at dksX1_told_2_0 16 rfl rfl)
theorem dX1_told_2_19 : decode cX1_told_2 19 = .ok (.getfield 243, 3) := dk_180 0 243 (dk_at dksX1_told_2_0 19 rfl rfl)
theorem dX1_told_2_22 : decode cX1_told_2 22 = .ok (.goto 19, 3) := dk_167 0 19 (dk_at dksX1_told_2_1 0 rfl rfl)
theorem dX1_told_2_25 : decode cX1_told_2 25 = .ok (.iload_n 1, 1) := dk_27 (dk_at dksX1_told_2_1 3 rfl rfl)
theorem dX1_told_2_26 : decode cX1_told_2 26 = .ok (.iconst 1, 1) := dk_4 (dk_at dksX1_told_2_1 4 rfl rfl)
theorem dX1_told_2_27 : decode cX1_told_2 27 = .ok (.if_icmp .ne 10, 3) := dk_160 0 10 (dk_at dksX1_told_2_1 5 rfl rfl)
theorem dX1_told_2_30 : decode cX1_told_2 30 = .ok (.aload_n 0, 1) := dk_42 (dk_at dksX1_told_2_1 8 rfl rfl)
theorem dX1_told_2_31 : decode cX1_told_2 31 = .ok (.getfield 246, 3) := dk_180 0 246 (dk_at dksX1_told_2_1 9 rfl rfl)
theorem dX1_told_2_34 : decode cX1_told_2 34 = .ok (.goto 7, 3) := dk_167 0 7 (dk_at dksX1_told_2_1 12 rfl rfl)
theorem dX1_told_2_37 : decode cX1_told_2 37 = .ok (.aload_n 0, 1) := dk_42 (dk_at dksX1_told_2_1 15 rfl rfl)
theorem dX1_told_2_38 : decode cX1_told_2 38 = .ok (.getfield 249, 3) := dk_180 0 249 (dk_at dksX1_told_2_1 16 rfl rfl)
theorem dX1_told_2_41 : decode cX1_told_2 41 = .ok (.ireturn, 1) := dk_172 (dk_at dksX1_told_2_1 19 rfl rfl)
abbrev cX1_guest : ByteArray := prog_1_method_10_code
def yX1_guest : MethodName := ⟨RX1, "guest", "(I)I"⟩
def dkwX1_guest_2 : List UInt8 := [27, 183, 0, 71, 182, 0, 73, 87, 42, 180, 0, 39, 180, 0, 47, 182, 0, 65, 4, 100, 172]
abbrev dktX1_guest_2 : List UInt8 := dkwX1_guest_2 ++ []
def dkwX1_guest_1 : List UInt8 := [184, 0, 68, 42, 180, 0, 39, 180, 0, 47, 187, 0, 55, 89, 42, 180, 0, 39, 180, 0, 47, 182, 0, 65]
abbrev dktX1_guest_1 : List UInt8 := dkwX1_guest_1 ++ dktX1_guest_2
def dkwX1_guest_0 : List UInt8 := [27, 184, 0, 61, 42, 180, 0, 39, 180, 0, 47, 182, 0, 65, 6, 162, 0, 7, 4, 167, 0, 4, 3]
abbrev dktX1_guest_0 : List UInt8 := dkwX1_guest_0 ++ dktX1_guest_1
theorem dksX1_guest_0 : cX1_guest.data.toList.drop 0 = dktX1_guest_0 := by decide +kernel
theorem dksX1_guest_1 : cX1_guest.data.toList.drop 23 = dktX1_guest_1 := dk_seg dksX1_guest_0 23 rfl rfl
theorem dksX1_guest_2 : cX1_guest.data.toList.drop 47 = dktX1_guest_2 := dk_seg dksX1_guest_1 24 rfl rfl
theorem dX1_guest_0 : decode cX1_guest 0 = .ok (.iload_n 1, 1) := dk_27 (dk_at dksX1_guest_0 0 rfl rfl)
theorem dX1_guest_1 : decode cX1_guest 1 = .ok (.invokestatic 61, 3) := dk_184 0 61 (dk_at dksX1_guest_0 1 rfl rfl)
theorem dX1_guest_4 : decode cX1_guest 4 = .ok (.aload_n 0, 1) := dk_42 (dk_at dksX1_guest_0 4 rfl rfl)
theorem dX1_guest_5 : decode cX1_guest 5 = .ok (.getfield 39, 3) := dk_180 0 39 (dk_at dksX1_guest_0 5 rfl rfl)
theorem dX1_guest_8 : decode cX1_guest 8 = .ok (.getfield 47, 3) := dk_180 0 47 (dk_at dksX1_guest_0 8 rfl rfl)
theorem dX1_guest_11 : decode cX1_guest 11 = .ok (.invokevirtual 65, 3) := dk_182 0 65 (dk_at dksX1_guest_0 11 rfl rfl)
theorem dX1_guest_14 : decode cX1_guest 14 = .ok (.iconst 3, 1) := dk_6 (dk_at dksX1_guest_0 14 rfl rfl)
theorem dX1_guest_15 : decode cX1_guest 15 = .ok (.if_icmp .ge 7, 3) := dk_162 0 7 (dk_at dksX1_guest_0 15 rfl rfl)
theorem dX1_guest_18 : decode cX1_guest 18 = .ok (.iconst 1, 1) := dk_4 (dk_at dksX1_guest_0 18 rfl rfl)
theorem dX1_guest_19 : decode cX1_guest 19 = .ok (.goto 4, 3) := dk_167 0 4 (dk_at dksX1_guest_0 19 rfl rfl)
theorem dX1_guest_22 : decode cX1_guest 22 = .ok (.iconst 0, 1) := dk_3 (dk_at dksX1_guest_0 22 rfl rfl)
theorem dX1_guest_23 : decode cX1_guest 23 = .ok (.invokestatic 68, 3) := dk_184 0 68 (dk_at dksX1_guest_1 0 rfl rfl)
theorem dX1_guest_26 : decode cX1_guest 26 = .ok (.aload_n 0, 1) := dk_42 (dk_at dksX1_guest_1 3 rfl rfl)
theorem dX1_guest_27 : decode cX1_guest 27 = .ok (.getfield 39, 3) := dk_180 0 39 (dk_at dksX1_guest_1 4 rfl rfl)
theorem dX1_guest_30 : decode cX1_guest 30 = .ok (.getfield 47, 3) := dk_180 0 47 (dk_at dksX1_guest_1 7 rfl rfl)
theorem dX1_guest_33 : decode cX1_guest 33 = .ok (.new 55, 3) := dk_187 0 55 (dk_at dksX1_guest_1 10 rfl rfl)
theorem dX1_guest_36 : decode cX1_guest 36 = .ok (.dup, 1) := dk_89 (dk_at dksX1_guest_1 13 rfl rfl)
theorem dX1_guest_37 : decode cX1_guest 37 = .ok (.aload_n 0, 1) := dk_42 (dk_at dksX1_guest_1 14 rfl rfl)
theorem dX1_guest_38 : decode cX1_guest 38 = .ok (.getfield 39, 3) := dk_180 0 39 (dk_at dksX1_guest_1 15 rfl rfl)
theorem dX1_guest_41 : decode cX1_guest 41 = .ok (.getfield 47, 3) := dk_180 0 47 (dk_at dksX1_guest_1 18 rfl rfl)
theorem dX1_guest_44 : decode cX1_guest 44 = .ok (.invokevirtual 65, 3) := dk_182 0 65 (dk_at dksX1_guest_1 21 rfl rfl)
theorem dX1_guest_47 : decode cX1_guest 47 = .ok (.iload_n 1, 1) := dk_27 (dk_at dksX1_guest_2 0 rfl rfl)
theorem dX1_guest_48 : decode cX1_guest 48 = .ok (.invokespecial 71, 3) := dk_183 0 71 (dk_at dksX1_guest_2 1 rfl rfl)
theorem dX1_guest_51 : decode cX1_guest 51 = .ok (.invokevirtual 73, 3) := dk_182 0 73 (dk_at dksX1_guest_2 4 rfl rfl)
theorem dX1_guest_54 : decode cX1_guest 54 = .ok (.pop, 1) := dk_87 (dk_at dksX1_guest_2 7 rfl rfl)
theorem dX1_guest_55 : decode cX1_guest 55 = .ok (.aload_n 0, 1) := dk_42 (dk_at dksX1_guest_2 8 rfl rfl)
theorem dX1_guest_56 : decode cX1_guest 56 = .ok (.getfield 39, 3) := dk_180 0 39 (dk_at dksX1_guest_2 9 rfl rfl)
theorem dX1_guest_59 : decode cX1_guest 59 = .ok (.getfield 47, 3) := dk_180 0 47 (dk_at dksX1_guest_2 12 rfl rfl)
theorem dX1_guest_62 : decode cX1_guest 62 = .ok (.invokevirtual 65, 3) := dk_182 0 65 (dk_at dksX1_guest_2 15 rfl rfl)
theorem dX1_guest_65 : decode cX1_guest 65 = .ok (.iconst 1, 1) := dk_4 (dk_at dksX1_guest_2 18 rfl rfl)
theorem dX1_guest_66 : decode cX1_guest 66 = .ok (.isub, 1) := dk_100 (dk_at dksX1_guest_2 19 rfl rfl)
theorem dX1_guest_67 : decode cX1_guest 67 = .ok (.ireturn, 1) := dk_172 (dk_at dksX1_guest_2 20 rfl rfl)
abbrev cX1_requireWeight : ByteArray := prog_1_method_9_code
def yX1_requireWeight : MethodName := ⟨RX1, "requireWeight", "(I)V"⟩
def dkwX1_requireWeight_0 : List UInt8 := [4, 7, 26, 184, 0, 57, 177]
abbrev dktX1_requireWeight_0 : List UInt8 := dkwX1_requireWeight_0 ++ []
theorem dksX1_requireWeight_0 : cX1_requireWeight.data.toList.drop 0 = dktX1_requireWeight_0 := by decide +kernel
theorem dX1_requireWeight_0 : decode cX1_requireWeight 0 = .ok (.iconst 1, 1) := dk_4 (dk_at dksX1_requireWeight_0 0 rfl rfl)
theorem dX1_requireWeight_1 : decode cX1_requireWeight 1 = .ok (.iconst 4, 1) := dk_7 (dk_at dksX1_requireWeight_0 1 rfl rfl)
theorem dX1_requireWeight_2 : decode cX1_requireWeight 2 = .ok (.iload_n 0, 1) := dk_26 (dk_at dksX1_requireWeight_0 2 rfl rfl)
theorem dX1_requireWeight_3 : decode cX1_requireWeight 3 = .ok (.invokestatic 57, 3) := dk_184 0 57 (dk_at dksX1_requireWeight_0 3 rfl rfl)
theorem dX1_requireWeight_6 : decode cX1_requireWeight 6 = .ok (.return_, 1) := dk_177 (dk_at dksX1_requireWeight_0 6 rfl rfl)
abbrev cX1_requireFrom : ByteArray := prog_1_method_4_code
def yX1_requireFrom : MethodName := ⟨RX1, "requireFrom", "(III)V"⟩
def dkwX1_requireFrom_0 : List UInt8 := [28, 26, 161, 0, 12, 28, 27, 163, 0, 7, 4, 167, 0, 4, 3, 184, 0, 13, 177]
abbrev dktX1_requireFrom_0 : List UInt8 := dkwX1_requireFrom_0 ++ []
theorem dksX1_requireFrom_0 : cX1_requireFrom.data.toList.drop 0 = dktX1_requireFrom_0 := by decide +kernel
theorem dX1_requireFrom_0 : decode cX1_requireFrom 0 = .ok (.iload_n 2, 1) := dk_28 (dk_at dksX1_requireFrom_0 0 rfl rfl)
theorem dX1_requireFrom_1 : decode cX1_requireFrom 1 = .ok (.iload_n 0, 1) := dk_26 (dk_at dksX1_requireFrom_0 1 rfl rfl)
theorem dX1_requireFrom_2 : decode cX1_requireFrom 2 = .ok (.if_icmp .lt 12, 3) := dk_161 0 12 (dk_at dksX1_requireFrom_0 2 rfl rfl)
theorem dX1_requireFrom_5 : decode cX1_requireFrom 5 = .ok (.iload_n 2, 1) := dk_28 (dk_at dksX1_requireFrom_0 5 rfl rfl)
theorem dX1_requireFrom_6 : decode cX1_requireFrom 6 = .ok (.iload_n 1, 1) := dk_27 (dk_at dksX1_requireFrom_0 6 rfl rfl)
theorem dX1_requireFrom_7 : decode cX1_requireFrom 7 = .ok (.if_icmp .gt 7, 3) := dk_163 0 7 (dk_at dksX1_requireFrom_0 7 rfl rfl)
theorem dX1_requireFrom_10 : decode cX1_requireFrom 10 = .ok (.iconst 1, 1) := dk_4 (dk_at dksX1_requireFrom_0 10 rfl rfl)
theorem dX1_requireFrom_11 : decode cX1_requireFrom 11 = .ok (.goto 4, 3) := dk_167 0 4 (dk_at dksX1_requireFrom_0 11 rfl rfl)
theorem dX1_requireFrom_14 : decode cX1_requireFrom 14 = .ok (.iconst 0, 1) := dk_3 (dk_at dksX1_requireFrom_0 14 rfl rfl)
theorem dX1_requireFrom_15 : decode cX1_requireFrom 15 = .ok (.invokestatic 13, 3) := dk_184 0 13 (dk_at dksX1_requireFrom_0 15 rfl rfl)
theorem dX1_requireFrom_18 : decode cX1_requireFrom 18 = .ok (.return_, 1) := dk_177 (dk_at dksX1_requireFrom_0 18 rfl rfl)
abbrev cX1_require : ByteArray := prog_1_method_1_code
def yX1_require : MethodName := ⟨RX1, "require", "(Z)V"⟩
def dkwX1_require_0 : List UInt8 := [26, 154, 0, 11, 187, 0, 1, 89, 183, 0, 3, 191, 177]
abbrev dktX1_require_0 : List UInt8 := dkwX1_require_0 ++ []
theorem dksX1_require_0 : cX1_require.data.toList.drop 0 = dktX1_require_0 := by decide +kernel
theorem dX1_require_0 : decode cX1_require 0 = .ok (.iload_n 0, 1) := dk_26 (dk_at dksX1_require_0 0 rfl rfl)
theorem dX1_require_1 : decode cX1_require 1 = .ok (.ifCond .ne 11, 3) := dk_154 0 11 (dk_at dksX1_require_0 1 rfl rfl)
theorem dX1_require_4 : decode cX1_require 4 = .ok (.new 1, 3) := dk_187 0 1 (dk_at dksX1_require_0 4 rfl rfl)
theorem dX1_require_7 : decode cX1_require 7 = .ok (.dup, 1) := dk_89 (dk_at dksX1_require_0 7 rfl rfl)
theorem dX1_require_8 : decode cX1_require 8 = .ok (.invokespecial 3, 3) := dk_183 0 3 (dk_at dksX1_require_0 8 rfl rfl)
theorem dX1_require_11 : decode cX1_require 11 = .ok (.athrow, 1) := dk_191 (dk_at dksX1_require_0 11 rfl rfl)
theorem dX1_require_12 : decode cX1_require 12 = .ok (.return_, 1) := dk_177 (dk_at dksX1_require_0 12 rfl rfl)
abbrev cX1_requireState : ByteArray := prog_1_method_2_code
def yX1_requireState : MethodName := ⟨RX1, "requireState", "(Z)V"⟩
def dkwX1_requireState_0 : List UInt8 := [26, 154, 0, 11, 187, 0, 7, 89, 183, 0, 9, 191, 177]
abbrev dktX1_requireState_0 : List UInt8 := dkwX1_requireState_0 ++ []
theorem dksX1_requireState_0 : cX1_requireState.data.toList.drop 0 = dktX1_requireState_0 := by decide +kernel
theorem dX1_requireState_0 : decode cX1_requireState 0 = .ok (.iload_n 0, 1) := dk_26 (dk_at dksX1_requireState_0 0 rfl rfl)
theorem dX1_requireState_1 : decode cX1_requireState 1 = .ok (.ifCond .ne 11, 3) := dk_154 0 11 (dk_at dksX1_requireState_0 1 rfl rfl)
theorem dX1_requireState_4 : decode cX1_requireState 4 = .ok (.new 7, 3) := dk_187 0 7 (dk_at dksX1_requireState_0 4 rfl rfl)
theorem dX1_requireState_7 : decode cX1_requireState 7 = .ok (.dup, 1) := dk_89 (dk_at dksX1_requireState_0 7 rfl rfl)
theorem dX1_requireState_8 : decode cX1_requireState 8 = .ok (.invokespecial 9, 3) := dk_183 0 9 (dk_at dksX1_requireState_0 8 rfl rfl)
theorem dX1_requireState_11 : decode cX1_requireState 11 = .ok (.athrow, 1) := dk_191 (dk_at dksX1_requireState_0 11 rfl rfl)
theorem dX1_requireState_12 : decode cX1_requireState 12 = .ok (.return_, 1) := dk_177 (dk_at dksX1_requireState_0 12 rfl rfl)
abbrev cX1_op : ByteArray := prog_1_method_11_code
def yX1_op : MethodName := ⟨RX1, "op", "(III)I"⟩
def dkwX1_op_5 : List UInt8 := [160, 0, 9, 25, 4, 3, 181, 0, 105, 25, 4, 180, 0, 81, 180, 0, 85, 182, 0, 65, 172]
abbrev dktX1_op_5 : List UInt8 := dkwX1_op_5 ++ []
def dkwX1_op_4 : List UInt8 := [181, 0, 97, 25, 4, 180, 0, 101, 8, 160, 0, 9, 25, 4, 3, 181, 0, 101, 25, 4, 180, 0, 105, 8]
abbrev dktX1_op_4 : List UInt8 := dkwX1_op_4 ++ dktX1_op_5
def dkwX1_op_3 : List UInt8 := [180, 0, 81, 180, 0, 85, 187, 0, 94, 89, 28, 29, 183, 0, 96, 182, 0, 73, 87, 25, 4, 1]
abbrev dktX1_op_3 : List UInt8 := dkwX1_op_3 ++ dktX1_op_4
def dkwX1_op_2 : List UInt8 := [16, 12, 162, 0, 15, 25, 4, 182, 0, 90, 154, 0, 7, 4, 167, 0, 4, 3, 184, 0, 68, 25, 4]
abbrev dktX1_op_2 : List UInt8 := dkwX1_op_2 ++ dktX1_op_3
def dkwX1_op_1 : List UInt8 := [160, 0, 7, 8, 167, 0, 4, 3, 29, 184, 0, 57, 25, 4, 180, 0, 81, 180, 0, 85, 182, 0, 65]
abbrev dktX1_op_1 : List UInt8 := dkwX1_op_1 ++ dktX1_op_2
def dkwX1_op_0 : List UInt8 := [42, 27, 182, 0, 77, 58, 4, 3, 16, 6, 28, 184, 0, 57, 3, 28, 4, 159, 0, 8, 28, 5]
abbrev dktX1_op_0 : List UInt8 := dkwX1_op_0 ++ dktX1_op_1
theorem dksX1_op_0 : cX1_op.data.toList.drop 0 = dktX1_op_0 := by decide +kernel
theorem dksX1_op_1 : cX1_op.data.toList.drop 22 = dktX1_op_1 := dk_seg dksX1_op_0 22 rfl rfl
theorem dksX1_op_2 : cX1_op.data.toList.drop 45 = dktX1_op_2 := dk_seg dksX1_op_1 23 rfl rfl
theorem dksX1_op_3 : cX1_op.data.toList.drop 68 = dktX1_op_3 := dk_seg dksX1_op_2 23 rfl rfl
theorem dksX1_op_4 : cX1_op.data.toList.drop 90 = dktX1_op_4 := dk_seg dksX1_op_3 22 rfl rfl
theorem dksX1_op_5 : cX1_op.data.toList.drop 114 = dktX1_op_5 := dk_seg dksX1_op_4 24 rfl rfl
theorem dX1_op_0 : decode cX1_op 0 = .ok (.aload_n 0, 1) := dk_42 (dk_at dksX1_op_0 0 rfl rfl)
theorem dX1_op_1 : decode cX1_op 1 = .ok (.iload_n 1, 1) := dk_27 (dk_at dksX1_op_0 1 rfl rfl)
theorem dX1_op_2 : decode cX1_op 2 = .ok (.invokevirtual 77, 3) := dk_182 0 77 (dk_at dksX1_op_0 2 rfl rfl)
theorem dX1_op_5 : decode cX1_op 5 = .ok (.astore 4, 2) := dk_58 4 (dk_at dksX1_op_0 5 rfl rfl)
theorem dX1_op_7 : decode cX1_op 7 = .ok (.iconst 0, 1) := dk_3 (dk_at dksX1_op_0 7 rfl rfl)
theorem dX1_op_8 : decode cX1_op 8 = .ok (.bipush 6, 2) := dk_16 6 (dk_at dksX1_op_0 8 rfl rfl)
theorem dX1_op_10 : decode cX1_op 10 = .ok (.iload_n 2, 1) := dk_28 (dk_at dksX1_op_0 10 rfl rfl)
theorem dX1_op_11 : decode cX1_op 11 = .ok (.invokestatic 57, 3) := dk_184 0 57 (dk_at dksX1_op_0 11 rfl rfl)
theorem dX1_op_14 : decode cX1_op 14 = .ok (.iconst 0, 1) := dk_3 (dk_at dksX1_op_0 14 rfl rfl)
theorem dX1_op_15 : decode cX1_op 15 = .ok (.iload_n 2, 1) := dk_28 (dk_at dksX1_op_0 15 rfl rfl)
theorem dX1_op_16 : decode cX1_op 16 = .ok (.iconst 1, 1) := dk_4 (dk_at dksX1_op_0 16 rfl rfl)
theorem dX1_op_17 : decode cX1_op 17 = .ok (.if_icmp .eq 8, 3) := dk_159 0 8 (dk_at dksX1_op_0 17 rfl rfl)
theorem dX1_op_20 : decode cX1_op 20 = .ok (.iload_n 2, 1) := dk_28 (dk_at dksX1_op_0 20 rfl rfl)
theorem dX1_op_21 : decode cX1_op 21 = .ok (.iconst 2, 1) := dk_5 (dk_at dksX1_op_0 21 rfl rfl)
theorem dX1_op_22 : decode cX1_op 22 = .ok (.if_icmp .ne 7, 3) := dk_160 0 7 (dk_at dksX1_op_1 0 rfl rfl)
theorem dX1_op_25 : decode cX1_op 25 = .ok (.iconst 5, 1) := dk_8 (dk_at dksX1_op_1 3 rfl rfl)
theorem dX1_op_26 : decode cX1_op 26 = .ok (.goto 4, 3) := dk_167 0 4 (dk_at dksX1_op_1 4 rfl rfl)
theorem dX1_op_29 : decode cX1_op 29 = .ok (.iconst 0, 1) := dk_3 (dk_at dksX1_op_1 7 rfl rfl)
theorem dX1_op_30 : decode cX1_op 30 = .ok (.iload_n 3, 1) := dk_29 (dk_at dksX1_op_1 8 rfl rfl)
theorem dX1_op_31 : decode cX1_op 31 = .ok (.invokestatic 57, 3) := dk_184 0 57 (dk_at dksX1_op_1 9 rfl rfl)
theorem dX1_op_34 : decode cX1_op 34 = .ok (.aload 4, 2) := dk_25 4 (dk_at dksX1_op_1 12 rfl rfl)
theorem dX1_op_36 : decode cX1_op 36 = .ok (.getfield 81, 3) := dk_180 0 81 (dk_at dksX1_op_1 14 rfl rfl)
theorem dX1_op_39 : decode cX1_op 39 = .ok (.getfield 85, 3) := dk_180 0 85 (dk_at dksX1_op_1 17 rfl rfl)
theorem dX1_op_42 : decode cX1_op 42 = .ok (.invokevirtual 65, 3) := dk_182 0 65 (dk_at dksX1_op_1 20 rfl rfl)
theorem dX1_op_45 : decode cX1_op 45 = .ok (.bipush 12, 2) := dk_16 12 (dk_at dksX1_op_2 0 rfl rfl)
theorem dX1_op_47 : decode cX1_op 47 = .ok (.if_icmp .ge 15, 3) := dk_162 0 15 (dk_at dksX1_op_2 2 rfl rfl)
theorem dX1_op_50 : decode cX1_op 50 = .ok (.aload 4, 2) := dk_25 4 (dk_at dksX1_op_2 5 rfl rfl)
theorem dX1_op_52 : decode cX1_op 52 = .ok (.invokevirtual 90, 3) := dk_182 0 90 (dk_at dksX1_op_2 7 rfl rfl)
theorem dX1_op_55 : decode cX1_op 55 = .ok (.ifCond .ne 7, 3) := dk_154 0 7 (dk_at dksX1_op_2 10 rfl rfl)
theorem dX1_op_58 : decode cX1_op 58 = .ok (.iconst 1, 1) := dk_4 (dk_at dksX1_op_2 13 rfl rfl)
theorem dX1_op_59 : decode cX1_op 59 = .ok (.goto 4, 3) := dk_167 0 4 (dk_at dksX1_op_2 14 rfl rfl)
theorem dX1_op_62 : decode cX1_op 62 = .ok (.iconst 0, 1) := dk_3 (dk_at dksX1_op_2 17 rfl rfl)
theorem dX1_op_63 : decode cX1_op 63 = .ok (.invokestatic 68, 3) := dk_184 0 68 (dk_at dksX1_op_2 18 rfl rfl)
theorem dX1_op_66 : decode cX1_op 66 = .ok (.aload 4, 2) := dk_25 4 (dk_at dksX1_op_2 21 rfl rfl)
theorem dX1_op_68 : decode cX1_op 68 = .ok (.getfield 81, 3) := dk_180 0 81 (dk_at dksX1_op_3 0 rfl rfl)
theorem dX1_op_71 : decode cX1_op 71 = .ok (.getfield 85, 3) := dk_180 0 85 (dk_at dksX1_op_3 3 rfl rfl)
theorem dX1_op_74 : decode cX1_op 74 = .ok (.new 94, 3) := dk_187 0 94 (dk_at dksX1_op_3 6 rfl rfl)
theorem dX1_op_77 : decode cX1_op 77 = .ok (.dup, 1) := dk_89 (dk_at dksX1_op_3 9 rfl rfl)
theorem dX1_op_78 : decode cX1_op 78 = .ok (.iload_n 2, 1) := dk_28 (dk_at dksX1_op_3 10 rfl rfl)
theorem dX1_op_79 : decode cX1_op 79 = .ok (.iload_n 3, 1) := dk_29 (dk_at dksX1_op_3 11 rfl rfl)
theorem dX1_op_80 : decode cX1_op 80 = .ok (.invokespecial 96, 3) := dk_183 0 96 (dk_at dksX1_op_3 12 rfl rfl)
theorem dX1_op_83 : decode cX1_op 83 = .ok (.invokevirtual 73, 3) := dk_182 0 73 (dk_at dksX1_op_3 15 rfl rfl)
theorem dX1_op_86 : decode cX1_op 86 = .ok (.pop, 1) := dk_87 (dk_at dksX1_op_3 18 rfl rfl)
theorem dX1_op_87 : decode cX1_op 87 = .ok (.aload 4, 2) := dk_25 4 (dk_at dksX1_op_3 19 rfl rfl)
theorem dX1_op_89 : decode cX1_op 89 = .ok (.aconst_null, 1) := dk_1 (dk_at dksX1_op_3 21 rfl rfl)
theorem dX1_op_90 : decode cX1_op 90 = .ok (.putfield 97, 3) := dk_181 0 97 (dk_at dksX1_op_4 0 rfl rfl)
theorem dX1_op_93 : decode cX1_op 93 = .ok (.aload 4, 2) := dk_25 4 (dk_at dksX1_op_4 3 rfl rfl)
theorem dX1_op_95 : decode cX1_op 95 = .ok (.getfield 101, 3) := dk_180 0 101 (dk_at dksX1_op_4 5 rfl rfl)
theorem dX1_op_98 : decode cX1_op 98 = .ok (.iconst 5, 1) := dk_8 (dk_at dksX1_op_4 8 rfl rfl)
theorem dX1_op_99 : decode cX1_op 99 = .ok (.if_icmp .ne 9, 3) := dk_160 0 9 (dk_at dksX1_op_4 9 rfl rfl)
theorem dX1_op_102 : decode cX1_op 102 = .ok (.aload 4, 2) := dk_25 4 (dk_at dksX1_op_4 12 rfl rfl)
theorem dX1_op_104 : decode cX1_op 104 = .ok (.iconst 0, 1) := dk_3 (dk_at dksX1_op_4 14 rfl rfl)
theorem dX1_op_105 : decode cX1_op 105 = .ok (.putfield 101, 3) := dk_181 0 101 (dk_at dksX1_op_4 15 rfl rfl)
theorem dX1_op_108 : decode cX1_op 108 = .ok (.aload 4, 2) := dk_25 4 (dk_at dksX1_op_4 18 rfl rfl)
theorem dX1_op_110 : decode cX1_op 110 = .ok (.getfield 105, 3) := dk_180 0 105 (dk_at dksX1_op_4 20 rfl rfl)
theorem dX1_op_113 : decode cX1_op 113 = .ok (.iconst 5, 1) := dk_8 (dk_at dksX1_op_4 23 rfl rfl)
theorem dX1_op_114 : decode cX1_op 114 = .ok (.if_icmp .ne 9, 3) := dk_160 0 9 (dk_at dksX1_op_5 0 rfl rfl)
theorem dX1_op_117 : decode cX1_op 117 = .ok (.aload 4, 2) := dk_25 4 (dk_at dksX1_op_5 3 rfl rfl)
theorem dX1_op_119 : decode cX1_op 119 = .ok (.iconst 0, 1) := dk_3 (dk_at dksX1_op_5 5 rfl rfl)
theorem dX1_op_120 : decode cX1_op 120 = .ok (.putfield 105, 3) := dk_181 0 105 (dk_at dksX1_op_5 6 rfl rfl)
theorem dX1_op_123 : decode cX1_op 123 = .ok (.aload 4, 2) := dk_25 4 (dk_at dksX1_op_5 9 rfl rfl)
theorem dX1_op_125 : decode cX1_op 125 = .ok (.getfield 81, 3) := dk_180 0 81 (dk_at dksX1_op_5 11 rfl rfl)
theorem dX1_op_128 : decode cX1_op 128 = .ok (.getfield 85, 3) := dk_180 0 85 (dk_at dksX1_op_5 14 rfl rfl)
theorem dX1_op_131 : decode cX1_op 131 = .ok (.invokevirtual 65, 3) := dk_182 0 65 (dk_at dksX1_op_5 17 rfl rfl)
theorem dX1_op_134 : decode cX1_op 134 = .ok (.ireturn, 1) := dk_172 (dk_at dksX1_op_5 20 rfl rfl)
abbrev cX1_guestOf : ByteArray := prog_1_method_8_code
def yX1_guestOf : MethodName := ⟨RX1, "guestOf", "(I)LHyperVane$Guest;"⟩
def dkwX1_guestOf_0 : List UInt8 := [42, 180, 0, 39, 180, 0, 47, 27, 184, 0, 51, 192, 0, 55, 176]
abbrev dktX1_guestOf_0 : List UInt8 := dkwX1_guestOf_0 ++ []
theorem dksX1_guestOf_0 : cX1_guestOf.data.toList.drop 0 = dktX1_guestOf_0 := by decide +kernel
theorem dX1_guestOf_0 : decode cX1_guestOf 0 = .ok (.aload_n 0, 1) := dk_42 (dk_at dksX1_guestOf_0 0 rfl rfl)
theorem dX1_guestOf_1 : decode cX1_guestOf 1 = .ok (.getfield 39, 3) := dk_180 0 39 (dk_at dksX1_guestOf_0 1 rfl rfl)
theorem dX1_guestOf_4 : decode cX1_guestOf 4 = .ok (.getfield 47, 3) := dk_180 0 47 (dk_at dksX1_guestOf_0 4 rfl rfl)
theorem dX1_guestOf_7 : decode cX1_guestOf 7 = .ok (.iload_n 1, 1) := dk_27 (dk_at dksX1_guestOf_0 7 rfl rfl)
theorem dX1_guestOf_8 : decode cX1_guestOf 8 = .ok (.invokestatic 51, 3) := dk_184 0 51 (dk_at dksX1_guestOf_0 8 rfl rfl)
theorem dX1_guestOf_11 : decode cX1_guestOf 11 = .ok (.checkcast 55, 3) := dk_192 0 55 (dk_at dksX1_guestOf_0 11 rfl rfl)
theorem dX1_guestOf_14 : decode cX1_guestOf 14 = .ok (.areturn, 1) := dk_176 (dk_at dksX1_guestOf_0 14 rfl rfl)
abbrev cX1_at : ByteArray := prog_1_method_5_code
def yX1_at : MethodName := ⟨RX1, "at", "(Ljava/util/List;I)Ljava/lang/Object;"⟩
def dkwX1_at_0 : List UInt8 := [27, 42, 185, 0, 19, 1, 0, 184, 0, 25, 42, 27, 185, 0, 29, 2, 0, 176]
abbrev dktX1_at_0 : List UInt8 := dkwX1_at_0 ++ []
theorem dksX1_at_0 : cX1_at.data.toList.drop 0 = dktX1_at_0 := by decide +kernel
theorem dX1_at_0 : decode cX1_at 0 = .ok (.iload_n 1, 1) := dk_27 (dk_at dksX1_at_0 0 rfl rfl)
theorem dX1_at_1 : decode cX1_at 1 = .ok (.aload_n 0, 1) := dk_42 (dk_at dksX1_at_0 1 rfl rfl)
theorem dX1_at_2 : decode cX1_at 2 = .ok (.invokeinterface 19 1, 5) := by decide +kernel
theorem dX1_at_7 : decode cX1_at 7 = .ok (.invokestatic 25, 3) := dk_184 0 25 (dk_at dksX1_at_0 7 rfl rfl)
theorem dX1_at_10 : decode cX1_at 10 = .ok (.aload_n 0, 1) := dk_42 (dk_at dksX1_at_0 10 rfl rfl)
theorem dX1_at_11 : decode cX1_at 11 = .ok (.iload_n 1, 1) := dk_27 (dk_at dksX1_at_0 11 rfl rfl)
theorem dX1_at_12 : decode cX1_at 12 = .ok (.invokeinterface 29 2, 5) := by decide +kernel
theorem dX1_at_17 : decode cX1_at 17 = .ok (.areturn, 1) := dk_176 (dk_at dksX1_at_0 17 rfl rfl)
abbrev cX1_requireIndex : ByteArray := prog_1_method_3_code
def yX1_requireIndex : MethodName := ⟨RX1, "requireIndex", "(II)V"⟩
def dkwX1_requireIndex_0 : List UInt8 := [26, 155, 0, 8, 26, 27, 161, 0, 11, 187, 0, 10, 89, 183, 0, 12, 191, 177]
abbrev dktX1_requireIndex_0 : List UInt8 := dkwX1_requireIndex_0 ++ []
theorem dksX1_requireIndex_0 : cX1_requireIndex.data.toList.drop 0 = dktX1_requireIndex_0 := by decide +kernel
theorem dX1_requireIndex_0 : decode cX1_requireIndex 0 = .ok (.iload_n 0, 1) := dk_26 (dk_at dksX1_requireIndex_0 0 rfl rfl)
theorem dX1_requireIndex_1 : decode cX1_requireIndex 1 = .ok (.ifCond .lt 8, 3) := dk_155 0 8 (dk_at dksX1_requireIndex_0 1 rfl rfl)
theorem dX1_requireIndex_4 : decode cX1_requireIndex 4 = .ok (.iload_n 0, 1) := dk_26 (dk_at dksX1_requireIndex_0 4 rfl rfl)
theorem dX1_requireIndex_5 : decode cX1_requireIndex 5 = .ok (.iload_n 1, 1) := dk_27 (dk_at dksX1_requireIndex_0 5 rfl rfl)
theorem dX1_requireIndex_6 : decode cX1_requireIndex 6 = .ok (.if_icmp .lt 11, 3) := dk_161 0 11 (dk_at dksX1_requireIndex_0 6 rfl rfl)
theorem dX1_requireIndex_9 : decode cX1_requireIndex 9 = .ok (.new 10, 3) := dk_187 0 10 (dk_at dksX1_requireIndex_0 9 rfl rfl)
theorem dX1_requireIndex_12 : decode cX1_requireIndex 12 = .ok (.dup, 1) := dk_89 (dk_at dksX1_requireIndex_0 12 rfl rfl)
theorem dX1_requireIndex_13 : decode cX1_requireIndex 13 = .ok (.invokespecial 12, 3) := dk_183 0 12 (dk_at dksX1_requireIndex_0 13 rfl rfl)
theorem dX1_requireIndex_16 : decode cX1_requireIndex 16 = .ok (.athrow, 1) := dk_191 (dk_at dksX1_requireIndex_0 16 rfl rfl)
theorem dX1_requireIndex_17 : decode cX1_requireIndex 17 = .ok (.return_, 1) := dk_177 (dk_at dksX1_requireIndex_0 17 rfl rfl)
abbrev cX1_weight : ByteArray := prog_1_method_12_code
def yX1_weight : MethodName := ⟨RX1, "weight", "(II)I"⟩
def dkwX1_weight_0 : List UInt8 := [42, 27, 182, 0, 77, 78, 28, 184, 0, 61, 45, 180, 0, 108, 54, 4, 45, 28, 181, 0, 108, 21, 4, 172]
abbrev dktX1_weight_0 : List UInt8 := dkwX1_weight_0 ++ []
theorem dksX1_weight_0 : cX1_weight.data.toList.drop 0 = dktX1_weight_0 := by decide +kernel
theorem dX1_weight_0 : decode cX1_weight 0 = .ok (.aload_n 0, 1) := dk_42 (dk_at dksX1_weight_0 0 rfl rfl)
theorem dX1_weight_1 : decode cX1_weight 1 = .ok (.iload_n 1, 1) := dk_27 (dk_at dksX1_weight_0 1 rfl rfl)
theorem dX1_weight_2 : decode cX1_weight 2 = .ok (.invokevirtual 77, 3) := dk_182 0 77 (dk_at dksX1_weight_0 2 rfl rfl)
theorem dX1_weight_5 : decode cX1_weight 5 = .ok (.astore_n 3, 1) := dk_78 (dk_at dksX1_weight_0 5 rfl rfl)
theorem dX1_weight_6 : decode cX1_weight 6 = .ok (.iload_n 2, 1) := dk_28 (dk_at dksX1_weight_0 6 rfl rfl)
theorem dX1_weight_7 : decode cX1_weight 7 = .ok (.invokestatic 61, 3) := dk_184 0 61 (dk_at dksX1_weight_0 7 rfl rfl)
theorem dX1_weight_10 : decode cX1_weight 10 = .ok (.aload_n 3, 1) := dk_45 (dk_at dksX1_weight_0 10 rfl rfl)
theorem dX1_weight_11 : decode cX1_weight 11 = .ok (.getfield 108, 3) := dk_180 0 108 (dk_at dksX1_weight_0 11 rfl rfl)
theorem dX1_weight_14 : decode cX1_weight 14 = .ok (.istore 4, 2) := dk_54 4 (dk_at dksX1_weight_0 14 rfl rfl)
theorem dX1_weight_16 : decode cX1_weight 16 = .ok (.aload_n 3, 1) := dk_45 (dk_at dksX1_weight_0 16 rfl rfl)
theorem dX1_weight_17 : decode cX1_weight 17 = .ok (.iload_n 2, 1) := dk_28 (dk_at dksX1_weight_0 17 rfl rfl)
theorem dX1_weight_18 : decode cX1_weight 18 = .ok (.putfield 108, 3) := dk_181 0 108 (dk_at dksX1_weight_0 18 rfl rfl)
theorem dX1_weight_21 : decode cX1_weight 21 = .ok (.iload 4, 2) := dk_21 4 (dk_at dksX1_weight_0 21 rfl rfl)
theorem dX1_weight_23 : decode cX1_weight 23 = .ok (.ireturn, 1) := dk_172 (dk_at dksX1_weight_0 23 rfl rfl)
abbrev cX1_pause : ByteArray := prog_1_method_13_code
def yX1_pause : MethodName := ⟨RX1, "pause", "(IZ)Z"⟩
def dkwX1_pause_3 : List UInt8 := [21, 4, 153, 0, 14, 45, 42, 180, 0, 39, 180, 0, 118, 182, 0, 121, 21, 4, 172]
abbrev dktX1_pause_3 : List UInt8 := dkwX1_pause_3 ++ []
def dkwX1_pause_2 : List UInt8 := [167, 0, 4, 3, 184, 0, 68, 28, 153, 0, 12, 21, 4, 154, 0, 7, 45, 182, 0, 115, 28, 154, 0, 19]
abbrev dktX1_pause_2 : List UInt8 := dkwX1_pause_2 ++ dktX1_pause_3
def dkwX1_pause_1 : List UInt8 := [182, 0, 90, 154, 0, 23, 28, 154, 0, 15, 21, 4, 153, 0, 10, 45, 180, 0, 111, 154, 0, 7, 4]
abbrev dktX1_pause_1 : List UInt8 := dkwX1_pause_1 ++ dktX1_pause_2
def dkwX1_pause_0 : List UInt8 := [42, 27, 182, 0, 77, 78, 45, 180, 0, 101, 6, 160, 0, 7, 4, 167, 0, 4, 3, 54, 4, 45]
abbrev dktX1_pause_0 : List UInt8 := dkwX1_pause_0 ++ dktX1_pause_1
theorem dksX1_pause_0 : cX1_pause.data.toList.drop 0 = dktX1_pause_0 := by decide +kernel
theorem dksX1_pause_1 : cX1_pause.data.toList.drop 22 = dktX1_pause_1 := dk_seg dksX1_pause_0 22 rfl rfl
theorem dksX1_pause_2 : cX1_pause.data.toList.drop 45 = dktX1_pause_2 := dk_seg dksX1_pause_1 23 rfl rfl
theorem dksX1_pause_3 : cX1_pause.data.toList.drop 69 = dktX1_pause_3 := dk_seg dksX1_pause_2 24 rfl rfl
theorem dX1_pause_0 : decode cX1_pause 0 = .ok (.aload_n 0, 1) := dk_42 (dk_at dksX1_pause_0 0 rfl rfl)
theorem dX1_pause_1 : decode cX1_pause 1 = .ok (.iload_n 1, 1) := dk_27 (dk_at dksX1_pause_0 1 rfl rfl)
theorem dX1_pause_2 : decode cX1_pause 2 = .ok (.invokevirtual 77, 3) := dk_182 0 77 (dk_at dksX1_pause_0 2 rfl rfl)
theorem dX1_pause_5 : decode cX1_pause 5 = .ok (.astore_n 3, 1) := dk_78 (dk_at dksX1_pause_0 5 rfl rfl)
theorem dX1_pause_6 : decode cX1_pause 6 = .ok (.aload_n 3, 1) := dk_45 (dk_at dksX1_pause_0 6 rfl rfl)
theorem dX1_pause_7 : decode cX1_pause 7 = .ok (.getfield 101, 3) := dk_180 0 101 (dk_at dksX1_pause_0 7 rfl rfl)
theorem dX1_pause_10 : decode cX1_pause 10 = .ok (.iconst 3, 1) := dk_6 (dk_at dksX1_pause_0 10 rfl rfl)
theorem dX1_pause_11 : decode cX1_pause 11 = .ok (.if_icmp .ne 7, 3) := dk_160 0 7 (dk_at dksX1_pause_0 11 rfl rfl)
theorem dX1_pause_14 : decode cX1_pause 14 = .ok (.iconst 1, 1) := dk_4 (dk_at dksX1_pause_0 14 rfl rfl)
theorem dX1_pause_15 : decode cX1_pause 15 = .ok (.goto 4, 3) := dk_167 0 4 (dk_at dksX1_pause_0 15 rfl rfl)
theorem dX1_pause_18 : decode cX1_pause 18 = .ok (.iconst 0, 1) := dk_3 (dk_at dksX1_pause_0 18 rfl rfl)
theorem dX1_pause_19 : decode cX1_pause 19 = .ok (.istore 4, 2) := dk_54 4 (dk_at dksX1_pause_0 19 rfl rfl)
theorem dX1_pause_21 : decode cX1_pause 21 = .ok (.aload_n 3, 1) := dk_45 (dk_at dksX1_pause_0 21 rfl rfl)
theorem dX1_pause_22 : decode cX1_pause 22 = .ok (.invokevirtual 90, 3) := dk_182 0 90 (dk_at dksX1_pause_1 0 rfl rfl)
theorem dX1_pause_25 : decode cX1_pause 25 = .ok (.ifCond .ne 23, 3) := dk_154 0 23 (dk_at dksX1_pause_1 3 rfl rfl)
theorem dX1_pause_28 : decode cX1_pause 28 = .ok (.iload_n 2, 1) := dk_28 (dk_at dksX1_pause_1 6 rfl rfl)
theorem dX1_pause_29 : decode cX1_pause 29 = .ok (.ifCond .ne 15, 3) := dk_154 0 15 (dk_at dksX1_pause_1 7 rfl rfl)
theorem dX1_pause_32 : decode cX1_pause 32 = .ok (.iload 4, 2) := dk_21 4 (dk_at dksX1_pause_1 10 rfl rfl)
theorem dX1_pause_34 : decode cX1_pause 34 = .ok (.ifCond .eq 10, 3) := dk_153 0 10 (dk_at dksX1_pause_1 12 rfl rfl)
theorem dX1_pause_37 : decode cX1_pause 37 = .ok (.aload_n 3, 1) := dk_45 (dk_at dksX1_pause_1 15 rfl rfl)
theorem dX1_pause_38 : decode cX1_pause 38 = .ok (.getfield 111, 3) := dk_180 0 111 (dk_at dksX1_pause_1 16 rfl rfl)
theorem dX1_pause_41 : decode cX1_pause 41 = .ok (.ifCond .ne 7, 3) := dk_154 0 7 (dk_at dksX1_pause_1 19 rfl rfl)
theorem dX1_pause_44 : decode cX1_pause 44 = .ok (.iconst 1, 1) := dk_4 (dk_at dksX1_pause_1 22 rfl rfl)
theorem dX1_pause_45 : decode cX1_pause 45 = .ok (.goto 4, 3) := dk_167 0 4 (dk_at dksX1_pause_2 0 rfl rfl)
theorem dX1_pause_48 : decode cX1_pause 48 = .ok (.iconst 0, 1) := dk_3 (dk_at dksX1_pause_2 3 rfl rfl)
theorem dX1_pause_49 : decode cX1_pause 49 = .ok (.invokestatic 68, 3) := dk_184 0 68 (dk_at dksX1_pause_2 4 rfl rfl)
theorem dX1_pause_52 : decode cX1_pause 52 = .ok (.iload_n 2, 1) := dk_28 (dk_at dksX1_pause_2 7 rfl rfl)
theorem dX1_pause_53 : decode cX1_pause 53 = .ok (.ifCond .eq 12, 3) := dk_153 0 12 (dk_at dksX1_pause_2 8 rfl rfl)
theorem dX1_pause_56 : decode cX1_pause 56 = .ok (.iload 4, 2) := dk_21 4 (dk_at dksX1_pause_2 11 rfl rfl)
theorem dX1_pause_58 : decode cX1_pause 58 = .ok (.ifCond .ne 7, 3) := dk_154 0 7 (dk_at dksX1_pause_2 13 rfl rfl)
theorem dX1_pause_61 : decode cX1_pause 61 = .ok (.aload_n 3, 1) := dk_45 (dk_at dksX1_pause_2 16 rfl rfl)
theorem dX1_pause_62 : decode cX1_pause 62 = .ok (.invokevirtual 115, 3) := dk_182 0 115 (dk_at dksX1_pause_2 17 rfl rfl)
theorem dX1_pause_65 : decode cX1_pause 65 = .ok (.iload_n 2, 1) := dk_28 (dk_at dksX1_pause_2 20 rfl rfl)
theorem dX1_pause_66 : decode cX1_pause 66 = .ok (.ifCond .ne 19, 3) := dk_154 0 19 (dk_at dksX1_pause_2 21 rfl rfl)
theorem dX1_pause_69 : decode cX1_pause 69 = .ok (.iload 4, 2) := dk_21 4 (dk_at dksX1_pause_3 0 rfl rfl)
theorem dX1_pause_71 : decode cX1_pause 71 = .ok (.ifCond .eq 14, 3) := dk_153 0 14 (dk_at dksX1_pause_3 2 rfl rfl)
theorem dX1_pause_74 : decode cX1_pause 74 = .ok (.aload_n 3, 1) := dk_45 (dk_at dksX1_pause_3 5 rfl rfl)
theorem dX1_pause_75 : decode cX1_pause 75 = .ok (.aload_n 0, 1) := dk_42 (dk_at dksX1_pause_3 6 rfl rfl)
theorem dX1_pause_76 : decode cX1_pause 76 = .ok (.getfield 39, 3) := dk_180 0 39 (dk_at dksX1_pause_3 7 rfl rfl)
theorem dX1_pause_79 : decode cX1_pause 79 = .ok (.getfield 118, 3) := dk_180 0 118 (dk_at dksX1_pause_3 10 rfl rfl)
theorem dX1_pause_82 : decode cX1_pause 82 = .ok (.invokevirtual 121, 3) := dk_182 0 121 (dk_at dksX1_pause_3 13 rfl rfl)
theorem dX1_pause_85 : decode cX1_pause 85 = .ok (.iload 4, 2) := dk_21 4 (dk_at dksX1_pause_3 16 rfl rfl)
theorem dX1_pause_87 : decode cX1_pause 87 = .ok (.ireturn, 1) := dk_172 (dk_at dksX1_pause_3 18 rfl rfl)
abbrev cX1_frames : ByteArray := prog_1_method_14_code
def yX1_frames : MethodName := ⟨RX1, "frames", "(I)I"⟩
def dkwX1_frames_0 : List UInt8 := [4, 16, 10, 27, 184, 0, 57, 42, 180, 0, 39, 27, 182, 0, 43, 172]
abbrev dktX1_frames_0 : List UInt8 := dkwX1_frames_0 ++ []
theorem dksX1_frames_0 : cX1_frames.data.toList.drop 0 = dktX1_frames_0 := by decide +kernel
theorem dX1_frames_0 : decode cX1_frames 0 = .ok (.iconst 1, 1) := dk_4 (dk_at dksX1_frames_0 0 rfl rfl)
theorem dX1_frames_1 : decode cX1_frames 1 = .ok (.bipush 10, 2) := dk_16 10 (dk_at dksX1_frames_0 1 rfl rfl)
theorem dX1_frames_3 : decode cX1_frames 3 = .ok (.iload_n 1, 1) := dk_27 (dk_at dksX1_frames_0 3 rfl rfl)
theorem dX1_frames_4 : decode cX1_frames 4 = .ok (.invokestatic 57, 3) := dk_184 0 57 (dk_at dksX1_frames_0 4 rfl rfl)
theorem dX1_frames_7 : decode cX1_frames 7 = .ok (.aload_n 0, 1) := dk_42 (dk_at dksX1_frames_0 7 rfl rfl)
theorem dX1_frames_8 : decode cX1_frames 8 = .ok (.getfield 39, 3) := dk_180 0 39 (dk_at dksX1_frames_0 8 rfl rfl)
theorem dX1_frames_11 : decode cX1_frames 11 = .ok (.iload_n 1, 1) := dk_27 (dk_at dksX1_frames_0 11 rfl rfl)
theorem dX1_frames_12 : decode cX1_frames 12 = .ok (.invokevirtual 43, 3) := dk_182 0 43 (dk_at dksX1_frames_0 12 rfl rfl)
theorem dX1_frames_15 : decode cX1_frames 15 = .ok (.ireturn, 1) := dk_172 (dk_at dksX1_frames_0 15 rfl rfl)
abbrev cX1_giveUp : ByteArray := prog_1_method_15_code
def yX1_giveUp : MethodName := ⟨RX1, "giveUp", "(II)I"⟩
def dkwX1_giveUp_1 : List UInt8 := [3, 184, 0, 68, 42, 180, 0, 39, 45, 28, 182, 0, 124, 172]
abbrev dktX1_giveUp_1 : List UInt8 := dkwX1_giveUp_1 ++ []
def dkwX1_giveUp_0 : List UInt8 := [42, 27, 182, 0, 77, 78, 4, 16, 6, 28, 184, 0, 57, 45, 182, 0, 90, 154, 0, 7, 4, 167, 0, 4]
abbrev dktX1_giveUp_0 : List UInt8 := dkwX1_giveUp_0 ++ dktX1_giveUp_1
theorem dksX1_giveUp_0 : cX1_giveUp.data.toList.drop 0 = dktX1_giveUp_0 := by decide +kernel
theorem dksX1_giveUp_1 : cX1_giveUp.data.toList.drop 24 = dktX1_giveUp_1 := dk_seg dksX1_giveUp_0 24 rfl rfl
theorem dX1_giveUp_0 : decode cX1_giveUp 0 = .ok (.aload_n 0, 1) := dk_42 (dk_at dksX1_giveUp_0 0 rfl rfl)
theorem dX1_giveUp_1 : decode cX1_giveUp 1 = .ok (.iload_n 1, 1) := dk_27 (dk_at dksX1_giveUp_0 1 rfl rfl)
theorem dX1_giveUp_2 : decode cX1_giveUp 2 = .ok (.invokevirtual 77, 3) := dk_182 0 77 (dk_at dksX1_giveUp_0 2 rfl rfl)
theorem dX1_giveUp_5 : decode cX1_giveUp 5 = .ok (.astore_n 3, 1) := dk_78 (dk_at dksX1_giveUp_0 5 rfl rfl)
theorem dX1_giveUp_6 : decode cX1_giveUp 6 = .ok (.iconst 1, 1) := dk_4 (dk_at dksX1_giveUp_0 6 rfl rfl)
theorem dX1_giveUp_7 : decode cX1_giveUp 7 = .ok (.bipush 6, 2) := dk_16 6 (dk_at dksX1_giveUp_0 7 rfl rfl)
theorem dX1_giveUp_9 : decode cX1_giveUp 9 = .ok (.iload_n 2, 1) := dk_28 (dk_at dksX1_giveUp_0 9 rfl rfl)
theorem dX1_giveUp_10 : decode cX1_giveUp 10 = .ok (.invokestatic 57, 3) := dk_184 0 57 (dk_at dksX1_giveUp_0 10 rfl rfl)
theorem dX1_giveUp_13 : decode cX1_giveUp 13 = .ok (.aload_n 3, 1) := dk_45 (dk_at dksX1_giveUp_0 13 rfl rfl)
theorem dX1_giveUp_14 : decode cX1_giveUp 14 = .ok (.invokevirtual 90, 3) := dk_182 0 90 (dk_at dksX1_giveUp_0 14 rfl rfl)
theorem dX1_giveUp_17 : decode cX1_giveUp 17 = .ok (.ifCond .ne 7, 3) := dk_154 0 7 (dk_at dksX1_giveUp_0 17 rfl rfl)
theorem dX1_giveUp_20 : decode cX1_giveUp 20 = .ok (.iconst 1, 1) := dk_4 (dk_at dksX1_giveUp_0 20 rfl rfl)
theorem dX1_giveUp_21 : decode cX1_giveUp 21 = .ok (.goto 4, 3) := dk_167 0 4 (dk_at dksX1_giveUp_0 21 rfl rfl)
theorem dX1_giveUp_24 : decode cX1_giveUp 24 = .ok (.iconst 0, 1) := dk_3 (dk_at dksX1_giveUp_1 0 rfl rfl)
theorem dX1_giveUp_25 : decode cX1_giveUp 25 = .ok (.invokestatic 68, 3) := dk_184 0 68 (dk_at dksX1_giveUp_1 1 rfl rfl)
theorem dX1_giveUp_28 : decode cX1_giveUp 28 = .ok (.aload_n 0, 1) := dk_42 (dk_at dksX1_giveUp_1 4 rfl rfl)
theorem dX1_giveUp_29 : decode cX1_giveUp 29 = .ok (.getfield 39, 3) := dk_180 0 39 (dk_at dksX1_giveUp_1 5 rfl rfl)
theorem dX1_giveUp_32 : decode cX1_giveUp 32 = .ok (.aload_n 3, 1) := dk_45 (dk_at dksX1_giveUp_1 8 rfl rfl)
theorem dX1_giveUp_33 : decode cX1_giveUp 33 = .ok (.iload_n 2, 1) := dk_28 (dk_at dksX1_giveUp_1 9 rfl rfl)
theorem dX1_giveUp_34 : decode cX1_giveUp 34 = .ok (.invokevirtual 124, 3) := dk_182 0 124 (dk_at dksX1_giveUp_1 10 rfl rfl)
theorem dX1_giveUp_37 : decode cX1_giveUp 37 = .ok (.ireturn, 1) := dk_172 (dk_at dksX1_giveUp_1 13 rfl rfl)
abbrev cX1_move : ByteArray := prog_1_method_18_code
def yX1_move : MethodName := ⟨RX1, "move", "(II)I"⟩
def dkwX1_move_1 : List UInt8 := [182, 0, 138, 172]
abbrev dktX1_move_1 : List UInt8 := dkwX1_move_1 ++ []
def dkwX1_move_0 : List UInt8 := [42, 27, 182, 0, 77, 78, 28, 184, 0, 131, 45, 184, 0, 134, 184, 0, 68, 42, 180, 0, 39, 45, 28]
abbrev dktX1_move_0 : List UInt8 := dkwX1_move_0 ++ dktX1_move_1
theorem dksX1_move_0 : cX1_move.data.toList.drop 0 = dktX1_move_0 := by decide +kernel
theorem dksX1_move_1 : cX1_move.data.toList.drop 23 = dktX1_move_1 := dk_seg dksX1_move_0 23 rfl rfl
theorem dX1_move_0 : decode cX1_move 0 = .ok (.aload_n 0, 1) := dk_42 (dk_at dksX1_move_0 0 rfl rfl)
theorem dX1_move_1 : decode cX1_move 1 = .ok (.iload_n 1, 1) := dk_27 (dk_at dksX1_move_0 1 rfl rfl)
theorem dX1_move_2 : decode cX1_move 2 = .ok (.invokevirtual 77, 3) := dk_182 0 77 (dk_at dksX1_move_0 2 rfl rfl)
theorem dX1_move_5 : decode cX1_move 5 = .ok (.astore_n 3, 1) := dk_78 (dk_at dksX1_move_0 5 rfl rfl)
theorem dX1_move_6 : decode cX1_move 6 = .ok (.iload_n 2, 1) := dk_28 (dk_at dksX1_move_0 6 rfl rfl)
theorem dX1_move_7 : decode cX1_move 7 = .ok (.invokestatic 131, 3) := dk_184 0 131 (dk_at dksX1_move_0 7 rfl rfl)
theorem dX1_move_10 : decode cX1_move 10 = .ok (.aload_n 3, 1) := dk_45 (dk_at dksX1_move_0 10 rfl rfl)
theorem dX1_move_11 : decode cX1_move 11 = .ok (.invokestatic 134, 3) := dk_184 0 134 (dk_at dksX1_move_0 11 rfl rfl)
theorem dX1_move_14 : decode cX1_move 14 = .ok (.invokestatic 68, 3) := dk_184 0 68 (dk_at dksX1_move_0 14 rfl rfl)
theorem dX1_move_17 : decode cX1_move 17 = .ok (.aload_n 0, 1) := dk_42 (dk_at dksX1_move_0 17 rfl rfl)
theorem dX1_move_18 : decode cX1_move 18 = .ok (.getfield 39, 3) := dk_180 0 39 (dk_at dksX1_move_0 18 rfl rfl)
theorem dX1_move_21 : decode cX1_move 21 = .ok (.aload_n 3, 1) := dk_45 (dk_at dksX1_move_0 21 rfl rfl)
theorem dX1_move_22 : decode cX1_move 22 = .ok (.iload_n 2, 1) := dk_28 (dk_at dksX1_move_0 22 rfl rfl)
theorem dX1_move_23 : decode cX1_move 23 = .ok (.invokevirtual 138, 3) := dk_182 0 138 (dk_at dksX1_move_1 0 rfl rfl)
theorem dX1_move_26 : decode cX1_move 26 = .ok (.ireturn, 1) := dk_172 (dk_at dksX1_move_1 3 rfl rfl)
abbrev cX1_requireSpeed : ByteArray := prog_1_method_17_code
def yX1_requireSpeed : MethodName := ⟨RX1, "requireSpeed", "(I)V"⟩
def dkwX1_requireSpeed_0 : List UInt8 := [4, 6, 26, 184, 0, 57, 177]
abbrev dktX1_requireSpeed_0 : List UInt8 := dkwX1_requireSpeed_0 ++ []
theorem dksX1_requireSpeed_0 : cX1_requireSpeed.data.toList.drop 0 = dktX1_requireSpeed_0 := by decide +kernel
theorem dX1_requireSpeed_0 : decode cX1_requireSpeed 0 = .ok (.iconst 1, 1) := dk_4 (dk_at dksX1_requireSpeed_0 0 rfl rfl)
theorem dX1_requireSpeed_1 : decode cX1_requireSpeed 1 = .ok (.iconst 3, 1) := dk_6 (dk_at dksX1_requireSpeed_0 1 rfl rfl)
theorem dX1_requireSpeed_2 : decode cX1_requireSpeed 2 = .ok (.iload_n 0, 1) := dk_26 (dk_at dksX1_requireSpeed_0 2 rfl rfl)
theorem dX1_requireSpeed_3 : decode cX1_requireSpeed 3 = .ok (.invokestatic 57, 3) := dk_184 0 57 (dk_at dksX1_requireSpeed_0 3 rfl rfl)
theorem dX1_requireSpeed_6 : decode cX1_requireSpeed 6 = .ok (.return_, 1) := dk_177 (dk_at dksX1_requireSpeed_0 6 rfl rfl)
abbrev cX1_snap : ByteArray := prog_1_method_19_code
def yX1_snap : MethodName := ⟨RX1, "snap", "(I)I"⟩
def dkwX1_snap_2 : List UInt8 := [187, 0, 142, 89, 44, 180, 0, 81, 182, 0, 146, 183, 0, 150, 181, 0, 97, 29, 172]
abbrev dktX1_snap_2 : List UInt8 := dkwX1_snap_2 ++ []
def dkwX1_snap_1 : List UInt8 := [180, 0, 97, 199, 0, 7, 3, 167, 0, 13, 44, 180, 0, 97, 180, 0, 141, 182, 0, 65, 62, 44]
abbrev dktX1_snap_1 : List UInt8 := dkwX1_snap_1 ++ dktX1_snap_2
def dkwX1_snap_0 : List UInt8 := [42, 27, 182, 0, 77, 77, 44, 182, 0, 90, 154, 0, 7, 4, 167, 0, 4, 3, 184, 0, 68, 44]
abbrev dktX1_snap_0 : List UInt8 := dkwX1_snap_0 ++ dktX1_snap_1
theorem dksX1_snap_0 : cX1_snap.data.toList.drop 0 = dktX1_snap_0 := by decide +kernel
theorem dksX1_snap_1 : cX1_snap.data.toList.drop 22 = dktX1_snap_1 := dk_seg dksX1_snap_0 22 rfl rfl
theorem dksX1_snap_2 : cX1_snap.data.toList.drop 44 = dktX1_snap_2 := dk_seg dksX1_snap_1 22 rfl rfl
theorem dX1_snap_0 : decode cX1_snap 0 = .ok (.aload_n 0, 1) := dk_42 (dk_at dksX1_snap_0 0 rfl rfl)
theorem dX1_snap_1 : decode cX1_snap 1 = .ok (.iload_n 1, 1) := dk_27 (dk_at dksX1_snap_0 1 rfl rfl)
theorem dX1_snap_2 : decode cX1_snap 2 = .ok (.invokevirtual 77, 3) := dk_182 0 77 (dk_at dksX1_snap_0 2 rfl rfl)
theorem dX1_snap_5 : decode cX1_snap 5 = .ok (.astore_n 2, 1) := dk_77 (dk_at dksX1_snap_0 5 rfl rfl)
theorem dX1_snap_6 : decode cX1_snap 6 = .ok (.aload_n 2, 1) := dk_44 (dk_at dksX1_snap_0 6 rfl rfl)
theorem dX1_snap_7 : decode cX1_snap 7 = .ok (.invokevirtual 90, 3) := dk_182 0 90 (dk_at dksX1_snap_0 7 rfl rfl)
theorem dX1_snap_10 : decode cX1_snap 10 = .ok (.ifCond .ne 7, 3) := dk_154 0 7 (dk_at dksX1_snap_0 10 rfl rfl)
theorem dX1_snap_13 : decode cX1_snap 13 = .ok (.iconst 1, 1) := dk_4 (dk_at dksX1_snap_0 13 rfl rfl)
theorem dX1_snap_14 : decode cX1_snap 14 = .ok (.goto 4, 3) := dk_167 0 4 (dk_at dksX1_snap_0 14 rfl rfl)
theorem dX1_snap_17 : decode cX1_snap 17 = .ok (.iconst 0, 1) := dk_3 (dk_at dksX1_snap_0 17 rfl rfl)
theorem dX1_snap_18 : decode cX1_snap 18 = .ok (.invokestatic 68, 3) := dk_184 0 68 (dk_at dksX1_snap_0 18 rfl rfl)
theorem dX1_snap_21 : decode cX1_snap 21 = .ok (.aload_n 2, 1) := dk_44 (dk_at dksX1_snap_0 21 rfl rfl)
theorem dX1_snap_22 : decode cX1_snap 22 = .ok (.getfield 97, 3) := dk_180 0 97 (dk_at dksX1_snap_1 0 rfl rfl)
theorem dX1_snap_25 : decode cX1_snap 25 = .ok (.ifnonnull 7, 3) := dk_199 0 7 (dk_at dksX1_snap_1 3 rfl rfl)
theorem dX1_snap_28 : decode cX1_snap 28 = .ok (.iconst 0, 1) := dk_3 (dk_at dksX1_snap_1 6 rfl rfl)
theorem dX1_snap_29 : decode cX1_snap 29 = .ok (.goto 13, 3) := dk_167 0 13 (dk_at dksX1_snap_1 7 rfl rfl)
theorem dX1_snap_32 : decode cX1_snap 32 = .ok (.aload_n 2, 1) := dk_44 (dk_at dksX1_snap_1 10 rfl rfl)
theorem dX1_snap_33 : decode cX1_snap 33 = .ok (.getfield 97, 3) := dk_180 0 97 (dk_at dksX1_snap_1 11 rfl rfl)
theorem dX1_snap_36 : decode cX1_snap 36 = .ok (.getfield 141, 3) := dk_180 0 141 (dk_at dksX1_snap_1 14 rfl rfl)
theorem dX1_snap_39 : decode cX1_snap 39 = .ok (.invokevirtual 65, 3) := dk_182 0 65 (dk_at dksX1_snap_1 17 rfl rfl)
theorem dX1_snap_42 : decode cX1_snap 42 = .ok (.istore_n 3, 1) := dk_62 (dk_at dksX1_snap_1 20 rfl rfl)
theorem dX1_snap_43 : decode cX1_snap 43 = .ok (.aload_n 2, 1) := dk_44 (dk_at dksX1_snap_1 21 rfl rfl)
theorem dX1_snap_44 : decode cX1_snap 44 = .ok (.new 142, 3) := dk_187 0 142 (dk_at dksX1_snap_2 0 rfl rfl)
theorem dX1_snap_47 : decode cX1_snap 47 = .ok (.dup, 1) := dk_89 (dk_at dksX1_snap_2 3 rfl rfl)
theorem dX1_snap_48 : decode cX1_snap 48 = .ok (.aload_n 2, 1) := dk_44 (dk_at dksX1_snap_2 4 rfl rfl)
theorem dX1_snap_49 : decode cX1_snap 49 = .ok (.getfield 81, 3) := dk_180 0 81 (dk_at dksX1_snap_2 5 rfl rfl)
theorem dX1_snap_52 : decode cX1_snap 52 = .ok (.invokevirtual 146, 3) := dk_182 0 146 (dk_at dksX1_snap_2 8 rfl rfl)
theorem dX1_snap_55 : decode cX1_snap 55 = .ok (.invokespecial 150, 3) := dk_183 0 150 (dk_at dksX1_snap_2 11 rfl rfl)
theorem dX1_snap_58 : decode cX1_snap 58 = .ok (.putfield 97, 3) := dk_181 0 97 (dk_at dksX1_snap_2 14 rfl rfl)
theorem dX1_snap_61 : decode cX1_snap 61 = .ok (.iload_n 3, 1) := dk_29 (dk_at dksX1_snap_2 17 rfl rfl)
theorem dX1_snap_62 : decode cX1_snap 62 = .ok (.ireturn, 1) := dk_172 (dk_at dksX1_snap_2 18 rfl rfl)
abbrev cX1_run : ByteArray := prog_1_method_21_code
def yX1_run : MethodName := ⟨RX1, "run", "(I)I"⟩
def dkwX1_run_0 : List UInt8 := [27, 184, 0, 153, 42, 180, 0, 39, 27, 182, 0, 156, 172]
abbrev dktX1_run_0 : List UInt8 := dkwX1_run_0 ++ []
theorem dksX1_run_0 : cX1_run.data.toList.drop 0 = dktX1_run_0 := by decide +kernel
theorem dX1_run_0 : decode cX1_run 0 = .ok (.iload_n 1, 1) := dk_27 (dk_at dksX1_run_0 0 rfl rfl)
theorem dX1_run_1 : decode cX1_run 1 = .ok (.invokestatic 153, 3) := dk_184 0 153 (dk_at dksX1_run_0 1 rfl rfl)
theorem dX1_run_4 : decode cX1_run 4 = .ok (.aload_n 0, 1) := dk_42 (dk_at dksX1_run_0 4 rfl rfl)
theorem dX1_run_5 : decode cX1_run 5 = .ok (.getfield 39, 3) := dk_180 0 39 (dk_at dksX1_run_0 5 rfl rfl)
theorem dX1_run_8 : decode cX1_run 8 = .ok (.iload_n 1, 1) := dk_27 (dk_at dksX1_run_0 8 rfl rfl)
theorem dX1_run_9 : decode cX1_run 9 = .ok (.invokevirtual 156, 3) := dk_182 0 156 (dk_at dksX1_run_0 9 rfl rfl)
theorem dX1_run_12 : decode cX1_run 12 = .ok (.ireturn, 1) := dk_172 (dk_at dksX1_run_0 12 rfl rfl)
abbrev cX1_requireTicks : ByteArray := prog_1_method_20_code
def yX1_requireTicks : MethodName := ⟨RX1, "requireTicks", "(I)V"⟩
def dkwX1_requireTicks_0 : List UInt8 := [4, 16, 60, 26, 184, 0, 57, 177]
abbrev dktX1_requireTicks_0 : List UInt8 := dkwX1_requireTicks_0 ++ []
theorem dksX1_requireTicks_0 : cX1_requireTicks.data.toList.drop 0 = dktX1_requireTicks_0 := by decide +kernel
theorem dX1_requireTicks_0 : decode cX1_requireTicks 0 = .ok (.iconst 1, 1) := dk_4 (dk_at dksX1_requireTicks_0 0 rfl rfl)
theorem dX1_requireTicks_1 : decode cX1_requireTicks 1 = .ok (.bipush 60, 2) := dk_16 60 (dk_at dksX1_requireTicks_0 1 rfl rfl)
theorem dX1_requireTicks_3 : decode cX1_requireTicks 3 = .ok (.iload_n 0, 1) := dk_26 (dk_at dksX1_requireTicks_0 3 rfl rfl)
theorem dX1_requireTicks_4 : decode cX1_requireTicks 4 = .ok (.invokestatic 57, 3) := dk_184 0 57 (dk_at dksX1_requireTicks_0 4 rfl rfl)
theorem dX1_requireTicks_7 : decode cX1_requireTicks 7 = .ok (.return_, 1) := dk_177 (dk_at dksX1_requireTicks_0 7 rfl rfl)
abbrev cX1_ofGuest : ByteArray := prog_1_method_25_code
def yX1_ofGuest : MethodName := ⟨RX1, "ofGuest", "(II)I"⟩
def dkwX1_ofGuest_0 : List UInt8 := [42, 27, 182, 0, 77, 78, 3, 16, 15, 28, 184, 0, 57, 42, 45, 28, 182, 0, 213, 172]
abbrev dktX1_ofGuest_0 : List UInt8 := dkwX1_ofGuest_0 ++ []
theorem dksX1_ofGuest_0 : cX1_ofGuest.data.toList.drop 0 = dktX1_ofGuest_0 := by decide +kernel
theorem dX1_ofGuest_0 : decode cX1_ofGuest 0 = .ok (.aload_n 0, 1) := dk_42 (dk_at dksX1_ofGuest_0 0 rfl rfl)
theorem dX1_ofGuest_1 : decode cX1_ofGuest 1 = .ok (.iload_n 1, 1) := dk_27 (dk_at dksX1_ofGuest_0 1 rfl rfl)
theorem dX1_ofGuest_2 : decode cX1_ofGuest 2 = .ok (.invokevirtual 77, 3) := dk_182 0 77 (dk_at dksX1_ofGuest_0 2 rfl rfl)
theorem dX1_ofGuest_5 : decode cX1_ofGuest 5 = .ok (.astore_n 3, 1) := dk_78 (dk_at dksX1_ofGuest_0 5 rfl rfl)
theorem dX1_ofGuest_6 : decode cX1_ofGuest 6 = .ok (.iconst 0, 1) := dk_3 (dk_at dksX1_ofGuest_0 6 rfl rfl)
theorem dX1_ofGuest_7 : decode cX1_ofGuest 7 = .ok (.bipush 15, 2) := dk_16 15 (dk_at dksX1_ofGuest_0 7 rfl rfl)
theorem dX1_ofGuest_9 : decode cX1_ofGuest 9 = .ok (.iload_n 2, 1) := dk_28 (dk_at dksX1_ofGuest_0 9 rfl rfl)
theorem dX1_ofGuest_10 : decode cX1_ofGuest 10 = .ok (.invokestatic 57, 3) := dk_184 0 57 (dk_at dksX1_ofGuest_0 10 rfl rfl)
theorem dX1_ofGuest_13 : decode cX1_ofGuest 13 = .ok (.aload_n 0, 1) := dk_42 (dk_at dksX1_ofGuest_0 13 rfl rfl)
theorem dX1_ofGuest_14 : decode cX1_ofGuest 14 = .ok (.aload_n 3, 1) := dk_45 (dk_at dksX1_ofGuest_0 14 rfl rfl)
theorem dX1_ofGuest_15 : decode cX1_ofGuest 15 = .ok (.iload_n 2, 1) := dk_28 (dk_at dksX1_ofGuest_0 15 rfl rfl)
theorem dX1_ofGuest_16 : decode cX1_ofGuest 16 = .ok (.invokevirtual 213, 3) := dk_182 0 213 (dk_at dksX1_ofGuest_0 16 rfl rfl)
theorem dX1_ofGuest_19 : decode cX1_ofGuest 19 = .ok (.ireturn, 1) := dk_172 (dk_at dksX1_ofGuest_0 19 rfl rfl)
abbrev cX1_exits : ByteArray := prog_1_method_26_code
def yX1_exits : MethodName := ⟨RX1, "exits", "(II)I"⟩
def dkwX1_exits_0 : List UInt8 := [42, 27, 182, 0, 77, 78, 3, 7, 28, 184, 0, 57, 45, 180, 0, 216, 28, 46, 172]
abbrev dktX1_exits_0 : List UInt8 := dkwX1_exits_0 ++ []
theorem dksX1_exits_0 : cX1_exits.data.toList.drop 0 = dktX1_exits_0 := by decide +kernel
theorem dX1_exits_0 : decode cX1_exits 0 = .ok (.aload_n 0, 1) := dk_42 (dk_at dksX1_exits_0 0 rfl rfl)
theorem dX1_exits_1 : decode cX1_exits 1 = .ok (.iload_n 1, 1) := dk_27 (dk_at dksX1_exits_0 1 rfl rfl)
theorem dX1_exits_2 : decode cX1_exits 2 = .ok (.invokevirtual 77, 3) := dk_182 0 77 (dk_at dksX1_exits_0 2 rfl rfl)
theorem dX1_exits_5 : decode cX1_exits 5 = .ok (.astore_n 3, 1) := dk_78 (dk_at dksX1_exits_0 5 rfl rfl)
theorem dX1_exits_6 : decode cX1_exits 6 = .ok (.iconst 0, 1) := dk_3 (dk_at dksX1_exits_0 6 rfl rfl)
theorem dX1_exits_7 : decode cX1_exits 7 = .ok (.iconst 4, 1) := dk_7 (dk_at dksX1_exits_0 7 rfl rfl)
theorem dX1_exits_8 : decode cX1_exits 8 = .ok (.iload_n 2, 1) := dk_28 (dk_at dksX1_exits_0 8 rfl rfl)
theorem dX1_exits_9 : decode cX1_exits 9 = .ok (.invokestatic 57, 3) := dk_184 0 57 (dk_at dksX1_exits_0 9 rfl rfl)
theorem dX1_exits_12 : decode cX1_exits 12 = .ok (.aload_n 3, 1) := dk_45 (dk_at dksX1_exits_0 12 rfl rfl)
theorem dX1_exits_13 : decode cX1_exits 13 = .ok (.getfield 216, 3) := dk_180 0 216 (dk_at dksX1_exits_0 13 rfl rfl)
theorem dX1_exits_16 : decode cX1_exits 16 = .ok (.iload_n 2, 1) := dk_28 (dk_at dksX1_exits_0 16 rfl rfl)
theorem dX1_exits_17 : decode cX1_exits 17 = .ok (.iaload, 1) := dk_46 (dk_at dksX1_exits_0 17 rfl rfl)
theorem dX1_exits_18 : decode cX1_exits 18 = .ok (.ireturn, 1) := dk_172 (dk_at dksX1_exits_0 18 rfl rfl)
abbrev cX1_ofPage : ByteArray := prog_1_method_28_code
def yX1_ofPage : MethodName := ⟨RX1, "ofPage", "(III)I"⟩
def dkwX1_ofPage_1 : List UInt8 := [182, 0, 233, 172]
abbrev dktX1_ofPage_1 : List UInt8 := dkwX1_ofPage_1 ++ []
def dkwX1_ofPage_0 : List UInt8 := [42, 27, 182, 0, 77, 58, 4, 28, 16, 6, 184, 0, 25, 3, 6, 29, 184, 0, 57, 42, 25, 4, 28, 29]
abbrev dktX1_ofPage_0 : List UInt8 := dkwX1_ofPage_0 ++ dktX1_ofPage_1
theorem dksX1_ofPage_0 : cX1_ofPage.data.toList.drop 0 = dktX1_ofPage_0 := by decide +kernel
theorem dksX1_ofPage_1 : cX1_ofPage.data.toList.drop 24 = dktX1_ofPage_1 := dk_seg dksX1_ofPage_0 24 rfl rfl
theorem dX1_ofPage_0 : decode cX1_ofPage 0 = .ok (.aload_n 0, 1) := dk_42 (dk_at dksX1_ofPage_0 0 rfl rfl)
theorem dX1_ofPage_1 : decode cX1_ofPage 1 = .ok (.iload_n 1, 1) := dk_27 (dk_at dksX1_ofPage_0 1 rfl rfl)
theorem dX1_ofPage_2 : decode cX1_ofPage 2 = .ok (.invokevirtual 77, 3) := dk_182 0 77 (dk_at dksX1_ofPage_0 2 rfl rfl)
theorem dX1_ofPage_5 : decode cX1_ofPage 5 = .ok (.astore 4, 2) := dk_58 4 (dk_at dksX1_ofPage_0 5 rfl rfl)
theorem dX1_ofPage_7 : decode cX1_ofPage 7 = .ok (.iload_n 2, 1) := dk_28 (dk_at dksX1_ofPage_0 7 rfl rfl)
theorem dX1_ofPage_8 : decode cX1_ofPage 8 = .ok (.bipush 6, 2) := dk_16 6 (dk_at dksX1_ofPage_0 8 rfl rfl)
theorem dX1_ofPage_10 : decode cX1_ofPage 10 = .ok (.invokestatic 25, 3) := dk_184 0 25 (dk_at dksX1_ofPage_0 10 rfl rfl)
theorem dX1_ofPage_13 : decode cX1_ofPage 13 = .ok (.iconst 0, 1) := dk_3 (dk_at dksX1_ofPage_0 13 rfl rfl)
theorem dX1_ofPage_14 : decode cX1_ofPage 14 = .ok (.iconst 3, 1) := dk_6 (dk_at dksX1_ofPage_0 14 rfl rfl)
theorem dX1_ofPage_15 : decode cX1_ofPage 15 = .ok (.iload_n 3, 1) := dk_29 (dk_at dksX1_ofPage_0 15 rfl rfl)
theorem dX1_ofPage_16 : decode cX1_ofPage 16 = .ok (.invokestatic 57, 3) := dk_184 0 57 (dk_at dksX1_ofPage_0 16 rfl rfl)
theorem dX1_ofPage_19 : decode cX1_ofPage 19 = .ok (.aload_n 0, 1) := dk_42 (dk_at dksX1_ofPage_0 19 rfl rfl)
theorem dX1_ofPage_20 : decode cX1_ofPage 20 = .ok (.aload 4, 2) := dk_25 4 (dk_at dksX1_ofPage_0 20 rfl rfl)
theorem dX1_ofPage_22 : decode cX1_ofPage 22 = .ok (.iload_n 2, 1) := dk_28 (dk_at dksX1_ofPage_0 22 rfl rfl)
theorem dX1_ofPage_23 : decode cX1_ofPage 23 = .ok (.iload_n 3, 1) := dk_29 (dk_at dksX1_ofPage_0 23 rfl rfl)
theorem dX1_ofPage_24 : decode cX1_ofPage 24 = .ok (.invokevirtual 233, 3) := dk_182 0 233 (dk_at dksX1_ofPage_1 0 rfl rfl)
theorem dX1_ofPage_27 : decode cX1_ofPage 27 = .ok (.ireturn, 1) := dk_172 (dk_at dksX1_ofPage_1 3 rfl rfl)
abbrev cX1_ofFrame : ByteArray := prog_1_method_30_code
def yX1_ofFrame : MethodName := ⟨RX1, "ofFrame", "(II)I"⟩
def dkwX1_ofFrame_1 : List UInt8 := [184, 0, 252, 172]
abbrev dktX1_ofFrame_1 : List UInt8 := dkwX1_ofFrame_1 ++ []
def dkwX1_ofFrame_0 : List UInt8 := [42, 180, 0, 39, 180, 0, 223, 27, 184, 0, 51, 192, 0, 238, 78, 3, 5, 28, 184, 0, 57, 45, 28]
abbrev dktX1_ofFrame_0 : List UInt8 := dkwX1_ofFrame_0 ++ dktX1_ofFrame_1
theorem dksX1_ofFrame_0 : cX1_ofFrame.data.toList.drop 0 = dktX1_ofFrame_0 := by decide +kernel
theorem dksX1_ofFrame_1 : cX1_ofFrame.data.toList.drop 23 = dktX1_ofFrame_1 := dk_seg dksX1_ofFrame_0 23 rfl rfl
theorem dX1_ofFrame_0 : decode cX1_ofFrame 0 = .ok (.aload_n 0, 1) := dk_42 (dk_at dksX1_ofFrame_0 0 rfl rfl)
theorem dX1_ofFrame_1 : decode cX1_ofFrame 1 = .ok (.getfield 39, 3) := dk_180 0 39 (dk_at dksX1_ofFrame_0 1 rfl rfl)
theorem dX1_ofFrame_4 : decode cX1_ofFrame 4 = .ok (.getfield 223, 3) := dk_180 0 223 (dk_at dksX1_ofFrame_0 4 rfl rfl)
theorem dX1_ofFrame_7 : decode cX1_ofFrame 7 = .ok (.iload_n 1, 1) := dk_27 (dk_at dksX1_ofFrame_0 7 rfl rfl)
theorem dX1_ofFrame_8 : decode cX1_ofFrame 8 = .ok (.invokestatic 51, 3) := dk_184 0 51 (dk_at dksX1_ofFrame_0 8 rfl rfl)
theorem dX1_ofFrame_11 : decode cX1_ofFrame 11 = .ok (.checkcast 238, 3) := dk_192 0 238 (dk_at dksX1_ofFrame_0 11 rfl rfl)
theorem dX1_ofFrame_14 : decode cX1_ofFrame 14 = .ok (.astore_n 3, 1) := dk_78 (dk_at dksX1_ofFrame_0 14 rfl rfl)
theorem dX1_ofFrame_15 : decode cX1_ofFrame 15 = .ok (.iconst 0, 1) := dk_3 (dk_at dksX1_ofFrame_0 15 rfl rfl)
theorem dX1_ofFrame_16 : decode cX1_ofFrame 16 = .ok (.iconst 2, 1) := dk_5 (dk_at dksX1_ofFrame_0 16 rfl rfl)
theorem dX1_ofFrame_17 : decode cX1_ofFrame 17 = .ok (.iload_n 2, 1) := dk_28 (dk_at dksX1_ofFrame_0 17 rfl rfl)
theorem dX1_ofFrame_18 : decode cX1_ofFrame 18 = .ok (.invokestatic 57, 3) := dk_184 0 57 (dk_at dksX1_ofFrame_0 18 rfl rfl)
theorem dX1_ofFrame_21 : decode cX1_ofFrame 21 = .ok (.aload_n 3, 1) := dk_45 (dk_at dksX1_ofFrame_0 21 rfl rfl)
theorem dX1_ofFrame_22 : decode cX1_ofFrame 22 = .ok (.iload_n 2, 1) := dk_28 (dk_at dksX1_ofFrame_0 22 rfl rfl)
theorem dX1_ofFrame_23 : decode cX1_ofFrame 23 = .ok (.invokestatic 252, 3) := dk_184 0 252 (dk_at dksX1_ofFrame_1 0 rfl rfl)
theorem dX1_ofFrame_26 : decode cX1_ofFrame 26 = .ok (.ireturn, 1) := dk_172 (dk_at dksX1_ofFrame_1 3 rfl rfl)
abbrev cX1_logged : ByteArray := prog_1_method_32_code
def yX1_logged : MethodName := ⟨RX1, "logged", "(II)I"⟩
def dkwX1_logged_0 : List UInt8 := [42, 27, 182, 0, 77, 78, 28, 155, 0, 7, 4, 167, 0, 4, 3, 184, 0, 13, 45, 28, 184, 1, 5, 172]
abbrev dktX1_logged_0 : List UInt8 := dkwX1_logged_0 ++ []
theorem dksX1_logged_0 : cX1_logged.data.toList.drop 0 = dktX1_logged_0 := by decide +kernel
theorem dX1_logged_0 : decode cX1_logged 0 = .ok (.aload_n 0, 1) := dk_42 (dk_at dksX1_logged_0 0 rfl rfl)
theorem dX1_logged_1 : decode cX1_logged 1 = .ok (.iload_n 1, 1) := dk_27 (dk_at dksX1_logged_0 1 rfl rfl)
theorem dX1_logged_2 : decode cX1_logged 2 = .ok (.invokevirtual 77, 3) := dk_182 0 77 (dk_at dksX1_logged_0 2 rfl rfl)
theorem dX1_logged_5 : decode cX1_logged 5 = .ok (.astore_n 3, 1) := dk_78 (dk_at dksX1_logged_0 5 rfl rfl)
theorem dX1_logged_6 : decode cX1_logged 6 = .ok (.iload_n 2, 1) := dk_28 (dk_at dksX1_logged_0 6 rfl rfl)
theorem dX1_logged_7 : decode cX1_logged 7 = .ok (.ifCond .lt 7, 3) := dk_155 0 7 (dk_at dksX1_logged_0 7 rfl rfl)
theorem dX1_logged_10 : decode cX1_logged 10 = .ok (.iconst 1, 1) := dk_4 (dk_at dksX1_logged_0 10 rfl rfl)
theorem dX1_logged_11 : decode cX1_logged 11 = .ok (.goto 4, 3) := dk_167 0 4 (dk_at dksX1_logged_0 11 rfl rfl)
theorem dX1_logged_14 : decode cX1_logged 14 = .ok (.iconst 0, 1) := dk_3 (dk_at dksX1_logged_0 14 rfl rfl)
theorem dX1_logged_15 : decode cX1_logged 15 = .ok (.invokestatic 13, 3) := dk_184 0 13 (dk_at dksX1_logged_0 15 rfl rfl)
theorem dX1_logged_18 : decode cX1_logged 18 = .ok (.aload_n 3, 1) := dk_45 (dk_at dksX1_logged_0 18 rfl rfl)
theorem dX1_logged_19 : decode cX1_logged 19 = .ok (.iload_n 2, 1) := dk_28 (dk_at dksX1_logged_0 19 rfl rfl)
theorem dX1_logged_20 : decode cX1_logged 20 = .ok (.invokestatic 261, 3) := dk_184 1 5 (dk_at dksX1_logged_0 20 rfl rfl)
theorem dX1_logged_23 : decode cX1_logged 23 = .ok (.ireturn, 1) := dk_172 (dk_at dksX1_logged_0 23 rfl rfl)
abbrev cX1_many : ByteArray := prog_1_method_35_code
def yX1_many : MethodName := ⟨RX1, "many", "(I)I"⟩
def dkwX1_many_0 : List UInt8 := [3, 16, 10, 27, 184, 0, 57, 42, 27, 182, 1, 43, 172]
abbrev dktX1_many_0 : List UInt8 := dkwX1_many_0 ++ []
theorem dksX1_many_0 : cX1_many.data.toList.drop 0 = dktX1_many_0 := by decide +kernel
theorem dX1_many_0 : decode cX1_many 0 = .ok (.iconst 0, 1) := dk_3 (dk_at dksX1_many_0 0 rfl rfl)
theorem dX1_many_1 : decode cX1_many 1 = .ok (.bipush 10, 2) := dk_16 10 (dk_at dksX1_many_0 1 rfl rfl)
theorem dX1_many_3 : decode cX1_many 3 = .ok (.iload_n 1, 1) := dk_27 (dk_at dksX1_many_0 3 rfl rfl)
theorem dX1_many_4 : decode cX1_many 4 = .ok (.invokestatic 57, 3) := dk_184 0 57 (dk_at dksX1_many_0 4 rfl rfl)
theorem dX1_many_7 : decode cX1_many 7 = .ok (.aload_n 0, 1) := dk_42 (dk_at dksX1_many_0 7 rfl rfl)
theorem dX1_many_8 : decode cX1_many 8 = .ok (.iload_n 1, 1) := dk_27 (dk_at dksX1_many_0 8 rfl rfl)
theorem dX1_many_9 : decode cX1_many 9 = .ok (.invokevirtual 299, 3) := dk_182 1 43 (dk_at dksX1_many_0 9 rfl rfl)
theorem dX1_many_12 : decode cX1_many 12 = .ok (.ireturn, 1) := dk_172 (dk_at dksX1_many_0 12 rfl rfl)
abbrev cX1_meanDone : ByteArray := prog_1_method_36_code
def yX1_meanDone : MethodName := ⟨RX1, "meanDone", "(I)D"⟩
def dkwX1_meanDone_1 : List UInt8 := [180, 0, 183, 135, 111, 175]
abbrev dktX1_meanDone_1 : List UInt8 := dkwX1_meanDone_1 ++ []
def dkwX1_meanDone_0 : List UInt8 := [42, 27, 182, 0, 77, 77, 44, 180, 0, 183, 154, 0, 7, 14, 167, 0, 14, 44, 180, 0, 192, 135, 44]
abbrev dktX1_meanDone_0 : List UInt8 := dkwX1_meanDone_0 ++ dktX1_meanDone_1
theorem dksX1_meanDone_0 : cX1_meanDone.data.toList.drop 0 = dktX1_meanDone_0 := by decide +kernel
theorem dksX1_meanDone_1 : cX1_meanDone.data.toList.drop 23 = dktX1_meanDone_1 := dk_seg dksX1_meanDone_0 23 rfl rfl
theorem dX1_meanDone_0 : decode cX1_meanDone 0 = .ok (.aload_n 0, 1) := dk_42 (dk_at dksX1_meanDone_0 0 rfl rfl)
theorem dX1_meanDone_1 : decode cX1_meanDone 1 = .ok (.iload_n 1, 1) := dk_27 (dk_at dksX1_meanDone_0 1 rfl rfl)
theorem dX1_meanDone_2 : decode cX1_meanDone 2 = .ok (.invokevirtual 77, 3) := dk_182 0 77 (dk_at dksX1_meanDone_0 2 rfl rfl)
theorem dX1_meanDone_5 : decode cX1_meanDone 5 = .ok (.astore_n 2, 1) := dk_77 (dk_at dksX1_meanDone_0 5 rfl rfl)
theorem dX1_meanDone_6 : decode cX1_meanDone 6 = .ok (.aload_n 2, 1) := dk_44 (dk_at dksX1_meanDone_0 6 rfl rfl)
theorem dX1_meanDone_7 : decode cX1_meanDone 7 = .ok (.getfield 183, 3) := dk_180 0 183 (dk_at dksX1_meanDone_0 7 rfl rfl)
theorem dX1_meanDone_10 : decode cX1_meanDone 10 = .ok (.ifCond .ne 7, 3) := dk_154 0 7 (dk_at dksX1_meanDone_0 10 rfl rfl)
theorem dX1_meanDone_13 : decode cX1_meanDone 13 = .ok (.dconst 0, 1) := dk_14 (dk_at dksX1_meanDone_0 13 rfl rfl)
theorem dX1_meanDone_14 : decode cX1_meanDone 14 = .ok (.goto 14, 3) := dk_167 0 14 (dk_at dksX1_meanDone_0 14 rfl rfl)
theorem dX1_meanDone_17 : decode cX1_meanDone 17 = .ok (.aload_n 2, 1) := dk_44 (dk_at dksX1_meanDone_0 17 rfl rfl)
theorem dX1_meanDone_18 : decode cX1_meanDone 18 = .ok (.getfield 192, 3) := dk_180 0 192 (dk_at dksX1_meanDone_0 18 rfl rfl)
theorem dX1_meanDone_21 : decode cX1_meanDone 21 = .ok (.i2d, 1) := dk_135 (dk_at dksX1_meanDone_0 21 rfl rfl)
theorem dX1_meanDone_22 : decode cX1_meanDone 22 = .ok (.aload_n 2, 1) := dk_44 (dk_at dksX1_meanDone_0 22 rfl rfl)
theorem dX1_meanDone_23 : decode cX1_meanDone 23 = .ok (.getfield 183, 3) := dk_180 0 183 (dk_at dksX1_meanDone_1 0 rfl rfl)
theorem dX1_meanDone_26 : decode cX1_meanDone 26 = .ok (.i2d, 1) := dk_135 (dk_at dksX1_meanDone_1 3 rfl rfl)
theorem dX1_meanDone_27 : decode cX1_meanDone 27 = .ok (.ddiv, 1) := dk_111 (dk_at dksX1_meanDone_1 4 rfl rfl)
theorem dX1_meanDone_28 : decode cX1_meanDone 28 = .ok (.dreturn, 1) := dk_175 (dk_at dksX1_meanDone_1 5 rfl rfl)
abbrev cX1_replayed : ByteArray := prog_1_method_38_code
def yX1_replayed : MethodName := ⟨RX1, "replayed", "(III)I"⟩
def dkwX1_replayed_1 : List UInt8 := [25, 4, 28, 29, 184, 1, 50, 172]
abbrev dktX1_replayed_1 : List UInt8 := dkwX1_replayed_1 ++ []
def dkwX1_replayed_0 : List UInt8 := [42, 27, 182, 0, 77, 58, 4, 29, 4, 96, 16, 7, 184, 0, 25, 3, 17, 0, 200, 28, 184, 0, 57]
abbrev dktX1_replayed_0 : List UInt8 := dkwX1_replayed_0 ++ dktX1_replayed_1
theorem dksX1_replayed_0 : cX1_replayed.data.toList.drop 0 = dktX1_replayed_0 := by decide +kernel
theorem dksX1_replayed_1 : cX1_replayed.data.toList.drop 23 = dktX1_replayed_1 := dk_seg dksX1_replayed_0 23 rfl rfl
theorem dX1_replayed_0 : decode cX1_replayed 0 = .ok (.aload_n 0, 1) := dk_42 (dk_at dksX1_replayed_0 0 rfl rfl)
theorem dX1_replayed_1 : decode cX1_replayed 1 = .ok (.iload_n 1, 1) := dk_27 (dk_at dksX1_replayed_0 1 rfl rfl)
theorem dX1_replayed_2 : decode cX1_replayed 2 = .ok (.invokevirtual 77, 3) := dk_182 0 77 (dk_at dksX1_replayed_0 2 rfl rfl)
theorem dX1_replayed_5 : decode cX1_replayed 5 = .ok (.astore 4, 2) := dk_58 4 (dk_at dksX1_replayed_0 5 rfl rfl)
theorem dX1_replayed_7 : decode cX1_replayed 7 = .ok (.iload_n 3, 1) := dk_29 (dk_at dksX1_replayed_0 7 rfl rfl)
theorem dX1_replayed_8 : decode cX1_replayed 8 = .ok (.iconst 1, 1) := dk_4 (dk_at dksX1_replayed_0 8 rfl rfl)
theorem dX1_replayed_9 : decode cX1_replayed 9 = .ok (.iadd, 1) := dk_96 (dk_at dksX1_replayed_0 9 rfl rfl)
theorem dX1_replayed_10 : decode cX1_replayed 10 = .ok (.bipush 7, 2) := dk_16 7 (dk_at dksX1_replayed_0 10 rfl rfl)
theorem dX1_replayed_12 : decode cX1_replayed 12 = .ok (.invokestatic 25, 3) := dk_184 0 25 (dk_at dksX1_replayed_0 12 rfl rfl)
theorem dX1_replayed_15 : decode cX1_replayed 15 = .ok (.iconst 0, 1) := dk_3 (dk_at dksX1_replayed_0 15 rfl rfl)
theorem dX1_replayed_16 : decode cX1_replayed 16 = .ok (.sipush 200, 3) := dk_17 0 200 (dk_at dksX1_replayed_0 16 rfl rfl)
theorem dX1_replayed_19 : decode cX1_replayed 19 = .ok (.iload_n 2, 1) := dk_28 (dk_at dksX1_replayed_0 19 rfl rfl)
theorem dX1_replayed_20 : decode cX1_replayed 20 = .ok (.invokestatic 57, 3) := dk_184 0 57 (dk_at dksX1_replayed_0 20 rfl rfl)
theorem dX1_replayed_23 : decode cX1_replayed 23 = .ok (.aload 4, 2) := dk_25 4 (dk_at dksX1_replayed_1 0 rfl rfl)
theorem dX1_replayed_25 : decode cX1_replayed 25 = .ok (.iload_n 2, 1) := dk_28 (dk_at dksX1_replayed_1 2 rfl rfl)
theorem dX1_replayed_26 : decode cX1_replayed 26 = .ok (.iload_n 3, 1) := dk_29 (dk_at dksX1_replayed_1 3 rfl rfl)
theorem dX1_replayed_27 : decode cX1_replayed 27 = .ok (.invokestatic 306, 3) := dk_184 1 50 (dk_at dksX1_replayed_1 4 rfl rfl)
theorem dX1_replayed_30 : decode cX1_replayed 30 = .ok (.ireturn, 1) := dk_172 (dk_at dksX1_replayed_1 7 rfl rfl)
abbrev cX1_doneIn : ByteArray := prog_1_method_40_code
def yX1_doneIn : MethodName := ⟨RX1, "doneIn", "(II)I"⟩
def dkwX1_doneIn_0 : List UInt8 := [42, 27, 182, 0, 77, 87, 28, 184, 0, 153, 42, 27, 28, 182, 1, 56, 172]
abbrev dktX1_doneIn_0 : List UInt8 := dkwX1_doneIn_0 ++ []
theorem dksX1_doneIn_0 : cX1_doneIn.data.toList.drop 0 = dktX1_doneIn_0 := by decide +kernel
theorem dX1_doneIn_0 : decode cX1_doneIn 0 = .ok (.aload_n 0, 1) := dk_42 (dk_at dksX1_doneIn_0 0 rfl rfl)
theorem dX1_doneIn_1 : decode cX1_doneIn 1 = .ok (.iload_n 1, 1) := dk_27 (dk_at dksX1_doneIn_0 1 rfl rfl)
theorem dX1_doneIn_2 : decode cX1_doneIn 2 = .ok (.invokevirtual 77, 3) := dk_182 0 77 (dk_at dksX1_doneIn_0 2 rfl rfl)
theorem dX1_doneIn_5 : decode cX1_doneIn 5 = .ok (.pop, 1) := dk_87 (dk_at dksX1_doneIn_0 5 rfl rfl)
theorem dX1_doneIn_6 : decode cX1_doneIn 6 = .ok (.iload_n 2, 1) := dk_28 (dk_at dksX1_doneIn_0 6 rfl rfl)
theorem dX1_doneIn_7 : decode cX1_doneIn 7 = .ok (.invokestatic 153, 3) := dk_184 0 153 (dk_at dksX1_doneIn_0 7 rfl rfl)
theorem dX1_doneIn_10 : decode cX1_doneIn 10 = .ok (.aload_n 0, 1) := dk_42 (dk_at dksX1_doneIn_0 10 rfl rfl)
theorem dX1_doneIn_11 : decode cX1_doneIn 11 = .ok (.iload_n 1, 1) := dk_27 (dk_at dksX1_doneIn_0 11 rfl rfl)
theorem dX1_doneIn_12 : decode cX1_doneIn 12 = .ok (.iload_n 2, 1) := dk_28 (dk_at dksX1_doneIn_0 12 rfl rfl)
theorem dX1_doneIn_13 : decode cX1_doneIn 13 = .ok (.invokevirtual 312, 3) := dk_182 1 56 (dk_at dksX1_doneIn_0 13 rfl rfl)
theorem dX1_doneIn_16 : decode cX1_doneIn 16 = .ok (.ireturn, 1) := dk_172 (dk_at dksX1_doneIn_0 16 rfl rfl)
abbrev cX1_awayIn : ByteArray := prog_1_method_42_code
def yX1_awayIn : MethodName := ⟨RX1, "awayIn", "(II)I"⟩
def dkwX1_awayIn_0 : List UInt8 := [42, 27, 182, 0, 77, 78, 28, 184, 0, 131, 45, 184, 0, 134, 184, 0, 68, 42, 27, 28, 182, 1, 60, 172]
abbrev dktX1_awayIn_0 : List UInt8 := dkwX1_awayIn_0 ++ []
theorem dksX1_awayIn_0 : cX1_awayIn.data.toList.drop 0 = dktX1_awayIn_0 := by decide +kernel
theorem dX1_awayIn_0 : decode cX1_awayIn 0 = .ok (.aload_n 0, 1) := dk_42 (dk_at dksX1_awayIn_0 0 rfl rfl)
theorem dX1_awayIn_1 : decode cX1_awayIn 1 = .ok (.iload_n 1, 1) := dk_27 (dk_at dksX1_awayIn_0 1 rfl rfl)
theorem dX1_awayIn_2 : decode cX1_awayIn 2 = .ok (.invokevirtual 77, 3) := dk_182 0 77 (dk_at dksX1_awayIn_0 2 rfl rfl)
theorem dX1_awayIn_5 : decode cX1_awayIn 5 = .ok (.astore_n 3, 1) := dk_78 (dk_at dksX1_awayIn_0 5 rfl rfl)
theorem dX1_awayIn_6 : decode cX1_awayIn 6 = .ok (.iload_n 2, 1) := dk_28 (dk_at dksX1_awayIn_0 6 rfl rfl)
theorem dX1_awayIn_7 : decode cX1_awayIn 7 = .ok (.invokestatic 131, 3) := dk_184 0 131 (dk_at dksX1_awayIn_0 7 rfl rfl)
theorem dX1_awayIn_10 : decode cX1_awayIn 10 = .ok (.aload_n 3, 1) := dk_45 (dk_at dksX1_awayIn_0 10 rfl rfl)
theorem dX1_awayIn_11 : decode cX1_awayIn 11 = .ok (.invokestatic 134, 3) := dk_184 0 134 (dk_at dksX1_awayIn_0 11 rfl rfl)
theorem dX1_awayIn_14 : decode cX1_awayIn 14 = .ok (.invokestatic 68, 3) := dk_184 0 68 (dk_at dksX1_awayIn_0 14 rfl rfl)
theorem dX1_awayIn_17 : decode cX1_awayIn 17 = .ok (.aload_n 0, 1) := dk_42 (dk_at dksX1_awayIn_0 17 rfl rfl)
theorem dX1_awayIn_18 : decode cX1_awayIn 18 = .ok (.iload_n 1, 1) := dk_27 (dk_at dksX1_awayIn_0 18 rfl rfl)
theorem dX1_awayIn_19 : decode cX1_awayIn 19 = .ok (.iload_n 2, 1) := dk_28 (dk_at dksX1_awayIn_0 19 rfl rfl)
theorem dX1_awayIn_20 : decode cX1_awayIn 20 = .ok (.invokevirtual 316, 3) := dk_182 1 60 (dk_at dksX1_awayIn_0 20 rfl rfl)
theorem dX1_awayIn_23 : decode cX1_awayIn 23 = .ok (.ireturn, 1) := dk_172 (dk_at dksX1_awayIn_0 23 rfl rfl)
theorem q54 : (Jvm.Cond.initialized "HyperVane") ∈ lw_all := lw_g (lw_at lw_m1 1 rfl) rfl
theorem q86 : (Jvm.Cond.instantiable "HyperVane" (1 : Nat)) ∈ lw_all := lw_g (lw_at lw_m1 33 rfl) rfl
theorem q88 : (Jvm.Cond.instanceMethod ({ cls := "HyperVane", name := "<init>", desc := "()V" } : Jvm.MethodName)) ∈ lw_all := lw_g (lw_at lw_m1 35 rfl) rfl
theorem q89 : (Jvm.Cond.code ({ cls := "HyperVane", name := "<init>", desc := "()V" } : Jvm.MethodName) prog_1_method_7_code (1 : Nat) (Option.none : Option Jvm.ClassFile.FieldType)) ∈ lw_all := lw_g (lw_at lw_m1 36 rfl) rfl
theorem q90 : (Jvm.Cond.methodLink "HyperVane" (33 : Nat) ({ cls := "java/lang/Object", name := "<init>", desc := "()V" } : Jvm.MethodName)) ∈ lw_all := lw_g (lw_at lw_m1 37 rfl) rfl
theorem q93 : (Jvm.Cond.classLink "HyperVane" (36 : Nat) "HyperVane$Machine") ∈ lw_all := lw_g (lw_at lw_m1 40 rfl) rfl
theorem q95 : (Jvm.Cond.methodLinkNest "HyperVane" (38 : Nat) ({ cls := "HyperVane$Machine", name := "<init>", desc := "()V" } : Jvm.MethodName) "HyperVane") ∈ lw_tbl := lw_at lw_m1 42 rfl
theorem q129 : (Jvm.Cond.fieldLinkNest "HyperVane" (47 : Nat) "HyperVane$Machine" "guests" "Ljava/util/ArrayList;" "HyperVane") ∈ lw_tbl := lw_at lw_m1 76 rfl
theorem q131 : (Jvm.Cond.fieldLinkNest "HyperVane" (223 : Nat) "HyperVane$Machine" "frames" "Ljava/util/ArrayList;" "HyperVane") ∈ lw_tbl := lw_at lw_m1 78 rfl
theorem q133 : (Jvm.Cond.fieldLinkNest "HyperVane" (118 : Nat) "HyperVane$Machine" "now" "I" "HyperVane") ∈ lw_tbl := lw_at lw_m1 80 rfl
theorem q135 : (Jvm.Cond.fieldLinkNest "HyperVane" (277 : Nat) "HyperVane$Machine" "latest" "LHyperVane$Guest;" "HyperVane") ∈ lw_tbl := lw_at lw_m1 82 rfl
theorem q137 : (Jvm.Cond.fieldLinkNest "HyperVane" (284 : Nat) "HyperVane$Machine" "inWork" "LHyperVane$Guest;" "HyperVane") ∈ lw_tbl := lw_at lw_m1 84 rfl
theorem q139 : (Jvm.Cond.fieldLinkNest "HyperVane" (287 : Nat) "HyperVane$Machine" "since" "I" "HyperVane") ∈ lw_tbl := lw_at lw_m1 86 rfl
theorem q142 : (Jvm.Cond.fieldLinkNest "HyperVane" (290 : Nat) "HyperVane$Machine" "idle" "I" "HyperVane") ∈ lw_tbl := lw_at lw_m1 89 rfl
theorem q144 : (Jvm.Cond.fieldLinkNest "HyperVane" (293 : Nat) "HyperVane$Machine" "toDisk" "I" "HyperVane") ∈ lw_tbl := lw_at lw_m1 91 rfl
theorem q146 : (Jvm.Cond.fieldLinkNest "HyperVane" (296 : Nat) "HyperVane$Machine" "over" "I" "HyperVane") ∈ lw_tbl := lw_at lw_m1 93 rfl
theorem q168 : (Jvm.Cond.methodLink "HyperVane" (43 : Nat) ({ cls := "HyperVane$Machine", name := "setFrames", desc := "(I)I" } : Jvm.MethodName)) ∈ lw_all := lw_g (lw_at lw_m1 115 rfl) rfl
theorem q213 : (Jvm.Cond.fieldLinkNest "HyperVane" (237 : Nat) "HyperVane$Frame" "guest" "LHyperVane$Guest;" "HyperVane") ∈ lw_tbl := lw_at lw_m1 160 rfl
theorem q216 : (Jvm.Cond.fieldLinkNest "HyperVane" (246 : Nat) "HyperVane$Frame" "page" "I" "HyperVane") ∈ lw_tbl := lw_at lw_m1 163 rfl
theorem q219 : (Jvm.Cond.fieldLinkNest "HyperVane" (249 : Nat) "HyperVane$Frame" "used" "I" "HyperVane") ∈ lw_tbl := lw_at lw_m1 166 rfl
theorem q259 : (Jvm.Cond.selects "HyperVane" ({ cls := "java/lang/Object", name := "getClass", desc := "()Ljava/lang/Class;" } : Jvm.MethodName) ({ cls := "java/lang/Object", name := "getClass", desc := "()Ljava/lang/Class;" } : Jvm.MethodName)) ∈ lw_all := lw_g (lw_at lw_m1 206 rfl) rfl
theorem q289 : (Jvm.Cond.fieldLink "HyperVane" (39 : Nat) "HyperVane" "machine" "LHyperVane$Machine;") ∈ lw_all := lw_g (lw_at lw_m1 236 rfl) rfl
theorem q290 : (Jvm.Cond.laysFinal "HyperVane" "HyperVane" "machine" "LHyperVane$Machine;") ∈ lw_all := lw_g (lw_at lw_m1 237 rfl) rfl
theorem q291 : (Jvm.Cond.soleField "HyperVane" "machine") ∈ lw_all := lw_g (lw_at lw_m1 238 rfl) rfl
theorem q292 : (Jvm.Cond.superclass "HyperVane" "java/lang/Object") ∈ lw_all := lw_g (lw_at lw_m1 239 rfl) rfl
theorem q294 : (Jvm.Cond.instanceMethod ({ cls := "HyperVane", name := "digest", desc := "()J" } : Jvm.MethodName)) ∈ lw_all := lw_g (lw_at lw_m2 1 rfl) rfl
theorem q295 : (Jvm.Cond.selects "HyperVane" ({ cls := "HyperVane", name := "digest", desc := "()J" } : Jvm.MethodName) ({ cls := "HyperVane", name := "digest", desc := "()J" } : Jvm.MethodName)) ∈ lw_all := lw_g (lw_at lw_m2 2 rfl) rfl
theorem q296 : (Jvm.Cond.code ({ cls := "HyperVane", name := "digest", desc := "()J" } : Jvm.MethodName) prog_1_method_44_code (6 : Nat) (Option.some Jvm.ClassFile.FieldType.long)) ∈ lw_all := lw_g (lw_at lw_m2 3 rfl) rfl
theorem q297 : (Jvm.Cond.constantLong "HyperVane" (321 : Nat) (9609 : Int64)) ∈ lw_all := lw_g (lw_at lw_m2 4 rfl) rfl
theorem q298 : (Jvm.Cond.methodLink "HyperVane" (299 : Nat) ({ cls := "HyperVane", name := "count", desc := "(I)I" } : Jvm.MethodName)) ∈ lw_all := lw_g (lw_at lw_m2 5 rfl) rfl
theorem q299 : (Jvm.Cond.privateMethod ({ cls := "HyperVane", name := "count", desc := "(I)I" } : Jvm.MethodName)) ∈ lw_tbl := lw_at lw_m2 6 rfl
theorem q300 : (Jvm.Cond.instanceMethod ({ cls := "HyperVane", name := "count", desc := "(I)I" } : Jvm.MethodName)) ∈ lw_all := lw_g (lw_at lw_m2 7 rfl) rfl
theorem q301 : (Jvm.Cond.code ({ cls := "HyperVane", name := "count", desc := "(I)I" } : Jvm.MethodName) prog_1_method_34_code (10 : Nat) (Option.some Jvm.ClassFile.FieldType.int)) ∈ lw_all := lw_g (lw_at lw_m2 8 rfl) rfl
theorem q302 : (Jvm.Cond.methodLink "HyperVane" (264 : Nat) ({ cls := "java/util/ArrayList", name := "iterator", desc := "()Ljava/util/Iterator;" } : Jvm.MethodName)) ∈ lw_all := lw_g (lw_at lw_m2 9 rfl) rfl
theorem q325 : (Jvm.Cond.interfaceEntry "HyperVane" (268 : Nat)) ∈ lw_tbl := lw_at lw_m2 32 rfl
theorem q326 : (Jvm.Cond.methodLink "HyperVane" (268 : Nat) ({ cls := "java/util/Iterator", name := "hasNext", desc := "()Z" } : Jvm.MethodName)) ∈ lw_all := lw_g (lw_at lw_m2 33 rfl) rfl
theorem q335 : (Jvm.Cond.interfaceEntry "HyperVane" (273 : Nat)) ∈ lw_tbl := lw_at lw_m2 42 rfl
theorem q336 : (Jvm.Cond.methodLink "HyperVane" (273 : Nat) ({ cls := "java/util/Iterator", name := "next", desc := "()Ljava/lang/Object;" } : Jvm.MethodName)) ∈ lw_all := lw_g (lw_at lw_m2 43 rfl) rfl
theorem q348 : (Jvm.Cond.classLink "HyperVane" (238 : Nat) "HyperVane$Frame") ∈ lw_all := lw_g (lw_at lw_m2 55 rfl) rfl
theorem q349 : (Jvm.Cond.methodLink "HyperVane" (162 : Nat) ({ cls := "HyperVane", name := "one", desc := "(Z)I" } : Jvm.MethodName)) ∈ lw_all := lw_g (lw_at lw_m2 56 rfl) rfl
theorem q350 : (Jvm.Cond.static ({ cls := "HyperVane", name := "one", desc := "(Z)I" } : Jvm.MethodName)) ∈ lw_all := lw_g (lw_at lw_m2 57 rfl) rfl
theorem q351 : (Jvm.Cond.code ({ cls := "HyperVane", name := "one", desc := "(Z)I" } : Jvm.MethodName) prog_1_method_6_code (1 : Nat) (Option.some Jvm.ClassFile.FieldType.int)) ∈ lw_all := lw_g (lw_at lw_m2 58 rfl) rfl
theorem q352 : (Jvm.Cond.classLink "HyperVane" (55 : Nat) "HyperVane$Guest") ∈ lw_all := lw_g (lw_at lw_m2 59 rfl) rfl
theorem q353 : (Jvm.Cond.methodLink "HyperVane" (65 : Nat) ({ cls := "java/util/ArrayList", name := "size", desc := "()I" } : Jvm.MethodName)) ∈ lw_all := lw_g (lw_at lw_m2 60 rfl) rfl
theorem q354 : (Jvm.Cond.methodLink "HyperVane" (280 : Nat) ({ cls := "HyperVane", name := "numberOf", desc := "(LHyperVane$Guest;)I" } : Jvm.MethodName)) ∈ lw_all := lw_g (lw_at lw_m2 61 rfl) rfl
theorem q355 : (Jvm.Cond.static ({ cls := "HyperVane", name := "numberOf", desc := "(LHyperVane$Guest;)I" } : Jvm.MethodName)) ∈ lw_all := lw_g (lw_at lw_m2 62 rfl) rfl
theorem q356 : (Jvm.Cond.code ({ cls := "HyperVane", name := "numberOf", desc := "(LHyperVane$Guest;)I" } : Jvm.MethodName) prog_1_method_33_code (1 : Nat) (Option.some Jvm.ClassFile.FieldType.int)) ∈ lw_all := lw_g (lw_at lw_m2 63 rfl) rfl
theorem q357 : (Jvm.Cond.methodLink "HyperVane" (323 : Nat) ({ cls := "HyperVane", name := "add", desc := "(JJ)J" } : Jvm.MethodName)) ∈ lw_all := lw_g (lw_at lw_m2 64 rfl) rfl
theorem q358 : (Jvm.Cond.static ({ cls := "HyperVane", name := "add", desc := "(JJ)J" } : Jvm.MethodName)) ∈ lw_all := lw_g (lw_at lw_m2 65 rfl) rfl
theorem q359 : (Jvm.Cond.code ({ cls := "HyperVane", name := "add", desc := "(JJ)J" } : Jvm.MethodName) prog_1_method_43_code (4 : Nat) (Option.some Jvm.ClassFile.FieldType.long)) ∈ lw_all := lw_g (lw_at lw_m2 66 rfl) rfl
theorem q360 : (Jvm.Cond.constantLong "HyperVane" (319 : Nat) (31 : Int64)) ∈ lw_all := lw_g (lw_at lw_m2 67 rfl) rfl
theorem q361 : (Jvm.Cond.methodLink "HyperVane" (326 : Nat) ({ cls := "HyperVane", name := "addGuest", desc := "(JLHyperVane$Guest;)J" } : Jvm.MethodName)) ∈ lw_all := lw_g (lw_at lw_m2 68 rfl) rfl
theorem q362 : (Jvm.Cond.privateMethod ({ cls := "HyperVane", name := "addGuest", desc := "(JLHyperVane$Guest;)J" } : Jvm.MethodName)) ∈ lw_tbl := lw_at lw_m2 69 rfl
theorem q363 : (Jvm.Cond.instanceMethod ({ cls := "HyperVane", name := "addGuest", desc := "(JLHyperVane$Guest;)J" } : Jvm.MethodName)) ∈ lw_all := lw_g (lw_at lw_m2 70 rfl) rfl
theorem q364 : (Jvm.Cond.code ({ cls := "HyperVane", name := "addGuest", desc := "(JLHyperVane$Guest;)J" } : Jvm.MethodName) prog_1_method_45_code (11 : Nat) (Option.some Jvm.ClassFile.FieldType.long)) ∈ lw_all := lw_g (lw_at lw_m2 71 rfl) rfl
theorem q365 : (Jvm.Cond.methodLink "HyperVane" (213 : Nat) ({ cls := "HyperVane", name := "told", desc := "(LHyperVane$Guest;I)I" } : Jvm.MethodName)) ∈ lw_all := lw_g (lw_at lw_m2 72 rfl) rfl
theorem q366 : (Jvm.Cond.privateMethod ({ cls := "HyperVane", name := "told", desc := "(LHyperVane$Guest;I)I" } : Jvm.MethodName)) ∈ lw_tbl := lw_at lw_m2 73 rfl
theorem q367 : (Jvm.Cond.instanceMethod ({ cls := "HyperVane", name := "told", desc := "(LHyperVane$Guest;I)I" } : Jvm.MethodName)) ∈ lw_all := lw_g (lw_at lw_m2 74 rfl) rfl
theorem q368 : (Jvm.Cond.code ({ cls := "HyperVane", name := "told", desc := "(LHyperVane$Guest;I)I" } : Jvm.MethodName) prog_1_method_24_code (4 : Nat) (Option.some Jvm.ClassFile.FieldType.int)) ∈ lw_all := lw_g (lw_at lw_m2 75 rfl) rfl
theorem q369 : (Jvm.Cond.methodLink "HyperVane" (201 : Nat) ({ cls := "HyperVane", name := "manyIn", desc := "(LHyperVane$Guest;I)I" } : Jvm.MethodName)) ∈ lw_all := lw_g (lw_at lw_m2 76 rfl) rfl
theorem q370 : (Jvm.Cond.privateMethod ({ cls := "HyperVane", name := "manyIn", desc := "(LHyperVane$Guest;I)I" } : Jvm.MethodName)) ∈ lw_tbl := lw_at lw_m2 77 rfl
theorem q371 : (Jvm.Cond.instanceMethod ({ cls := "HyperVane", name := "manyIn", desc := "(LHyperVane$Guest;I)I" } : Jvm.MethodName)) ∈ lw_all := lw_g (lw_at lw_m2 78 rfl) rfl
theorem q372 : (Jvm.Cond.code ({ cls := "HyperVane", name := "manyIn", desc := "(LHyperVane$Guest;I)I" } : Jvm.MethodName) prog_1_method_22_code (5 : Nat) (Option.some Jvm.ClassFile.FieldType.int)) ∈ lw_all := lw_g (lw_at lw_m2 79 rfl) rfl
theorem q373 : (Jvm.Cond.methodLink "HyperVane" (159 : Nat) ({ cls := "HyperVane", name := "where", desc := "(LHyperVane$Guest;I)I" } : Jvm.MethodName)) ∈ lw_all := lw_g (lw_at lw_m2 80 rfl) rfl
theorem q374 : (Jvm.Cond.privateMethod ({ cls := "HyperVane", name := "where", desc := "(LHyperVane$Guest;I)I" } : Jvm.MethodName)) ∈ lw_tbl := lw_at lw_m2 81 rfl
theorem q375 : (Jvm.Cond.instanceMethod ({ cls := "HyperVane", name := "where", desc := "(LHyperVane$Guest;I)I" } : Jvm.MethodName)) ∈ lw_all := lw_g (lw_at lw_m2 82 rfl) rfl
theorem q376 : (Jvm.Cond.code ({ cls := "HyperVane", name := "where", desc := "(LHyperVane$Guest;I)I" } : Jvm.MethodName) prog_1_method_23_code (3 : Nat) (Option.some Jvm.ClassFile.FieldType.int)) ∈ lw_all := lw_g (lw_at lw_m2 83 rfl) rfl
theorem q377 : (Jvm.Cond.methodLink "HyperVane" (166 : Nat) ({ cls := "HyperVane$Machine", name := "frameOf", desc := "(LHyperVane$Guest;I)LHyperVane$Frame;" } : Jvm.MethodName)) ∈ lw_all := lw_g (lw_at lw_m2 84 rfl) rfl
theorem q386 : (Jvm.Cond.methodLink "HyperVane" (204 : Nat) ({ cls := "HyperVane$Guest", name := "manyLeft", desc := "()I" } : Jvm.MethodName)) ∈ lw_all := lw_g (lw_at lw_m2 93 rfl) rfl
theorem q395 : (Jvm.Cond.methodLink "HyperVane" (233 : Nat) ({ cls := "HyperVane", name := "toldOfPage", desc := "(LHyperVane$Guest;II)I" } : Jvm.MethodName)) ∈ lw_all := lw_g (lw_at lw_m2 102 rfl) rfl
theorem q396 : (Jvm.Cond.privateMethod ({ cls := "HyperVane", name := "toldOfPage", desc := "(LHyperVane$Guest;II)I" } : Jvm.MethodName)) ∈ lw_tbl := lw_at lw_m2 103 rfl
theorem q397 : (Jvm.Cond.instanceMethod ({ cls := "HyperVane", name := "toldOfPage", desc := "(LHyperVane$Guest;II)I" } : Jvm.MethodName)) ∈ lw_all := lw_g (lw_at lw_m2 104 rfl) rfl
theorem q398 : (Jvm.Cond.code ({ cls := "HyperVane", name := "toldOfPage", desc := "(LHyperVane$Guest;II)I" } : Jvm.MethodName) prog_1_method_27_code (4 : Nat) (Option.some Jvm.ClassFile.FieldType.int)) ∈ lw_all := lw_g (lw_at lw_m2 105 rfl) rfl
theorem q399 : (Jvm.Cond.methodLink "HyperVane" (226 : Nat) ({ cls := "java/util/ArrayList", name := "indexOf", desc := "(Ljava/lang/Object;)I" } : Jvm.MethodName)) ∈ lw_all := lw_g (lw_at lw_m2 106 rfl) rfl
theorem q411 : (Jvm.Cond.selects "HyperVane" ({ cls := "java/lang/Object", name := "equals", desc := "(Ljava/lang/Object;)Z" } : Jvm.MethodName) ({ cls := "java/lang/Object", name := "equals", desc := "(Ljava/lang/Object;)Z" } : Jvm.MethodName)) ∈ lw_all := lw_g (lw_at lw_m2 118 rfl) rfl
theorem q434 : (Jvm.Cond.methodLink "HyperVane" (128 : Nat) ({ cls := "HyperVane$Guest", name := "isMoved", desc := "()Z" } : Jvm.MethodName)) ∈ lw_all := lw_g (lw_at lw_m2 141 rfl) rfl
theorem q435 : (Jvm.Cond.methodLink "HyperVane" (261 : Nat) ({ cls := "HyperVane", name := "loggedOf", desc := "(LHyperVane$Guest;I)I" } : Jvm.MethodName)) ∈ lw_all := lw_g (lw_at lw_m2 142 rfl) rfl
theorem q436 : (Jvm.Cond.static ({ cls := "HyperVane", name := "loggedOf", desc := "(LHyperVane$Guest;I)I" } : Jvm.MethodName)) ∈ lw_all := lw_g (lw_at lw_m2 143 rfl) rfl
theorem q437 : (Jvm.Cond.code ({ cls := "HyperVane", name := "loggedOf", desc := "(LHyperVane$Guest;I)I" } : Jvm.MethodName) prog_1_method_31_code (2 : Nat) (Option.some Jvm.ClassFile.FieldType.int)) ∈ lw_all := lw_g (lw_at lw_m2 144 rfl) rfl
theorem q438 : (Jvm.Cond.methodLink "HyperVane" (255 : Nat) ({ cls := "java/util/ArrayList", name := "get", desc := "(I)Ljava/lang/Object;" } : Jvm.MethodName)) ∈ lw_all := lw_g (lw_at lw_m2 145 rfl) rfl
theorem q446 : (Jvm.Cond.classLink "HyperVane" (256 : Nat) "java/lang/Integer") ∈ lw_all := lw_g (lw_at lw_m2 153 rfl) rfl
theorem q447 : (Jvm.Cond.methodLink "HyperVane" (258 : Nat) ({ cls := "java/lang/Integer", name := "intValue", desc := "()I" } : Jvm.MethodName)) ∈ lw_all := lw_g (lw_at lw_m2 154 rfl) rfl
theorem q448 : (Jvm.Cond.methodLink "HyperVane" (306 : Nat) ({ cls := "HyperVane", name := "replayedOf", desc := "(LHyperVane$Guest;II)I" } : Jvm.MethodName)) ∈ lw_all := lw_g (lw_at lw_m2 155 rfl) rfl
theorem q449 : (Jvm.Cond.static ({ cls := "HyperVane", name := "replayedOf", desc := "(LHyperVane$Guest;II)I" } : Jvm.MethodName)) ∈ lw_all := lw_g (lw_at lw_m2 156 rfl) rfl
theorem q450 : (Jvm.Cond.code ({ cls := "HyperVane", name := "replayedOf", desc := "(LHyperVane$Guest;II)I" } : Jvm.MethodName) prog_1_method_37_code (4 : Nat) (Option.some Jvm.ClassFile.FieldType.int)) ∈ lw_all := lw_g (lw_at lw_m2 157 rfl) rfl
theorem q451 : (Jvm.Cond.methodLink "HyperVane" (302 : Nat) ({ cls := "HyperVane$Past", name := "replay", desc := "(I)LHyperVane$Mind;" } : Jvm.MethodName)) ∈ lw_all := lw_g (lw_at lw_m2 158 rfl) rfl
theorem q468 : (Jvm.Cond.fieldLinkNest "HyperVane" (85 : Nat) "HyperVane$Mind" "tape" "Ljava/util/ArrayList;" "HyperVane") ∈ lw_tbl := lw_at lw_m2 175 rfl
theorem q472 : (Jvm.Cond.fieldLinkNest "HyperVane" (220 : Nat) "HyperVane$Mind" "values" "[I" "HyperVane") ∈ lw_tbl := lw_at lw_m2 179 rfl
theorem q474 : (Jvm.Cond.fieldLinkNest "HyperVane" (177 : Nat) "HyperVane$Mind" "place" "I" "HyperVane") ∈ lw_tbl := lw_at lw_m2 181 rfl
theorem q476 : (Jvm.Cond.fieldLinkNest "HyperVane" (180 : Nat) "HyperVane$Mind" "mark" "I" "HyperVane") ∈ lw_tbl := lw_at lw_m2 183 rfl
theorem q529 : (Jvm.Cond.methodLink "HyperVane" (312 : Nat) ({ cls := "HyperVane", name := "doneBy", desc := "(II)I" } : Jvm.MethodName)) ∈ lw_all := lw_g (lw_at lw_m2 236 rfl) rfl
theorem q530 : (Jvm.Cond.privateMethod ({ cls := "HyperVane", name := "doneBy", desc := "(II)I" } : Jvm.MethodName)) ∈ lw_tbl := lw_at lw_m2 237 rfl
theorem q531 : (Jvm.Cond.instanceMethod ({ cls := "HyperVane", name := "doneBy", desc := "(II)I" } : Jvm.MethodName)) ∈ lw_all := lw_g (lw_at lw_m2 238 rfl) rfl
theorem q532 : (Jvm.Cond.code ({ cls := "HyperVane", name := "doneBy", desc := "(II)I" } : Jvm.MethodName) prog_1_method_39_code (4 : Nat) (Option.some Jvm.ClassFile.FieldType.int)) ∈ lw_all := lw_g (lw_at lw_m2 239 rfl) rfl
theorem q533 : (Jvm.Cond.methodLink "HyperVane" (309 : Nat) ({ cls := "HyperVane$Machine", name := "copy", desc := "()LHyperVane$Machine;" } : Jvm.MethodName)) ∈ lw_all := lw_g (lw_at lw_m3 0 rfl) rfl
theorem q554 : (Jvm.Cond.fieldLinkNest "HyperVane" (243 : Nat) "HyperVane$Guest" "number" "I" "HyperVane") ∈ lw_tbl := lw_at lw_m3 21 rfl
theorem q556 : (Jvm.Cond.fieldLinkNest "HyperVane" (108 : Nat) "HyperVane$Guest" "weight" "I" "HyperVane") ∈ lw_tbl := lw_at lw_m3 23 rfl
theorem q560 : (Jvm.Cond.fieldLinkNest "HyperVane" (81 : Nat) "HyperVane$Guest" "mind" "LHyperVane$Mind;" "HyperVane") ∈ lw_tbl := lw_at lw_m3 27 rfl
theorem q563 : (Jvm.Cond.fieldLinkNest "HyperVane" (101 : Nat) "HyperVane$Guest" "state" "I" "HyperVane") ∈ lw_tbl := lw_at lw_m3 30 rfl
theorem q565 : (Jvm.Cond.fieldLinkNest "HyperVane" (105 : Nat) "HyperVane$Guest" "before" "I" "HyperVane") ∈ lw_tbl := lw_at lw_m3 32 rfl
theorem q567 : (Jvm.Cond.fieldLinkNest "HyperVane" (111 : Nat) "HyperVane$Guest" "isPausedByMove" "Z" "HyperVane") ∈ lw_tbl := lw_at lw_m3 34 rfl
theorem q571 : (Jvm.Cond.fieldLinkNest "HyperVane" (210 : Nat) "HyperVane$Guest" "stuckTill" "I" "HyperVane") ∈ lw_tbl := lw_at lw_m3 38 rfl
theorem q574 : (Jvm.Cond.fieldLinkNest "HyperVane" (183 : Nat) "HyperVane$Guest" "time" "I" "HyperVane") ∈ lw_tbl := lw_at lw_m3 41 rfl
theorem q577 : (Jvm.Cond.fieldLinkNest "HyperVane" (186 : Nat) "HyperVane$Guest" "pending" "I" "HyperVane") ∈ lw_tbl := lw_at lw_m3 44 rfl
theorem q580 : (Jvm.Cond.fieldLinkNest "HyperVane" (189 : Nat) "HyperVane$Guest" "credits" "I" "HyperVane") ∈ lw_tbl := lw_at lw_m3 47 rfl
theorem q583 : (Jvm.Cond.fieldLinkNest "HyperVane" (192 : Nat) "HyperVane$Guest" "done" "I" "HyperVane") ∈ lw_tbl := lw_at lw_m3 50 rfl
theorem q586 : (Jvm.Cond.fieldLinkNest "HyperVane" (195 : Nat) "HyperVane$Guest" "stolen" "I" "HyperVane") ∈ lw_tbl := lw_at lw_m3 53 rfl
theorem q589 : (Jvm.Cond.fieldLinkNest "HyperVane" (198 : Nat) "HyperVane$Guest" "queue" "I" "HyperVane") ∈ lw_tbl := lw_at lw_m3 56 rfl
theorem q592 : (Jvm.Cond.fieldLinkNest "HyperVane" (216 : Nat) "HyperVane$Guest" "exits" "[I" "HyperVane") ∈ lw_tbl := lw_at lw_m3 59 rfl
theorem q595 : (Jvm.Cond.fieldLinkNest "HyperVane" (170 : Nat) "HyperVane$Guest" "areOnDisk" "[Z" "HyperVane") ∈ lw_tbl := lw_at lw_m3 62 rfl
theorem q598 : (Jvm.Cond.fieldLinkNest "HyperVane" (174 : Nat) "HyperVane$Guest" "areGiven" "[Z" "HyperVane") ∈ lw_tbl := lw_at lw_m3 65 rfl
theorem q601 : (Jvm.Cond.fieldLinkNest "HyperVane" (230 : Nat) "HyperVane$Guest" "left" "[Z" "HyperVane") ∈ lw_tbl := lw_at lw_m3 68 rfl
theorem q610 : (Jvm.Cond.fieldLinkNest "HyperVane" (207 : Nat) "HyperVane$Guest" "down" "I" "HyperVane") ∈ lw_tbl := lw_at lw_m3 77 rfl
theorem q613 : (Jvm.Cond.fieldLinkNest "HyperVane" (97 : Nat) "HyperVane$Guest" "past" "LHyperVane$Past;" "HyperVane") ∈ lw_tbl := lw_at lw_m3 80 rfl
theorem q682 : (Jvm.Cond.fieldLinkNest "HyperVane" (141 : Nat) "HyperVane$Past" "log" "Ljava/util/ArrayList;" "HyperVane") ∈ lw_tbl := lw_at lw_m3 149 rfl
theorem q702 : (Jvm.Cond.methodLink "HyperVane" (156 : Nat) ({ cls := "HyperVane$Machine", name := "run", desc := "(I)I" } : Jvm.MethodName)) ∈ lw_all := lw_g (lw_at lw_m3 169 rfl) rfl
theorem q815 : (Jvm.Cond.methodLink "HyperVane" (134 : Nat) ({ cls := "HyperVane", name := "canMove", desc := "(LHyperVane$Guest;)Z" } : Jvm.MethodName)) ∈ lw_all := lw_g (lw_at lw_m4 42 rfl) rfl
theorem q816 : (Jvm.Cond.static ({ cls := "HyperVane", name := "canMove", desc := "(LHyperVane$Guest;)Z" } : Jvm.MethodName)) ∈ lw_all := lw_g (lw_at lw_m4 43 rfl) rfl
theorem q817 : (Jvm.Cond.code ({ cls := "HyperVane", name := "canMove", desc := "(LHyperVane$Guest;)Z" } : Jvm.MethodName) prog_1_method_16_code (1 : Nat) (Option.some Jvm.ClassFile.FieldType.boolean)) ∈ lw_all := lw_g (lw_at lw_m4 44 rfl) rfl
theorem q818 : (Jvm.Cond.methodLink "HyperVane" (90 : Nat) ({ cls := "HyperVane$Guest", name := "isAway", desc := "()Z" } : Jvm.MethodName)) ∈ lw_all := lw_g (lw_at lw_m4 45 rfl) rfl
theorem q819 : (Jvm.Cond.methodLink "HyperVane" (316 : Nat) ({ cls := "HyperVane", name := "awayBy", desc := "(II)I" } : Jvm.MethodName)) ∈ lw_all := lw_g (lw_at lw_m4 46 rfl) rfl
theorem q820 : (Jvm.Cond.privateMethod ({ cls := "HyperVane", name := "awayBy", desc := "(II)I" } : Jvm.MethodName)) ∈ lw_tbl := lw_at lw_m4 47 rfl
theorem q821 : (Jvm.Cond.instanceMethod ({ cls := "HyperVane", name := "awayBy", desc := "(II)I" } : Jvm.MethodName)) ∈ lw_all := lw_g (lw_at lw_m4 48 rfl) rfl
theorem q822 : (Jvm.Cond.code ({ cls := "HyperVane", name := "awayBy", desc := "(II)I" } : Jvm.MethodName) prog_1_method_41_code (6 : Nat) (Option.some Jvm.ClassFile.FieldType.int)) ∈ lw_all := lw_g (lw_at lw_m4 49 rfl) rfl
theorem q823 : (Jvm.Cond.methodLink "HyperVane" (138 : Nat) ({ cls := "HyperVane$Machine", name := "startMove", desc := "(LHyperVane$Guest;I)I" } : Jvm.MethodName)) ∈ lw_all := lw_g (lw_at lw_m4 50 rfl) rfl
theorem q827 : (Jvm.Cond.methodLink "HyperVane" (252 : Nat) ({ cls := "HyperVane", name := "told", desc := "(LHyperVane$Frame;I)I" } : Jvm.MethodName)) ∈ lw_all := lw_g (lw_at lw_m4 54 rfl) rfl
theorem q828 : (Jvm.Cond.static ({ cls := "HyperVane", name := "told", desc := "(LHyperVane$Frame;I)I" } : Jvm.MethodName)) ∈ lw_all := lw_g (lw_at lw_m4 55 rfl) rfl
theorem q829 : (Jvm.Cond.code ({ cls := "HyperVane", name := "told", desc := "(LHyperVane$Frame;I)I" } : Jvm.MethodName) prog_1_method_29_code (2 : Nat) (Option.some Jvm.ClassFile.FieldType.int)) ∈ lw_all := lw_g (lw_at lw_m4 56 rfl) rfl
theorem q836 : (Jvm.Cond.instanceMethod ({ cls := "HyperVane", name := "guest", desc := "(I)I" } : Jvm.MethodName)) ∈ lw_all := lw_g (lw_at lw_m4 63 rfl) rfl
theorem q837 : (Jvm.Cond.selects "HyperVane" ({ cls := "HyperVane", name := "guest", desc := "(I)I" } : Jvm.MethodName) ({ cls := "HyperVane", name := "guest", desc := "(I)I" } : Jvm.MethodName)) ∈ lw_all := lw_g (lw_at lw_m4 64 rfl) rfl
theorem q838 : (Jvm.Cond.code ({ cls := "HyperVane", name := "guest", desc := "(I)I" } : Jvm.MethodName) prog_1_method_10_code (2 : Nat) (Option.some Jvm.ClassFile.FieldType.int)) ∈ lw_all := lw_g (lw_at lw_m4 65 rfl) rfl
theorem q839 : (Jvm.Cond.methodLink "HyperVane" (61 : Nat) ({ cls := "HyperVane", name := "requireWeight", desc := "(I)V" } : Jvm.MethodName)) ∈ lw_all := lw_g (lw_at lw_m4 66 rfl) rfl
theorem q840 : (Jvm.Cond.static ({ cls := "HyperVane", name := "requireWeight", desc := "(I)V" } : Jvm.MethodName)) ∈ lw_all := lw_g (lw_at lw_m4 67 rfl) rfl
theorem q841 : (Jvm.Cond.code ({ cls := "HyperVane", name := "requireWeight", desc := "(I)V" } : Jvm.MethodName) prog_1_method_9_code (1 : Nat) (Option.none : Option Jvm.ClassFile.FieldType)) ∈ lw_all := lw_g (lw_at lw_m4 68 rfl) rfl
theorem q842 : (Jvm.Cond.methodLink "HyperVane" (57 : Nat) ({ cls := "HyperVane", name := "requireFrom", desc := "(III)V" } : Jvm.MethodName)) ∈ lw_all := lw_g (lw_at lw_m4 69 rfl) rfl
theorem q843 : (Jvm.Cond.static ({ cls := "HyperVane", name := "requireFrom", desc := "(III)V" } : Jvm.MethodName)) ∈ lw_all := lw_g (lw_at lw_m4 70 rfl) rfl
theorem q844 : (Jvm.Cond.code ({ cls := "HyperVane", name := "requireFrom", desc := "(III)V" } : Jvm.MethodName) prog_1_method_4_code (3 : Nat) (Option.none : Option Jvm.ClassFile.FieldType)) ∈ lw_all := lw_g (lw_at lw_m4 71 rfl) rfl
theorem q845 : (Jvm.Cond.methodLink "HyperVane" (13 : Nat) ({ cls := "HyperVane", name := "require", desc := "(Z)V" } : Jvm.MethodName)) ∈ lw_all := lw_g (lw_at lw_m4 72 rfl) rfl
theorem q846 : (Jvm.Cond.static ({ cls := "HyperVane", name := "require", desc := "(Z)V" } : Jvm.MethodName)) ∈ lw_all := lw_g (lw_at lw_m4 73 rfl) rfl
theorem q847 : (Jvm.Cond.code ({ cls := "HyperVane", name := "require", desc := "(Z)V" } : Jvm.MethodName) prog_1_method_1_code (1 : Nat) (Option.none : Option Jvm.ClassFile.FieldType)) ∈ lw_all := lw_g (lw_at lw_m4 74 rfl) rfl
theorem q848 : (Jvm.Cond.classLink "HyperVane" (1 : Nat) "java/lang/IllegalArgumentException") ∈ lw_all := lw_g (lw_at lw_m4 75 rfl) rfl
theorem q890 : (Jvm.Cond.methodLink "HyperVane" (3 : Nat) ({ cls := "java/lang/IllegalArgumentException", name := "<init>", desc := "()V" } : Jvm.MethodName)) ∈ lw_all := lw_g (lw_at lw_m4 117 rfl) rfl
theorem q913 : (Jvm.Cond.methodLink "HyperVane" (68 : Nat) ({ cls := "HyperVane", name := "requireState", desc := "(Z)V" } : Jvm.MethodName)) ∈ lw_all := lw_g (lw_at lw_m4 140 rfl) rfl
theorem q914 : (Jvm.Cond.static ({ cls := "HyperVane", name := "requireState", desc := "(Z)V" } : Jvm.MethodName)) ∈ lw_all := lw_g (lw_at lw_m4 141 rfl) rfl
theorem q915 : (Jvm.Cond.code ({ cls := "HyperVane", name := "requireState", desc := "(Z)V" } : Jvm.MethodName) prog_1_method_2_code (1 : Nat) (Option.none : Option Jvm.ClassFile.FieldType)) ∈ lw_all := lw_g (lw_at lw_m4 142 rfl) rfl
theorem q916 : (Jvm.Cond.classLink "HyperVane" (7 : Nat) "java/lang/IllegalStateException") ∈ lw_all := lw_g (lw_at lw_m4 143 rfl) rfl
theorem q925 : (Jvm.Cond.methodLink "HyperVane" (9 : Nat) ({ cls := "java/lang/IllegalStateException", name := "<init>", desc := "()V" } : Jvm.MethodName)) ∈ lw_all := lw_g (lw_at lw_m4 152 rfl) rfl
theorem q931 : (Jvm.Cond.methodLink "HyperVane" (71 : Nat) ({ cls := "HyperVane$Guest", name := "<init>", desc := "(II)V" } : Jvm.MethodName)) ∈ lw_all := lw_g (lw_at lw_m4 158 rfl) rfl
theorem q932 : (Jvm.Cond.methodLink "HyperVane" (73 : Nat) ({ cls := "java/util/ArrayList", name := "add", desc := "(Ljava/lang/Object;)Z" } : Jvm.MethodName)) ∈ lw_all := lw_g (lw_at lw_m4 159 rfl) rfl
theorem q970 : (Jvm.Cond.instanceMethod ({ cls := "HyperVane", name := "op", desc := "(III)I" } : Jvm.MethodName)) ∈ lw_all := lw_g (lw_at lw_m4 197 rfl) rfl
theorem q971 : (Jvm.Cond.selects "HyperVane" ({ cls := "HyperVane", name := "op", desc := "(III)I" } : Jvm.MethodName) ({ cls := "HyperVane", name := "op", desc := "(III)I" } : Jvm.MethodName)) ∈ lw_all := lw_g (lw_at lw_m4 198 rfl) rfl
theorem q972 : (Jvm.Cond.code ({ cls := "HyperVane", name := "op", desc := "(III)I" } : Jvm.MethodName) prog_1_method_11_code (5 : Nat) (Option.some Jvm.ClassFile.FieldType.int)) ∈ lw_all := lw_g (lw_at lw_m4 199 rfl) rfl
theorem q973 : (Jvm.Cond.methodLink "HyperVane" (77 : Nat) ({ cls := "HyperVane", name := "guestOf", desc := "(I)LHyperVane$Guest;" } : Jvm.MethodName)) ∈ lw_all := lw_g (lw_at lw_m4 200 rfl) rfl
theorem q974 : (Jvm.Cond.privateMethod ({ cls := "HyperVane", name := "guestOf", desc := "(I)LHyperVane$Guest;" } : Jvm.MethodName)) ∈ lw_tbl := lw_at lw_m4 201 rfl
theorem q975 : (Jvm.Cond.instanceMethod ({ cls := "HyperVane", name := "guestOf", desc := "(I)LHyperVane$Guest;" } : Jvm.MethodName)) ∈ lw_all := lw_g (lw_at lw_m4 202 rfl) rfl
theorem q976 : (Jvm.Cond.code ({ cls := "HyperVane", name := "guestOf", desc := "(I)LHyperVane$Guest;" } : Jvm.MethodName) prog_1_method_8_code (2 : Nat) (Option.some (Jvm.ClassFile.FieldType.object "HyperVane$Guest"))) ∈ lw_all := lw_g (lw_at lw_m4 203 rfl) rfl
theorem q977 : (Jvm.Cond.methodLink "HyperVane" (51 : Nat) ({ cls := "HyperVane", name := "at", desc := "(Ljava/util/List;I)Ljava/lang/Object;" } : Jvm.MethodName)) ∈ lw_all := lw_g (lw_at lw_m4 204 rfl) rfl
theorem q978 : (Jvm.Cond.static ({ cls := "HyperVane", name := "at", desc := "(Ljava/util/List;I)Ljava/lang/Object;" } : Jvm.MethodName)) ∈ lw_all := lw_g (lw_at lw_m4 205 rfl) rfl
theorem q979 : (Jvm.Cond.code ({ cls := "HyperVane", name := "at", desc := "(Ljava/util/List;I)Ljava/lang/Object;" } : Jvm.MethodName) prog_1_method_5_code (2 : Nat) (Option.some (Jvm.ClassFile.FieldType.object "java/lang/Object"))) ∈ lw_all := lw_g (lw_at lw_m4 206 rfl) rfl
theorem q980 : (Jvm.Cond.interfaceEntry "HyperVane" (19 : Nat)) ∈ lw_tbl := lw_at lw_m4 207 rfl
theorem q981 : (Jvm.Cond.methodLink "HyperVane" (19 : Nat) ({ cls := "java/util/List", name := "size", desc := "()I" } : Jvm.MethodName)) ∈ lw_all := lw_g (lw_at lw_m4 208 rfl) rfl
theorem q988 : (Jvm.Cond.methodLink "HyperVane" (25 : Nat) ({ cls := "HyperVane", name := "requireIndex", desc := "(II)V" } : Jvm.MethodName)) ∈ lw_all := lw_g (lw_at lw_m4 215 rfl) rfl
theorem q989 : (Jvm.Cond.static ({ cls := "HyperVane", name := "requireIndex", desc := "(II)V" } : Jvm.MethodName)) ∈ lw_all := lw_g (lw_at lw_m4 216 rfl) rfl
theorem q990 : (Jvm.Cond.code ({ cls := "HyperVane", name := "requireIndex", desc := "(II)V" } : Jvm.MethodName) prog_1_method_3_code (2 : Nat) (Option.none : Option Jvm.ClassFile.FieldType)) ∈ lw_all := lw_g (lw_at lw_m4 217 rfl) rfl
theorem q991 : (Jvm.Cond.classLink "HyperVane" (10 : Nat) "java/lang/IndexOutOfBoundsException") ∈ lw_all := lw_g (lw_at lw_m4 218 rfl) rfl
theorem q1000 : (Jvm.Cond.methodLink "HyperVane" (12 : Nat) ({ cls := "java/lang/IndexOutOfBoundsException", name := "<init>", desc := "()V" } : Jvm.MethodName)) ∈ lw_all := lw_g (lw_at lw_m4 227 rfl) rfl
theorem q1006 : (Jvm.Cond.interfaceEntry "HyperVane" (29 : Nat)) ∈ lw_tbl := lw_at lw_m4 233 rfl
theorem q1007 : (Jvm.Cond.methodLink "HyperVane" (29 : Nat) ({ cls := "java/util/List", name := "get", desc := "(I)Ljava/lang/Object;" } : Jvm.MethodName)) ∈ lw_all := lw_g (lw_at lw_m4 234 rfl) rfl
theorem q1013 : (Jvm.Cond.classLink "HyperVane" (94 : Nat) "HyperVane$Op") ∈ lw_all := lw_g (lw_at lw_m5 0 rfl) rfl
theorem q1015 : (Jvm.Cond.methodLink "HyperVane" (96 : Nat) ({ cls := "HyperVane$Op", name := "<init>", desc := "(II)V" } : Jvm.MethodName)) ∈ lw_all := lw_g (lw_at lw_m5 2 rfl) rfl
theorem q1035 : (Jvm.Cond.instanceMethod ({ cls := "HyperVane", name := "weight", desc := "(II)I" } : Jvm.MethodName)) ∈ lw_all := lw_g (lw_at lw_m5 22 rfl) rfl
theorem q1036 : (Jvm.Cond.selects "HyperVane" ({ cls := "HyperVane", name := "weight", desc := "(II)I" } : Jvm.MethodName) ({ cls := "HyperVane", name := "weight", desc := "(II)I" } : Jvm.MethodName)) ∈ lw_all := lw_g (lw_at lw_m5 23 rfl) rfl
theorem q1037 : (Jvm.Cond.code ({ cls := "HyperVane", name := "weight", desc := "(II)I" } : Jvm.MethodName) prog_1_method_12_code (5 : Nat) (Option.some Jvm.ClassFile.FieldType.int)) ∈ lw_all := lw_g (lw_at lw_m5 24 rfl) rfl
theorem q1042 : (Jvm.Cond.instanceMethod ({ cls := "HyperVane", name := "pause", desc := "(IZ)Z" } : Jvm.MethodName)) ∈ lw_all := lw_g (lw_at lw_m5 29 rfl) rfl
theorem q1043 : (Jvm.Cond.selects "HyperVane" ({ cls := "HyperVane", name := "pause", desc := "(IZ)Z" } : Jvm.MethodName) ({ cls := "HyperVane", name := "pause", desc := "(IZ)Z" } : Jvm.MethodName)) ∈ lw_all := lw_g (lw_at lw_m5 30 rfl) rfl
theorem q1044 : (Jvm.Cond.code ({ cls := "HyperVane", name := "pause", desc := "(IZ)Z" } : Jvm.MethodName) prog_1_method_13_code (5 : Nat) (Option.some Jvm.ClassFile.FieldType.boolean)) ∈ lw_all := lw_g (lw_at lw_m5 31 rfl) rfl
theorem q1045 : (Jvm.Cond.methodLink "HyperVane" (115 : Nat) ({ cls := "HyperVane$Guest", name := "pause", desc := "()V" } : Jvm.MethodName)) ∈ lw_all := lw_g (lw_at lw_m5 32 rfl) rfl
theorem q1046 : (Jvm.Cond.methodLink "HyperVane" (121 : Nat) ({ cls := "HyperVane$Guest", name := "goOn", desc := "(I)V" } : Jvm.MethodName)) ∈ lw_all := lw_g (lw_at lw_m5 33 rfl) rfl
theorem q1055 : (Jvm.Cond.instanceMethod ({ cls := "HyperVane", name := "frames", desc := "(I)I" } : Jvm.MethodName)) ∈ lw_all := lw_g (lw_at lw_m5 42 rfl) rfl
theorem q1056 : (Jvm.Cond.selects "HyperVane" ({ cls := "HyperVane", name := "frames", desc := "(I)I" } : Jvm.MethodName) ({ cls := "HyperVane", name := "frames", desc := "(I)I" } : Jvm.MethodName)) ∈ lw_all := lw_g (lw_at lw_m5 43 rfl) rfl
theorem q1057 : (Jvm.Cond.code ({ cls := "HyperVane", name := "frames", desc := "(I)I" } : Jvm.MethodName) prog_1_method_14_code (2 : Nat) (Option.some Jvm.ClassFile.FieldType.int)) ∈ lw_all := lw_g (lw_at lw_m5 44 rfl) rfl
theorem q1062 : (Jvm.Cond.instanceMethod ({ cls := "HyperVane", name := "giveUp", desc := "(II)I" } : Jvm.MethodName)) ∈ lw_all := lw_g (lw_at lw_m5 49 rfl) rfl
theorem q1063 : (Jvm.Cond.selects "HyperVane" ({ cls := "HyperVane", name := "giveUp", desc := "(II)I" } : Jvm.MethodName) ({ cls := "HyperVane", name := "giveUp", desc := "(II)I" } : Jvm.MethodName)) ∈ lw_all := lw_g (lw_at lw_m5 50 rfl) rfl
theorem q1064 : (Jvm.Cond.code ({ cls := "HyperVane", name := "giveUp", desc := "(II)I" } : Jvm.MethodName) prog_1_method_15_code (4 : Nat) (Option.some Jvm.ClassFile.FieldType.int)) ∈ lw_all := lw_g (lw_at lw_m5 51 rfl) rfl
theorem q1065 : (Jvm.Cond.methodLink "HyperVane" (124 : Nat) ({ cls := "HyperVane$Machine", name := "giveUp", desc := "(LHyperVane$Guest;I)I" } : Jvm.MethodName)) ∈ lw_all := lw_g (lw_at lw_m5 52 rfl) rfl
theorem q1076 : (Jvm.Cond.instanceMethod ({ cls := "HyperVane", name := "move", desc := "(II)I" } : Jvm.MethodName)) ∈ lw_all := lw_g (lw_at lw_m5 63 rfl) rfl
theorem q1077 : (Jvm.Cond.selects "HyperVane" ({ cls := "HyperVane", name := "move", desc := "(II)I" } : Jvm.MethodName) ({ cls := "HyperVane", name := "move", desc := "(II)I" } : Jvm.MethodName)) ∈ lw_all := lw_g (lw_at lw_m5 64 rfl) rfl
theorem q1078 : (Jvm.Cond.code ({ cls := "HyperVane", name := "move", desc := "(II)I" } : Jvm.MethodName) prog_1_method_18_code (4 : Nat) (Option.some Jvm.ClassFile.FieldType.int)) ∈ lw_all := lw_g (lw_at lw_m5 65 rfl) rfl
theorem q1079 : (Jvm.Cond.methodLink "HyperVane" (131 : Nat) ({ cls := "HyperVane", name := "requireSpeed", desc := "(I)V" } : Jvm.MethodName)) ∈ lw_all := lw_g (lw_at lw_m5 66 rfl) rfl
theorem q1080 : (Jvm.Cond.static ({ cls := "HyperVane", name := "requireSpeed", desc := "(I)V" } : Jvm.MethodName)) ∈ lw_all := lw_g (lw_at lw_m5 67 rfl) rfl
theorem q1081 : (Jvm.Cond.code ({ cls := "HyperVane", name := "requireSpeed", desc := "(I)V" } : Jvm.MethodName) prog_1_method_17_code (1 : Nat) (Option.none : Option Jvm.ClassFile.FieldType)) ∈ lw_all := lw_g (lw_at lw_m5 68 rfl) rfl
theorem q1086 : (Jvm.Cond.instanceMethod ({ cls := "HyperVane", name := "snap", desc := "(I)I" } : Jvm.MethodName)) ∈ lw_all := lw_g (lw_at lw_m5 73 rfl) rfl
theorem q1087 : (Jvm.Cond.selects "HyperVane" ({ cls := "HyperVane", name := "snap", desc := "(I)I" } : Jvm.MethodName) ({ cls := "HyperVane", name := "snap", desc := "(I)I" } : Jvm.MethodName)) ∈ lw_all := lw_g (lw_at lw_m5 74 rfl) rfl
theorem q1088 : (Jvm.Cond.code ({ cls := "HyperVane", name := "snap", desc := "(I)I" } : Jvm.MethodName) prog_1_method_19_code (4 : Nat) (Option.some Jvm.ClassFile.FieldType.int)) ∈ lw_all := lw_g (lw_at lw_m5 75 rfl) rfl
theorem q1089 : (Jvm.Cond.classLink "HyperVane" (142 : Nat) "HyperVane$Past") ∈ lw_all := lw_g (lw_at lw_m5 76 rfl) rfl
theorem q1090 : (Jvm.Cond.methodLink "HyperVane" (146 : Nat) ({ cls := "HyperVane$Mind", name := "copy", desc := "()LHyperVane$Mind;" } : Jvm.MethodName)) ∈ lw_all := lw_g (lw_at lw_m5 77 rfl) rfl
theorem q1091 : (Jvm.Cond.methodLink "HyperVane" (150 : Nat) ({ cls := "HyperVane$Past", name := "<init>", desc := "(LHyperVane$Mind;)V" } : Jvm.MethodName)) ∈ lw_all := lw_g (lw_at lw_m5 78 rfl) rfl
theorem q1096 : (Jvm.Cond.instanceMethod ({ cls := "HyperVane", name := "run", desc := "(I)I" } : Jvm.MethodName)) ∈ lw_all := lw_g (lw_at lw_m5 83 rfl) rfl
theorem q1097 : (Jvm.Cond.selects "HyperVane" ({ cls := "HyperVane", name := "run", desc := "(I)I" } : Jvm.MethodName) ({ cls := "HyperVane", name := "run", desc := "(I)I" } : Jvm.MethodName)) ∈ lw_all := lw_g (lw_at lw_m5 84 rfl) rfl
theorem q1098 : (Jvm.Cond.code ({ cls := "HyperVane", name := "run", desc := "(I)I" } : Jvm.MethodName) prog_1_method_21_code (2 : Nat) (Option.some Jvm.ClassFile.FieldType.int)) ∈ lw_all := lw_g (lw_at lw_m5 85 rfl) rfl
theorem q1099 : (Jvm.Cond.methodLink "HyperVane" (153 : Nat) ({ cls := "HyperVane", name := "requireTicks", desc := "(I)V" } : Jvm.MethodName)) ∈ lw_all := lw_g (lw_at lw_m5 86 rfl) rfl
theorem q1100 : (Jvm.Cond.static ({ cls := "HyperVane", name := "requireTicks", desc := "(I)V" } : Jvm.MethodName)) ∈ lw_all := lw_g (lw_at lw_m5 87 rfl) rfl
theorem q1101 : (Jvm.Cond.code ({ cls := "HyperVane", name := "requireTicks", desc := "(I)V" } : Jvm.MethodName) prog_1_method_20_code (1 : Nat) (Option.none : Option Jvm.ClassFile.FieldType)) ∈ lw_all := lw_g (lw_at lw_m5 88 rfl) rfl
theorem q1106 : (Jvm.Cond.instanceMethod ({ cls := "HyperVane", name := "ofGuest", desc := "(II)I" } : Jvm.MethodName)) ∈ lw_all := lw_g (lw_at lw_m5 93 rfl) rfl
theorem q1107 : (Jvm.Cond.selects "HyperVane" ({ cls := "HyperVane", name := "ofGuest", desc := "(II)I" } : Jvm.MethodName) ({ cls := "HyperVane", name := "ofGuest", desc := "(II)I" } : Jvm.MethodName)) ∈ lw_all := lw_g (lw_at lw_m5 94 rfl) rfl
theorem q1108 : (Jvm.Cond.code ({ cls := "HyperVane", name := "ofGuest", desc := "(II)I" } : Jvm.MethodName) prog_1_method_25_code (4 : Nat) (Option.some Jvm.ClassFile.FieldType.int)) ∈ lw_all := lw_g (lw_at lw_m5 95 rfl) rfl
theorem q1113 : (Jvm.Cond.instanceMethod ({ cls := "HyperVane", name := "exits", desc := "(II)I" } : Jvm.MethodName)) ∈ lw_all := lw_g (lw_at lw_m5 100 rfl) rfl
theorem q1114 : (Jvm.Cond.selects "HyperVane" ({ cls := "HyperVane", name := "exits", desc := "(II)I" } : Jvm.MethodName) ({ cls := "HyperVane", name := "exits", desc := "(II)I" } : Jvm.MethodName)) ∈ lw_all := lw_g (lw_at lw_m5 101 rfl) rfl
theorem q1115 : (Jvm.Cond.code ({ cls := "HyperVane", name := "exits", desc := "(II)I" } : Jvm.MethodName) prog_1_method_26_code (4 : Nat) (Option.some Jvm.ClassFile.FieldType.int)) ∈ lw_all := lw_g (lw_at lw_m5 102 rfl) rfl
theorem q1120 : (Jvm.Cond.instanceMethod ({ cls := "HyperVane", name := "ofPage", desc := "(III)I" } : Jvm.MethodName)) ∈ lw_all := lw_g (lw_at lw_m5 107 rfl) rfl
theorem q1121 : (Jvm.Cond.selects "HyperVane" ({ cls := "HyperVane", name := "ofPage", desc := "(III)I" } : Jvm.MethodName) ({ cls := "HyperVane", name := "ofPage", desc := "(III)I" } : Jvm.MethodName)) ∈ lw_all := lw_g (lw_at lw_m5 108 rfl) rfl
theorem q1122 : (Jvm.Cond.code ({ cls := "HyperVane", name := "ofPage", desc := "(III)I" } : Jvm.MethodName) prog_1_method_28_code (5 : Nat) (Option.some Jvm.ClassFile.FieldType.int)) ∈ lw_all := lw_g (lw_at lw_m5 109 rfl) rfl
theorem q1127 : (Jvm.Cond.instanceMethod ({ cls := "HyperVane", name := "ofFrame", desc := "(II)I" } : Jvm.MethodName)) ∈ lw_all := lw_g (lw_at lw_m5 114 rfl) rfl
theorem q1128 : (Jvm.Cond.selects "HyperVane" ({ cls := "HyperVane", name := "ofFrame", desc := "(II)I" } : Jvm.MethodName) ({ cls := "HyperVane", name := "ofFrame", desc := "(II)I" } : Jvm.MethodName)) ∈ lw_all := lw_g (lw_at lw_m5 115 rfl) rfl
theorem q1129 : (Jvm.Cond.code ({ cls := "HyperVane", name := "ofFrame", desc := "(II)I" } : Jvm.MethodName) prog_1_method_30_code (4 : Nat) (Option.some Jvm.ClassFile.FieldType.int)) ∈ lw_all := lw_g (lw_at lw_m5 116 rfl) rfl
theorem q1134 : (Jvm.Cond.instanceMethod ({ cls := "HyperVane", name := "logged", desc := "(II)I" } : Jvm.MethodName)) ∈ lw_all := lw_g (lw_at lw_m5 121 rfl) rfl
theorem q1135 : (Jvm.Cond.selects "HyperVane" ({ cls := "HyperVane", name := "logged", desc := "(II)I" } : Jvm.MethodName) ({ cls := "HyperVane", name := "logged", desc := "(II)I" } : Jvm.MethodName)) ∈ lw_all := lw_g (lw_at lw_m5 122 rfl) rfl
theorem q1136 : (Jvm.Cond.code ({ cls := "HyperVane", name := "logged", desc := "(II)I" } : Jvm.MethodName) prog_1_method_32_code (4 : Nat) (Option.some Jvm.ClassFile.FieldType.int)) ∈ lw_all := lw_g (lw_at lw_m5 123 rfl) rfl
theorem q1141 : (Jvm.Cond.instanceMethod ({ cls := "HyperVane", name := "many", desc := "(I)I" } : Jvm.MethodName)) ∈ lw_all := lw_g (lw_at lw_m5 128 rfl) rfl
theorem q1142 : (Jvm.Cond.selects "HyperVane" ({ cls := "HyperVane", name := "many", desc := "(I)I" } : Jvm.MethodName) ({ cls := "HyperVane", name := "many", desc := "(I)I" } : Jvm.MethodName)) ∈ lw_all := lw_g (lw_at lw_m5 129 rfl) rfl
theorem q1143 : (Jvm.Cond.code ({ cls := "HyperVane", name := "many", desc := "(I)I" } : Jvm.MethodName) prog_1_method_35_code (2 : Nat) (Option.some Jvm.ClassFile.FieldType.int)) ∈ lw_all := lw_g (lw_at lw_m5 130 rfl) rfl
theorem q1148 : (Jvm.Cond.instanceMethod ({ cls := "HyperVane", name := "meanDone", desc := "(I)D" } : Jvm.MethodName)) ∈ lw_all := lw_g (lw_at lw_m5 135 rfl) rfl
theorem q1149 : (Jvm.Cond.selects "HyperVane" ({ cls := "HyperVane", name := "meanDone", desc := "(I)D" } : Jvm.MethodName) ({ cls := "HyperVane", name := "meanDone", desc := "(I)D" } : Jvm.MethodName)) ∈ lw_all := lw_g (lw_at lw_m5 136 rfl) rfl
theorem q1150 : (Jvm.Cond.code ({ cls := "HyperVane", name := "meanDone", desc := "(I)D" } : Jvm.MethodName) prog_1_method_36_code (3 : Nat) (Option.some Jvm.ClassFile.FieldType.double)) ∈ lw_all := lw_g (lw_at lw_m5 137 rfl) rfl
theorem q1155 : (Jvm.Cond.instanceMethod ({ cls := "HyperVane", name := "replayed", desc := "(III)I" } : Jvm.MethodName)) ∈ lw_all := lw_g (lw_at lw_m5 142 rfl) rfl
theorem q1156 : (Jvm.Cond.selects "HyperVane" ({ cls := "HyperVane", name := "replayed", desc := "(III)I" } : Jvm.MethodName) ({ cls := "HyperVane", name := "replayed", desc := "(III)I" } : Jvm.MethodName)) ∈ lw_all := lw_g (lw_at lw_m5 143 rfl) rfl
theorem q1157 : (Jvm.Cond.code ({ cls := "HyperVane", name := "replayed", desc := "(III)I" } : Jvm.MethodName) prog_1_method_38_code (5 : Nat) (Option.some Jvm.ClassFile.FieldType.int)) ∈ lw_all := lw_g (lw_at lw_m5 144 rfl) rfl
theorem q1162 : (Jvm.Cond.instanceMethod ({ cls := "HyperVane", name := "doneIn", desc := "(II)I" } : Jvm.MethodName)) ∈ lw_all := lw_g (lw_at lw_m5 149 rfl) rfl
theorem q1163 : (Jvm.Cond.selects "HyperVane" ({ cls := "HyperVane", name := "doneIn", desc := "(II)I" } : Jvm.MethodName) ({ cls := "HyperVane", name := "doneIn", desc := "(II)I" } : Jvm.MethodName)) ∈ lw_all := lw_g (lw_at lw_m5 150 rfl) rfl
theorem q1164 : (Jvm.Cond.code ({ cls := "HyperVane", name := "doneIn", desc := "(II)I" } : Jvm.MethodName) prog_1_method_40_code (3 : Nat) (Option.some Jvm.ClassFile.FieldType.int)) ∈ lw_all := lw_g (lw_at lw_m5 151 rfl) rfl
theorem q1169 : (Jvm.Cond.instanceMethod ({ cls := "HyperVane", name := "awayIn", desc := "(II)I" } : Jvm.MethodName)) ∈ lw_all := lw_g (lw_at lw_m5 156 rfl) rfl
theorem q1170 : (Jvm.Cond.selects "HyperVane" ({ cls := "HyperVane", name := "awayIn", desc := "(II)I" } : Jvm.MethodName) ({ cls := "HyperVane", name := "awayIn", desc := "(II)I" } : Jvm.MethodName)) ∈ lw_all := lw_g (lw_at lw_m5 157 rfl) rfl
theorem q1171 : (Jvm.Cond.code ({ cls := "HyperVane", name := "awayIn", desc := "(II)I" } : Jvm.MethodName) prog_1_method_42_code (4 : Nat) (Option.some Jvm.ClassFile.FieldType.int)) ∈ lw_all := lw_g (lw_at lw_m5 158 rfl) rfl
theorem q1700 : (Jvm.Cond.castable "HyperVane" "java/lang/Object") ∈ lw_tbl := lw_at lw_m7 207 rfl
theorem in_X1 : ∀ w ∈ wsX10, w ∈ lw_all := lw_in wsX10 [290] (by decide +kernel) (by decide +kernel)

/-! HyperVane$Frame -/
set_option maxRecDepth 100000
def RX3 : String := "HyperVane$Frame"
def TX3 : u_T := fun k => match k with
  | 0 => ("HyperVane$Frame", "guest", "LHyperVane$Guest;", false)
  | 1 => ("HyperVane$Frame", "page", "I", false)
  | _ => ("HyperVane$Frame", "used", "I", false)
def tyX3 : Nat → FieldType := fun k => match k with
  | 0 => .object "HyperVane$Guest"
  | 1 => .int
  | _ => .int
abbrev wsX30 : List Cond := u_ws RX3 TX3 3
theorem nmX3 : ∀ a, a < 3 → ∀ b, b < 3 → a ≠ b → (TX3 a).2.1 ≠ (TX3 b).2.1 := by decide +kernel
theorem tyX3_ok : ∀ k, k < 3 → parseFieldDescriptor (TX3 k).2.2.1 = some (tyX3 k) := by decide +kernel
abbrev cX3_free : ByteArray := prog_2_method_3_code
def yX3_free : MethodName := ⟨RX3, "free", "()V"⟩
def dkwX3_free_0 : List UInt8 := [42, 1, 2, 2, 182, 0, 22, 177]
abbrev dktX3_free_0 : List UInt8 := dkwX3_free_0 ++ []
theorem dksX3_free_0 : cX3_free.data.toList.drop 0 = dktX3_free_0 := by decide +kernel
theorem dX3_free_0 : decode cX3_free 0 = .ok (.aload_n 0, 1) := dk_42 (dk_at dksX3_free_0 0 rfl rfl)
theorem dX3_free_1 : decode cX3_free 1 = .ok (.aconst_null, 1) := dk_1 (dk_at dksX3_free_0 1 rfl rfl)
theorem dX3_free_2 : decode cX3_free 2 = .ok (.iconst (-1), 1) := dk_2 (dk_at dksX3_free_0 2 rfl rfl)
theorem dX3_free_3 : decode cX3_free 3 = .ok (.iconst (-1), 1) := dk_2 (dk_at dksX3_free_0 3 rfl rfl)
theorem dX3_free_4 : decode cX3_free 4 = .ok (.invokevirtual 22, 3) := dk_182 0 22 (dk_at dksX3_free_0 4 rfl rfl)
theorem dX3_free_7 : decode cX3_free 7 = .ok (.return_, 1) := dk_177 (dk_at dksX3_free_0 7 rfl rfl)
abbrev cX3_set : ByteArray := prog_2_method_2_code
def yX3_set : MethodName := ⟨RX3, "set", "(LHyperVane$Guest;II)V"⟩
def dkwX3_set_0 : List UInt8 := [42, 43, 181, 0, 18, 42, 28, 181, 0, 9, 42, 29, 181, 0, 15, 177]
abbrev dktX3_set_0 : List UInt8 := dkwX3_set_0 ++ []
theorem dksX3_set_0 : cX3_set.data.toList.drop 0 = dktX3_set_0 := by decide +kernel
theorem dX3_set_0 : decode cX3_set 0 = .ok (.aload_n 0, 1) := dk_42 (dk_at dksX3_set_0 0 rfl rfl)
theorem dX3_set_1 : decode cX3_set 1 = .ok (.aload_n 1, 1) := dk_43 (dk_at dksX3_set_0 1 rfl rfl)
theorem dX3_set_2 : decode cX3_set 2 = .ok (.putfield 18, 3) := dk_181 0 18 (dk_at dksX3_set_0 2 rfl rfl)
theorem dX3_set_5 : decode cX3_set 5 = .ok (.aload_n 0, 1) := dk_42 (dk_at dksX3_set_0 5 rfl rfl)
theorem dX3_set_6 : decode cX3_set 6 = .ok (.iload_n 2, 1) := dk_28 (dk_at dksX3_set_0 6 rfl rfl)
theorem dX3_set_7 : decode cX3_set 7 = .ok (.putfield 9, 3) := dk_181 0 9 (dk_at dksX3_set_0 7 rfl rfl)
theorem dX3_set_10 : decode cX3_set 10 = .ok (.aload_n 0, 1) := dk_42 (dk_at dksX3_set_0 10 rfl rfl)
theorem dX3_set_11 : decode cX3_set 11 = .ok (.iload_n 3, 1) := dk_29 (dk_at dksX3_set_0 11 rfl rfl)
theorem dX3_set_12 : decode cX3_set 12 = .ok (.putfield 15, 3) := dk_181 0 15 (dk_at dksX3_set_0 12 rfl rfl)
theorem dX3_set_15 : decode cX3_set 15 = .ok (.return_, 1) := dk_177 (dk_at dksX3_set_0 15 rfl rfl)
abbrev cX3_init : ByteArray := prog_2_method_1_code
def yX3_init : MethodName := ⟨RX3, "<init>", "()V"⟩
def dkwX3_init_0 : List UInt8 := [42, 183, 0, 3, 42, 2, 181, 0, 9, 42, 2, 181, 0, 15, 177]
abbrev dktX3_init_0 : List UInt8 := dkwX3_init_0 ++ []
theorem dksX3_init_0 : cX3_init.data.toList.drop 0 = dktX3_init_0 := by decide +kernel
theorem dX3_init_0 : decode cX3_init 0 = .ok (.aload_n 0, 1) := dk_42 (dk_at dksX3_init_0 0 rfl rfl)
theorem dX3_init_1 : decode cX3_init 1 = .ok (.invokespecial 3, 3) := dk_183 0 3 (dk_at dksX3_init_0 1 rfl rfl)
theorem dX3_init_4 : decode cX3_init 4 = .ok (.aload_n 0, 1) := dk_42 (dk_at dksX3_init_0 4 rfl rfl)
theorem dX3_init_5 : decode cX3_init 5 = .ok (.iconst (-1), 1) := dk_2 (dk_at dksX3_init_0 5 rfl rfl)
theorem dX3_init_6 : decode cX3_init 6 = .ok (.putfield 9, 3) := dk_181 0 9 (dk_at dksX3_init_0 6 rfl rfl)
theorem dX3_init_9 : decode cX3_init 9 = .ok (.aload_n 0, 1) := dk_42 (dk_at dksX3_init_0 9 rfl rfl)
theorem dX3_init_10 : decode cX3_init 10 = .ok (.iconst (-1), 1) := dk_2 (dk_at dksX3_init_0 10 rfl rfl)
theorem dX3_init_11 : decode cX3_init 11 = .ok (.putfield 15, 3) := dk_181 0 15 (dk_at dksX3_init_0 11 rfl rfl)
theorem dX3_init_14 : decode cX3_init 14 = .ok (.return_, 1) := dk_177 (dk_at dksX3_init_0 14 rfl rfl)
theorem q62 : (Jvm.Cond.initialized "HyperVane$Frame") ∈ lw_all := lw_g (lw_at lw_m1 9 rfl) rfl
theorem q199 : (Jvm.Cond.instanceMethod ({ cls := "HyperVane$Frame", name := "free", desc := "()V" } : Jvm.MethodName)) ∈ lw_all := lw_g (lw_at lw_m1 146 rfl) rfl
theorem q200 : (Jvm.Cond.selects "HyperVane$Frame" ({ cls := "HyperVane$Frame", name := "free", desc := "()V" } : Jvm.MethodName) ({ cls := "HyperVane$Frame", name := "free", desc := "()V" } : Jvm.MethodName)) ∈ lw_all := lw_g (lw_at lw_m1 147 rfl) rfl
theorem q201 : (Jvm.Cond.code ({ cls := "HyperVane$Frame", name := "free", desc := "()V" } : Jvm.MethodName) prog_2_method_3_code (1 : Nat) (Option.none : Option Jvm.ClassFile.FieldType)) ∈ lw_all := lw_g (lw_at lw_m1 148 rfl) rfl
theorem q202 : (Jvm.Cond.methodLink "HyperVane$Frame" (22 : Nat) ({ cls := "HyperVane$Frame", name := "set", desc := "(LHyperVane$Guest;II)V" } : Jvm.MethodName)) ∈ lw_all := lw_g (lw_at lw_m1 149 rfl) rfl
theorem q203 : (Jvm.Cond.instanceMethod ({ cls := "HyperVane$Frame", name := "set", desc := "(LHyperVane$Guest;II)V" } : Jvm.MethodName)) ∈ lw_all := lw_g (lw_at lw_m1 150 rfl) rfl
theorem q204 : (Jvm.Cond.selects "HyperVane$Frame" ({ cls := "HyperVane$Frame", name := "set", desc := "(LHyperVane$Guest;II)V" } : Jvm.MethodName) ({ cls := "HyperVane$Frame", name := "set", desc := "(LHyperVane$Guest;II)V" } : Jvm.MethodName)) ∈ lw_all := lw_g (lw_at lw_m1 151 rfl) rfl
theorem q205 : (Jvm.Cond.code ({ cls := "HyperVane$Frame", name := "set", desc := "(LHyperVane$Guest;II)V" } : Jvm.MethodName) prog_2_method_2_code (4 : Nat) (Option.none : Option Jvm.ClassFile.FieldType)) ∈ lw_all := lw_g (lw_at lw_m1 152 rfl) rfl
theorem q206 : (Jvm.Cond.instantiable "HyperVane$Frame" (3 : Nat)) ∈ lw_all := lw_g (lw_at lw_m1 153 rfl) rfl
theorem q208 : (Jvm.Cond.instanceMethod ({ cls := "HyperVane$Frame", name := "<init>", desc := "()V" } : Jvm.MethodName)) ∈ lw_all := lw_g (lw_at lw_m1 155 rfl) rfl
theorem q209 : (Jvm.Cond.code ({ cls := "HyperVane$Frame", name := "<init>", desc := "()V" } : Jvm.MethodName) prog_2_method_1_code (1 : Nat) (Option.none : Option Jvm.ClassFile.FieldType)) ∈ lw_all := lw_g (lw_at lw_m1 156 rfl) rfl
theorem q210 : (Jvm.Cond.methodLink "HyperVane$Frame" (3 : Nat) ({ cls := "java/lang/Object", name := "<init>", desc := "()V" } : Jvm.MethodName)) ∈ lw_all := lw_g (lw_at lw_m1 157 rfl) rfl
theorem q211 : (Jvm.Cond.fieldLink "HyperVane$Frame" (18 : Nat) "HyperVane$Frame" "guest" "LHyperVane$Guest;") ∈ lw_all := lw_g (lw_at lw_m1 158 rfl) rfl
theorem q214 : (Jvm.Cond.fieldLink "HyperVane$Frame" (9 : Nat) "HyperVane$Frame" "page" "I") ∈ lw_all := lw_g (lw_at lw_m1 161 rfl) rfl
theorem q217 : (Jvm.Cond.fieldLink "HyperVane$Frame" (15 : Nat) "HyperVane$Frame" "used" "I") ∈ lw_all := lw_g (lw_at lw_m1 164 rfl) rfl
theorem q220 : (Jvm.Cond.lays "HyperVane$Frame" "HyperVane$Frame" "guest" "LHyperVane$Guest;") ∈ lw_all := lw_g (lw_at lw_m1 167 rfl) rfl
theorem q221 : (Jvm.Cond.soleField "HyperVane$Frame" "guest") ∈ lw_all := lw_g (lw_at lw_m1 168 rfl) rfl
theorem q222 : (Jvm.Cond.lays "HyperVane$Frame" "HyperVane$Frame" "page" "I") ∈ lw_all := lw_g (lw_at lw_m1 169 rfl) rfl
theorem q223 : (Jvm.Cond.soleField "HyperVane$Frame" "page") ∈ lw_all := lw_g (lw_at lw_m1 170 rfl) rfl
theorem q224 : (Jvm.Cond.lays "HyperVane$Frame" "HyperVane$Frame" "used" "I") ∈ lw_all := lw_g (lw_at lw_m1 171 rfl) rfl
theorem q225 : (Jvm.Cond.soleField "HyperVane$Frame" "used") ∈ lw_all := lw_g (lw_at lw_m1 172 rfl) rfl
theorem q226 : (Jvm.Cond.superclass "HyperVane$Frame" "java/lang/Object") ∈ lw_all := lw_g (lw_at lw_m1 173 rfl) rfl
theorem q260 : (Jvm.Cond.selects "HyperVane$Frame" ({ cls := "java/lang/Object", name := "getClass", desc := "()Ljava/lang/Class;" } : Jvm.MethodName) ({ cls := "java/lang/Object", name := "getClass", desc := "()Ljava/lang/Class;" } : Jvm.MethodName)) ∈ lw_all := lw_g (lw_at lw_m1 207 rfl) rfl
theorem q412 : (Jvm.Cond.selects "HyperVane$Frame" ({ cls := "java/lang/Object", name := "equals", desc := "(Ljava/lang/Object;)Z" } : Jvm.MethodName) ({ cls := "java/lang/Object", name := "equals", desc := "(Ljava/lang/Object;)Z" } : Jvm.MethodName)) ∈ lw_all := lw_g (lw_at lw_m2 119 rfl) rfl
theorem q1703 : (Jvm.Cond.castable "HyperVane$Frame" "java/lang/Object") ∈ lw_tbl := lw_at lw_m7 210 rfl
theorem in_X3 : ∀ w ∈ wsX30, w ∈ lw_all := lw_in wsX30 [220, 222, 224] (by decide +kernel) (by decide +kernel)

