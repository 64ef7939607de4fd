/-! HyperVane$Machine -/
set_option maxRecDepth 100000
def RX2 : String := "HyperVane$Machine"
def TX2 : u_T := fun k => match k with
  | 0 => ("HyperVane$Machine", "guests", "Ljava/util/ArrayList;", true)
  | 1 => ("HyperVane$Machine", "frames", "Ljava/util/ArrayList;", true)
  | 2 => ("HyperVane$Machine", "now", "I", false)
  | 3 => ("HyperVane$Machine", "latest", "LHyperVane$Guest;", false)
  | 4 => ("HyperVane$Machine", "inWork", "LHyperVane$Guest;", false)
  | 5 => ("HyperVane$Machine", "since", "I", false)
  | 6 => ("HyperVane$Machine", "lastServed", "I", false)
  | 7 => ("HyperVane$Machine", "idle", "I", false)
  | 8 => ("HyperVane$Machine", "toDisk", "I", false)
  | _ => ("HyperVane$Machine", "over", "I", false)
def tyX2 : Nat → FieldType := fun k => match k with
  | 0 => .object "java/util/ArrayList"
  | 1 => .object "java/util/ArrayList"
  | 2 => .int
  | 3 => .object "HyperVane$Guest"
  | 4 => .object "HyperVane$Guest"
  | 5 => .int
  | 6 => .int
  | 7 => .int
  | 8 => .int
  | _ => .int
abbrev wsX20 : List Cond := u_ws RX2 TX2 10
theorem nmX2 : ∀ a, a < 10 → ∀ b, b < 10 → a ≠ b → (TX2 a).2.1 ≠ (TX2 b).2.1 := by decide +kernel
theorem tyX2_ok : ∀ k, k < 10 → parseFieldDescriptor (TX2 k).2.2.1 = some (tyX2 k) := by decide +kernel
abbrev cX2_init : ByteArray := prog_4_method_1_code
def yX2_init : MethodName := ⟨RX2, "<init>", "()V"⟩
def dkwX2_init_1 : List UInt8 := [181, 0, 18, 42, 2, 181, 0, 21, 42, 2, 181, 0, 25, 177]
abbrev dktX2_init_1 : List UInt8 := dkwX2_init_1 ++ []
def dkwX2_init_0 : List UInt8 := [42, 183, 0, 3, 42, 187, 0, 9, 89, 183, 0, 11, 181, 0, 12, 42, 187, 0, 9, 89, 183, 0, 11]
abbrev dktX2_init_0 : List UInt8 := dkwX2_init_0 ++ dktX2_init_1
theorem dksX2_init_0 : cX2_init.data.toList.drop 0 = dktX2_init_0 := by decide +kernel
theorem dksX2_init_1 : cX2_init.data.toList.drop 23 = dktX2_init_1 := dk_seg dksX2_init_0 23 rfl rfl
theorem dX2_init_0 : decode cX2_init 0 = .ok (.aload_n 0, 1) := dk_42 (dk_at dksX2_init_0 0 rfl rfl)
theorem dX2_init_1 : decode cX2_init 1 = .ok (.invokespecial 3, 3) := dk_183 0 3 (dk_at dksX2_init_0 1 rfl rfl)
theorem dX2_init_4 : decode cX2_init 4 = .ok (.aload_n 0, 1) := dk_42 (dk_at dksX2_init_0 4 rfl rfl)
theorem dX2_init_5 : decode cX2_init 5 = .ok (.new 9, 3) := dk_187 0 9 (dk_at dksX2_init_0 5 rfl rfl)
theorem dX2_init_8 : decode cX2_init 8 = .ok (.dup, 1) := dk_89 (dk_at dksX2_init_0 8 rfl rfl)
theorem dX2_init_9 : decode cX2_init 9 = .ok (.invokespecial 11, 3) := dk_183 0 11 (dk_at dksX2_init_0 9 rfl rfl)
theorem dX2_init_12 : decode cX2_init 12 = .ok (.putfield 12, 3) := dk_181 0 12 (dk_at dksX2_init_0 12 rfl rfl)
theorem dX2_init_15 : decode cX2_init 15 = .ok (.aload_n 0, 1) := dk_42 (dk_at dksX2_init_0 15 rfl rfl)
theorem dX2_init_16 : decode cX2_init 16 = .ok (.new 9, 3) := dk_187 0 9 (dk_at dksX2_init_0 16 rfl rfl)
theorem dX2_init_19 : decode cX2_init 19 = .ok (.dup, 1) := dk_89 (dk_at dksX2_init_0 19 rfl rfl)
theorem dX2_init_20 : decode cX2_init 20 = .ok (.invokespecial 11, 3) := dk_183 0 11 (dk_at dksX2_init_0 20 rfl rfl)
theorem dX2_init_23 : decode cX2_init 23 = .ok (.putfield 18, 3) := dk_181 0 18 (dk_at dksX2_init_1 0 rfl rfl)
theorem dX2_init_26 : decode cX2_init 26 = .ok (.aload_n 0, 1) := dk_42 (dk_at dksX2_init_1 3 rfl rfl)
theorem dX2_init_27 : decode cX2_init 27 = .ok (.iconst (-1), 1) := dk_2 (dk_at dksX2_init_1 4 rfl rfl)
theorem dX2_init_28 : decode cX2_init 28 = .ok (.putfield 21, 3) := dk_181 0 21 (dk_at dksX2_init_1 5 rfl rfl)
theorem dX2_init_31 : decode cX2_init 31 = .ok (.aload_n 0, 1) := dk_42 (dk_at dksX2_init_1 8 rfl rfl)
theorem dX2_init_32 : decode cX2_init 32 = .ok (.iconst (-1), 1) := dk_2 (dk_at dksX2_init_1 9 rfl rfl)
theorem dX2_init_33 : decode cX2_init 33 = .ok (.putfield 25, 3) := dk_181 0 25 (dk_at dksX2_init_1 10 rfl rfl)
theorem dX2_init_36 : decode cX2_init 36 = .ok (.return_, 1) := dk_177 (dk_at dksX2_init_1 13 rfl rfl)
abbrev cX2_setFrames : ByteArray := prog_4_method_6_code
def yX2_setFrames : MethodName := ⟨RX2, "setFrames", "(I)I"⟩
def dkwX2_setFrames_3 : List UInt8 := [183, 0, 55, 182, 0, 49, 87, 167, 255, 230, 42, 180, 0, 89, 28, 100, 172]
abbrev dktX2_setFrames_3 : List UInt8 := dkwX2_setFrames_3 ++ []
def dkwX2_setFrames_2 : List UInt8 := [167, 255, 213, 42, 180, 0, 18, 182, 0, 105, 27, 162, 0, 21, 42, 180, 0, 18, 187, 0, 53, 89]
abbrev dktX2_setFrames_2 : List UInt8 := dkwX2_setFrames_2 ++ dktX2_setFrames_3
def dkwX2_setFrames_1 : List UInt8 := [182, 0, 105, 4, 100, 182, 0, 109, 192, 0, 53, 78, 45, 180, 0, 56, 198, 0, 8, 42, 45, 182, 0, 102]
abbrev dktX2_setFrames_1 : List UInt8 := dkwX2_setFrames_1 ++ dktX2_setFrames_2
def dkwX2_setFrames_0 : List UInt8 := [42, 180, 0, 89, 61, 42, 180, 0, 18, 182, 0, 105, 27, 164, 0, 38, 42, 180, 0, 18, 42, 180, 0, 18]
abbrev dktX2_setFrames_0 : List UInt8 := dkwX2_setFrames_0 ++ dktX2_setFrames_1
theorem dksX2_setFrames_0 : cX2_setFrames.data.toList.drop 0 = dktX2_setFrames_0 := by decide +kernel
theorem dksX2_setFrames_1 : cX2_setFrames.data.toList.drop 24 = dktX2_setFrames_1 := dk_seg dksX2_setFrames_0 24 rfl rfl
theorem dksX2_setFrames_2 : cX2_setFrames.data.toList.drop 48 = dktX2_setFrames_2 := dk_seg dksX2_setFrames_1 24 rfl rfl
theorem dksX2_setFrames_3 : cX2_setFrames.data.toList.drop 70 = dktX2_setFrames_3 := dk_seg dksX2_setFrames_2 22 rfl rfl
theorem dX2_setFrames_0 : decode cX2_setFrames 0 = .ok (.aload_n 0, 1) := dk_42 (dk_at dksX2_setFrames_0 0 rfl rfl)
theorem dX2_setFrames_1 : decode cX2_setFrames 1 = .ok (.getfield 89, 3) := dk_180 0 89 (dk_at dksX2_setFrames_0 1 rfl rfl)
theorem dX2_setFrames_4 : decode cX2_setFrames 4 = .ok (.istore_n 2, 1) := dk_61 (dk_at dksX2_setFrames_0 4 rfl rfl)
theorem dX2_setFrames_5 : decode cX2_setFrames 5 = .ok (.aload_n 0, 1) := dk_42 (dk_at dksX2_setFrames_0 5 rfl rfl)
theorem dX2_setFrames_6 : decode cX2_setFrames 6 = .ok (.getfield 18, 3) := dk_180 0 18 (dk_at dksX2_setFrames_0 6 rfl rfl)
theorem dX2_setFrames_9 : decode cX2_setFrames 9 = .ok (.invokevirtual 105, 3) := dk_182 0 105 (dk_at dksX2_setFrames_0 9 rfl rfl)
theorem dX2_setFrames_12 : decode cX2_setFrames 12 = .ok (.iload_n 1, 1) := dk_27 (dk_at dksX2_setFrames_0 12 rfl rfl)
theorem dX2_setFrames_13 : decode cX2_setFrames 13 = .ok (.if_icmp .le 38, 3) := dk_164 0 38 (dk_at dksX2_setFrames_0 13 rfl rfl)
theorem dX2_setFrames_16 : decode cX2_setFrames 16 = .ok (.aload_n 0, 1) := dk_42 (dk_at dksX2_setFrames_0 16 rfl rfl)
theorem dX2_setFrames_17 : decode cX2_setFrames 17 = .ok (.getfield 18, 3) := dk_180 0 18 (dk_at dksX2_setFrames_0 17 rfl rfl)
theorem dX2_setFrames_20 : decode cX2_setFrames 20 = .ok (.aload_n 0, 1) := dk_42 (dk_at dksX2_setFrames_0 20 rfl rfl)
theorem dX2_setFrames_21 : decode cX2_setFrames 21 = .ok (.getfield 18, 3) := dk_180 0 18 (dk_at dksX2_setFrames_0 21 rfl rfl)
theorem dX2_setFrames_24 : decode cX2_setFrames 24 = .ok (.invokevirtual 105, 3) := dk_182 0 105 (dk_at dksX2_setFrames_1 0 rfl rfl)
theorem dX2_setFrames_27 : decode cX2_setFrames 27 = .ok (.iconst 1, 1) := dk_4 (dk_at dksX2_setFrames_1 3 rfl rfl)
theorem dX2_setFrames_28 : decode cX2_setFrames 28 = .ok (.isub, 1) := dk_100 (dk_at dksX2_setFrames_1 4 rfl rfl)
theorem dX2_setFrames_29 : decode cX2_setFrames 29 = .ok (.invokevirtual 109, 3) := dk_182 0 109 (dk_at dksX2_setFrames_1 5 rfl rfl)
theorem dX2_setFrames_32 : decode cX2_setFrames 32 = .ok (.checkcast 53, 3) := dk_192 0 53 (dk_at dksX2_setFrames_1 8 rfl rfl)
theorem dX2_setFrames_35 : decode cX2_setFrames 35 = .ok (.astore_n 3, 1) := dk_78 (dk_at dksX2_setFrames_1 11 rfl rfl)
theorem dX2_setFrames_36 : decode cX2_setFrames 36 = .ok (.aload_n 3, 1) := dk_45 (dk_at dksX2_setFrames_1 12 rfl rfl)
theorem dX2_setFrames_37 : decode cX2_setFrames 37 = .ok (.getfield 56, 3) := dk_180 0 56 (dk_at dksX2_setFrames_1 13 rfl rfl)
theorem dX2_setFrames_40 : decode cX2_setFrames 40 = .ok (.ifnull 8, 3) := dk_198 0 8 (dk_at dksX2_setFrames_1 16 rfl rfl)
theorem dX2_setFrames_43 : decode cX2_setFrames 43 = .ok (.aload_n 0, 1) := dk_42 (dk_at dksX2_setFrames_1 19 rfl rfl)
theorem dX2_setFrames_44 : decode cX2_setFrames 44 = .ok (.aload_n 3, 1) := dk_45 (dk_at dksX2_setFrames_1 20 rfl rfl)
theorem dX2_setFrames_45 : decode cX2_setFrames 45 = .ok (.invokevirtual 102, 3) := dk_182 0 102 (dk_at dksX2_setFrames_1 21 rfl rfl)
theorem dX2_setFrames_48 : decode cX2_setFrames 48 = .ok (.goto (-43), 3) := dk_167 255 213 (dk_at dksX2_setFrames_2 0 rfl rfl)
theorem dX2_setFrames_51 : decode cX2_setFrames 51 = .ok (.aload_n 0, 1) := dk_42 (dk_at dksX2_setFrames_2 3 rfl rfl)
theorem dX2_setFrames_52 : decode cX2_setFrames 52 = .ok (.getfield 18, 3) := dk_180 0 18 (dk_at dksX2_setFrames_2 4 rfl rfl)
theorem dX2_setFrames_55 : decode cX2_setFrames 55 = .ok (.invokevirtual 105, 3) := dk_182 0 105 (dk_at dksX2_setFrames_2 7 rfl rfl)
theorem dX2_setFrames_58 : decode cX2_setFrames 58 = .ok (.iload_n 1, 1) := dk_27 (dk_at dksX2_setFrames_2 10 rfl rfl)
theorem dX2_setFrames_59 : decode cX2_setFrames 59 = .ok (.if_icmp .ge 21, 3) := dk_162 0 21 (dk_at dksX2_setFrames_2 11 rfl rfl)
theorem dX2_setFrames_62 : decode cX2_setFrames 62 = .ok (.aload_n 0, 1) := dk_42 (dk_at dksX2_setFrames_2 14 rfl rfl)
theorem dX2_setFrames_63 : decode cX2_setFrames 63 = .ok (.getfield 18, 3) := dk_180 0 18 (dk_at dksX2_setFrames_2 15 rfl rfl)
theorem dX2_setFrames_66 : decode cX2_setFrames 66 = .ok (.new 53, 3) := dk_187 0 53 (dk_at dksX2_setFrames_2 18 rfl rfl)
theorem dX2_setFrames_69 : decode cX2_setFrames 69 = .ok (.dup, 1) := dk_89 (dk_at dksX2_setFrames_2 21 rfl rfl)
theorem dX2_setFrames_70 : decode cX2_setFrames 70 = .ok (.invokespecial 55, 3) := dk_183 0 55 (dk_at dksX2_setFrames_3 0 rfl rfl)
theorem dX2_setFrames_73 : decode cX2_setFrames 73 = .ok (.invokevirtual 49, 3) := dk_182 0 49 (dk_at dksX2_setFrames_3 3 rfl rfl)
theorem dX2_setFrames_76 : decode cX2_setFrames 76 = .ok (.pop, 1) := dk_87 (dk_at dksX2_setFrames_3 6 rfl rfl)
theorem dX2_setFrames_77 : decode cX2_setFrames 77 = .ok (.goto (-26), 3) := dk_167 255 230 (dk_at dksX2_setFrames_3 7 rfl rfl)
theorem dX2_setFrames_80 : decode cX2_setFrames 80 = .ok (.aload_n 0, 1) := dk_42 (dk_at dksX2_setFrames_3 10 rfl rfl)
theorem dX2_setFrames_81 : decode cX2_setFrames 81 = .ok (.getfield 89, 3) := dk_180 0 89 (dk_at dksX2_setFrames_3 11 rfl rfl)
theorem dX2_setFrames_84 : decode cX2_setFrames 84 = .ok (.iload_n 2, 1) := dk_28 (dk_at dksX2_setFrames_3 14 rfl rfl)
theorem dX2_setFrames_85 : decode cX2_setFrames 85 = .ok (.isub, 1) := dk_100 (dk_at dksX2_setFrames_3 15 rfl rfl)
theorem dX2_setFrames_86 : decode cX2_setFrames 86 = .ok (.ireturn, 1) := dk_172 (dk_at dksX2_setFrames_3 16 rfl rfl)
abbrev cX2_toDisk : ByteArray := prog_4_method_4_code
def yX2_toDisk : MethodName := ⟨RX2, "toDisk", "(LHyperVane$Frame;)V"⟩
def dkwX2_toDisk_1 : List UInt8 := [181, 0, 89, 177]
abbrev dktX2_toDisk_1 : List UInt8 := dkwX2_toDisk_1 ++ []
def dkwX2_toDisk_0 : List UInt8 := [43, 180, 0, 56, 180, 0, 95, 43, 180, 0, 67, 4, 84, 43, 182, 0, 99, 42, 89, 180, 0, 89, 4, 96]
abbrev dktX2_toDisk_0 : List UInt8 := dkwX2_toDisk_0 ++ dktX2_toDisk_1
theorem dksX2_toDisk_0 : cX2_toDisk.data.toList.drop 0 = dktX2_toDisk_0 := by decide +kernel
theorem dksX2_toDisk_1 : cX2_toDisk.data.toList.drop 24 = dktX2_toDisk_1 := dk_seg dksX2_toDisk_0 24 rfl rfl
theorem dX2_toDisk_0 : decode cX2_toDisk 0 = .ok (.aload_n 1, 1) := dk_43 (dk_at dksX2_toDisk_0 0 rfl rfl)
theorem dX2_toDisk_1 : decode cX2_toDisk 1 = .ok (.getfield 56, 3) := dk_180 0 56 (dk_at dksX2_toDisk_0 1 rfl rfl)
theorem dX2_toDisk_4 : decode cX2_toDisk 4 = .ok (.getfield 95, 3) := dk_180 0 95 (dk_at dksX2_toDisk_0 4 rfl rfl)
theorem dX2_toDisk_7 : decode cX2_toDisk 7 = .ok (.aload_n 1, 1) := dk_43 (dk_at dksX2_toDisk_0 7 rfl rfl)
theorem dX2_toDisk_8 : decode cX2_toDisk 8 = .ok (.getfield 67, 3) := dk_180 0 67 (dk_at dksX2_toDisk_0 8 rfl rfl)
theorem dX2_toDisk_11 : decode cX2_toDisk 11 = .ok (.iconst 1, 1) := dk_4 (dk_at dksX2_toDisk_0 11 rfl rfl)
theorem dX2_toDisk_12 : decode cX2_toDisk 12 = .ok (.bastore, 1) := dk_84 (dk_at dksX2_toDisk_0 12 rfl rfl)
theorem dX2_toDisk_13 : decode cX2_toDisk 13 = .ok (.aload_n 1, 1) := dk_43 (dk_at dksX2_toDisk_0 13 rfl rfl)
theorem dX2_toDisk_14 : decode cX2_toDisk 14 = .ok (.invokevirtual 99, 3) := dk_182 0 99 (dk_at dksX2_toDisk_0 14 rfl rfl)
theorem dX2_toDisk_17 : decode cX2_toDisk 17 = .ok (.aload_n 0, 1) := dk_42 (dk_at dksX2_toDisk_0 17 rfl rfl)
theorem dX2_toDisk_18 : decode cX2_toDisk 18 = .ok (.dup, 1) := dk_89 (dk_at dksX2_toDisk_0 18 rfl rfl)
theorem dX2_toDisk_19 : decode cX2_toDisk 19 = .ok (.getfield 89, 3) := dk_180 0 89 (dk_at dksX2_toDisk_0 19 rfl rfl)
theorem dX2_toDisk_22 : decode cX2_toDisk 22 = .ok (.iconst 1, 1) := dk_4 (dk_at dksX2_toDisk_0 22 rfl rfl)
theorem dX2_toDisk_23 : decode cX2_toDisk 23 = .ok (.iadd, 1) := dk_96 (dk_at dksX2_toDisk_0 23 rfl rfl)
theorem dX2_toDisk_24 : decode cX2_toDisk 24 = .ok (.putfield 89, 3) := dk_181 0 89 (dk_at dksX2_toDisk_1 0 rfl rfl)
theorem dX2_toDisk_27 : decode cX2_toDisk 27 = .ok (.return_, 1) := dk_177 (dk_at dksX2_toDisk_1 3 rfl rfl)
abbrev cX2_frameOf : ByteArray := prog_4_method_3_code
def yX2_frameOf : MethodName := ⟨RX2, "frameOf", "(LHyperVane$Guest;I)LHyperVane$Frame;"⟩
def dkwX2_frameOf_2 : List UInt8 := [25, 4, 176, 167, 255, 215, 1, 176]
abbrev dktX2_frameOf_2 : List UInt8 := dkwX2_frameOf_2 ++ []
def dkwX2_frameOf_1 : List UInt8 := [192, 0, 53, 58, 4, 25, 4, 180, 0, 56, 43, 166, 0, 15, 25, 4, 180, 0, 67, 28, 160, 0, 6]
abbrev dktX2_frameOf_1 : List UInt8 := dkwX2_frameOf_1 ++ dktX2_frameOf_2
def dkwX2_frameOf_0 : List UInt8 := [42, 180, 0, 18, 182, 0, 29, 78, 45, 185, 0, 33, 1, 0, 153, 0, 38, 45, 185, 0, 39, 1, 0]
abbrev dktX2_frameOf_0 : List UInt8 := dkwX2_frameOf_0 ++ dktX2_frameOf_1
theorem dksX2_frameOf_0 : cX2_frameOf.data.toList.drop 0 = dktX2_frameOf_0 := by decide +kernel
theorem dksX2_frameOf_1 : cX2_frameOf.data.toList.drop 23 = dktX2_frameOf_1 := dk_seg dksX2_frameOf_0 23 rfl rfl
theorem dksX2_frameOf_2 : cX2_frameOf.data.toList.drop 46 = dktX2_frameOf_2 := dk_seg dksX2_frameOf_1 23 rfl rfl
theorem dX2_frameOf_0 : decode cX2_frameOf 0 = .ok (.aload_n 0, 1) := dk_42 (dk_at dksX2_frameOf_0 0 rfl rfl)
theorem dX2_frameOf_1 : decode cX2_frameOf 1 = .ok (.getfield 18, 3) := dk_180 0 18 (dk_at dksX2_frameOf_0 1 rfl rfl)
theorem dX2_frameOf_4 : decode cX2_frameOf 4 = .ok (.invokevirtual 29, 3) := dk_182 0 29 (dk_at dksX2_frameOf_0 4 rfl rfl)
theorem dX2_frameOf_7 : decode cX2_frameOf 7 = .ok (.astore_n 3, 1) := dk_78 (dk_at dksX2_frameOf_0 7 rfl rfl)
theorem dX2_frameOf_8 : decode cX2_frameOf 8 = .ok (.aload_n 3, 1) := dk_45 (dk_at dksX2_frameOf_0 8 rfl rfl)
theorem dX2_frameOf_9 : decode cX2_frameOf 9 = .ok (.invokeinterface 33 1, 5) := by decide +kernel
theorem dX2_frameOf_14 : decode cX2_frameOf 14 = .ok (.ifCond .eq 38, 3) := dk_153 0 38 (dk_at dksX2_frameOf_0 14 rfl rfl)
theorem dX2_frameOf_17 : decode cX2_frameOf 17 = .ok (.aload_n 3, 1) := dk_45 (dk_at dksX2_frameOf_0 17 rfl rfl)
theorem dX2_frameOf_18 : decode cX2_frameOf 18 = .ok (.invokeinterface 39 1, 5) := by decide +kernel
theorem dX2_frameOf_23 : decode cX2_frameOf 23 = .ok (.checkcast 53, 3) := dk_192 0 53 (dk_at dksX2_frameOf_1 0 rfl rfl)
theorem dX2_frameOf_26 : decode cX2_frameOf 26 = .ok (.astore 4, 2) := dk_58 4 (dk_at dksX2_frameOf_1 3 rfl rfl)
theorem dX2_frameOf_28 : decode cX2_frameOf 28 = .ok (.aload 4, 2) := dk_25 4 (dk_at dksX2_frameOf_1 5 rfl rfl)
theorem dX2_frameOf_30 : decode cX2_frameOf 30 = .ok (.getfield 56, 3) := dk_180 0 56 (dk_at dksX2_frameOf_1 7 rfl rfl)
theorem dX2_frameOf_33 : decode cX2_frameOf 33 = .ok (.aload_n 1, 1) := dk_43 (dk_at dksX2_frameOf_1 10 rfl rfl)
theorem dX2_frameOf_34 : decode cX2_frameOf 34 = .ok (.if_acmp .ne 15, 3) := dk_166 0 15 (dk_at dksX2_frameOf_1 11 rfl rfl)
theorem dX2_frameOf_37 : decode cX2_frameOf 37 = .ok (.aload 4, 2) := dk_25 4 (dk_at dksX2_frameOf_1 14 rfl rfl)
theorem dX2_frameOf_39 : decode cX2_frameOf 39 = .ok (.getfield 67, 3) := dk_180 0 67 (dk_at dksX2_frameOf_1 16 rfl rfl)
theorem dX2_frameOf_42 : decode cX2_frameOf 42 = .ok (.iload_n 2, 1) := dk_28 (dk_at dksX2_frameOf_1 19 rfl rfl)
theorem dX2_frameOf_43 : decode cX2_frameOf 43 = .ok (.if_icmp .ne 6, 3) := dk_160 0 6 (dk_at dksX2_frameOf_1 20 rfl rfl)
theorem dX2_frameOf_46 : decode cX2_frameOf 46 = .ok (.aload 4, 2) := dk_25 4 (dk_at dksX2_frameOf_2 0 rfl rfl)
theorem dX2_frameOf_48 : decode cX2_frameOf 48 = .ok (.areturn, 1) := dk_176 (dk_at dksX2_frameOf_2 2 rfl rfl)
theorem dX2_frameOf_49 : decode cX2_frameOf 49 = .ok (.goto (-41), 3) := dk_167 255 215 (dk_at dksX2_frameOf_2 3 rfl rfl)
theorem dX2_frameOf_52 : decode cX2_frameOf 52 = .ok (.aconst_null, 1) := dk_1 (dk_at dksX2_frameOf_2 6 rfl rfl)
theorem dX2_frameOf_53 : decode cX2_frameOf 53 = .ok (.areturn, 1) := dk_176 (dk_at dksX2_frameOf_2 7 rfl rfl)
abbrev cX2_copy : ByteArray := prog_4_method_2_code
def yX2_copy : MethodName := ⟨RX2, "copy", "()LHyperVane$Machine;"⟩
def dkwX2_copy_10 : List UInt8 := [43, 42, 180, 0, 89, 181, 0, 89, 43, 42, 180, 0, 92, 181, 0, 92, 43, 176]
abbrev dktX2_copy_10 : List UInt8 := dkwX2_copy_10 ++ []
def dkwX2_copy_9 : List UInt8 := [43, 42, 180, 0, 21, 181, 0, 21, 43, 42, 180, 0, 25, 181, 0, 25, 43, 42, 180, 0, 86, 181, 0, 86]
abbrev dktX2_copy_9 : List UInt8 := dkwX2_copy_9 ++ dktX2_copy_10
def dkwX2_copy_8 : List UInt8 := [1, 167, 0, 20, 43, 180, 0, 12, 42, 180, 0, 83, 180, 0, 60, 182, 0, 63, 192, 0, 43, 181, 0, 83]
abbrev dktX2_copy_8 : List UInt8 := dkwX2_copy_8 ++ dktX2_copy_9
def dkwX2_copy_7 : List UInt8 := [42, 180, 0, 80, 180, 0, 60, 182, 0, 63, 192, 0, 43, 181, 0, 80, 43, 42, 180, 0, 83, 199, 0, 7]
abbrev dktX2_copy_7 : List UInt8 := dkwX2_copy_7 ++ dktX2_copy_8
def dkwX2_copy_6 : List UInt8 := [43, 42, 180, 0, 77, 181, 0, 77, 43, 42, 180, 0, 80, 199, 0, 7, 1, 167, 0, 20, 43, 180, 0, 12]
abbrev dktX2_copy_6 : List UInt8 := dkwX2_copy_6 ++ dktX2_copy_7
def dkwX2_copy_5 : List UInt8 := [45, 180, 0, 67, 45, 180, 0, 70, 182, 0, 73, 43, 180, 0, 18, 25, 4, 182, 0, 49, 87, 167, 255, 177]
abbrev dktX2_copy_5 : List UInt8 := dkwX2_copy_5 ++ dktX2_copy_6
def dkwX2_copy_4 : List UInt8 := [199, 0, 7, 1, 167, 0, 20, 43, 180, 0, 12, 45, 180, 0, 56, 180, 0, 60, 182, 0, 63, 192, 0, 43]
abbrev dktX2_copy_4 : List UInt8 := dkwX2_copy_4 ++ dktX2_copy_5
def dkwX2_copy_3 : List UInt8 := [185, 0, 39, 1, 0, 192, 0, 53, 78, 187, 0, 53, 89, 183, 0, 55, 58, 4, 25, 4, 45, 180, 0, 56]
abbrev dktX2_copy_3 : List UInt8 := dkwX2_copy_3 ++ dktX2_copy_4
def dkwX2_copy_2 : List UInt8 := [87, 167, 255, 225, 42, 180, 0, 18, 182, 0, 29, 77, 44, 185, 0, 33, 1, 0, 153, 0, 76, 44]
abbrev dktX2_copy_2 : List UInt8 := dkwX2_copy_2 ++ dktX2_copy_3
def dkwX2_copy_1 : List UInt8 := [153, 0, 28, 44, 185, 0, 39, 1, 0, 192, 0, 43, 78, 43, 180, 0, 12, 45, 182, 0, 45, 182, 0, 49]
abbrev dktX2_copy_1 : List UInt8 := dkwX2_copy_1 ++ dktX2_copy_2
def dkwX2_copy_0 : List UInt8 := [187, 0, 13, 89, 183, 0, 28, 76, 42, 180, 0, 12, 182, 0, 29, 77, 44, 185, 0, 33, 1, 0]
abbrev dktX2_copy_0 : List UInt8 := dkwX2_copy_0 ++ dktX2_copy_1
theorem dksX2_copy_0 : cX2_copy.data.toList.drop 0 = dktX2_copy_0 := by decide +kernel
theorem dksX2_copy_1 : cX2_copy.data.toList.drop 22 = dktX2_copy_1 := dk_seg dksX2_copy_0 22 rfl rfl
theorem dksX2_copy_2 : cX2_copy.data.toList.drop 46 = dktX2_copy_2 := dk_seg dksX2_copy_1 24 rfl rfl
theorem dksX2_copy_3 : cX2_copy.data.toList.drop 68 = dktX2_copy_3 := dk_seg dksX2_copy_2 22 rfl rfl
theorem dksX2_copy_4 : cX2_copy.data.toList.drop 92 = dktX2_copy_4 := dk_seg dksX2_copy_3 24 rfl rfl
theorem dksX2_copy_5 : cX2_copy.data.toList.drop 116 = dktX2_copy_5 := dk_seg dksX2_copy_4 24 rfl rfl
theorem dksX2_copy_6 : cX2_copy.data.toList.drop 140 = dktX2_copy_6 := dk_seg dksX2_copy_5 24 rfl rfl
theorem dksX2_copy_7 : cX2_copy.data.toList.drop 164 = dktX2_copy_7 := dk_seg dksX2_copy_6 24 rfl rfl
theorem dksX2_copy_8 : cX2_copy.data.toList.drop 188 = dktX2_copy_8 := dk_seg dksX2_copy_7 24 rfl rfl
theorem dksX2_copy_9 : cX2_copy.data.toList.drop 212 = dktX2_copy_9 := dk_seg dksX2_copy_8 24 rfl rfl
theorem dksX2_copy_10 : cX2_copy.data.toList.drop 236 = dktX2_copy_10 := dk_seg dksX2_copy_9 24 rfl rfl
theorem dX2_copy_0 : decode cX2_copy 0 = .ok (.new 13, 3) := dk_187 0 13 (dk_at dksX2_copy_0 0 rfl rfl)
theorem dX2_copy_3 : decode cX2_copy 3 = .ok (.dup, 1) := dk_89 (dk_at dksX2_copy_0 3 rfl rfl)
theorem dX2_copy_4 : decode cX2_copy 4 = .ok (.invokespecial 28, 3) := dk_183 0 28 (dk_at dksX2_copy_0 4 rfl rfl)
theorem dX2_copy_7 : decode cX2_copy 7 = .ok (.astore_n 1, 1) := dk_76 (dk_at dksX2_copy_0 7 rfl rfl)
theorem dX2_copy_8 : decode cX2_copy 8 = .ok (.aload_n 0, 1) := dk_42 (dk_at dksX2_copy_0 8 rfl rfl)
theorem dX2_copy_9 : decode cX2_copy 9 = .ok (.getfield 12, 3) := dk_180 0 12 (dk_at dksX2_copy_0 9 rfl rfl)
theorem dX2_copy_12 : decode cX2_copy 12 = .ok (.invokevirtual 29, 3) := dk_182 0 29 (dk_at dksX2_copy_0 12 rfl rfl)
theorem dX2_copy_15 : decode cX2_copy 15 = .ok (.astore_n 2, 1) := dk_77 (dk_at dksX2_copy_0 15 rfl rfl)
theorem dX2_copy_16 : decode cX2_copy 16 = .ok (.aload_n 2, 1) := dk_44 (dk_at dksX2_copy_0 16 rfl rfl)
theorem dX2_copy_17 : decode cX2_copy 17 = .ok (.invokeinterface 33 1, 5) := by decide +kernel
theorem dX2_copy_22 : decode cX2_copy 22 = .ok (.ifCond .eq 28, 3) := dk_153 0 28 (dk_at dksX2_copy_1 0 rfl rfl)
theorem dX2_copy_25 : decode cX2_copy 25 = .ok (.aload_n 2, 1) := dk_44 (dk_at dksX2_copy_1 3 rfl rfl)
theorem dX2_copy_26 : decode cX2_copy 26 = .ok (.invokeinterface 39 1, 5) := by decide +kernel
theorem dX2_copy_31 : decode cX2_copy 31 = .ok (.checkcast 43, 3) := dk_192 0 43 (dk_at dksX2_copy_1 9 rfl rfl)
theorem dX2_copy_34 : decode cX2_copy 34 = .ok (.astore_n 3, 1) := dk_78 (dk_at dksX2_copy_1 12 rfl rfl)
theorem dX2_copy_35 : decode cX2_copy 35 = .ok (.aload_n 1, 1) := dk_43 (dk_at dksX2_copy_1 13 rfl rfl)
theorem dX2_copy_36 : decode cX2_copy 36 = .ok (.getfield 12, 3) := dk_180 0 12 (dk_at dksX2_copy_1 14 rfl rfl)
theorem dX2_copy_39 : decode cX2_copy 39 = .ok (.aload_n 3, 1) := dk_45 (dk_at dksX2_copy_1 17 rfl rfl)
theorem dX2_copy_40 : decode cX2_copy 40 = .ok (.invokevirtual 45, 3) := dk_182 0 45 (dk_at dksX2_copy_1 18 rfl rfl)
theorem dX2_copy_43 : decode cX2_copy 43 = .ok (.invokevirtual 49, 3) := dk_182 0 49 (dk_at dksX2_copy_1 21 rfl rfl)
theorem dX2_copy_46 : decode cX2_copy 46 = .ok (.pop, 1) := dk_87 (dk_at dksX2_copy_2 0 rfl rfl)
theorem dX2_copy_47 : decode cX2_copy 47 = .ok (.goto (-31), 3) := dk_167 255 225 (dk_at dksX2_copy_2 1 rfl rfl)
theorem dX2_copy_50 : decode cX2_copy 50 = .ok (.aload_n 0, 1) := dk_42 (dk_at dksX2_copy_2 4 rfl rfl)
theorem dX2_copy_51 : decode cX2_copy 51 = .ok (.getfield 18, 3) := dk_180 0 18 (dk_at dksX2_copy_2 5 rfl rfl)
theorem dX2_copy_54 : decode cX2_copy 54 = .ok (.invokevirtual 29, 3) := dk_182 0 29 (dk_at dksX2_copy_2 8 rfl rfl)
theorem dX2_copy_57 : decode cX2_copy 57 = .ok (.astore_n 2, 1) := dk_77 (dk_at dksX2_copy_2 11 rfl rfl)
theorem dX2_copy_58 : decode cX2_copy 58 = .ok (.aload_n 2, 1) := dk_44 (dk_at dksX2_copy_2 12 rfl rfl)
theorem dX2_copy_59 : decode cX2_copy 59 = .ok (.invokeinterface 33 1, 5) := by decide +kernel
theorem dX2_copy_64 : decode cX2_copy 64 = .ok (.ifCond .eq 76, 3) := dk_153 0 76 (dk_at dksX2_copy_2 18 rfl rfl)
theorem dX2_copy_67 : decode cX2_copy 67 = .ok (.aload_n 2, 1) := dk_44 (dk_at dksX2_copy_2 21 rfl rfl)
theorem dX2_copy_68 : decode cX2_copy 68 = .ok (.invokeinterface 39 1, 5) := by decide +kernel
theorem dX2_copy_73 : decode cX2_copy 73 = .ok (.checkcast 53, 3) := dk_192 0 53 (dk_at dksX2_copy_3 5 rfl rfl)
theorem dX2_copy_76 : decode cX2_copy 76 = .ok (.astore_n 3, 1) := dk_78 (dk_at dksX2_copy_3 8 rfl rfl)
theorem dX2_copy_77 : decode cX2_copy 77 = .ok (.new 53, 3) := dk_187 0 53 (dk_at dksX2_copy_3 9 rfl rfl)
theorem dX2_copy_80 : decode cX2_copy 80 = .ok (.dup, 1) := dk_89 (dk_at dksX2_copy_3 12 rfl rfl)
theorem dX2_copy_81 : decode cX2_copy 81 = .ok (.invokespecial 55, 3) := dk_183 0 55 (dk_at dksX2_copy_3 13 rfl rfl)
theorem dX2_copy_84 : decode cX2_copy 84 = .ok (.astore 4, 2) := dk_58 4 (dk_at dksX2_copy_3 16 rfl rfl)
theorem dX2_copy_86 : decode cX2_copy 86 = .ok (.aload 4, 2) := dk_25 4 (dk_at dksX2_copy_3 18 rfl rfl)
theorem dX2_copy_88 : decode cX2_copy 88 = .ok (.aload_n 3, 1) := dk_45 (dk_at dksX2_copy_3 20 rfl rfl)
theorem dX2_copy_89 : decode cX2_copy 89 = .ok (.getfield 56, 3) := dk_180 0 56 (dk_at dksX2_copy_3 21 rfl rfl)
theorem dX2_copy_92 : decode cX2_copy 92 = .ok (.ifnonnull 7, 3) := dk_199 0 7 (dk_at dksX2_copy_4 0 rfl rfl)
theorem dX2_copy_95 : decode cX2_copy 95 = .ok (.aconst_null, 1) := dk_1 (dk_at dksX2_copy_4 3 rfl rfl)
theorem dX2_copy_96 : decode cX2_copy 96 = .ok (.goto 20, 3) := dk_167 0 20 (dk_at dksX2_copy_4 4 rfl rfl)
theorem dX2_copy_99 : decode cX2_copy 99 = .ok (.aload_n 1, 1) := dk_43 (dk_at dksX2_copy_4 7 rfl rfl)
theorem dX2_copy_100 : decode cX2_copy 100 = .ok (.getfield 12, 3) := dk_180 0 12 (dk_at dksX2_copy_4 8 rfl rfl)
theorem dX2_copy_103 : decode cX2_copy 103 = .ok (.aload_n 3, 1) := dk_45 (dk_at dksX2_copy_4 11 rfl rfl)
theorem dX2_copy_104 : decode cX2_copy 104 = .ok (.getfield 56, 3) := dk_180 0 56 (dk_at dksX2_copy_4 12 rfl rfl)
theorem dX2_copy_107 : decode cX2_copy 107 = .ok (.getfield 60, 3) := dk_180 0 60 (dk_at dksX2_copy_4 15 rfl rfl)
theorem dX2_copy_110 : decode cX2_copy 110 = .ok (.invokevirtual 63, 3) := dk_182 0 63 (dk_at dksX2_copy_4 18 rfl rfl)
theorem dX2_copy_113 : decode cX2_copy 113 = .ok (.checkcast 43, 3) := dk_192 0 43 (dk_at dksX2_copy_4 21 rfl rfl)
theorem dX2_copy_116 : decode cX2_copy 116 = .ok (.aload_n 3, 1) := dk_45 (dk_at dksX2_copy_5 0 rfl rfl)
theorem dX2_copy_117 : decode cX2_copy 117 = .ok (.getfield 67, 3) := dk_180 0 67 (dk_at dksX2_copy_5 1 rfl rfl)
theorem dX2_copy_120 : decode cX2_copy 120 = .ok (.aload_n 3, 1) := dk_45 (dk_at dksX2_copy_5 4 rfl rfl)
theorem dX2_copy_121 : decode cX2_copy 121 = .ok (.getfield 70, 3) := dk_180 0 70 (dk_at dksX2_copy_5 5 rfl rfl)
theorem dX2_copy_124 : decode cX2_copy 124 = .ok (.invokevirtual 73, 3) := dk_182 0 73 (dk_at dksX2_copy_5 8 rfl rfl)
theorem dX2_copy_127 : decode cX2_copy 127 = .ok (.aload_n 1, 1) := dk_43 (dk_at dksX2_copy_5 11 rfl rfl)
theorem dX2_copy_128 : decode cX2_copy 128 = .ok (.getfield 18, 3) := dk_180 0 18 (dk_at dksX2_copy_5 12 rfl rfl)
theorem dX2_copy_131 : decode cX2_copy 131 = .ok (.aload 4, 2) := dk_25 4 (dk_at dksX2_copy_5 15 rfl rfl)
theorem dX2_copy_133 : decode cX2_copy 133 = .ok (.invokevirtual 49, 3) := dk_182 0 49 (dk_at dksX2_copy_5 17 rfl rfl)
theorem dX2_copy_136 : decode cX2_copy 136 = .ok (.pop, 1) := dk_87 (dk_at dksX2_copy_5 20 rfl rfl)
theorem dX2_copy_137 : decode cX2_copy 137 = .ok (.goto (-79), 3) := dk_167 255 177 (dk_at dksX2_copy_5 21 rfl rfl)
theorem dX2_copy_140 : decode cX2_copy 140 = .ok (.aload_n 1, 1) := dk_43 (dk_at dksX2_copy_6 0 rfl rfl)
theorem dX2_copy_141 : decode cX2_copy 141 = .ok (.aload_n 0, 1) := dk_42 (dk_at dksX2_copy_6 1 rfl rfl)
theorem dX2_copy_142 : decode cX2_copy 142 = .ok (.getfield 77, 3) := dk_180 0 77 (dk_at dksX2_copy_6 2 rfl rfl)
theorem dX2_copy_145 : decode cX2_copy 145 = .ok (.putfield 77, 3) := dk_181 0 77 (dk_at dksX2_copy_6 5 rfl rfl)
theorem dX2_copy_148 : decode cX2_copy 148 = .ok (.aload_n 1, 1) := dk_43 (dk_at dksX2_copy_6 8 rfl rfl)
theorem dX2_copy_149 : decode cX2_copy 149 = .ok (.aload_n 0, 1) := dk_42 (dk_at dksX2_copy_6 9 rfl rfl)
theorem dX2_copy_150 : decode cX2_copy 150 = .ok (.getfield 80, 3) := dk_180 0 80 (dk_at dksX2_copy_6 10 rfl rfl)
theorem dX2_copy_153 : decode cX2_copy 153 = .ok (.ifnonnull 7, 3) := dk_199 0 7 (dk_at dksX2_copy_6 13 rfl rfl)
theorem dX2_copy_156 : decode cX2_copy 156 = .ok (.aconst_null, 1) := dk_1 (dk_at dksX2_copy_6 16 rfl rfl)
theorem dX2_copy_157 : decode cX2_copy 157 = .ok (.goto 20, 3) := dk_167 0 20 (dk_at dksX2_copy_6 17 rfl rfl)
theorem dX2_copy_160 : decode cX2_copy 160 = .ok (.aload_n 1, 1) := dk_43 (dk_at dksX2_copy_6 20 rfl rfl)
theorem dX2_copy_161 : decode cX2_copy 161 = .ok (.getfield 12, 3) := dk_180 0 12 (dk_at dksX2_copy_6 21 rfl rfl)
theorem dX2_copy_164 : decode cX2_copy 164 = .ok (.aload_n 0, 1) := dk_42 (dk_at dksX2_copy_7 0 rfl rfl)
theorem dX2_copy_165 : decode cX2_copy 165 = .ok (.getfield 80, 3) := dk_180 0 80 (dk_at dksX2_copy_7 1 rfl rfl)
theorem dX2_copy_168 : decode cX2_copy 168 = .ok (.getfield 60, 3) := dk_180 0 60 (dk_at dksX2_copy_7 4 rfl rfl)
theorem dX2_copy_171 : decode cX2_copy 171 = .ok (.invokevirtual 63, 3) := dk_182 0 63 (dk_at dksX2_copy_7 7 rfl rfl)
theorem dX2_copy_174 : decode cX2_copy 174 = .ok (.checkcast 43, 3) := dk_192 0 43 (dk_at dksX2_copy_7 10 rfl rfl)
theorem dX2_copy_177 : decode cX2_copy 177 = .ok (.putfield 80, 3) := dk_181 0 80 (dk_at dksX2_copy_7 13 rfl rfl)
theorem dX2_copy_180 : decode cX2_copy 180 = .ok (.aload_n 1, 1) := dk_43 (dk_at dksX2_copy_7 16 rfl rfl)
theorem dX2_copy_181 : decode cX2_copy 181 = .ok (.aload_n 0, 1) := dk_42 (dk_at dksX2_copy_7 17 rfl rfl)
theorem dX2_copy_182 : decode cX2_copy 182 = .ok (.getfield 83, 3) := dk_180 0 83 (dk_at dksX2_copy_7 18 rfl rfl)
theorem dX2_copy_185 : decode cX2_copy 185 = .ok (.ifnonnull 7, 3) := dk_199 0 7 (dk_at dksX2_copy_7 21 rfl rfl)
theorem dX2_copy_188 : decode cX2_copy 188 = .ok (.aconst_null, 1) := dk_1 (dk_at dksX2_copy_8 0 rfl rfl)
theorem dX2_copy_189 : decode cX2_copy 189 = .ok (.goto 20, 3) := dk_167 0 20 (dk_at dksX2_copy_8 1 rfl rfl)
theorem dX2_copy_192 : decode cX2_copy 192 = .ok (.aload_n 1, 1) := dk_43 (dk_at dksX2_copy_8 4 rfl rfl)
theorem dX2_copy_193 : decode cX2_copy 193 = .ok (.getfield 12, 3) := dk_180 0 12 (dk_at dksX2_copy_8 5 rfl rfl)
theorem dX2_copy_196 : decode cX2_copy 196 = .ok (.aload_n 0, 1) := dk_42 (dk_at dksX2_copy_8 8 rfl rfl)
theorem dX2_copy_197 : decode cX2_copy 197 = .ok (.getfield 83, 3) := dk_180 0 83 (dk_at dksX2_copy_8 9 rfl rfl)
theorem dX2_copy_200 : decode cX2_copy 200 = .ok (.getfield 60, 3) := dk_180 0 60 (dk_at dksX2_copy_8 12 rfl rfl)
theorem dX2_copy_203 : decode cX2_copy 203 = .ok (.invokevirtual 63, 3) := dk_182 0 63 (dk_at dksX2_copy_8 15 rfl rfl)
theorem dX2_copy_206 : decode cX2_copy 206 = .ok (.checkcast 43, 3) := dk_192 0 43 (dk_at dksX2_copy_8 18 rfl rfl)
theorem dX2_copy_209 : decode cX2_copy 209 = .ok (.putfield 83, 3) := dk_181 0 83 (dk_at dksX2_copy_8 21 rfl rfl)
theorem dX2_copy_212 : decode cX2_copy 212 = .ok (.aload_n 1, 1) := dk_43 (dk_at dksX2_copy_9 0 rfl rfl)
theorem dX2_copy_213 : decode cX2_copy 213 = .ok (.aload_n 0, 1) := dk_42 (dk_at dksX2_copy_9 1 rfl rfl)
theorem dX2_copy_214 : decode cX2_copy 214 = .ok (.getfield 21, 3) := dk_180 0 21 (dk_at dksX2_copy_9 2 rfl rfl)
theorem dX2_copy_217 : decode cX2_copy 217 = .ok (.putfield 21, 3) := dk_181 0 21 (dk_at dksX2_copy_9 5 rfl rfl)
theorem dX2_copy_220 : decode cX2_copy 220 = .ok (.aload_n 1, 1) := dk_43 (dk_at dksX2_copy_9 8 rfl rfl)
theorem dX2_copy_221 : decode cX2_copy 221 = .ok (.aload_n 0, 1) := dk_42 (dk_at dksX2_copy_9 9 rfl rfl)
theorem dX2_copy_222 : decode cX2_copy 222 = .ok (.getfield 25, 3) := dk_180 0 25 (dk_at dksX2_copy_9 10 rfl rfl)
theorem dX2_copy_225 : decode cX2_copy 225 = .ok (.putfield 25, 3) := dk_181 0 25 (dk_at dksX2_copy_9 13 rfl rfl)
theorem dX2_copy_228 : decode cX2_copy 228 = .ok (.aload_n 1, 1) := dk_43 (dk_at dksX2_copy_9 16 rfl rfl)
theorem dX2_copy_229 : decode cX2_copy 229 = .ok (.aload_n 0, 1) := dk_42 (dk_at dksX2_copy_9 17 rfl rfl)
theorem dX2_copy_230 : decode cX2_copy 230 = .ok (.getfield 86, 3) := dk_180 0 86 (dk_at dksX2_copy_9 18 rfl rfl)
theorem dX2_copy_233 : decode cX2_copy 233 = .ok (.putfield 86, 3) := dk_181 0 86 (dk_at dksX2_copy_9 21 rfl rfl)
theorem dX2_copy_236 : decode cX2_copy 236 = .ok (.aload_n 1, 1) := dk_43 (dk_at dksX2_copy_10 0 rfl rfl)
theorem dX2_copy_237 : decode cX2_copy 237 = .ok (.aload_n 0, 1) := dk_42 (dk_at dksX2_copy_10 1 rfl rfl)
theorem dX2_copy_238 : decode cX2_copy 238 = .ok (.getfield 89, 3) := dk_180 0 89 (dk_at dksX2_copy_10 2 rfl rfl)
theorem dX2_copy_241 : decode cX2_copy 241 = .ok (.putfield 89, 3) := dk_181 0 89 (dk_at dksX2_copy_10 5 rfl rfl)
theorem dX2_copy_244 : decode cX2_copy 244 = .ok (.aload_n 1, 1) := dk_43 (dk_at dksX2_copy_10 8 rfl rfl)
theorem dX2_copy_245 : decode cX2_copy 245 = .ok (.aload_n 0, 1) := dk_42 (dk_at dksX2_copy_10 9 rfl rfl)
theorem dX2_copy_246 : decode cX2_copy 246 = .ok (.getfield 92, 3) := dk_180 0 92 (dk_at dksX2_copy_10 10 rfl rfl)
theorem dX2_copy_249 : decode cX2_copy 249 = .ok (.putfield 92, 3) := dk_181 0 92 (dk_at dksX2_copy_10 13 rfl rfl)
theorem dX2_copy_252 : decode cX2_copy 252 = .ok (.aload_n 1, 1) := dk_43 (dk_at dksX2_copy_10 16 rfl rfl)
theorem dX2_copy_253 : decode cX2_copy 253 = .ok (.areturn, 1) := dk_176 (dk_at dksX2_copy_10 17 rfl rfl)
abbrev cX2_run : ByteArray := prog_4_method_9_code
def yX2_run : MethodName := ⟨RX2, "run", "(I)I"⟩
def dkwX2_run_1 : List UInt8 := [182, 0, 151, 28, 100, 172]
abbrev dktX2_run_1 : List UInt8 := dkwX2_run_1 ++ []
def dkwX2_run_0 : List UInt8 := [42, 182, 0, 151, 61, 3, 62, 29, 27, 162, 0, 13, 42, 182, 0, 154, 132, 3, 1, 167, 255, 244, 42]
abbrev dktX2_run_0 : List UInt8 := dkwX2_run_0 ++ dktX2_run_1
theorem dksX2_run_0 : cX2_run.data.toList.drop 0 = dktX2_run_0 := by decide +kernel
theorem dksX2_run_1 : cX2_run.data.toList.drop 23 = dktX2_run_1 := dk_seg dksX2_run_0 23 rfl rfl
theorem dX2_run_0 : decode cX2_run 0 = .ok (.aload_n 0, 1) := dk_42 (dk_at dksX2_run_0 0 rfl rfl)
theorem dX2_run_1 : decode cX2_run 1 = .ok (.invokevirtual 151, 3) := dk_182 0 151 (dk_at dksX2_run_0 1 rfl rfl)
theorem dX2_run_4 : decode cX2_run 4 = .ok (.istore_n 2, 1) := dk_61 (dk_at dksX2_run_0 4 rfl rfl)
theorem dX2_run_5 : decode cX2_run 5 = .ok (.iconst 0, 1) := dk_3 (dk_at dksX2_run_0 5 rfl rfl)
theorem dX2_run_6 : decode cX2_run 6 = .ok (.istore_n 3, 1) := dk_62 (dk_at dksX2_run_0 6 rfl rfl)
theorem dX2_run_7 : decode cX2_run 7 = .ok (.iload_n 3, 1) := dk_29 (dk_at dksX2_run_0 7 rfl rfl)
theorem dX2_run_8 : decode cX2_run 8 = .ok (.iload_n 1, 1) := dk_27 (dk_at dksX2_run_0 8 rfl rfl)
theorem dX2_run_9 : decode cX2_run 9 = .ok (.if_icmp .ge 13, 3) := dk_162 0 13 (dk_at dksX2_run_0 9 rfl rfl)
theorem dX2_run_12 : decode cX2_run 12 = .ok (.aload_n 0, 1) := dk_42 (dk_at dksX2_run_0 12 rfl rfl)
theorem dX2_run_13 : decode cX2_run 13 = .ok (.invokevirtual 154, 3) := dk_182 0 154 (dk_at dksX2_run_0 13 rfl rfl)
theorem dX2_run_16 : decode cX2_run 16 = .ok (.iinc 3 1, 3) := dk_132 3 1 (dk_at dksX2_run_0 16 rfl rfl)
theorem dX2_run_19 : decode cX2_run 19 = .ok (.goto (-12), 3) := dk_167 255 244 (dk_at dksX2_run_0 19 rfl rfl)
theorem dX2_run_22 : decode cX2_run 22 = .ok (.aload_n 0, 1) := dk_42 (dk_at dksX2_run_0 22 rfl rfl)
theorem dX2_run_23 : decode cX2_run 23 = .ok (.invokevirtual 151, 3) := dk_182 0 151 (dk_at dksX2_run_1 0 rfl rfl)
theorem dX2_run_26 : decode cX2_run 26 = .ok (.iload_n 2, 1) := dk_28 (dk_at dksX2_run_1 3 rfl rfl)
theorem dX2_run_27 : decode cX2_run 27 = .ok (.isub, 1) := dk_100 (dk_at dksX2_run_1 4 rfl rfl)
theorem dX2_run_28 : decode cX2_run 28 = .ok (.ireturn, 1) := dk_172 (dk_at dksX2_run_1 5 rfl rfl)
abbrev cX2_doneOfAll : ByteArray := prog_4_method_10_code
def yX2_doneOfAll : MethodName := ⟨RX2, "doneOfAll", "()I"⟩
def dkwX2_doneOfAll_1 : List UInt8 := [185, 0, 39, 1, 0, 192, 0, 43, 78, 27, 45, 180, 0, 157, 96, 60, 167, 255, 230, 27, 172]
abbrev dktX2_doneOfAll_1 : List UInt8 := dkwX2_doneOfAll_1 ++ []
def dkwX2_doneOfAll_0 : List UInt8 := [3, 60, 42, 180, 0, 12, 182, 0, 29, 77, 44, 185, 0, 33, 1, 0, 153, 0, 23, 44]
abbrev dktX2_doneOfAll_0 : List UInt8 := dkwX2_doneOfAll_0 ++ dktX2_doneOfAll_1
theorem dksX2_doneOfAll_0 : cX2_doneOfAll.data.toList.drop 0 = dktX2_doneOfAll_0 := by decide +kernel
theorem dksX2_doneOfAll_1 : cX2_doneOfAll.data.toList.drop 20 = dktX2_doneOfAll_1 := dk_seg dksX2_doneOfAll_0 20 rfl rfl
theorem dX2_doneOfAll_0 : decode cX2_doneOfAll 0 = .ok (.iconst 0, 1) := dk_3 (dk_at dksX2_doneOfAll_0 0 rfl rfl)
theorem dX2_doneOfAll_1 : decode cX2_doneOfAll 1 = .ok (.istore_n 1, 1) := dk_60 (dk_at dksX2_doneOfAll_0 1 rfl rfl)
theorem dX2_doneOfAll_2 : decode cX2_doneOfAll 2 = .ok (.aload_n 0, 1) := dk_42 (dk_at dksX2_doneOfAll_0 2 rfl rfl)
theorem dX2_doneOfAll_3 : decode cX2_doneOfAll 3 = .ok (.getfield 12, 3) := dk_180 0 12 (dk_at dksX2_doneOfAll_0 3 rfl rfl)
theorem dX2_doneOfAll_6 : decode cX2_doneOfAll 6 = .ok (.invokevirtual 29, 3) := dk_182 0 29 (dk_at dksX2_doneOfAll_0 6 rfl rfl)
theorem dX2_doneOfAll_9 : decode cX2_doneOfAll 9 = .ok (.astore_n 2, 1) := dk_77 (dk_at dksX2_doneOfAll_0 9 rfl rfl)
theorem dX2_doneOfAll_10 : decode cX2_doneOfAll 10 = .ok (.aload_n 2, 1) := dk_44 (dk_at dksX2_doneOfAll_0 10 rfl rfl)
theorem dX2_doneOfAll_11 : decode cX2_doneOfAll 11 = .ok (.invokeinterface 33 1, 5) := by decide +kernel
theorem dX2_doneOfAll_16 : decode cX2_doneOfAll 16 = .ok (.ifCond .eq 23, 3) := dk_153 0 23 (dk_at dksX2_doneOfAll_0 16 rfl rfl)
theorem dX2_doneOfAll_19 : decode cX2_doneOfAll 19 = .ok (.aload_n 2, 1) := dk_44 (dk_at dksX2_doneOfAll_0 19 rfl rfl)
theorem dX2_doneOfAll_20 : decode cX2_doneOfAll 20 = .ok (.invokeinterface 39 1, 5) := by decide +kernel
theorem dX2_doneOfAll_25 : decode cX2_doneOfAll 25 = .ok (.checkcast 43, 3) := dk_192 0 43 (dk_at dksX2_doneOfAll_1 5 rfl rfl)
theorem dX2_doneOfAll_28 : decode cX2_doneOfAll 28 = .ok (.astore_n 3, 1) := dk_78 (dk_at dksX2_doneOfAll_1 8 rfl rfl)
theorem dX2_doneOfAll_29 : decode cX2_doneOfAll 29 = .ok (.iload_n 1, 1) := dk_27 (dk_at dksX2_doneOfAll_1 9 rfl rfl)
theorem dX2_doneOfAll_30 : decode cX2_doneOfAll 30 = .ok (.aload_n 3, 1) := dk_45 (dk_at dksX2_doneOfAll_1 10 rfl rfl)
theorem dX2_doneOfAll_31 : decode cX2_doneOfAll 31 = .ok (.getfield 157, 3) := dk_180 0 157 (dk_at dksX2_doneOfAll_1 11 rfl rfl)
theorem dX2_doneOfAll_34 : decode cX2_doneOfAll 34 = .ok (.iadd, 1) := dk_96 (dk_at dksX2_doneOfAll_1 14 rfl rfl)
theorem dX2_doneOfAll_35 : decode cX2_doneOfAll 35 = .ok (.istore_n 1, 1) := dk_60 (dk_at dksX2_doneOfAll_1 15 rfl rfl)
theorem dX2_doneOfAll_36 : decode cX2_doneOfAll 36 = .ok (.goto (-26), 3) := dk_167 255 230 (dk_at dksX2_doneOfAll_1 16 rfl rfl)
theorem dX2_doneOfAll_39 : decode cX2_doneOfAll 39 = .ok (.iload_n 1, 1) := dk_27 (dk_at dksX2_doneOfAll_1 19 rfl rfl)
theorem dX2_doneOfAll_40 : decode cX2_doneOfAll 40 = .ok (.ireturn, 1) := dk_172 (dk_at dksX2_doneOfAll_1 20 rfl rfl)
abbrev cX2_tick : ByteArray := prog_4_method_11_code
def yX2_tick : MethodName := ⟨RX2, "tick", "()V"⟩
def dkwX2_tick_9 : List UInt8 := [192, 0, 43, 77, 44, 182, 0, 133, 153, 0, 8, 42, 44, 182, 0, 191, 167, 255, 225, 177]
abbrev dktX2_tick_9 : List UInt8 := dkwX2_tick_9 ++ []
def dkwX2_tick_8 : List UInt8 := [42, 180, 0, 12, 182, 0, 29, 76, 43, 185, 0, 33, 1, 0, 153, 0, 28, 43, 185, 0, 39, 1, 0]
abbrev dktX2_tick_8 : List UInt8 := dkwX2_tick_8 ++ dktX2_tick_9
def dkwX2_tick_7 : List UInt8 := [180, 0, 80, 89, 180, 0, 181, 4, 100, 181, 0, 181, 42, 42, 180, 0, 80, 182, 0, 184, 42, 182, 0, 188]
abbrev dktX2_tick_7 : List UInt8 := dkwX2_tick_7 ++ dktX2_tick_8
def dkwX2_tick_6 : List UInt8 := [180, 0, 80, 165, 0, 7, 4, 167, 0, 4, 3, 184, 0, 177, 96, 181, 0, 174, 167, 255, 205, 42]
abbrev dktX2_tick_6 : List UInt8 := dkwX2_tick_6 ++ dktX2_tick_7
def dkwX2_tick_5 : List UInt8 := [43, 185, 0, 39, 1, 0, 192, 0, 43, 77, 44, 89, 180, 0, 174, 44, 180, 0, 158, 154, 0, 15, 44, 42]
abbrev dktX2_tick_5 : List UInt8 := dkwX2_tick_5 ++ dktX2_tick_6
def dkwX2_tick_4 : List UInt8 := [96, 181, 0, 86, 167, 0, 86, 42, 180, 0, 12, 182, 0, 29, 76, 43, 185, 0, 33, 1, 0, 153, 0, 48]
abbrev dktX2_tick_4 : List UInt8 := dkwX2_tick_4 ++ dktX2_tick_5
def dkwX2_tick_3 : List UInt8 := [167, 255, 204, 42, 42, 182, 0, 171, 181, 0, 80, 42, 180, 0, 80, 199, 0, 16, 42, 89, 180, 0, 86, 4]
abbrev dktX2_tick_3 : List UInt8 := dkwX2_tick_3 ++ dktX2_tick_4
def dkwX2_tick_2 : List UInt8 := [182, 0, 161, 154, 0, 13, 44, 89, 180, 0, 164, 4, 96, 181, 0, 164, 44, 42, 180, 0, 77, 182, 0, 167]
abbrev dktX2_tick_2 : List UInt8 := dkwX2_tick_2 ++ dktX2_tick_3
def dkwX2_tick_1 : List UInt8 := [153, 0, 49, 43, 185, 0, 39, 1, 0, 192, 0, 43, 77, 44, 180, 0, 158, 6, 159, 0, 20, 44]
abbrev dktX2_tick_1 : List UInt8 := dkwX2_tick_1 ++ dktX2_tick_2
def dkwX2_tick_0 : List UInt8 := [42, 89, 180, 0, 77, 4, 96, 181, 0, 77, 42, 180, 0, 12, 182, 0, 29, 76, 43, 185, 0, 33, 1, 0]
abbrev dktX2_tick_0 : List UInt8 := dkwX2_tick_0 ++ dktX2_tick_1
theorem dksX2_tick_0 : cX2_tick.data.toList.drop 0 = dktX2_tick_0 := by decide +kernel
theorem dksX2_tick_1 : cX2_tick.data.toList.drop 24 = dktX2_tick_1 := dk_seg dksX2_tick_0 24 rfl rfl
theorem dksX2_tick_2 : cX2_tick.data.toList.drop 46 = dktX2_tick_2 := dk_seg dksX2_tick_1 22 rfl rfl
theorem dksX2_tick_3 : cX2_tick.data.toList.drop 70 = dktX2_tick_3 := dk_seg dksX2_tick_2 24 rfl rfl
theorem dksX2_tick_4 : cX2_tick.data.toList.drop 94 = dktX2_tick_4 := dk_seg dksX2_tick_3 24 rfl rfl
theorem dksX2_tick_5 : cX2_tick.data.toList.drop 118 = dktX2_tick_5 := dk_seg dksX2_tick_4 24 rfl rfl
theorem dksX2_tick_6 : cX2_tick.data.toList.drop 142 = dktX2_tick_6 := dk_seg dksX2_tick_5 24 rfl rfl
theorem dksX2_tick_7 : cX2_tick.data.toList.drop 164 = dktX2_tick_7 := dk_seg dksX2_tick_6 22 rfl rfl
theorem dksX2_tick_8 : cX2_tick.data.toList.drop 188 = dktX2_tick_8 := dk_seg dksX2_tick_7 24 rfl rfl
theorem dksX2_tick_9 : cX2_tick.data.toList.drop 211 = dktX2_tick_9 := dk_seg dksX2_tick_8 23 rfl rfl
theorem dX2_tick_0 : decode cX2_tick 0 = .ok (.aload_n 0, 1) := dk_42 (dk_at dksX2_tick_0 0 rfl rfl)
theorem dX2_tick_1 : decode cX2_tick 1 = .ok (.dup, 1) := dk_89 (dk_at dksX2_tick_0 1 rfl rfl)
theorem dX2_tick_2 : decode cX2_tick 2 = .ok (.getfield 77, 3) := dk_180 0 77 (dk_at dksX2_tick_0 2 rfl rfl)
theorem dX2_tick_5 : decode cX2_tick 5 = .ok (.iconst 1, 1) := dk_4 (dk_at dksX2_tick_0 5 rfl rfl)
theorem dX2_tick_6 : decode cX2_tick 6 = .ok (.iadd, 1) := dk_96 (dk_at dksX2_tick_0 6 rfl rfl)
theorem dX2_tick_7 : decode cX2_tick 7 = .ok (.putfield 77, 3) := dk_181 0 77 (dk_at dksX2_tick_0 7 rfl rfl)
theorem dX2_tick_10 : decode cX2_tick 10 = .ok (.aload_n 0, 1) := dk_42 (dk_at dksX2_tick_0 10 rfl rfl)
theorem dX2_tick_11 : decode cX2_tick 11 = .ok (.getfield 12, 3) := dk_180 0 12 (dk_at dksX2_tick_0 11 rfl rfl)
theorem dX2_tick_14 : decode cX2_tick 14 = .ok (.invokevirtual 29, 3) := dk_182 0 29 (dk_at dksX2_tick_0 14 rfl rfl)
theorem dX2_tick_17 : decode cX2_tick 17 = .ok (.astore_n 1, 1) := dk_76 (dk_at dksX2_tick_0 17 rfl rfl)
theorem dX2_tick_18 : decode cX2_tick 18 = .ok (.aload_n 1, 1) := dk_43 (dk_at dksX2_tick_0 18 rfl rfl)
theorem dX2_tick_19 : decode cX2_tick 19 = .ok (.invokeinterface 33 1, 5) := by decide +kernel
theorem dX2_tick_24 : decode cX2_tick 24 = .ok (.ifCond .eq 49, 3) := dk_153 0 49 (dk_at dksX2_tick_1 0 rfl rfl)
theorem dX2_tick_27 : decode cX2_tick 27 = .ok (.aload_n 1, 1) := dk_43 (dk_at dksX2_tick_1 3 rfl rfl)
theorem dX2_tick_28 : decode cX2_tick 28 = .ok (.invokeinterface 39 1, 5) := by decide +kernel
theorem dX2_tick_33 : decode cX2_tick 33 = .ok (.checkcast 43, 3) := dk_192 0 43 (dk_at dksX2_tick_1 9 rfl rfl)
theorem dX2_tick_36 : decode cX2_tick 36 = .ok (.astore_n 2, 1) := dk_77 (dk_at dksX2_tick_1 12 rfl rfl)
theorem dX2_tick_37 : decode cX2_tick 37 = .ok (.aload_n 2, 1) := dk_44 (dk_at dksX2_tick_1 13 rfl rfl)
theorem dX2_tick_38 : decode cX2_tick 38 = .ok (.getfield 158, 3) := dk_180 0 158 (dk_at dksX2_tick_1 14 rfl rfl)
theorem dX2_tick_41 : decode cX2_tick 41 = .ok (.iconst 3, 1) := dk_6 (dk_at dksX2_tick_1 17 rfl rfl)
theorem dX2_tick_42 : decode cX2_tick 42 = .ok (.if_icmp .eq 20, 3) := dk_159 0 20 (dk_at dksX2_tick_1 18 rfl rfl)
theorem dX2_tick_45 : decode cX2_tick 45 = .ok (.aload_n 2, 1) := dk_44 (dk_at dksX2_tick_1 21 rfl rfl)
theorem dX2_tick_46 : decode cX2_tick 46 = .ok (.invokevirtual 161, 3) := dk_182 0 161 (dk_at dksX2_tick_2 0 rfl rfl)
theorem dX2_tick_49 : decode cX2_tick 49 = .ok (.ifCond .ne 13, 3) := dk_154 0 13 (dk_at dksX2_tick_2 3 rfl rfl)
theorem dX2_tick_52 : decode cX2_tick 52 = .ok (.aload_n 2, 1) := dk_44 (dk_at dksX2_tick_2 6 rfl rfl)
theorem dX2_tick_53 : decode cX2_tick 53 = .ok (.dup, 1) := dk_89 (dk_at dksX2_tick_2 7 rfl rfl)
theorem dX2_tick_54 : decode cX2_tick 54 = .ok (.getfield 164, 3) := dk_180 0 164 (dk_at dksX2_tick_2 8 rfl rfl)
theorem dX2_tick_57 : decode cX2_tick 57 = .ok (.iconst 1, 1) := dk_4 (dk_at dksX2_tick_2 11 rfl rfl)
theorem dX2_tick_58 : decode cX2_tick 58 = .ok (.iadd, 1) := dk_96 (dk_at dksX2_tick_2 12 rfl rfl)
theorem dX2_tick_59 : decode cX2_tick 59 = .ok (.putfield 164, 3) := dk_181 0 164 (dk_at dksX2_tick_2 13 rfl rfl)
theorem dX2_tick_62 : decode cX2_tick 62 = .ok (.aload_n 2, 1) := dk_44 (dk_at dksX2_tick_2 16 rfl rfl)
theorem dX2_tick_63 : decode cX2_tick 63 = .ok (.aload_n 0, 1) := dk_42 (dk_at dksX2_tick_2 17 rfl rfl)
theorem dX2_tick_64 : decode cX2_tick 64 = .ok (.getfield 77, 3) := dk_180 0 77 (dk_at dksX2_tick_2 18 rfl rfl)
theorem dX2_tick_67 : decode cX2_tick 67 = .ok (.invokevirtual 167, 3) := dk_182 0 167 (dk_at dksX2_tick_2 21 rfl rfl)
theorem dX2_tick_70 : decode cX2_tick 70 = .ok (.goto (-52), 3) := dk_167 255 204 (dk_at dksX2_tick_3 0 rfl rfl)
theorem dX2_tick_73 : decode cX2_tick 73 = .ok (.aload_n 0, 1) := dk_42 (dk_at dksX2_tick_3 3 rfl rfl)
theorem dX2_tick_74 : decode cX2_tick 74 = .ok (.aload_n 0, 1) := dk_42 (dk_at dksX2_tick_3 4 rfl rfl)
theorem dX2_tick_75 : decode cX2_tick 75 = .ok (.invokevirtual 171, 3) := dk_182 0 171 (dk_at dksX2_tick_3 5 rfl rfl)
theorem dX2_tick_78 : decode cX2_tick 78 = .ok (.putfield 80, 3) := dk_181 0 80 (dk_at dksX2_tick_3 8 rfl rfl)
theorem dX2_tick_81 : decode cX2_tick 81 = .ok (.aload_n 0, 1) := dk_42 (dk_at dksX2_tick_3 11 rfl rfl)
theorem dX2_tick_82 : decode cX2_tick 82 = .ok (.getfield 80, 3) := dk_180 0 80 (dk_at dksX2_tick_3 12 rfl rfl)
theorem dX2_tick_85 : decode cX2_tick 85 = .ok (.ifnonnull 16, 3) := dk_199 0 16 (dk_at dksX2_tick_3 15 rfl rfl)
theorem dX2_tick_88 : decode cX2_tick 88 = .ok (.aload_n 0, 1) := dk_42 (dk_at dksX2_tick_3 18 rfl rfl)
theorem dX2_tick_89 : decode cX2_tick 89 = .ok (.dup, 1) := dk_89 (dk_at dksX2_tick_3 19 rfl rfl)
theorem dX2_tick_90 : decode cX2_tick 90 = .ok (.getfield 86, 3) := dk_180 0 86 (dk_at dksX2_tick_3 20 rfl rfl)
theorem dX2_tick_93 : decode cX2_tick 93 = .ok (.iconst 1, 1) := dk_4 (dk_at dksX2_tick_3 23 rfl rfl)
theorem dX2_tick_94 : decode cX2_tick 94 = .ok (.iadd, 1) := dk_96 (dk_at dksX2_tick_4 0 rfl rfl)
theorem dX2_tick_95 : decode cX2_tick 95 = .ok (.putfield 86, 3) := dk_181 0 86 (dk_at dksX2_tick_4 1 rfl rfl)
theorem dX2_tick_98 : decode cX2_tick 98 = .ok (.goto 86, 3) := dk_167 0 86 (dk_at dksX2_tick_4 4 rfl rfl)
theorem dX2_tick_101 : decode cX2_tick 101 = .ok (.aload_n 0, 1) := dk_42 (dk_at dksX2_tick_4 7 rfl rfl)
theorem dX2_tick_102 : decode cX2_tick 102 = .ok (.getfield 12, 3) := dk_180 0 12 (dk_at dksX2_tick_4 8 rfl rfl)
theorem dX2_tick_105 : decode cX2_tick 105 = .ok (.invokevirtual 29, 3) := dk_182 0 29 (dk_at dksX2_tick_4 11 rfl rfl)
theorem dX2_tick_108 : decode cX2_tick 108 = .ok (.astore_n 1, 1) := dk_76 (dk_at dksX2_tick_4 14 rfl rfl)
theorem dX2_tick_109 : decode cX2_tick 109 = .ok (.aload_n 1, 1) := dk_43 (dk_at dksX2_tick_4 15 rfl rfl)
theorem dX2_tick_110 : decode cX2_tick 110 = .ok (.invokeinterface 33 1, 5) := by decide +kernel
theorem dX2_tick_115 : decode cX2_tick 115 = .ok (.ifCond .eq 48, 3) := dk_153 0 48 (dk_at dksX2_tick_4 21 rfl rfl)
theorem dX2_tick_118 : decode cX2_tick 118 = .ok (.aload_n 1, 1) := dk_43 (dk_at dksX2_tick_5 0 rfl rfl)
theorem dX2_tick_119 : decode cX2_tick 119 = .ok (.invokeinterface 39 1, 5) := by decide +kernel
theorem dX2_tick_124 : decode cX2_tick 124 = .ok (.checkcast 43, 3) := dk_192 0 43 (dk_at dksX2_tick_5 6 rfl rfl)
theorem dX2_tick_127 : decode cX2_tick 127 = .ok (.astore_n 2, 1) := dk_77 (dk_at dksX2_tick_5 9 rfl rfl)
theorem dX2_tick_128 : decode cX2_tick 128 = .ok (.aload_n 2, 1) := dk_44 (dk_at dksX2_tick_5 10 rfl rfl)
theorem dX2_tick_129 : decode cX2_tick 129 = .ok (.dup, 1) := dk_89 (dk_at dksX2_tick_5 11 rfl rfl)
theorem dX2_tick_130 : decode cX2_tick 130 = .ok (.getfield 174, 3) := dk_180 0 174 (dk_at dksX2_tick_5 12 rfl rfl)
theorem dX2_tick_133 : decode cX2_tick 133 = .ok (.aload_n 2, 1) := dk_44 (dk_at dksX2_tick_5 15 rfl rfl)
theorem dX2_tick_134 : decode cX2_tick 134 = .ok (.getfield 158, 3) := dk_180 0 158 (dk_at dksX2_tick_5 16 rfl rfl)
theorem dX2_tick_137 : decode cX2_tick 137 = .ok (.ifCond .ne 15, 3) := dk_154 0 15 (dk_at dksX2_tick_5 19 rfl rfl)
theorem dX2_tick_140 : decode cX2_tick 140 = .ok (.aload_n 2, 1) := dk_44 (dk_at dksX2_tick_5 22 rfl rfl)
theorem dX2_tick_141 : decode cX2_tick 141 = .ok (.aload_n 0, 1) := dk_42 (dk_at dksX2_tick_5 23 rfl rfl)
theorem dX2_tick_142 : decode cX2_tick 142 = .ok (.getfield 80, 3) := dk_180 0 80 (dk_at dksX2_tick_6 0 rfl rfl)
theorem dX2_tick_145 : decode cX2_tick 145 = .ok (.if_acmp .eq 7, 3) := dk_165 0 7 (dk_at dksX2_tick_6 3 rfl rfl)
theorem dX2_tick_148 : decode cX2_tick 148 = .ok (.iconst 1, 1) := dk_4 (dk_at dksX2_tick_6 6 rfl rfl)
theorem dX2_tick_149 : decode cX2_tick 149 = .ok (.goto 4, 3) := dk_167 0 4 (dk_at dksX2_tick_6 7 rfl rfl)
theorem dX2_tick_152 : decode cX2_tick 152 = .ok (.iconst 0, 1) := dk_3 (dk_at dksX2_tick_6 10 rfl rfl)
theorem dX2_tick_153 : decode cX2_tick 153 = .ok (.invokestatic 177, 3) := dk_184 0 177 (dk_at dksX2_tick_6 11 rfl rfl)
theorem dX2_tick_156 : decode cX2_tick 156 = .ok (.iadd, 1) := dk_96 (dk_at dksX2_tick_6 14 rfl rfl)
theorem dX2_tick_157 : decode cX2_tick 157 = .ok (.putfield 174, 3) := dk_181 0 174 (dk_at dksX2_tick_6 15 rfl rfl)
theorem dX2_tick_160 : decode cX2_tick 160 = .ok (.goto (-51), 3) := dk_167 255 205 (dk_at dksX2_tick_6 18 rfl rfl)
theorem dX2_tick_163 : decode cX2_tick 163 = .ok (.aload_n 0, 1) := dk_42 (dk_at dksX2_tick_6 21 rfl rfl)
theorem dX2_tick_164 : decode cX2_tick 164 = .ok (.getfield 80, 3) := dk_180 0 80 (dk_at dksX2_tick_7 0 rfl rfl)
theorem dX2_tick_167 : decode cX2_tick 167 = .ok (.dup, 1) := dk_89 (dk_at dksX2_tick_7 3 rfl rfl)
theorem dX2_tick_168 : decode cX2_tick 168 = .ok (.getfield 181, 3) := dk_180 0 181 (dk_at dksX2_tick_7 4 rfl rfl)
theorem dX2_tick_171 : decode cX2_tick 171 = .ok (.iconst 1, 1) := dk_4 (dk_at dksX2_tick_7 7 rfl rfl)
theorem dX2_tick_172 : decode cX2_tick 172 = .ok (.isub, 1) := dk_100 (dk_at dksX2_tick_7 8 rfl rfl)
theorem dX2_tick_173 : decode cX2_tick 173 = .ok (.putfield 181, 3) := dk_181 0 181 (dk_at dksX2_tick_7 9 rfl rfl)
theorem dX2_tick_176 : decode cX2_tick 176 = .ok (.aload_n 0, 1) := dk_42 (dk_at dksX2_tick_7 12 rfl rfl)
theorem dX2_tick_177 : decode cX2_tick 177 = .ok (.aload_n 0, 1) := dk_42 (dk_at dksX2_tick_7 13 rfl rfl)
theorem dX2_tick_178 : decode cX2_tick 178 = .ok (.getfield 80, 3) := dk_180 0 80 (dk_at dksX2_tick_7 14 rfl rfl)
theorem dX2_tick_181 : decode cX2_tick 181 = .ok (.invokevirtual 184, 3) := dk_182 0 184 (dk_at dksX2_tick_7 17 rfl rfl)
theorem dX2_tick_184 : decode cX2_tick 184 = .ok (.aload_n 0, 1) := dk_42 (dk_at dksX2_tick_7 20 rfl rfl)
theorem dX2_tick_185 : decode cX2_tick 185 = .ok (.invokevirtual 188, 3) := dk_182 0 188 (dk_at dksX2_tick_7 21 rfl rfl)
theorem dX2_tick_188 : decode cX2_tick 188 = .ok (.aload_n 0, 1) := dk_42 (dk_at dksX2_tick_8 0 rfl rfl)
theorem dX2_tick_189 : decode cX2_tick 189 = .ok (.getfield 12, 3) := dk_180 0 12 (dk_at dksX2_tick_8 1 rfl rfl)
theorem dX2_tick_192 : decode cX2_tick 192 = .ok (.invokevirtual 29, 3) := dk_182 0 29 (dk_at dksX2_tick_8 4 rfl rfl)
theorem dX2_tick_195 : decode cX2_tick 195 = .ok (.astore_n 1, 1) := dk_76 (dk_at dksX2_tick_8 7 rfl rfl)
theorem dX2_tick_196 : decode cX2_tick 196 = .ok (.aload_n 1, 1) := dk_43 (dk_at dksX2_tick_8 8 rfl rfl)
theorem dX2_tick_197 : decode cX2_tick 197 = .ok (.invokeinterface 33 1, 5) := by decide +kernel
theorem dX2_tick_202 : decode cX2_tick 202 = .ok (.ifCond .eq 28, 3) := dk_153 0 28 (dk_at dksX2_tick_8 14 rfl rfl)
theorem dX2_tick_205 : decode cX2_tick 205 = .ok (.aload_n 1, 1) := dk_43 (dk_at dksX2_tick_8 17 rfl rfl)
theorem dX2_tick_206 : decode cX2_tick 206 = .ok (.invokeinterface 39 1, 5) := by decide +kernel
theorem dX2_tick_211 : decode cX2_tick 211 = .ok (.checkcast 43, 3) := dk_192 0 43 (dk_at dksX2_tick_9 0 rfl rfl)
theorem dX2_tick_214 : decode cX2_tick 214 = .ok (.astore_n 2, 1) := dk_77 (dk_at dksX2_tick_9 3 rfl rfl)
theorem dX2_tick_215 : decode cX2_tick 215 = .ok (.aload_n 2, 1) := dk_44 (dk_at dksX2_tick_9 4 rfl rfl)
theorem dX2_tick_216 : decode cX2_tick 216 = .ok (.invokevirtual 133, 3) := dk_182 0 133 (dk_at dksX2_tick_9 5 rfl rfl)
theorem dX2_tick_219 : decode cX2_tick 219 = .ok (.ifCond .eq 8, 3) := dk_153 0 8 (dk_at dksX2_tick_9 8 rfl rfl)
theorem dX2_tick_222 : decode cX2_tick 222 = .ok (.aload_n 0, 1) := dk_42 (dk_at dksX2_tick_9 11 rfl rfl)
theorem dX2_tick_223 : decode cX2_tick 223 = .ok (.aload_n 2, 1) := dk_44 (dk_at dksX2_tick_9 12 rfl rfl)
theorem dX2_tick_224 : decode cX2_tick 224 = .ok (.invokevirtual 191, 3) := dk_182 0 191 (dk_at dksX2_tick_9 13 rfl rfl)
theorem dX2_tick_227 : decode cX2_tick 227 = .ok (.goto (-31), 3) := dk_167 255 225 (dk_at dksX2_tick_9 16 rfl rfl)
theorem dX2_tick_230 : decode cX2_tick 230 = .ok (.return_, 1) := dk_177 (dk_at dksX2_tick_9 19 rfl rfl)
abbrev cX2_chosen : ByteArray := prog_4_method_12_code
def yX2_chosen : MethodName := ⟨RX2, "chosen", "()LHyperVane$Guest;"⟩
def dkwX2_chosen_3 : List UInt8 := [96, 184, 0, 200, 181, 0, 181, 167, 255, 205, 42, 182, 0, 194, 176]
abbrev dktX2_chosen_3 : List UInt8 := dkwX2_chosen_3 ++ []
def dkwX2_chosen_2 : List UInt8 := [182, 0, 161, 154, 0, 28, 45, 16, 8, 45, 180, 0, 197, 104, 45, 180, 0, 181, 7, 45, 180, 0, 197, 104]
abbrev dktX2_chosen_2 : List UInt8 := dkwX2_chosen_2 ++ dktX2_chosen_3
def dkwX2_chosen_1 : List UInt8 := [182, 0, 29, 77, 44, 185, 0, 33, 1, 0, 153, 0, 48, 44, 185, 0, 39, 1, 0, 192, 0, 43, 78, 45]
abbrev dktX2_chosen_1 : List UInt8 := dkwX2_chosen_1 ++ dktX2_chosen_2
def dkwX2_chosen_0 : List UInt8 := [42, 182, 0, 194, 76, 43, 198, 0, 10, 43, 180, 0, 181, 158, 0, 5, 43, 176, 42, 180, 0, 12]
abbrev dktX2_chosen_0 : List UInt8 := dkwX2_chosen_0 ++ dktX2_chosen_1
theorem dksX2_chosen_0 : cX2_chosen.data.toList.drop 0 = dktX2_chosen_0 := by decide +kernel
theorem dksX2_chosen_1 : cX2_chosen.data.toList.drop 22 = dktX2_chosen_1 := dk_seg dksX2_chosen_0 22 rfl rfl
theorem dksX2_chosen_2 : cX2_chosen.data.toList.drop 46 = dktX2_chosen_2 := dk_seg dksX2_chosen_1 24 rfl rfl
theorem dksX2_chosen_3 : cX2_chosen.data.toList.drop 70 = dktX2_chosen_3 := dk_seg dksX2_chosen_2 24 rfl rfl
theorem dX2_chosen_0 : decode cX2_chosen 0 = .ok (.aload_n 0, 1) := dk_42 (dk_at dksX2_chosen_0 0 rfl rfl)
theorem dX2_chosen_1 : decode cX2_chosen 1 = .ok (.invokevirtual 194, 3) := dk_182 0 194 (dk_at dksX2_chosen_0 1 rfl rfl)
theorem dX2_chosen_4 : decode cX2_chosen 4 = .ok (.astore_n 1, 1) := dk_76 (dk_at dksX2_chosen_0 4 rfl rfl)
theorem dX2_chosen_5 : decode cX2_chosen 5 = .ok (.aload_n 1, 1) := dk_43 (dk_at dksX2_chosen_0 5 rfl rfl)
theorem dX2_chosen_6 : decode cX2_chosen 6 = .ok (.ifnull 10, 3) := dk_198 0 10 (dk_at dksX2_chosen_0 6 rfl rfl)
theorem dX2_chosen_9 : decode cX2_chosen 9 = .ok (.aload_n 1, 1) := dk_43 (dk_at dksX2_chosen_0 9 rfl rfl)
theorem dX2_chosen_10 : decode cX2_chosen 10 = .ok (.getfield 181, 3) := dk_180 0 181 (dk_at dksX2_chosen_0 10 rfl rfl)
theorem dX2_chosen_13 : decode cX2_chosen 13 = .ok (.ifCond .le 5, 3) := dk_158 0 5 (dk_at dksX2_chosen_0 13 rfl rfl)
theorem dX2_chosen_16 : decode cX2_chosen 16 = .ok (.aload_n 1, 1) := dk_43 (dk_at dksX2_chosen_0 16 rfl rfl)
theorem dX2_chosen_17 : decode cX2_chosen 17 = .ok (.areturn, 1) := dk_176 (dk_at dksX2_chosen_0 17 rfl rfl)
theorem dX2_chosen_18 : decode cX2_chosen 18 = .ok (.aload_n 0, 1) := dk_42 (dk_at dksX2_chosen_0 18 rfl rfl)
theorem dX2_chosen_19 : decode cX2_chosen 19 = .ok (.getfield 12, 3) := dk_180 0 12 (dk_at dksX2_chosen_0 19 rfl rfl)
theorem dX2_chosen_22 : decode cX2_chosen 22 = .ok (.invokevirtual 29, 3) := dk_182 0 29 (dk_at dksX2_chosen_1 0 rfl rfl)
theorem dX2_chosen_25 : decode cX2_chosen 25 = .ok (.astore_n 2, 1) := dk_77 (dk_at dksX2_chosen_1 3 rfl rfl)
theorem dX2_chosen_26 : decode cX2_chosen 26 = .ok (.aload_n 2, 1) := dk_44 (dk_at dksX2_chosen_1 4 rfl rfl)
theorem dX2_chosen_27 : decode cX2_chosen 27 = .ok (.invokeinterface 33 1, 5) := by decide +kernel
theorem dX2_chosen_32 : decode cX2_chosen 32 = .ok (.ifCond .eq 48, 3) := dk_153 0 48 (dk_at dksX2_chosen_1 10 rfl rfl)
theorem dX2_chosen_35 : decode cX2_chosen 35 = .ok (.aload_n 2, 1) := dk_44 (dk_at dksX2_chosen_1 13 rfl rfl)
theorem dX2_chosen_36 : decode cX2_chosen 36 = .ok (.invokeinterface 39 1, 5) := by decide +kernel
theorem dX2_chosen_41 : decode cX2_chosen 41 = .ok (.checkcast 43, 3) := dk_192 0 43 (dk_at dksX2_chosen_1 19 rfl rfl)
theorem dX2_chosen_44 : decode cX2_chosen 44 = .ok (.astore_n 3, 1) := dk_78 (dk_at dksX2_chosen_1 22 rfl rfl)
theorem dX2_chosen_45 : decode cX2_chosen 45 = .ok (.aload_n 3, 1) := dk_45 (dk_at dksX2_chosen_1 23 rfl rfl)
theorem dX2_chosen_46 : decode cX2_chosen 46 = .ok (.invokevirtual 161, 3) := dk_182 0 161 (dk_at dksX2_chosen_2 0 rfl rfl)
theorem dX2_chosen_49 : decode cX2_chosen 49 = .ok (.ifCond .ne 28, 3) := dk_154 0 28 (dk_at dksX2_chosen_2 3 rfl rfl)
theorem dX2_chosen_52 : decode cX2_chosen 52 = .ok (.aload_n 3, 1) := dk_45 (dk_at dksX2_chosen_2 6 rfl rfl)
theorem dX2_chosen_53 : decode cX2_chosen 53 = .ok (.bipush 8, 2) := dk_16 8 (dk_at dksX2_chosen_2 7 rfl rfl)
theorem dX2_chosen_55 : decode cX2_chosen 55 = .ok (.aload_n 3, 1) := dk_45 (dk_at dksX2_chosen_2 9 rfl rfl)
theorem dX2_chosen_56 : decode cX2_chosen 56 = .ok (.getfield 197, 3) := dk_180 0 197 (dk_at dksX2_chosen_2 10 rfl rfl)
theorem dX2_chosen_59 : decode cX2_chosen 59 = .ok (.imul, 1) := dk_104 (dk_at dksX2_chosen_2 13 rfl rfl)
theorem dX2_chosen_60 : decode cX2_chosen 60 = .ok (.aload_n 3, 1) := dk_45 (dk_at dksX2_chosen_2 14 rfl rfl)
theorem dX2_chosen_61 : decode cX2_chosen 61 = .ok (.getfield 181, 3) := dk_180 0 181 (dk_at dksX2_chosen_2 15 rfl rfl)
theorem dX2_chosen_64 : decode cX2_chosen 64 = .ok (.iconst 4, 1) := dk_7 (dk_at dksX2_chosen_2 18 rfl rfl)
theorem dX2_chosen_65 : decode cX2_chosen 65 = .ok (.aload_n 3, 1) := dk_45 (dk_at dksX2_chosen_2 19 rfl rfl)
theorem dX2_chosen_66 : decode cX2_chosen 66 = .ok (.getfield 197, 3) := dk_180 0 197 (dk_at dksX2_chosen_2 20 rfl rfl)
theorem dX2_chosen_69 : decode cX2_chosen 69 = .ok (.imul, 1) := dk_104 (dk_at dksX2_chosen_2 23 rfl rfl)
theorem dX2_chosen_70 : decode cX2_chosen 70 = .ok (.iadd, 1) := dk_96 (dk_at dksX2_chosen_3 0 rfl rfl)
theorem dX2_chosen_71 : decode cX2_chosen 71 = .ok (.invokestatic 200, 3) := dk_184 0 200 (dk_at dksX2_chosen_3 1 rfl rfl)
theorem dX2_chosen_74 : decode cX2_chosen 74 = .ok (.putfield 181, 3) := dk_181 0 181 (dk_at dksX2_chosen_3 4 rfl rfl)
theorem dX2_chosen_77 : decode cX2_chosen 77 = .ok (.goto (-51), 3) := dk_167 255 205 (dk_at dksX2_chosen_3 7 rfl rfl)
theorem dX2_chosen_80 : decode cX2_chosen 80 = .ok (.aload_n 0, 1) := dk_42 (dk_at dksX2_chosen_3 10 rfl rfl)
theorem dX2_chosen_81 : decode cX2_chosen 81 = .ok (.invokevirtual 194, 3) := dk_182 0 194 (dk_at dksX2_chosen_3 11 rfl rfl)
theorem dX2_chosen_84 : decode cX2_chosen 84 = .ok (.areturn, 1) := dk_176 (dk_at dksX2_chosen_3 14 rfl rfl)
abbrev cX2_mostCredits : ByteArray := prog_4_method_13_code
def yX2_mostCredits : MethodName := ⟨RX2, "mostCredits", "()LHyperVane$Guest;"⟩
def dkwX2_mostCredits_2 : List UInt8 := [43, 180, 0, 181, 164, 0, 5, 45, 76, 167, 255, 213, 43, 176]
abbrev dktX2_mostCredits_2 : List UInt8 := dkwX2_mostCredits_2 ++ []
def dkwX2_mostCredits_1 : List UInt8 := [185, 0, 39, 1, 0, 192, 0, 43, 78, 45, 180, 0, 158, 154, 0, 20, 43, 198, 0, 14, 45, 180, 0, 181]
abbrev dktX2_mostCredits_1 : List UInt8 := dkwX2_mostCredits_1 ++ dktX2_mostCredits_2
def dkwX2_mostCredits_0 : List UInt8 := [1, 76, 42, 180, 0, 12, 182, 0, 29, 77, 44, 185, 0, 33, 1, 0, 153, 0, 40, 44]
abbrev dktX2_mostCredits_0 : List UInt8 := dkwX2_mostCredits_0 ++ dktX2_mostCredits_1
theorem dksX2_mostCredits_0 : cX2_mostCredits.data.toList.drop 0 = dktX2_mostCredits_0 := by decide +kernel
theorem dksX2_mostCredits_1 : cX2_mostCredits.data.toList.drop 20 = dktX2_mostCredits_1 := dk_seg dksX2_mostCredits_0 20 rfl rfl
theorem dksX2_mostCredits_2 : cX2_mostCredits.data.toList.drop 44 = dktX2_mostCredits_2 := dk_seg dksX2_mostCredits_1 24 rfl rfl
theorem dX2_mostCredits_0 : decode cX2_mostCredits 0 = .ok (.aconst_null, 1) := dk_1 (dk_at dksX2_mostCredits_0 0 rfl rfl)
theorem dX2_mostCredits_1 : decode cX2_mostCredits 1 = .ok (.astore_n 1, 1) := dk_76 (dk_at dksX2_mostCredits_0 1 rfl rfl)
theorem dX2_mostCredits_2 : decode cX2_mostCredits 2 = .ok (.aload_n 0, 1) := dk_42 (dk_at dksX2_mostCredits_0 2 rfl rfl)
theorem dX2_mostCredits_3 : decode cX2_mostCredits 3 = .ok (.getfield 12, 3) := dk_180 0 12 (dk_at dksX2_mostCredits_0 3 rfl rfl)
theorem dX2_mostCredits_6 : decode cX2_mostCredits 6 = .ok (.invokevirtual 29, 3) := dk_182 0 29 (dk_at dksX2_mostCredits_0 6 rfl rfl)
theorem dX2_mostCredits_9 : decode cX2_mostCredits 9 = .ok (.astore_n 2, 1) := dk_77 (dk_at dksX2_mostCredits_0 9 rfl rfl)
theorem dX2_mostCredits_10 : decode cX2_mostCredits 10 = .ok (.aload_n 2, 1) := dk_44 (dk_at dksX2_mostCredits_0 10 rfl rfl)
theorem dX2_mostCredits_11 : decode cX2_mostCredits 11 = .ok (.invokeinterface 33 1, 5) := by decide +kernel
theorem dX2_mostCredits_16 : decode cX2_mostCredits 16 = .ok (.ifCond .eq 40, 3) := dk_153 0 40 (dk_at dksX2_mostCredits_0 16 rfl rfl)
theorem dX2_mostCredits_19 : decode cX2_mostCredits 19 = .ok (.aload_n 2, 1) := dk_44 (dk_at dksX2_mostCredits_0 19 rfl rfl)
theorem dX2_mostCredits_20 : decode cX2_mostCredits 20 = .ok (.invokeinterface 39 1, 5) := by decide +kernel
theorem dX2_mostCredits_25 : decode cX2_mostCredits 25 = .ok (.checkcast 43, 3) := dk_192 0 43 (dk_at dksX2_mostCredits_1 5 rfl rfl)
theorem dX2_mostCredits_28 : decode cX2_mostCredits 28 = .ok (.astore_n 3, 1) := dk_78 (dk_at dksX2_mostCredits_1 8 rfl rfl)
theorem dX2_mostCredits_29 : decode cX2_mostCredits 29 = .ok (.aload_n 3, 1) := dk_45 (dk_at dksX2_mostCredits_1 9 rfl rfl)
theorem dX2_mostCredits_30 : decode cX2_mostCredits 30 = .ok (.getfield 158, 3) := dk_180 0 158 (dk_at dksX2_mostCredits_1 10 rfl rfl)
theorem dX2_mostCredits_33 : decode cX2_mostCredits 33 = .ok (.ifCond .ne 20, 3) := dk_154 0 20 (dk_at dksX2_mostCredits_1 13 rfl rfl)
theorem dX2_mostCredits_36 : decode cX2_mostCredits 36 = .ok (.aload_n 1, 1) := dk_43 (dk_at dksX2_mostCredits_1 16 rfl rfl)
theorem dX2_mostCredits_37 : decode cX2_mostCredits 37 = .ok (.ifnull 14, 3) := dk_198 0 14 (dk_at dksX2_mostCredits_1 17 rfl rfl)
theorem dX2_mostCredits_40 : decode cX2_mostCredits 40 = .ok (.aload_n 3, 1) := dk_45 (dk_at dksX2_mostCredits_1 20 rfl rfl)
theorem dX2_mostCredits_41 : decode cX2_mostCredits 41 = .ok (.getfield 181, 3) := dk_180 0 181 (dk_at dksX2_mostCredits_1 21 rfl rfl)
theorem dX2_mostCredits_44 : decode cX2_mostCredits 44 = .ok (.aload_n 1, 1) := dk_43 (dk_at dksX2_mostCredits_2 0 rfl rfl)
theorem dX2_mostCredits_45 : decode cX2_mostCredits 45 = .ok (.getfield 181, 3) := dk_180 0 181 (dk_at dksX2_mostCredits_2 1 rfl rfl)
theorem dX2_mostCredits_48 : decode cX2_mostCredits 48 = .ok (.if_icmp .le 5, 3) := dk_164 0 5 (dk_at dksX2_mostCredits_2 4 rfl rfl)
theorem dX2_mostCredits_51 : decode cX2_mostCredits 51 = .ok (.aload_n 3, 1) := dk_45 (dk_at dksX2_mostCredits_2 7 rfl rfl)
theorem dX2_mostCredits_52 : decode cX2_mostCredits 52 = .ok (.astore_n 1, 1) := dk_76 (dk_at dksX2_mostCredits_2 8 rfl rfl)
theorem dX2_mostCredits_53 : decode cX2_mostCredits 53 = .ok (.goto (-43), 3) := dk_167 255 213 (dk_at dksX2_mostCredits_2 9 rfl rfl)
theorem dX2_mostCredits_56 : decode cX2_mostCredits 56 = .ok (.aload_n 1, 1) := dk_43 (dk_at dksX2_mostCredits_2 12 rfl rfl)
theorem dX2_mostCredits_57 : decode cX2_mostCredits 57 = .ok (.areturn, 1) := dk_176 (dk_at dksX2_mostCredits_2 13 rfl rfl)
abbrev cX2_go : ByteArray := prog_4_method_14_code
def yX2_go : MethodName := ⟨RX2, "go", "(LHyperVane$Guest;)V"⟩
def dkwX2_go_5 : List UInt8 := [167, 0, 8, 43, 3, 184, 0, 229, 177]
abbrev dktX2_go_5 : List UInt8 := dkwX2_go_5 ++ []
def dkwX2_go_4 : List UInt8 := [184, 0, 229, 167, 0, 28, 43, 3, 43, 180, 0, 181, 184, 0, 200, 181, 0, 181, 43, 3, 184, 0, 229]
abbrev dktX2_go_4 : List UInt8 := dkwX2_go_4 ++ dktX2_go_5
def dkwX2_go_3 : List UInt8 := [167, 0, 55, 43, 43, 180, 0, 164, 17, 3, 232, 112, 184, 0, 225, 43, 43, 180, 0, 164, 17, 3, 232, 112]
abbrev dktX2_go_3 : List UInt8 := dkwX2_go_3 ++ dktX2_go_4
def dkwX2_go_2 : List UInt8 := [42, 43, 44, 182, 0, 215, 167, 0, 71, 42, 43, 182, 0, 219, 167, 0, 63, 42, 43, 182, 0, 222]
abbrev dktX2_go_2 : List UInt8 := dkwX2_go_2 ++ dktX2_go_3
def dkwX2_go_1 : List UInt8 := [170, 0, 0, 0, 0, 0, 0, 112, 0, 0, 0, 1, 0, 0, 0, 6, 0, 0, 0, 40, 0, 0, 0, 40, 0, 0, 0, 49, 0, 0, 0, 57, 0, 0, 0, 65, 0, 0, 0, 92]
abbrev dktX2_go_1 : List UInt8 := dkwX2_go_1 ++ dktX2_go_2
def dkwX2_go_0 : List UInt8 := [43, 180, 0, 123, 182, 0, 206, 77, 44, 180, 0, 210]
abbrev dktX2_go_0 : List UInt8 := dkwX2_go_0 ++ dktX2_go_1
theorem dksX2_go_0 : cX2_go.data.toList.drop 0 = dktX2_go_0 := by decide +kernel
theorem dksX2_go_1 : cX2_go.data.toList.drop 12 = dktX2_go_1 := dk_seg dksX2_go_0 12 rfl rfl
theorem dksX2_go_2 : cX2_go.data.toList.drop 52 = dktX2_go_2 := dk_seg dksX2_go_1 40 rfl rfl
theorem dksX2_go_3 : cX2_go.data.toList.drop 74 = dktX2_go_3 := dk_seg dksX2_go_2 22 rfl rfl
theorem dksX2_go_4 : cX2_go.data.toList.drop 98 = dktX2_go_4 := dk_seg dksX2_go_3 24 rfl rfl
theorem dksX2_go_5 : cX2_go.data.toList.drop 121 = dktX2_go_5 := dk_seg dksX2_go_4 23 rfl rfl
theorem dX2_go_0 : decode cX2_go 0 = .ok (.aload_n 1, 1) := dk_43 (dk_at dksX2_go_0 0 rfl rfl)
theorem dX2_go_1 : decode cX2_go 1 = .ok (.getfield 123, 3) := dk_180 0 123 (dk_at dksX2_go_0 1 rfl rfl)
theorem dX2_go_4 : decode cX2_go 4 = .ok (.invokevirtual 206, 3) := dk_182 0 206 (dk_at dksX2_go_0 4 rfl rfl)
theorem dX2_go_7 : decode cX2_go 7 = .ok (.astore_n 2, 1) := dk_77 (dk_at dksX2_go_0 7 rfl rfl)
theorem dX2_go_8 : decode cX2_go 8 = .ok (.aload_n 2, 1) := dk_44 (dk_at dksX2_go_0 8 rfl rfl)
theorem dX2_go_9 : decode cX2_go 9 = .ok (.getfield 210, 3) := dk_180 0 210 (dk_at dksX2_go_0 9 rfl rfl)
theorem dX2_go_12 : decode cX2_go 12 = .ok (.tableswitch 112 1 6 #[40, 40, 49, 57, 65, 92], 40) := by decide +kernel
theorem dX2_go_52 : decode cX2_go 52 = .ok (.aload_n 0, 1) := dk_42 (dk_at dksX2_go_2 0 rfl rfl)
theorem dX2_go_53 : decode cX2_go 53 = .ok (.aload_n 1, 1) := dk_43 (dk_at dksX2_go_2 1 rfl rfl)
theorem dX2_go_54 : decode cX2_go 54 = .ok (.aload_n 2, 1) := dk_44 (dk_at dksX2_go_2 2 rfl rfl)
theorem dX2_go_55 : decode cX2_go 55 = .ok (.invokevirtual 215, 3) := dk_182 0 215 (dk_at dksX2_go_2 3 rfl rfl)
theorem dX2_go_58 : decode cX2_go 58 = .ok (.goto 71, 3) := dk_167 0 71 (dk_at dksX2_go_2 6 rfl rfl)
theorem dX2_go_61 : decode cX2_go 61 = .ok (.aload_n 0, 1) := dk_42 (dk_at dksX2_go_2 9 rfl rfl)
theorem dX2_go_62 : decode cX2_go 62 = .ok (.aload_n 1, 1) := dk_43 (dk_at dksX2_go_2 10 rfl rfl)
theorem dX2_go_63 : decode cX2_go 63 = .ok (.invokevirtual 219, 3) := dk_182 0 219 (dk_at dksX2_go_2 11 rfl rfl)
theorem dX2_go_66 : decode cX2_go 66 = .ok (.goto 63, 3) := dk_167 0 63 (dk_at dksX2_go_2 14 rfl rfl)
theorem dX2_go_69 : decode cX2_go 69 = .ok (.aload_n 0, 1) := dk_42 (dk_at dksX2_go_2 17 rfl rfl)
theorem dX2_go_70 : decode cX2_go 70 = .ok (.aload_n 1, 1) := dk_43 (dk_at dksX2_go_2 18 rfl rfl)
theorem dX2_go_71 : decode cX2_go 71 = .ok (.invokevirtual 222, 3) := dk_182 0 222 (dk_at dksX2_go_2 19 rfl rfl)
theorem dX2_go_74 : decode cX2_go 74 = .ok (.goto 55, 3) := dk_167 0 55 (dk_at dksX2_go_3 0 rfl rfl)
theorem dX2_go_77 : decode cX2_go 77 = .ok (.aload_n 1, 1) := dk_43 (dk_at dksX2_go_3 3 rfl rfl)
theorem dX2_go_78 : decode cX2_go 78 = .ok (.aload_n 1, 1) := dk_43 (dk_at dksX2_go_3 4 rfl rfl)
theorem dX2_go_79 : decode cX2_go 79 = .ok (.getfield 164, 3) := dk_180 0 164 (dk_at dksX2_go_3 5 rfl rfl)
theorem dX2_go_82 : decode cX2_go 82 = .ok (.sipush 1000, 3) := dk_17 3 232 (dk_at dksX2_go_3 8 rfl rfl)
theorem dX2_go_85 : decode cX2_go 85 = .ok (.irem, 1) := dk_112 (dk_at dksX2_go_3 11 rfl rfl)
theorem dX2_go_86 : decode cX2_go 86 = .ok (.invokestatic 225, 3) := dk_184 0 225 (dk_at dksX2_go_3 12 rfl rfl)
theorem dX2_go_89 : decode cX2_go 89 = .ok (.aload_n 1, 1) := dk_43 (dk_at dksX2_go_3 15 rfl rfl)
theorem dX2_go_90 : decode cX2_go 90 = .ok (.aload_n 1, 1) := dk_43 (dk_at dksX2_go_3 16 rfl rfl)
theorem dX2_go_91 : decode cX2_go 91 = .ok (.getfield 164, 3) := dk_180 0 164 (dk_at dksX2_go_3 17 rfl rfl)
theorem dX2_go_94 : decode cX2_go 94 = .ok (.sipush 1000, 3) := dk_17 3 232 (dk_at dksX2_go_3 20 rfl rfl)
theorem dX2_go_97 : decode cX2_go 97 = .ok (.irem, 1) := dk_112 (dk_at dksX2_go_3 23 rfl rfl)
theorem dX2_go_98 : decode cX2_go 98 = .ok (.invokestatic 229, 3) := dk_184 0 229 (dk_at dksX2_go_4 0 rfl rfl)
theorem dX2_go_101 : decode cX2_go 101 = .ok (.goto 28, 3) := dk_167 0 28 (dk_at dksX2_go_4 3 rfl rfl)
theorem dX2_go_104 : decode cX2_go 104 = .ok (.aload_n 1, 1) := dk_43 (dk_at dksX2_go_4 6 rfl rfl)
theorem dX2_go_105 : decode cX2_go 105 = .ok (.iconst 0, 1) := dk_3 (dk_at dksX2_go_4 7 rfl rfl)
theorem dX2_go_106 : decode cX2_go 106 = .ok (.aload_n 1, 1) := dk_43 (dk_at dksX2_go_4 8 rfl rfl)
theorem dX2_go_107 : decode cX2_go 107 = .ok (.getfield 181, 3) := dk_180 0 181 (dk_at dksX2_go_4 9 rfl rfl)
theorem dX2_go_110 : decode cX2_go 110 = .ok (.invokestatic 200, 3) := dk_184 0 200 (dk_at dksX2_go_4 12 rfl rfl)
theorem dX2_go_113 : decode cX2_go 113 = .ok (.putfield 181, 3) := dk_181 0 181 (dk_at dksX2_go_4 15 rfl rfl)
theorem dX2_go_116 : decode cX2_go 116 = .ok (.aload_n 1, 1) := dk_43 (dk_at dksX2_go_4 18 rfl rfl)
theorem dX2_go_117 : decode cX2_go 117 = .ok (.iconst 0, 1) := dk_3 (dk_at dksX2_go_4 19 rfl rfl)
theorem dX2_go_118 : decode cX2_go 118 = .ok (.invokestatic 229, 3) := dk_184 0 229 (dk_at dksX2_go_4 20 rfl rfl)
theorem dX2_go_121 : decode cX2_go 121 = .ok (.goto 8, 3) := dk_167 0 8 (dk_at dksX2_go_5 0 rfl rfl)
theorem dX2_go_124 : decode cX2_go 124 = .ok (.aload_n 1, 1) := dk_43 (dk_at dksX2_go_5 3 rfl rfl)
theorem dX2_go_125 : decode cX2_go 125 = .ok (.iconst 0, 1) := dk_3 (dk_at dksX2_go_5 4 rfl rfl)
theorem dX2_go_126 : decode cX2_go 126 = .ok (.invokestatic 229, 3) := dk_184 0 229 (dk_at dksX2_go_5 5 rfl rfl)
theorem dX2_go_129 : decode cX2_go 129 = .ok (.return_, 1) := dk_177 (dk_at dksX2_go_5 8 rfl rfl)
abbrev cX2_touch : ByteArray := prog_4_method_17_code
def yX2_touch : MethodName := ⟨RX2, "touch", "(LHyperVane$Guest;LHyperVane$Op;)V"⟩
def dkwX2_touch_4 : List UInt8 := [92, 46, 4, 96, 79, 42, 43, 44, 180, 0, 237, 182, 0, 243, 177]
abbrev dktX2_touch_4 : List UInt8 := dkwX2_touch_4 ++ []
def dkwX2_touch_3 : List UInt8 := [6, 92, 46, 4, 96, 79, 43, 180, 0, 120, 44, 180, 0, 237, 3, 84, 167, 0, 22, 43, 180, 0, 240, 3]
abbrev dktX2_touch_3 : List UInt8 := dkwX2_touch_3 ++ dktX2_touch_4
def dkwX2_touch_2 : List UInt8 := [43, 3, 184, 0, 229, 167, 0, 57, 43, 180, 0, 120, 44, 180, 0, 237, 51, 153, 0, 26, 43, 180, 0, 240]
abbrev dktX2_touch_2 : List UInt8 := dkwX2_touch_2 ++ dktX2_touch_3
def dkwX2_touch_1 : List UInt8 := [180, 0, 210, 5, 160, 0, 20, 43, 182, 0, 133, 153, 0, 13, 43, 180, 0, 136, 44, 180, 0, 237, 4, 84]
abbrev dktX2_touch_1 : List UInt8 := dkwX2_touch_1 ++ dktX2_touch_2
def dkwX2_touch_0 : List UInt8 := [42, 43, 44, 180, 0, 237, 182, 0, 112, 78, 45, 198, 0, 44, 45, 42, 180, 0, 77, 181, 0, 70, 44]
abbrev dktX2_touch_0 : List UInt8 := dkwX2_touch_0 ++ dktX2_touch_1
theorem dksX2_touch_0 : cX2_touch.data.toList.drop 0 = dktX2_touch_0 := by decide +kernel
theorem dksX2_touch_1 : cX2_touch.data.toList.drop 23 = dktX2_touch_1 := dk_seg dksX2_touch_0 23 rfl rfl
theorem dksX2_touch_2 : cX2_touch.data.toList.drop 47 = dktX2_touch_2 := dk_seg dksX2_touch_1 24 rfl rfl
theorem dksX2_touch_3 : cX2_touch.data.toList.drop 71 = dktX2_touch_3 := dk_seg dksX2_touch_2 24 rfl rfl
theorem dksX2_touch_4 : cX2_touch.data.toList.drop 95 = dktX2_touch_4 := dk_seg dksX2_touch_3 24 rfl rfl
theorem dX2_touch_0 : decode cX2_touch 0 = .ok (.aload_n 0, 1) := dk_42 (dk_at dksX2_touch_0 0 rfl rfl)
theorem dX2_touch_1 : decode cX2_touch 1 = .ok (.aload_n 1, 1) := dk_43 (dk_at dksX2_touch_0 1 rfl rfl)
theorem dX2_touch_2 : decode cX2_touch 2 = .ok (.aload_n 2, 1) := dk_44 (dk_at dksX2_touch_0 2 rfl rfl)
theorem dX2_touch_3 : decode cX2_touch 3 = .ok (.getfield 237, 3) := dk_180 0 237 (dk_at dksX2_touch_0 3 rfl rfl)
theorem dX2_touch_6 : decode cX2_touch 6 = .ok (.invokevirtual 112, 3) := dk_182 0 112 (dk_at dksX2_touch_0 6 rfl rfl)
theorem dX2_touch_9 : decode cX2_touch 9 = .ok (.astore_n 3, 1) := dk_78 (dk_at dksX2_touch_0 9 rfl rfl)
theorem dX2_touch_10 : decode cX2_touch 10 = .ok (.aload_n 3, 1) := dk_45 (dk_at dksX2_touch_0 10 rfl rfl)
theorem dX2_touch_11 : decode cX2_touch 11 = .ok (.ifnull 44, 3) := dk_198 0 44 (dk_at dksX2_touch_0 11 rfl rfl)
theorem dX2_touch_14 : decode cX2_touch 14 = .ok (.aload_n 3, 1) := dk_45 (dk_at dksX2_touch_0 14 rfl rfl)
theorem dX2_touch_15 : decode cX2_touch 15 = .ok (.aload_n 0, 1) := dk_42 (dk_at dksX2_touch_0 15 rfl rfl)
theorem dX2_touch_16 : decode cX2_touch 16 = .ok (.getfield 77, 3) := dk_180 0 77 (dk_at dksX2_touch_0 16 rfl rfl)
theorem dX2_touch_19 : decode cX2_touch 19 = .ok (.putfield 70, 3) := dk_181 0 70 (dk_at dksX2_touch_0 19 rfl rfl)
theorem dX2_touch_22 : decode cX2_touch 22 = .ok (.aload_n 2, 1) := dk_44 (dk_at dksX2_touch_0 22 rfl rfl)
theorem dX2_touch_23 : decode cX2_touch 23 = .ok (.getfield 210, 3) := dk_180 0 210 (dk_at dksX2_touch_1 0 rfl rfl)
theorem dX2_touch_26 : decode cX2_touch 26 = .ok (.iconst 2, 1) := dk_5 (dk_at dksX2_touch_1 3 rfl rfl)
theorem dX2_touch_27 : decode cX2_touch 27 = .ok (.if_icmp .ne 20, 3) := dk_160 0 20 (dk_at dksX2_touch_1 4 rfl rfl)
theorem dX2_touch_30 : decode cX2_touch 30 = .ok (.aload_n 1, 1) := dk_43 (dk_at dksX2_touch_1 7 rfl rfl)
theorem dX2_touch_31 : decode cX2_touch 31 = .ok (.invokevirtual 133, 3) := dk_182 0 133 (dk_at dksX2_touch_1 8 rfl rfl)
theorem dX2_touch_34 : decode cX2_touch 34 = .ok (.ifCond .eq 13, 3) := dk_153 0 13 (dk_at dksX2_touch_1 11 rfl rfl)
theorem dX2_touch_37 : decode cX2_touch 37 = .ok (.aload_n 1, 1) := dk_43 (dk_at dksX2_touch_1 14 rfl rfl)
theorem dX2_touch_38 : decode cX2_touch 38 = .ok (.getfield 136, 3) := dk_180 0 136 (dk_at dksX2_touch_1 15 rfl rfl)
theorem dX2_touch_41 : decode cX2_touch 41 = .ok (.aload_n 2, 1) := dk_44 (dk_at dksX2_touch_1 18 rfl rfl)
theorem dX2_touch_42 : decode cX2_touch 42 = .ok (.getfield 237, 3) := dk_180 0 237 (dk_at dksX2_touch_1 19 rfl rfl)
theorem dX2_touch_45 : decode cX2_touch 45 = .ok (.iconst 1, 1) := dk_4 (dk_at dksX2_touch_1 22 rfl rfl)
theorem dX2_touch_46 : decode cX2_touch 46 = .ok (.bastore, 1) := dk_84 (dk_at dksX2_touch_1 23 rfl rfl)
theorem dX2_touch_47 : decode cX2_touch 47 = .ok (.aload_n 1, 1) := dk_43 (dk_at dksX2_touch_2 0 rfl rfl)
theorem dX2_touch_48 : decode cX2_touch 48 = .ok (.iconst 0, 1) := dk_3 (dk_at dksX2_touch_2 1 rfl rfl)
theorem dX2_touch_49 : decode cX2_touch 49 = .ok (.invokestatic 229, 3) := dk_184 0 229 (dk_at dksX2_touch_2 2 rfl rfl)
theorem dX2_touch_52 : decode cX2_touch 52 = .ok (.goto 57, 3) := dk_167 0 57 (dk_at dksX2_touch_2 5 rfl rfl)
theorem dX2_touch_55 : decode cX2_touch 55 = .ok (.aload_n 1, 1) := dk_43 (dk_at dksX2_touch_2 8 rfl rfl)
theorem dX2_touch_56 : decode cX2_touch 56 = .ok (.getfield 120, 3) := dk_180 0 120 (dk_at dksX2_touch_2 9 rfl rfl)
theorem dX2_touch_59 : decode cX2_touch 59 = .ok (.aload_n 2, 1) := dk_44 (dk_at dksX2_touch_2 12 rfl rfl)
theorem dX2_touch_60 : decode cX2_touch 60 = .ok (.getfield 237, 3) := dk_180 0 237 (dk_at dksX2_touch_2 13 rfl rfl)
theorem dX2_touch_63 : decode cX2_touch 63 = .ok (.baload, 1) := dk_51 (dk_at dksX2_touch_2 16 rfl rfl)
theorem dX2_touch_64 : decode cX2_touch 64 = .ok (.ifCond .eq 26, 3) := dk_153 0 26 (dk_at dksX2_touch_2 17 rfl rfl)
theorem dX2_touch_67 : decode cX2_touch 67 = .ok (.aload_n 1, 1) := dk_43 (dk_at dksX2_touch_2 20 rfl rfl)
theorem dX2_touch_68 : decode cX2_touch 68 = .ok (.getfield 240, 3) := dk_180 0 240 (dk_at dksX2_touch_2 21 rfl rfl)
theorem dX2_touch_71 : decode cX2_touch 71 = .ok (.iconst 3, 1) := dk_6 (dk_at dksX2_touch_3 0 rfl rfl)
theorem dX2_touch_72 : decode cX2_touch 72 = .ok (.dup2, 1) := dk_92 (dk_at dksX2_touch_3 1 rfl rfl)
theorem dX2_touch_73 : decode cX2_touch 73 = .ok (.iaload, 1) := dk_46 (dk_at dksX2_touch_3 2 rfl rfl)
theorem dX2_touch_74 : decode cX2_touch 74 = .ok (.iconst 1, 1) := dk_4 (dk_at dksX2_touch_3 3 rfl rfl)
theorem dX2_touch_75 : decode cX2_touch 75 = .ok (.iadd, 1) := dk_96 (dk_at dksX2_touch_3 4 rfl rfl)
theorem dX2_touch_76 : decode cX2_touch 76 = .ok (.iastore, 1) := dk_79 (dk_at dksX2_touch_3 5 rfl rfl)
theorem dX2_touch_77 : decode cX2_touch 77 = .ok (.aload_n 1, 1) := dk_43 (dk_at dksX2_touch_3 6 rfl rfl)
theorem dX2_touch_78 : decode cX2_touch 78 = .ok (.getfield 120, 3) := dk_180 0 120 (dk_at dksX2_touch_3 7 rfl rfl)
theorem dX2_touch_81 : decode cX2_touch 81 = .ok (.aload_n 2, 1) := dk_44 (dk_at dksX2_touch_3 10 rfl rfl)
theorem dX2_touch_82 : decode cX2_touch 82 = .ok (.getfield 237, 3) := dk_180 0 237 (dk_at dksX2_touch_3 11 rfl rfl)
theorem dX2_touch_85 : decode cX2_touch 85 = .ok (.iconst 0, 1) := dk_3 (dk_at dksX2_touch_3 14 rfl rfl)
theorem dX2_touch_86 : decode cX2_touch 86 = .ok (.bastore, 1) := dk_84 (dk_at dksX2_touch_3 15 rfl rfl)
theorem dX2_touch_87 : decode cX2_touch 87 = .ok (.goto 22, 3) := dk_167 0 22 (dk_at dksX2_touch_3 16 rfl rfl)
theorem dX2_touch_90 : decode cX2_touch 90 = .ok (.aload_n 1, 1) := dk_43 (dk_at dksX2_touch_3 19 rfl rfl)
theorem dX2_touch_91 : decode cX2_touch 91 = .ok (.getfield 240, 3) := dk_180 0 240 (dk_at dksX2_touch_3 20 rfl rfl)
theorem dX2_touch_94 : decode cX2_touch 94 = .ok (.iconst 0, 1) := dk_3 (dk_at dksX2_touch_3 23 rfl rfl)
theorem dX2_touch_95 : decode cX2_touch 95 = .ok (.dup2, 1) := dk_92 (dk_at dksX2_touch_4 0 rfl rfl)
theorem dX2_touch_96 : decode cX2_touch 96 = .ok (.iaload, 1) := dk_46 (dk_at dksX2_touch_4 1 rfl rfl)
theorem dX2_touch_97 : decode cX2_touch 97 = .ok (.iconst 1, 1) := dk_4 (dk_at dksX2_touch_4 2 rfl rfl)
theorem dX2_touch_98 : decode cX2_touch 98 = .ok (.iadd, 1) := dk_96 (dk_at dksX2_touch_4 3 rfl rfl)
theorem dX2_touch_99 : decode cX2_touch 99 = .ok (.iastore, 1) := dk_79 (dk_at dksX2_touch_4 4 rfl rfl)
theorem dX2_touch_100 : decode cX2_touch 100 = .ok (.aload_n 0, 1) := dk_42 (dk_at dksX2_touch_4 5 rfl rfl)
theorem dX2_touch_101 : decode cX2_touch 101 = .ok (.aload_n 1, 1) := dk_43 (dk_at dksX2_touch_4 6 rfl rfl)
theorem dX2_touch_102 : decode cX2_touch 102 = .ok (.aload_n 2, 1) := dk_44 (dk_at dksX2_touch_4 7 rfl rfl)
theorem dX2_touch_103 : decode cX2_touch 103 = .ok (.getfield 237, 3) := dk_180 0 237 (dk_at dksX2_touch_4 8 rfl rfl)
theorem dX2_touch_106 : decode cX2_touch 106 = .ok (.invokevirtual 243, 3) := dk_182 0 243 (dk_at dksX2_touch_4 11 rfl rfl)
theorem dX2_touch_109 : decode cX2_touch 109 = .ok (.return_, 1) := dk_177 (dk_at dksX2_touch_4 14 rfl rfl)
abbrev cX2_finish : ByteArray := prog_4_method_16_code
def yX2_finish : MethodName := ⟨RX2, "finish", "(LHyperVane$Guest;I)V"⟩
def dkwX2_finish_1 : List UInt8 := [198, 0, 16, 42, 180, 0, 139, 89, 180, 0, 148, 4, 96, 181, 0, 148, 177]
abbrev dktX2_finish_1 : List UInt8 := dkwX2_finish_1 ++ []
def dkwX2_finish_0 : List UInt8 := [42, 180, 0, 123, 27, 182, 0, 234, 42, 89, 180, 0, 157, 4, 96, 181, 0, 157, 42, 180, 0, 139]
abbrev dktX2_finish_0 : List UInt8 := dkwX2_finish_0 ++ dktX2_finish_1
theorem dksX2_finish_0 : cX2_finish.data.toList.drop 0 = dktX2_finish_0 := by decide +kernel
theorem dksX2_finish_1 : cX2_finish.data.toList.drop 22 = dktX2_finish_1 := dk_seg dksX2_finish_0 22 rfl rfl
theorem dX2_finish_0 : decode cX2_finish 0 = .ok (.aload_n 0, 1) := dk_42 (dk_at dksX2_finish_0 0 rfl rfl)
theorem dX2_finish_1 : decode cX2_finish 1 = .ok (.getfield 123, 3) := dk_180 0 123 (dk_at dksX2_finish_0 1 rfl rfl)
theorem dX2_finish_4 : decode cX2_finish 4 = .ok (.iload_n 1, 1) := dk_27 (dk_at dksX2_finish_0 4 rfl rfl)
theorem dX2_finish_5 : decode cX2_finish 5 = .ok (.invokevirtual 234, 3) := dk_182 0 234 (dk_at dksX2_finish_0 5 rfl rfl)
theorem dX2_finish_8 : decode cX2_finish 8 = .ok (.aload_n 0, 1) := dk_42 (dk_at dksX2_finish_0 8 rfl rfl)
theorem dX2_finish_9 : decode cX2_finish 9 = .ok (.dup, 1) := dk_89 (dk_at dksX2_finish_0 9 rfl rfl)
theorem dX2_finish_10 : decode cX2_finish 10 = .ok (.getfield 157, 3) := dk_180 0 157 (dk_at dksX2_finish_0 10 rfl rfl)
theorem dX2_finish_13 : decode cX2_finish 13 = .ok (.iconst 1, 1) := dk_4 (dk_at dksX2_finish_0 13 rfl rfl)
theorem dX2_finish_14 : decode cX2_finish 14 = .ok (.iadd, 1) := dk_96 (dk_at dksX2_finish_0 14 rfl rfl)
theorem dX2_finish_15 : decode cX2_finish 15 = .ok (.putfield 157, 3) := dk_181 0 157 (dk_at dksX2_finish_0 15 rfl rfl)
theorem dX2_finish_18 : decode cX2_finish 18 = .ok (.aload_n 0, 1) := dk_42 (dk_at dksX2_finish_0 18 rfl rfl)
theorem dX2_finish_19 : decode cX2_finish 19 = .ok (.getfield 139, 3) := dk_180 0 139 (dk_at dksX2_finish_0 19 rfl rfl)
theorem dX2_finish_22 : decode cX2_finish 22 = .ok (.ifnull 16, 3) := dk_198 0 16 (dk_at dksX2_finish_1 0 rfl rfl)
theorem dX2_finish_25 : decode cX2_finish 25 = .ok (.aload_n 0, 1) := dk_42 (dk_at dksX2_finish_1 3 rfl rfl)
theorem dX2_finish_26 : decode cX2_finish 26 = .ok (.getfield 139, 3) := dk_180 0 139 (dk_at dksX2_finish_1 4 rfl rfl)
theorem dX2_finish_29 : decode cX2_finish 29 = .ok (.dup, 1) := dk_89 (dk_at dksX2_finish_1 7 rfl rfl)
theorem dX2_finish_30 : decode cX2_finish 30 = .ok (.getfield 148, 3) := dk_180 0 148 (dk_at dksX2_finish_1 8 rfl rfl)
theorem dX2_finish_33 : decode cX2_finish 33 = .ok (.iconst 1, 1) := dk_4 (dk_at dksX2_finish_1 11 rfl rfl)
theorem dX2_finish_34 : decode cX2_finish 34 = .ok (.iadd, 1) := dk_96 (dk_at dksX2_finish_1 12 rfl rfl)
theorem dX2_finish_35 : decode cX2_finish 35 = .ok (.putfield 148, 3) := dk_181 0 148 (dk_at dksX2_finish_1 13 rfl rfl)
theorem dX2_finish_38 : decode cX2_finish 38 = .ok (.return_, 1) := dk_177 (dk_at dksX2_finish_1 16 rfl rfl)
abbrev cX2_fetch : ByteArray := prog_4_method_18_code
def yX2_fetch : MethodName := ⟨RX2, "fetch", "(LHyperVane$Guest;I)V"⟩
def dkwX2_fetch_1 : List UInt8 := [180, 0, 95, 28, 3, 84, 43, 5, 181, 0, 158, 43, 42, 180, 0, 77, 5, 96, 181, 0, 250, 177]
abbrev dktX2_fetch_1 : List UInt8 := dkwX2_fetch_1 ++ []
def dkwX2_fetch_0 : List UInt8 := [42, 182, 0, 246, 43, 28, 42, 180, 0, 77, 182, 0, 73, 43, 180, 0, 95, 28, 51, 154, 0, 4, 177, 43]
abbrev dktX2_fetch_0 : List UInt8 := dkwX2_fetch_0 ++ dktX2_fetch_1
theorem dksX2_fetch_0 : cX2_fetch.data.toList.drop 0 = dktX2_fetch_0 := by decide +kernel
theorem dksX2_fetch_1 : cX2_fetch.data.toList.drop 24 = dktX2_fetch_1 := dk_seg dksX2_fetch_0 24 rfl rfl
theorem dX2_fetch_0 : decode cX2_fetch 0 = .ok (.aload_n 0, 1) := dk_42 (dk_at dksX2_fetch_0 0 rfl rfl)
theorem dX2_fetch_1 : decode cX2_fetch 1 = .ok (.invokevirtual 246, 3) := dk_182 0 246 (dk_at dksX2_fetch_0 1 rfl rfl)
theorem dX2_fetch_4 : decode cX2_fetch 4 = .ok (.aload_n 1, 1) := dk_43 (dk_at dksX2_fetch_0 4 rfl rfl)
theorem dX2_fetch_5 : decode cX2_fetch 5 = .ok (.iload_n 2, 1) := dk_28 (dk_at dksX2_fetch_0 5 rfl rfl)
theorem dX2_fetch_6 : decode cX2_fetch 6 = .ok (.aload_n 0, 1) := dk_42 (dk_at dksX2_fetch_0 6 rfl rfl)
theorem dX2_fetch_7 : decode cX2_fetch 7 = .ok (.getfield 77, 3) := dk_180 0 77 (dk_at dksX2_fetch_0 7 rfl rfl)
theorem dX2_fetch_10 : decode cX2_fetch 10 = .ok (.invokevirtual 73, 3) := dk_182 0 73 (dk_at dksX2_fetch_0 10 rfl rfl)
theorem dX2_fetch_13 : decode cX2_fetch 13 = .ok (.aload_n 1, 1) := dk_43 (dk_at dksX2_fetch_0 13 rfl rfl)
theorem dX2_fetch_14 : decode cX2_fetch 14 = .ok (.getfield 95, 3) := dk_180 0 95 (dk_at dksX2_fetch_0 14 rfl rfl)
theorem dX2_fetch_17 : decode cX2_fetch 17 = .ok (.iload_n 2, 1) := dk_28 (dk_at dksX2_fetch_0 17 rfl rfl)
theorem dX2_fetch_18 : decode cX2_fetch 18 = .ok (.baload, 1) := dk_51 (dk_at dksX2_fetch_0 18 rfl rfl)
theorem dX2_fetch_19 : decode cX2_fetch 19 = .ok (.ifCond .ne 4, 3) := dk_154 0 4 (dk_at dksX2_fetch_0 19 rfl rfl)
theorem dX2_fetch_22 : decode cX2_fetch 22 = .ok (.return_, 1) := dk_177 (dk_at dksX2_fetch_0 22 rfl rfl)
theorem dX2_fetch_23 : decode cX2_fetch 23 = .ok (.aload_n 1, 1) := dk_43 (dk_at dksX2_fetch_0 23 rfl rfl)
theorem dX2_fetch_24 : decode cX2_fetch 24 = .ok (.getfield 95, 3) := dk_180 0 95 (dk_at dksX2_fetch_1 0 rfl rfl)
theorem dX2_fetch_27 : decode cX2_fetch 27 = .ok (.iload_n 2, 1) := dk_28 (dk_at dksX2_fetch_1 3 rfl rfl)
theorem dX2_fetch_28 : decode cX2_fetch 28 = .ok (.iconst 0, 1) := dk_3 (dk_at dksX2_fetch_1 4 rfl rfl)
theorem dX2_fetch_29 : decode cX2_fetch 29 = .ok (.bastore, 1) := dk_84 (dk_at dksX2_fetch_1 5 rfl rfl)
theorem dX2_fetch_30 : decode cX2_fetch 30 = .ok (.aload_n 1, 1) := dk_43 (dk_at dksX2_fetch_1 6 rfl rfl)
theorem dX2_fetch_31 : decode cX2_fetch 31 = .ok (.iconst 2, 1) := dk_5 (dk_at dksX2_fetch_1 7 rfl rfl)
theorem dX2_fetch_32 : decode cX2_fetch 32 = .ok (.putfield 158, 3) := dk_181 0 158 (dk_at dksX2_fetch_1 8 rfl rfl)
theorem dX2_fetch_35 : decode cX2_fetch 35 = .ok (.aload_n 1, 1) := dk_43 (dk_at dksX2_fetch_1 11 rfl rfl)
theorem dX2_fetch_36 : decode cX2_fetch 36 = .ok (.aload_n 0, 1) := dk_42 (dk_at dksX2_fetch_1 12 rfl rfl)
theorem dX2_fetch_37 : decode cX2_fetch 37 = .ok (.getfield 77, 3) := dk_180 0 77 (dk_at dksX2_fetch_1 13 rfl rfl)
theorem dX2_fetch_40 : decode cX2_fetch 40 = .ok (.iconst 2, 1) := dk_5 (dk_at dksX2_fetch_1 16 rfl rfl)
theorem dX2_fetch_41 : decode cX2_fetch 41 = .ok (.iadd, 1) := dk_96 (dk_at dksX2_fetch_1 17 rfl rfl)
theorem dX2_fetch_42 : decode cX2_fetch 42 = .ok (.putfield 250, 3) := dk_181 0 250 (dk_at dksX2_fetch_1 18 rfl rfl)
theorem dX2_fetch_45 : decode cX2_fetch 45 = .ok (.return_, 1) := dk_177 (dk_at dksX2_fetch_1 21 rfl rfl)
abbrev cX2_taken : ByteArray := prog_4_method_5_code
def yX2_taken : MethodName := ⟨RX2, "taken", "()LHyperVane$Frame;"⟩
def dkwX2_taken_2 : List UInt8 := [180, 0, 70, 43, 180, 0, 70, 162, 0, 5, 45, 76, 167, 255, 211, 42, 43, 182, 0, 102, 43, 176]
abbrev dktX2_taken_2 : List UInt8 := dkwX2_taken_2 ++ []
def dkwX2_taken_1 : List UInt8 := [185, 0, 39, 1, 0, 192, 0, 53, 78, 45, 180, 0, 56, 199, 0, 5, 45, 176, 43, 198, 0, 14, 45]
abbrev dktX2_taken_1 : List UInt8 := dkwX2_taken_1 ++ dktX2_taken_2
def dkwX2_taken_0 : List UInt8 := [1, 76, 42, 180, 0, 18, 182, 0, 29, 77, 44, 185, 0, 33, 1, 0, 153, 0, 42, 44]
abbrev dktX2_taken_0 : List UInt8 := dkwX2_taken_0 ++ dktX2_taken_1
theorem dksX2_taken_0 : cX2_taken.data.toList.drop 0 = dktX2_taken_0 := by decide +kernel
theorem dksX2_taken_1 : cX2_taken.data.toList.drop 20 = dktX2_taken_1 := dk_seg dksX2_taken_0 20 rfl rfl
theorem dksX2_taken_2 : cX2_taken.data.toList.drop 43 = dktX2_taken_2 := dk_seg dksX2_taken_1 23 rfl rfl
theorem dX2_taken_0 : decode cX2_taken 0 = .ok (.aconst_null, 1) := dk_1 (dk_at dksX2_taken_0 0 rfl rfl)
theorem dX2_taken_1 : decode cX2_taken 1 = .ok (.astore_n 1, 1) := dk_76 (dk_at dksX2_taken_0 1 rfl rfl)
theorem dX2_taken_2 : decode cX2_taken 2 = .ok (.aload_n 0, 1) := dk_42 (dk_at dksX2_taken_0 2 rfl rfl)
theorem dX2_taken_3 : decode cX2_taken 3 = .ok (.getfield 18, 3) := dk_180 0 18 (dk_at dksX2_taken_0 3 rfl rfl)
theorem dX2_taken_6 : decode cX2_taken 6 = .ok (.invokevirtual 29, 3) := dk_182 0 29 (dk_at dksX2_taken_0 6 rfl rfl)
theorem dX2_taken_9 : decode cX2_taken 9 = .ok (.astore_n 2, 1) := dk_77 (dk_at dksX2_taken_0 9 rfl rfl)
theorem dX2_taken_10 : decode cX2_taken 10 = .ok (.aload_n 2, 1) := dk_44 (dk_at dksX2_taken_0 10 rfl rfl)
theorem dX2_taken_11 : decode cX2_taken 11 = .ok (.invokeinterface 33 1, 5) := by decide +kernel
theorem dX2_taken_16 : decode cX2_taken 16 = .ok (.ifCond .eq 42, 3) := dk_153 0 42 (dk_at dksX2_taken_0 16 rfl rfl)
theorem dX2_taken_19 : decode cX2_taken 19 = .ok (.aload_n 2, 1) := dk_44 (dk_at dksX2_taken_0 19 rfl rfl)
theorem dX2_taken_20 : decode cX2_taken 20 = .ok (.invokeinterface 39 1, 5) := by decide +kernel
theorem dX2_taken_25 : decode cX2_taken 25 = .ok (.checkcast 53, 3) := dk_192 0 53 (dk_at dksX2_taken_1 5 rfl rfl)
theorem dX2_taken_28 : decode cX2_taken 28 = .ok (.astore_n 3, 1) := dk_78 (dk_at dksX2_taken_1 8 rfl rfl)
theorem dX2_taken_29 : decode cX2_taken 29 = .ok (.aload_n 3, 1) := dk_45 (dk_at dksX2_taken_1 9 rfl rfl)
theorem dX2_taken_30 : decode cX2_taken 30 = .ok (.getfield 56, 3) := dk_180 0 56 (dk_at dksX2_taken_1 10 rfl rfl)
theorem dX2_taken_33 : decode cX2_taken 33 = .ok (.ifnonnull 5, 3) := dk_199 0 5 (dk_at dksX2_taken_1 13 rfl rfl)
theorem dX2_taken_36 : decode cX2_taken 36 = .ok (.aload_n 3, 1) := dk_45 (dk_at dksX2_taken_1 16 rfl rfl)
theorem dX2_taken_37 : decode cX2_taken 37 = .ok (.areturn, 1) := dk_176 (dk_at dksX2_taken_1 17 rfl rfl)
theorem dX2_taken_38 : decode cX2_taken 38 = .ok (.aload_n 1, 1) := dk_43 (dk_at dksX2_taken_1 18 rfl rfl)
theorem dX2_taken_39 : decode cX2_taken 39 = .ok (.ifnull 14, 3) := dk_198 0 14 (dk_at dksX2_taken_1 19 rfl rfl)
theorem dX2_taken_42 : decode cX2_taken 42 = .ok (.aload_n 3, 1) := dk_45 (dk_at dksX2_taken_1 22 rfl rfl)
theorem dX2_taken_43 : decode cX2_taken 43 = .ok (.getfield 70, 3) := dk_180 0 70 (dk_at dksX2_taken_2 0 rfl rfl)
theorem dX2_taken_46 : decode cX2_taken 46 = .ok (.aload_n 1, 1) := dk_43 (dk_at dksX2_taken_2 3 rfl rfl)
theorem dX2_taken_47 : decode cX2_taken 47 = .ok (.getfield 70, 3) := dk_180 0 70 (dk_at dksX2_taken_2 4 rfl rfl)
theorem dX2_taken_50 : decode cX2_taken 50 = .ok (.if_icmp .ge 5, 3) := dk_162 0 5 (dk_at dksX2_taken_2 7 rfl rfl)
theorem dX2_taken_53 : decode cX2_taken 53 = .ok (.aload_n 3, 1) := dk_45 (dk_at dksX2_taken_2 10 rfl rfl)
theorem dX2_taken_54 : decode cX2_taken 54 = .ok (.astore_n 1, 1) := dk_76 (dk_at dksX2_taken_2 11 rfl rfl)
theorem dX2_taken_55 : decode cX2_taken 55 = .ok (.goto (-45), 3) := dk_167 255 211 (dk_at dksX2_taken_2 12 rfl rfl)
theorem dX2_taken_58 : decode cX2_taken 58 = .ok (.aload_n 0, 1) := dk_42 (dk_at dksX2_taken_2 15 rfl rfl)
theorem dX2_taken_59 : decode cX2_taken 59 = .ok (.aload_n 1, 1) := dk_43 (dk_at dksX2_taken_2 16 rfl rfl)
theorem dX2_taken_60 : decode cX2_taken 60 = .ok (.invokevirtual 102, 3) := dk_182 0 102 (dk_at dksX2_taken_2 17 rfl rfl)
theorem dX2_taken_63 : decode cX2_taken 63 = .ok (.aload_n 1, 1) := dk_43 (dk_at dksX2_taken_2 20 rfl rfl)
theorem dX2_taken_64 : decode cX2_taken 64 = .ok (.areturn, 1) := dk_176 (dk_at dksX2_taken_2 21 rfl rfl)
abbrev cX2_send : ByteArray := prog_4_method_19_code
def yX2_send : MethodName := ⟨RX2, "send", "(LHyperVane$Guest;)V"⟩
def dkwX2_send_3 : List UInt8 := [177]
abbrev dktX2_send_3 : List UInt8 := dkwX2_send_3 ++ []
def dkwX2_send_2 : List UInt8 := [180, 0, 240, 4, 92, 46, 4, 96, 79, 43, 89, 180, 0, 253, 4, 96, 181, 0, 253, 43, 3, 184, 0, 229]
abbrev dktX2_send_2 : List UInt8 := dkwX2_send_2 ++ dktX2_send_3
def dkwX2_send_1 : List UInt8 := [184, 0, 200, 181, 0, 181, 177, 43, 180, 0, 253, 154, 0, 21, 42, 180, 0, 83, 43, 165, 0, 13, 43]
abbrev dktX2_send_1 : List UInt8 := dkwX2_send_1 ++ dktX2_send_2
def dkwX2_send_0 : List UInt8 := [43, 180, 0, 253, 7, 160, 0, 26, 43, 180, 0, 240, 7, 92, 46, 4, 96, 79, 43, 3, 43, 180, 0, 181]
abbrev dktX2_send_0 : List UInt8 := dkwX2_send_0 ++ dktX2_send_1
theorem dksX2_send_0 : cX2_send.data.toList.drop 0 = dktX2_send_0 := by decide +kernel
theorem dksX2_send_1 : cX2_send.data.toList.drop 24 = dktX2_send_1 := dk_seg dksX2_send_0 24 rfl rfl
theorem dksX2_send_2 : cX2_send.data.toList.drop 47 = dktX2_send_2 := dk_seg dksX2_send_1 23 rfl rfl
theorem dksX2_send_3 : cX2_send.data.toList.drop 71 = dktX2_send_3 := dk_seg dksX2_send_2 24 rfl rfl
theorem dX2_send_0 : decode cX2_send 0 = .ok (.aload_n 1, 1) := dk_43 (dk_at dksX2_send_0 0 rfl rfl)
theorem dX2_send_1 : decode cX2_send 1 = .ok (.getfield 253, 3) := dk_180 0 253 (dk_at dksX2_send_0 1 rfl rfl)
theorem dX2_send_4 : decode cX2_send 4 = .ok (.iconst 4, 1) := dk_7 (dk_at dksX2_send_0 4 rfl rfl)
theorem dX2_send_5 : decode cX2_send 5 = .ok (.if_icmp .ne 26, 3) := dk_160 0 26 (dk_at dksX2_send_0 5 rfl rfl)
theorem dX2_send_8 : decode cX2_send 8 = .ok (.aload_n 1, 1) := dk_43 (dk_at dksX2_send_0 8 rfl rfl)
theorem dX2_send_9 : decode cX2_send 9 = .ok (.getfield 240, 3) := dk_180 0 240 (dk_at dksX2_send_0 9 rfl rfl)
theorem dX2_send_12 : decode cX2_send 12 = .ok (.iconst 4, 1) := dk_7 (dk_at dksX2_send_0 12 rfl rfl)
theorem dX2_send_13 : decode cX2_send 13 = .ok (.dup2, 1) := dk_92 (dk_at dksX2_send_0 13 rfl rfl)
theorem dX2_send_14 : decode cX2_send 14 = .ok (.iaload, 1) := dk_46 (dk_at dksX2_send_0 14 rfl rfl)
theorem dX2_send_15 : decode cX2_send 15 = .ok (.iconst 1, 1) := dk_4 (dk_at dksX2_send_0 15 rfl rfl)
theorem dX2_send_16 : decode cX2_send 16 = .ok (.iadd, 1) := dk_96 (dk_at dksX2_send_0 16 rfl rfl)
theorem dX2_send_17 : decode cX2_send 17 = .ok (.iastore, 1) := dk_79 (dk_at dksX2_send_0 17 rfl rfl)
theorem dX2_send_18 : decode cX2_send 18 = .ok (.aload_n 1, 1) := dk_43 (dk_at dksX2_send_0 18 rfl rfl)
theorem dX2_send_19 : decode cX2_send 19 = .ok (.iconst 0, 1) := dk_3 (dk_at dksX2_send_0 19 rfl rfl)
theorem dX2_send_20 : decode cX2_send 20 = .ok (.aload_n 1, 1) := dk_43 (dk_at dksX2_send_0 20 rfl rfl)
theorem dX2_send_21 : decode cX2_send 21 = .ok (.getfield 181, 3) := dk_180 0 181 (dk_at dksX2_send_0 21 rfl rfl)
theorem dX2_send_24 : decode cX2_send 24 = .ok (.invokestatic 200, 3) := dk_184 0 200 (dk_at dksX2_send_1 0 rfl rfl)
theorem dX2_send_27 : decode cX2_send 27 = .ok (.putfield 181, 3) := dk_181 0 181 (dk_at dksX2_send_1 3 rfl rfl)
theorem dX2_send_30 : decode cX2_send 30 = .ok (.return_, 1) := dk_177 (dk_at dksX2_send_1 6 rfl rfl)
theorem dX2_send_31 : decode cX2_send 31 = .ok (.aload_n 1, 1) := dk_43 (dk_at dksX2_send_1 7 rfl rfl)
theorem dX2_send_32 : decode cX2_send 32 = .ok (.getfield 253, 3) := dk_180 0 253 (dk_at dksX2_send_1 8 rfl rfl)
theorem dX2_send_35 : decode cX2_send 35 = .ok (.ifCond .ne 21, 3) := dk_154 0 21 (dk_at dksX2_send_1 11 rfl rfl)
theorem dX2_send_38 : decode cX2_send 38 = .ok (.aload_n 0, 1) := dk_42 (dk_at dksX2_send_1 14 rfl rfl)
theorem dX2_send_39 : decode cX2_send 39 = .ok (.getfield 83, 3) := dk_180 0 83 (dk_at dksX2_send_1 15 rfl rfl)
theorem dX2_send_42 : decode cX2_send 42 = .ok (.aload_n 1, 1) := dk_43 (dk_at dksX2_send_1 18 rfl rfl)
theorem dX2_send_43 : decode cX2_send 43 = .ok (.if_acmp .eq 13, 3) := dk_165 0 13 (dk_at dksX2_send_1 19 rfl rfl)
theorem dX2_send_46 : decode cX2_send 46 = .ok (.aload_n 1, 1) := dk_43 (dk_at dksX2_send_1 22 rfl rfl)
theorem dX2_send_47 : decode cX2_send 47 = .ok (.getfield 240, 3) := dk_180 0 240 (dk_at dksX2_send_2 0 rfl rfl)
theorem dX2_send_50 : decode cX2_send 50 = .ok (.iconst 1, 1) := dk_4 (dk_at dksX2_send_2 3 rfl rfl)
theorem dX2_send_51 : decode cX2_send 51 = .ok (.dup2, 1) := dk_92 (dk_at dksX2_send_2 4 rfl rfl)
theorem dX2_send_52 : decode cX2_send 52 = .ok (.iaload, 1) := dk_46 (dk_at dksX2_send_2 5 rfl rfl)
theorem dX2_send_53 : decode cX2_send 53 = .ok (.iconst 1, 1) := dk_4 (dk_at dksX2_send_2 6 rfl rfl)
theorem dX2_send_54 : decode cX2_send 54 = .ok (.iadd, 1) := dk_96 (dk_at dksX2_send_2 7 rfl rfl)
theorem dX2_send_55 : decode cX2_send 55 = .ok (.iastore, 1) := dk_79 (dk_at dksX2_send_2 8 rfl rfl)
theorem dX2_send_56 : decode cX2_send 56 = .ok (.aload_n 1, 1) := dk_43 (dk_at dksX2_send_2 9 rfl rfl)
theorem dX2_send_57 : decode cX2_send 57 = .ok (.dup, 1) := dk_89 (dk_at dksX2_send_2 10 rfl rfl)
theorem dX2_send_58 : decode cX2_send 58 = .ok (.getfield 253, 3) := dk_180 0 253 (dk_at dksX2_send_2 11 rfl rfl)
theorem dX2_send_61 : decode cX2_send 61 = .ok (.iconst 1, 1) := dk_4 (dk_at dksX2_send_2 14 rfl rfl)
theorem dX2_send_62 : decode cX2_send 62 = .ok (.iadd, 1) := dk_96 (dk_at dksX2_send_2 15 rfl rfl)
theorem dX2_send_63 : decode cX2_send 63 = .ok (.putfield 253, 3) := dk_181 0 253 (dk_at dksX2_send_2 16 rfl rfl)
theorem dX2_send_66 : decode cX2_send 66 = .ok (.aload_n 1, 1) := dk_43 (dk_at dksX2_send_2 19 rfl rfl)
theorem dX2_send_67 : decode cX2_send 67 = .ok (.iconst 0, 1) := dk_3 (dk_at dksX2_send_2 20 rfl rfl)
theorem dX2_send_68 : decode cX2_send 68 = .ok (.invokestatic 229, 3) := dk_184 0 229 (dk_at dksX2_send_2 21 rfl rfl)
theorem dX2_send_71 : decode cX2_send 71 = .ok (.return_, 1) := dk_177 (dk_at dksX2_send_3 0 rfl rfl)
abbrev cX2_await : ByteArray := prog_4_method_20_code
def yX2_await : MethodName := ⟨RX2, "await", "(LHyperVane$Guest;)V"⟩
def dkwX2_await_1 : List UInt8 := [180, 1, 0, 61, 43, 3, 181, 1, 0, 43, 28, 184, 0, 225, 43, 28, 184, 0, 229, 177]
abbrev dktX2_await_1 : List UInt8 := dkwX2_await_1 ++ []
def dkwX2_await_0 : List UInt8 := [43, 180, 1, 0, 154, 0, 19, 43, 180, 0, 240, 5, 92, 46, 4, 96, 79, 43, 4, 181, 0, 158, 177, 43]
abbrev dktX2_await_0 : List UInt8 := dkwX2_await_0 ++ dktX2_await_1
theorem dksX2_await_0 : cX2_await.data.toList.drop 0 = dktX2_await_0 := by decide +kernel
theorem dksX2_await_1 : cX2_await.data.toList.drop 24 = dktX2_await_1 := dk_seg dksX2_await_0 24 rfl rfl
theorem dX2_await_0 : decode cX2_await 0 = .ok (.aload_n 1, 1) := dk_43 (dk_at dksX2_await_0 0 rfl rfl)
theorem dX2_await_1 : decode cX2_await 1 = .ok (.getfield 256, 3) := dk_180 1 0 (dk_at dksX2_await_0 1 rfl rfl)
theorem dX2_await_4 : decode cX2_await 4 = .ok (.ifCond .ne 19, 3) := dk_154 0 19 (dk_at dksX2_await_0 4 rfl rfl)
theorem dX2_await_7 : decode cX2_await 7 = .ok (.aload_n 1, 1) := dk_43 (dk_at dksX2_await_0 7 rfl rfl)
theorem dX2_await_8 : decode cX2_await 8 = .ok (.getfield 240, 3) := dk_180 0 240 (dk_at dksX2_await_0 8 rfl rfl)
theorem dX2_await_11 : decode cX2_await 11 = .ok (.iconst 2, 1) := dk_5 (dk_at dksX2_await_0 11 rfl rfl)
theorem dX2_await_12 : decode cX2_await 12 = .ok (.dup2, 1) := dk_92 (dk_at dksX2_await_0 12 rfl rfl)
theorem dX2_await_13 : decode cX2_await 13 = .ok (.iaload, 1) := dk_46 (dk_at dksX2_await_0 13 rfl rfl)
theorem dX2_await_14 : decode cX2_await 14 = .ok (.iconst 1, 1) := dk_4 (dk_at dksX2_await_0 14 rfl rfl)
theorem dX2_await_15 : decode cX2_await 15 = .ok (.iadd, 1) := dk_96 (dk_at dksX2_await_0 15 rfl rfl)
theorem dX2_await_16 : decode cX2_await 16 = .ok (.iastore, 1) := dk_79 (dk_at dksX2_await_0 16 rfl rfl)
theorem dX2_await_17 : decode cX2_await 17 = .ok (.aload_n 1, 1) := dk_43 (dk_at dksX2_await_0 17 rfl rfl)
theorem dX2_await_18 : decode cX2_await 18 = .ok (.iconst 1, 1) := dk_4 (dk_at dksX2_await_0 18 rfl rfl)
theorem dX2_await_19 : decode cX2_await 19 = .ok (.putfield 158, 3) := dk_181 0 158 (dk_at dksX2_await_0 19 rfl rfl)
theorem dX2_await_22 : decode cX2_await 22 = .ok (.return_, 1) := dk_177 (dk_at dksX2_await_0 22 rfl rfl)
theorem dX2_await_23 : decode cX2_await 23 = .ok (.aload_n 1, 1) := dk_43 (dk_at dksX2_await_0 23 rfl rfl)
theorem dX2_await_24 : decode cX2_await 24 = .ok (.getfield 256, 3) := dk_180 1 0 (dk_at dksX2_await_1 0 rfl rfl)
theorem dX2_await_27 : decode cX2_await 27 = .ok (.istore_n 2, 1) := dk_61 (dk_at dksX2_await_1 3 rfl rfl)
theorem dX2_await_28 : decode cX2_await 28 = .ok (.aload_n 1, 1) := dk_43 (dk_at dksX2_await_1 4 rfl rfl)
theorem dX2_await_29 : decode cX2_await 29 = .ok (.iconst 0, 1) := dk_3 (dk_at dksX2_await_1 5 rfl rfl)
theorem dX2_await_30 : decode cX2_await 30 = .ok (.putfield 256, 3) := dk_181 1 0 (dk_at dksX2_await_1 6 rfl rfl)
theorem dX2_await_33 : decode cX2_await 33 = .ok (.aload_n 1, 1) := dk_43 (dk_at dksX2_await_1 9 rfl rfl)
theorem dX2_await_34 : decode cX2_await 34 = .ok (.iload_n 2, 1) := dk_28 (dk_at dksX2_await_1 10 rfl rfl)
theorem dX2_await_35 : decode cX2_await 35 = .ok (.invokestatic 225, 3) := dk_184 0 225 (dk_at dksX2_await_1 11 rfl rfl)
theorem dX2_await_38 : decode cX2_await 38 = .ok (.aload_n 1, 1) := dk_43 (dk_at dksX2_await_1 14 rfl rfl)
theorem dX2_await_39 : decode cX2_await 39 = .ok (.iload_n 2, 1) := dk_28 (dk_at dksX2_await_1 15 rfl rfl)
theorem dX2_await_40 : decode cX2_await 40 = .ok (.invokestatic 229, 3) := dk_184 0 229 (dk_at dksX2_await_1 16 rfl rfl)
theorem dX2_await_43 : decode cX2_await 43 = .ok (.return_, 1) := dk_177 (dk_at dksX2_await_1 19 rfl rfl)
abbrev cX2_log : ByteArray := prog_4_method_15_code
def yX2_log : MethodName := ⟨RX2, "log", "(LHyperVane$Guest;I)V"⟩
def dkwX2_log_0 : List UInt8 := [42, 180, 0, 139, 198, 0, 11, 42, 180, 0, 139, 27, 182, 0, 232, 177]
abbrev dktX2_log_0 : List UInt8 := dkwX2_log_0 ++ []
theorem dksX2_log_0 : cX2_log.data.toList.drop 0 = dktX2_log_0 := by decide +kernel
theorem dX2_log_0 : decode cX2_log 0 = .ok (.aload_n 0, 1) := dk_42 (dk_at dksX2_log_0 0 rfl rfl)
theorem dX2_log_1 : decode cX2_log 1 = .ok (.getfield 139, 3) := dk_180 0 139 (dk_at dksX2_log_0 1 rfl rfl)
theorem dX2_log_4 : decode cX2_log 4 = .ok (.ifnull 11, 3) := dk_198 0 11 (dk_at dksX2_log_0 4 rfl rfl)
theorem dX2_log_7 : decode cX2_log 7 = .ok (.aload_n 0, 1) := dk_42 (dk_at dksX2_log_0 7 rfl rfl)
theorem dX2_log_8 : decode cX2_log 8 = .ok (.getfield 139, 3) := dk_180 0 139 (dk_at dksX2_log_0 8 rfl rfl)
theorem dX2_log_11 : decode cX2_log 11 = .ok (.iload_n 1, 1) := dk_27 (dk_at dksX2_log_0 11 rfl rfl)
theorem dX2_log_12 : decode cX2_log 12 = .ok (.invokevirtual 232, 3) := dk_182 0 232 (dk_at dksX2_log_0 12 rfl rfl)
theorem dX2_log_15 : decode cX2_log 15 = .ok (.return_, 1) := dk_177 (dk_at dksX2_log_0 15 rfl rfl)
abbrev cX2_device : ByteArray := prog_4_method_21_code
def yX2_device : MethodName := ⟨RX2, "device", "()V"⟩
def dkwX2_device_5 : List UInt8 := [42, 44, 182, 1, 6, 132, 1, 1, 167, 255, 198, 177]
abbrev dktX2_device_5 : List UInt8 := dkwX2_device_5 ++ []
def dkwX2_device_4 : List UInt8 := [27, 96, 42, 180, 0, 12, 182, 0, 105, 112, 182, 0, 63, 192, 0, 43, 77, 44, 180, 0, 253, 158, 0, 8]
abbrev dktX2_device_4 : List UInt8 := dkwX2_device_4 ++ dktX2_device_5
def dkwX2_device_3 : List UInt8 := [180, 0, 12, 182, 0, 105, 163, 0, 53, 42, 180, 0, 83, 199, 0, 46, 42, 180, 0, 12, 42, 180, 0, 25]
abbrev dktX2_device_3 : List UInt8 := dkwX2_device_3 ++ dktX2_device_4
def dkwX2_device_2 : List UInt8 := [3, 181, 0, 158, 42, 89, 180, 0, 92, 4, 96, 181, 0, 92, 42, 182, 1, 3, 4, 60, 27, 42]
abbrev dktX2_device_2 : List UInt8 := dkwX2_device_2 ++ dktX2_device_3
def dkwX2_device_1 : List UInt8 := [89, 180, 1, 0, 4, 96, 181, 1, 0, 42, 180, 0, 83, 180, 0, 158, 4, 160, 0, 11, 42, 180, 0, 83]
abbrev dktX2_device_1 : List UInt8 := dkwX2_device_1 ++ dktX2_device_2
def dkwX2_device_0 : List UInt8 := [42, 180, 0, 83, 198, 0, 62, 42, 180, 0, 77, 42, 180, 0, 21, 100, 6, 161, 0, 49, 42, 180, 0, 83]
abbrev dktX2_device_0 : List UInt8 := dkwX2_device_0 ++ dktX2_device_1
theorem dksX2_device_0 : cX2_device.data.toList.drop 0 = dktX2_device_0 := by decide +kernel
theorem dksX2_device_1 : cX2_device.data.toList.drop 24 = dktX2_device_1 := dk_seg dksX2_device_0 24 rfl rfl
theorem dksX2_device_2 : cX2_device.data.toList.drop 48 = dktX2_device_2 := dk_seg dksX2_device_1 24 rfl rfl
theorem dksX2_device_3 : cX2_device.data.toList.drop 70 = dktX2_device_3 := dk_seg dksX2_device_2 22 rfl rfl
theorem dksX2_device_4 : cX2_device.data.toList.drop 94 = dktX2_device_4 := dk_seg dksX2_device_3 24 rfl rfl
theorem dksX2_device_5 : cX2_device.data.toList.drop 118 = dktX2_device_5 := dk_seg dksX2_device_4 24 rfl rfl
theorem dX2_device_0 : decode cX2_device 0 = .ok (.aload_n 0, 1) := dk_42 (dk_at dksX2_device_0 0 rfl rfl)
theorem dX2_device_1 : decode cX2_device 1 = .ok (.getfield 83, 3) := dk_180 0 83 (dk_at dksX2_device_0 1 rfl rfl)
theorem dX2_device_4 : decode cX2_device 4 = .ok (.ifnull 62, 3) := dk_198 0 62 (dk_at dksX2_device_0 4 rfl rfl)
theorem dX2_device_7 : decode cX2_device 7 = .ok (.aload_n 0, 1) := dk_42 (dk_at dksX2_device_0 7 rfl rfl)
theorem dX2_device_8 : decode cX2_device 8 = .ok (.getfield 77, 3) := dk_180 0 77 (dk_at dksX2_device_0 8 rfl rfl)
theorem dX2_device_11 : decode cX2_device 11 = .ok (.aload_n 0, 1) := dk_42 (dk_at dksX2_device_0 11 rfl rfl)
theorem dX2_device_12 : decode cX2_device 12 = .ok (.getfield 21, 3) := dk_180 0 21 (dk_at dksX2_device_0 12 rfl rfl)
theorem dX2_device_15 : decode cX2_device 15 = .ok (.isub, 1) := dk_100 (dk_at dksX2_device_0 15 rfl rfl)
theorem dX2_device_16 : decode cX2_device 16 = .ok (.iconst 3, 1) := dk_6 (dk_at dksX2_device_0 16 rfl rfl)
theorem dX2_device_17 : decode cX2_device 17 = .ok (.if_icmp .lt 49, 3) := dk_161 0 49 (dk_at dksX2_device_0 17 rfl rfl)
theorem dX2_device_20 : decode cX2_device 20 = .ok (.aload_n 0, 1) := dk_42 (dk_at dksX2_device_0 20 rfl rfl)
theorem dX2_device_21 : decode cX2_device 21 = .ok (.getfield 83, 3) := dk_180 0 83 (dk_at dksX2_device_0 21 rfl rfl)
theorem dX2_device_24 : decode cX2_device 24 = .ok (.dup, 1) := dk_89 (dk_at dksX2_device_1 0 rfl rfl)
theorem dX2_device_25 : decode cX2_device 25 = .ok (.getfield 256, 3) := dk_180 1 0 (dk_at dksX2_device_1 1 rfl rfl)
theorem dX2_device_28 : decode cX2_device 28 = .ok (.iconst 1, 1) := dk_4 (dk_at dksX2_device_1 4 rfl rfl)
theorem dX2_device_29 : decode cX2_device 29 = .ok (.iadd, 1) := dk_96 (dk_at dksX2_device_1 5 rfl rfl)
theorem dX2_device_30 : decode cX2_device 30 = .ok (.putfield 256, 3) := dk_181 1 0 (dk_at dksX2_device_1 6 rfl rfl)
theorem dX2_device_33 : decode cX2_device 33 = .ok (.aload_n 0, 1) := dk_42 (dk_at dksX2_device_1 9 rfl rfl)
theorem dX2_device_34 : decode cX2_device 34 = .ok (.getfield 83, 3) := dk_180 0 83 (dk_at dksX2_device_1 10 rfl rfl)
theorem dX2_device_37 : decode cX2_device 37 = .ok (.getfield 158, 3) := dk_180 0 158 (dk_at dksX2_device_1 13 rfl rfl)
theorem dX2_device_40 : decode cX2_device 40 = .ok (.iconst 1, 1) := dk_4 (dk_at dksX2_device_1 16 rfl rfl)
theorem dX2_device_41 : decode cX2_device 41 = .ok (.if_icmp .ne 11, 3) := dk_160 0 11 (dk_at dksX2_device_1 17 rfl rfl)
theorem dX2_device_44 : decode cX2_device 44 = .ok (.aload_n 0, 1) := dk_42 (dk_at dksX2_device_1 20 rfl rfl)
theorem dX2_device_45 : decode cX2_device 45 = .ok (.getfield 83, 3) := dk_180 0 83 (dk_at dksX2_device_1 21 rfl rfl)
theorem dX2_device_48 : decode cX2_device 48 = .ok (.iconst 0, 1) := dk_3 (dk_at dksX2_device_2 0 rfl rfl)
theorem dX2_device_49 : decode cX2_device 49 = .ok (.putfield 158, 3) := dk_181 0 158 (dk_at dksX2_device_2 1 rfl rfl)
theorem dX2_device_52 : decode cX2_device 52 = .ok (.aload_n 0, 1) := dk_42 (dk_at dksX2_device_2 4 rfl rfl)
theorem dX2_device_53 : decode cX2_device 53 = .ok (.dup, 1) := dk_89 (dk_at dksX2_device_2 5 rfl rfl)
theorem dX2_device_54 : decode cX2_device 54 = .ok (.getfield 92, 3) := dk_180 0 92 (dk_at dksX2_device_2 6 rfl rfl)
theorem dX2_device_57 : decode cX2_device 57 = .ok (.iconst 1, 1) := dk_4 (dk_at dksX2_device_2 9 rfl rfl)
theorem dX2_device_58 : decode cX2_device 58 = .ok (.iadd, 1) := dk_96 (dk_at dksX2_device_2 10 rfl rfl)
theorem dX2_device_59 : decode cX2_device 59 = .ok (.putfield 92, 3) := dk_181 0 92 (dk_at dksX2_device_2 11 rfl rfl)
theorem dX2_device_62 : decode cX2_device 62 = .ok (.aload_n 0, 1) := dk_42 (dk_at dksX2_device_2 14 rfl rfl)
theorem dX2_device_63 : decode cX2_device 63 = .ok (.invokevirtual 259, 3) := dk_182 1 3 (dk_at dksX2_device_2 15 rfl rfl)
theorem dX2_device_66 : decode cX2_device 66 = .ok (.iconst 1, 1) := dk_4 (dk_at dksX2_device_2 18 rfl rfl)
theorem dX2_device_67 : decode cX2_device 67 = .ok (.istore_n 1, 1) := dk_60 (dk_at dksX2_device_2 19 rfl rfl)
theorem dX2_device_68 : decode cX2_device 68 = .ok (.iload_n 1, 1) := dk_27 (dk_at dksX2_device_2 20 rfl rfl)
theorem dX2_device_69 : decode cX2_device 69 = .ok (.aload_n 0, 1) := dk_42 (dk_at dksX2_device_2 21 rfl rfl)
theorem dX2_device_70 : decode cX2_device 70 = .ok (.getfield 12, 3) := dk_180 0 12 (dk_at dksX2_device_3 0 rfl rfl)
theorem dX2_device_73 : decode cX2_device 73 = .ok (.invokevirtual 105, 3) := dk_182 0 105 (dk_at dksX2_device_3 3 rfl rfl)
theorem dX2_device_76 : decode cX2_device 76 = .ok (.if_icmp .gt 53, 3) := dk_163 0 53 (dk_at dksX2_device_3 6 rfl rfl)
theorem dX2_device_79 : decode cX2_device 79 = .ok (.aload_n 0, 1) := dk_42 (dk_at dksX2_device_3 9 rfl rfl)
theorem dX2_device_80 : decode cX2_device 80 = .ok (.getfield 83, 3) := dk_180 0 83 (dk_at dksX2_device_3 10 rfl rfl)
theorem dX2_device_83 : decode cX2_device 83 = .ok (.ifnonnull 46, 3) := dk_199 0 46 (dk_at dksX2_device_3 13 rfl rfl)
theorem dX2_device_86 : decode cX2_device 86 = .ok (.aload_n 0, 1) := dk_42 (dk_at dksX2_device_3 16 rfl rfl)
theorem dX2_device_87 : decode cX2_device 87 = .ok (.getfield 12, 3) := dk_180 0 12 (dk_at dksX2_device_3 17 rfl rfl)
theorem dX2_device_90 : decode cX2_device 90 = .ok (.aload_n 0, 1) := dk_42 (dk_at dksX2_device_3 20 rfl rfl)
theorem dX2_device_91 : decode cX2_device 91 = .ok (.getfield 25, 3) := dk_180 0 25 (dk_at dksX2_device_3 21 rfl rfl)
theorem dX2_device_94 : decode cX2_device 94 = .ok (.iload_n 1, 1) := dk_27 (dk_at dksX2_device_4 0 rfl rfl)
theorem dX2_device_95 : decode cX2_device 95 = .ok (.iadd, 1) := dk_96 (dk_at dksX2_device_4 1 rfl rfl)
theorem dX2_device_96 : decode cX2_device 96 = .ok (.aload_n 0, 1) := dk_42 (dk_at dksX2_device_4 2 rfl rfl)
theorem dX2_device_97 : decode cX2_device 97 = .ok (.getfield 12, 3) := dk_180 0 12 (dk_at dksX2_device_4 3 rfl rfl)
theorem dX2_device_100 : decode cX2_device 100 = .ok (.invokevirtual 105, 3) := dk_182 0 105 (dk_at dksX2_device_4 6 rfl rfl)
theorem dX2_device_103 : decode cX2_device 103 = .ok (.irem, 1) := dk_112 (dk_at dksX2_device_4 9 rfl rfl)
theorem dX2_device_104 : decode cX2_device 104 = .ok (.invokevirtual 63, 3) := dk_182 0 63 (dk_at dksX2_device_4 10 rfl rfl)
theorem dX2_device_107 : decode cX2_device 107 = .ok (.checkcast 43, 3) := dk_192 0 43 (dk_at dksX2_device_4 13 rfl rfl)
theorem dX2_device_110 : decode cX2_device 110 = .ok (.astore_n 2, 1) := dk_77 (dk_at dksX2_device_4 16 rfl rfl)
theorem dX2_device_111 : decode cX2_device 111 = .ok (.aload_n 2, 1) := dk_44 (dk_at dksX2_device_4 17 rfl rfl)
theorem dX2_device_112 : decode cX2_device 112 = .ok (.getfield 253, 3) := dk_180 0 253 (dk_at dksX2_device_4 18 rfl rfl)
theorem dX2_device_115 : decode cX2_device 115 = .ok (.ifCond .le 8, 3) := dk_158 0 8 (dk_at dksX2_device_4 21 rfl rfl)
theorem dX2_device_118 : decode cX2_device 118 = .ok (.aload_n 0, 1) := dk_42 (dk_at dksX2_device_5 0 rfl rfl)
theorem dX2_device_119 : decode cX2_device 119 = .ok (.aload_n 2, 1) := dk_44 (dk_at dksX2_device_5 1 rfl rfl)
theorem dX2_device_120 : decode cX2_device 120 = .ok (.invokevirtual 262, 3) := dk_182 1 6 (dk_at dksX2_device_5 2 rfl rfl)
theorem dX2_device_123 : decode cX2_device 123 = .ok (.iinc 1 1, 3) := dk_132 1 1 (dk_at dksX2_device_5 5 rfl rfl)
theorem dX2_device_126 : decode cX2_device 126 = .ok (.goto (-58), 3) := dk_167 255 198 (dk_at dksX2_device_5 8 rfl rfl)
theorem dX2_device_129 : decode cX2_device 129 = .ok (.return_, 1) := dk_177 (dk_at dksX2_device_5 11 rfl rfl)
abbrev cX2_stopWork : ByteArray := prog_4_method_23_code
def yX2_stopWork : MethodName := ⟨RX2, "stopWork", "()V"⟩
def dkwX2_stopWork_0 : List UInt8 := [42, 1, 181, 0, 83, 42, 2, 181, 0, 21, 177]
abbrev dktX2_stopWork_0 : List UInt8 := dkwX2_stopWork_0 ++ []
theorem dksX2_stopWork_0 : cX2_stopWork.data.toList.drop 0 = dktX2_stopWork_0 := by decide +kernel
theorem dX2_stopWork_0 : decode cX2_stopWork 0 = .ok (.aload_n 0, 1) := dk_42 (dk_at dksX2_stopWork_0 0 rfl rfl)
theorem dX2_stopWork_1 : decode cX2_stopWork 1 = .ok (.aconst_null, 1) := dk_1 (dk_at dksX2_stopWork_0 1 rfl rfl)
theorem dX2_stopWork_2 : decode cX2_stopWork 2 = .ok (.putfield 83, 3) := dk_181 0 83 (dk_at dksX2_stopWork_0 2 rfl rfl)
theorem dX2_stopWork_5 : decode cX2_stopWork 5 = .ok (.aload_n 0, 1) := dk_42 (dk_at dksX2_stopWork_0 5 rfl rfl)
theorem dX2_stopWork_6 : decode cX2_stopWork 6 = .ok (.iconst (-1), 1) := dk_2 (dk_at dksX2_stopWork_0 6 rfl rfl)
theorem dX2_stopWork_7 : decode cX2_stopWork 7 = .ok (.putfield 21, 3) := dk_181 0 21 (dk_at dksX2_stopWork_0 7 rfl rfl)
theorem dX2_stopWork_10 : decode cX2_stopWork 10 = .ok (.return_, 1) := dk_177 (dk_at dksX2_stopWork_0 10 rfl rfl)
abbrev cX2_begin : ByteArray := prog_4_method_22_code
def yX2_begin : MethodName := ⟨RX2, "begin", "(LHyperVane$Guest;)V"⟩
def dkwX2_begin_1 : List UInt8 := [43, 180, 0, 60, 181, 0, 25, 177]
abbrev dktX2_begin_1 : List UInt8 := dkwX2_begin_1 ++ []
def dkwX2_begin_0 : List UInt8 := [43, 89, 180, 0, 253, 4, 100, 181, 0, 253, 42, 43, 181, 0, 83, 42, 42, 180, 0, 77, 181, 0, 21, 42]
abbrev dktX2_begin_0 : List UInt8 := dkwX2_begin_0 ++ dktX2_begin_1
theorem dksX2_begin_0 : cX2_begin.data.toList.drop 0 = dktX2_begin_0 := by decide +kernel
theorem dksX2_begin_1 : cX2_begin.data.toList.drop 24 = dktX2_begin_1 := dk_seg dksX2_begin_0 24 rfl rfl
theorem dX2_begin_0 : decode cX2_begin 0 = .ok (.aload_n 1, 1) := dk_43 (dk_at dksX2_begin_0 0 rfl rfl)
theorem dX2_begin_1 : decode cX2_begin 1 = .ok (.dup, 1) := dk_89 (dk_at dksX2_begin_0 1 rfl rfl)
theorem dX2_begin_2 : decode cX2_begin 2 = .ok (.getfield 253, 3) := dk_180 0 253 (dk_at dksX2_begin_0 2 rfl rfl)
theorem dX2_begin_5 : decode cX2_begin 5 = .ok (.iconst 1, 1) := dk_4 (dk_at dksX2_begin_0 5 rfl rfl)
theorem dX2_begin_6 : decode cX2_begin 6 = .ok (.isub, 1) := dk_100 (dk_at dksX2_begin_0 6 rfl rfl)
theorem dX2_begin_7 : decode cX2_begin 7 = .ok (.putfield 253, 3) := dk_181 0 253 (dk_at dksX2_begin_0 7 rfl rfl)
theorem dX2_begin_10 : decode cX2_begin 10 = .ok (.aload_n 0, 1) := dk_42 (dk_at dksX2_begin_0 10 rfl rfl)
theorem dX2_begin_11 : decode cX2_begin 11 = .ok (.aload_n 1, 1) := dk_43 (dk_at dksX2_begin_0 11 rfl rfl)
theorem dX2_begin_12 : decode cX2_begin 12 = .ok (.putfield 83, 3) := dk_181 0 83 (dk_at dksX2_begin_0 12 rfl rfl)
theorem dX2_begin_15 : decode cX2_begin 15 = .ok (.aload_n 0, 1) := dk_42 (dk_at dksX2_begin_0 15 rfl rfl)
theorem dX2_begin_16 : decode cX2_begin 16 = .ok (.aload_n 0, 1) := dk_42 (dk_at dksX2_begin_0 16 rfl rfl)
theorem dX2_begin_17 : decode cX2_begin 17 = .ok (.getfield 77, 3) := dk_180 0 77 (dk_at dksX2_begin_0 17 rfl rfl)
theorem dX2_begin_20 : decode cX2_begin 20 = .ok (.putfield 21, 3) := dk_181 0 21 (dk_at dksX2_begin_0 20 rfl rfl)
theorem dX2_begin_23 : decode cX2_begin 23 = .ok (.aload_n 0, 1) := dk_42 (dk_at dksX2_begin_0 23 rfl rfl)
theorem dX2_begin_24 : decode cX2_begin 24 = .ok (.aload_n 1, 1) := dk_43 (dk_at dksX2_begin_1 0 rfl rfl)
theorem dX2_begin_25 : decode cX2_begin 25 = .ok (.getfield 60, 3) := dk_180 0 60 (dk_at dksX2_begin_1 1 rfl rfl)
theorem dX2_begin_28 : decode cX2_begin 28 = .ok (.putfield 25, 3) := dk_181 0 25 (dk_at dksX2_begin_1 4 rfl rfl)
theorem dX2_begin_31 : decode cX2_begin 31 = .ok (.return_, 1) := dk_177 (dk_at dksX2_begin_1 7 rfl rfl)
abbrev cX2_move : ByteArray := prog_4_method_24_code
def yX2_move : MethodName := ⟨RX2, "move", "(LHyperVane$Guest;)V"⟩
def dkwX2_move_5 : List UInt8 := [132, 3, 255, 132, 4, 1, 167, 255, 218, 177]
abbrev dktX2_move_5 : List UInt8 := dkwX2_move_5 ++ []
def dkwX2_move_4 : List UInt8 := [158, 0, 33, 43, 180, 0, 136, 21, 4, 51, 154, 0, 6, 167, 0, 14, 43, 180, 0, 136, 21, 4, 3, 84]
abbrev dktX2_move_4 : List UInt8 := dkwX2_move_4 ++ dktX2_move_5
def dkwX2_move_3 : List UInt8 := [181, 1, 31, 43, 28, 181, 1, 9, 43, 180, 1, 19, 62, 3, 54, 4, 21, 4, 16, 6, 162, 0, 37, 29]
abbrev dktX2_move_3 : List UInt8 := dkwX2_move_3 ++ dktX2_move_4
def dkwX2_move_2 : List UInt8 := [43, 180, 0, 158, 6, 159, 0, 7, 43, 182, 1, 25, 43, 4, 181, 1, 28, 43, 89, 180, 1, 31, 4, 96]
abbrev dktX2_move_2 : List UInt8 := dkwX2_move_2 ++ dktX2_move_3
def dkwX2_move_1 : List UInt8 := [4, 167, 0, 4, 3, 61, 28, 154, 0, 17, 42, 180, 0, 77, 43, 180, 1, 22, 100, 16, 12, 161, 0, 35]
abbrev dktX2_move_1 : List UInt8 := dkwX2_move_1 ++ dktX2_move_2
def dkwX2_move_0 : List UInt8 := [43, 180, 1, 9, 153, 0, 9, 42, 43, 182, 1, 13, 177, 43, 182, 1, 16, 43, 180, 1, 19, 163, 0, 7]
abbrev dktX2_move_0 : List UInt8 := dkwX2_move_0 ++ dktX2_move_1
theorem dksX2_move_0 : cX2_move.data.toList.drop 0 = dktX2_move_0 := by decide +kernel
theorem dksX2_move_1 : cX2_move.data.toList.drop 24 = dktX2_move_1 := dk_seg dksX2_move_0 24 rfl rfl
theorem dksX2_move_2 : cX2_move.data.toList.drop 48 = dktX2_move_2 := dk_seg dksX2_move_1 24 rfl rfl
theorem dksX2_move_3 : cX2_move.data.toList.drop 72 = dktX2_move_3 := dk_seg dksX2_move_2 24 rfl rfl
theorem dksX2_move_4 : cX2_move.data.toList.drop 96 = dktX2_move_4 := dk_seg dksX2_move_3 24 rfl rfl
theorem dksX2_move_5 : cX2_move.data.toList.drop 120 = dktX2_move_5 := dk_seg dksX2_move_4 24 rfl rfl
theorem dX2_move_0 : decode cX2_move 0 = .ok (.aload_n 1, 1) := dk_43 (dk_at dksX2_move_0 0 rfl rfl)
theorem dX2_move_1 : decode cX2_move 1 = .ok (.getfield 265, 3) := dk_180 1 9 (dk_at dksX2_move_0 1 rfl rfl)
theorem dX2_move_4 : decode cX2_move 4 = .ok (.ifCond .eq 9, 3) := dk_153 0 9 (dk_at dksX2_move_0 4 rfl rfl)
theorem dX2_move_7 : decode cX2_move 7 = .ok (.aload_n 0, 1) := dk_42 (dk_at dksX2_move_0 7 rfl rfl)
theorem dX2_move_8 : decode cX2_move 8 = .ok (.aload_n 1, 1) := dk_43 (dk_at dksX2_move_0 8 rfl rfl)
theorem dX2_move_9 : decode cX2_move 9 = .ok (.invokevirtual 269, 3) := dk_182 1 13 (dk_at dksX2_move_0 9 rfl rfl)
theorem dX2_move_12 : decode cX2_move 12 = .ok (.return_, 1) := dk_177 (dk_at dksX2_move_0 12 rfl rfl)
theorem dX2_move_13 : decode cX2_move 13 = .ok (.aload_n 1, 1) := dk_43 (dk_at dksX2_move_0 13 rfl rfl)
theorem dX2_move_14 : decode cX2_move 14 = .ok (.invokevirtual 272, 3) := dk_182 1 16 (dk_at dksX2_move_0 14 rfl rfl)
theorem dX2_move_17 : decode cX2_move 17 = .ok (.aload_n 1, 1) := dk_43 (dk_at dksX2_move_0 17 rfl rfl)
theorem dX2_move_18 : decode cX2_move 18 = .ok (.getfield 275, 3) := dk_180 1 19 (dk_at dksX2_move_0 18 rfl rfl)
theorem dX2_move_21 : decode cX2_move 21 = .ok (.if_icmp .gt 7, 3) := dk_163 0 7 (dk_at dksX2_move_0 21 rfl rfl)
theorem dX2_move_24 : decode cX2_move 24 = .ok (.iconst 1, 1) := dk_4 (dk_at dksX2_move_1 0 rfl rfl)
theorem dX2_move_25 : decode cX2_move 25 = .ok (.goto 4, 3) := dk_167 0 4 (dk_at dksX2_move_1 1 rfl rfl)
theorem dX2_move_28 : decode cX2_move 28 = .ok (.iconst 0, 1) := dk_3 (dk_at dksX2_move_1 4 rfl rfl)
theorem dX2_move_29 : decode cX2_move 29 = .ok (.istore_n 2, 1) := dk_61 (dk_at dksX2_move_1 5 rfl rfl)
theorem dX2_move_30 : decode cX2_move 30 = .ok (.iload_n 2, 1) := dk_28 (dk_at dksX2_move_1 6 rfl rfl)
theorem dX2_move_31 : decode cX2_move 31 = .ok (.ifCond .ne 17, 3) := dk_154 0 17 (dk_at dksX2_move_1 7 rfl rfl)
theorem dX2_move_34 : decode cX2_move 34 = .ok (.aload_n 0, 1) := dk_42 (dk_at dksX2_move_1 10 rfl rfl)
theorem dX2_move_35 : decode cX2_move 35 = .ok (.getfield 77, 3) := dk_180 0 77 (dk_at dksX2_move_1 11 rfl rfl)
theorem dX2_move_38 : decode cX2_move 38 = .ok (.aload_n 1, 1) := dk_43 (dk_at dksX2_move_1 14 rfl rfl)
theorem dX2_move_39 : decode cX2_move 39 = .ok (.getfield 278, 3) := dk_180 1 22 (dk_at dksX2_move_1 15 rfl rfl)
theorem dX2_move_42 : decode cX2_move 42 = .ok (.isub, 1) := dk_100 (dk_at dksX2_move_1 18 rfl rfl)
theorem dX2_move_43 : decode cX2_move 43 = .ok (.bipush 12, 2) := dk_16 12 (dk_at dksX2_move_1 19 rfl rfl)
theorem dX2_move_45 : decode cX2_move 45 = .ok (.if_icmp .lt 35, 3) := dk_161 0 35 (dk_at dksX2_move_1 21 rfl rfl)
theorem dX2_move_48 : decode cX2_move 48 = .ok (.aload_n 1, 1) := dk_43 (dk_at dksX2_move_2 0 rfl rfl)
theorem dX2_move_49 : decode cX2_move 49 = .ok (.getfield 158, 3) := dk_180 0 158 (dk_at dksX2_move_2 1 rfl rfl)
theorem dX2_move_52 : decode cX2_move 52 = .ok (.iconst 3, 1) := dk_6 (dk_at dksX2_move_2 4 rfl rfl)
theorem dX2_move_53 : decode cX2_move 53 = .ok (.if_icmp .eq 7, 3) := dk_159 0 7 (dk_at dksX2_move_2 5 rfl rfl)
theorem dX2_move_56 : decode cX2_move 56 = .ok (.aload_n 1, 1) := dk_43 (dk_at dksX2_move_2 8 rfl rfl)
theorem dX2_move_57 : decode cX2_move 57 = .ok (.invokevirtual 281, 3) := dk_182 1 25 (dk_at dksX2_move_2 9 rfl rfl)
theorem dX2_move_60 : decode cX2_move 60 = .ok (.aload_n 1, 1) := dk_43 (dk_at dksX2_move_2 12 rfl rfl)
theorem dX2_move_61 : decode cX2_move 61 = .ok (.iconst 1, 1) := dk_4 (dk_at dksX2_move_2 13 rfl rfl)
theorem dX2_move_62 : decode cX2_move 62 = .ok (.putfield 284, 3) := dk_181 1 28 (dk_at dksX2_move_2 14 rfl rfl)
theorem dX2_move_65 : decode cX2_move 65 = .ok (.aload_n 1, 1) := dk_43 (dk_at dksX2_move_2 17 rfl rfl)
theorem dX2_move_66 : decode cX2_move 66 = .ok (.dup, 1) := dk_89 (dk_at dksX2_move_2 18 rfl rfl)
theorem dX2_move_67 : decode cX2_move 67 = .ok (.getfield 287, 3) := dk_180 1 31 (dk_at dksX2_move_2 19 rfl rfl)
theorem dX2_move_70 : decode cX2_move 70 = .ok (.iconst 1, 1) := dk_4 (dk_at dksX2_move_2 22 rfl rfl)
theorem dX2_move_71 : decode cX2_move 71 = .ok (.iadd, 1) := dk_96 (dk_at dksX2_move_2 23 rfl rfl)
theorem dX2_move_72 : decode cX2_move 72 = .ok (.putfield 287, 3) := dk_181 1 31 (dk_at dksX2_move_3 0 rfl rfl)
theorem dX2_move_75 : decode cX2_move 75 = .ok (.aload_n 1, 1) := dk_43 (dk_at dksX2_move_3 3 rfl rfl)
theorem dX2_move_76 : decode cX2_move 76 = .ok (.iload_n 2, 1) := dk_28 (dk_at dksX2_move_3 4 rfl rfl)
theorem dX2_move_77 : decode cX2_move 77 = .ok (.putfield 265, 3) := dk_181 1 9 (dk_at dksX2_move_3 5 rfl rfl)
theorem dX2_move_80 : decode cX2_move 80 = .ok (.aload_n 1, 1) := dk_43 (dk_at dksX2_move_3 8 rfl rfl)
theorem dX2_move_81 : decode cX2_move 81 = .ok (.getfield 275, 3) := dk_180 1 19 (dk_at dksX2_move_3 9 rfl rfl)
theorem dX2_move_84 : decode cX2_move 84 = .ok (.istore_n 3, 1) := dk_62 (dk_at dksX2_move_3 12 rfl rfl)
theorem dX2_move_85 : decode cX2_move 85 = .ok (.iconst 0, 1) := dk_3 (dk_at dksX2_move_3 13 rfl rfl)
theorem dX2_move_86 : decode cX2_move 86 = .ok (.istore 4, 2) := dk_54 4 (dk_at dksX2_move_3 14 rfl rfl)
theorem dX2_move_88 : decode cX2_move 88 = .ok (.iload 4, 2) := dk_21 4 (dk_at dksX2_move_3 16 rfl rfl)
theorem dX2_move_90 : decode cX2_move 90 = .ok (.bipush 6, 2) := dk_16 6 (dk_at dksX2_move_3 18 rfl rfl)
theorem dX2_move_92 : decode cX2_move 92 = .ok (.if_icmp .ge 37, 3) := dk_162 0 37 (dk_at dksX2_move_3 20 rfl rfl)
theorem dX2_move_95 : decode cX2_move 95 = .ok (.iload_n 3, 1) := dk_29 (dk_at dksX2_move_3 23 rfl rfl)
theorem dX2_move_96 : decode cX2_move 96 = .ok (.ifCond .le 33, 3) := dk_158 0 33 (dk_at dksX2_move_4 0 rfl rfl)
theorem dX2_move_99 : decode cX2_move 99 = .ok (.aload_n 1, 1) := dk_43 (dk_at dksX2_move_4 3 rfl rfl)
theorem dX2_move_100 : decode cX2_move 100 = .ok (.getfield 136, 3) := dk_180 0 136 (dk_at dksX2_move_4 4 rfl rfl)
theorem dX2_move_103 : decode cX2_move 103 = .ok (.iload 4, 2) := dk_21 4 (dk_at dksX2_move_4 7 rfl rfl)
theorem dX2_move_105 : decode cX2_move 105 = .ok (.baload, 1) := dk_51 (dk_at dksX2_move_4 9 rfl rfl)
theorem dX2_move_106 : decode cX2_move 106 = .ok (.ifCond .ne 6, 3) := dk_154 0 6 (dk_at dksX2_move_4 10 rfl rfl)
theorem dX2_move_109 : decode cX2_move 109 = .ok (.goto 14, 3) := dk_167 0 14 (dk_at dksX2_move_4 13 rfl rfl)
theorem dX2_move_112 : decode cX2_move 112 = .ok (.aload_n 1, 1) := dk_43 (dk_at dksX2_move_4 16 rfl rfl)
theorem dX2_move_113 : decode cX2_move 113 = .ok (.getfield 136, 3) := dk_180 0 136 (dk_at dksX2_move_4 17 rfl rfl)
theorem dX2_move_116 : decode cX2_move 116 = .ok (.iload 4, 2) := dk_21 4 (dk_at dksX2_move_4 20 rfl rfl)
theorem dX2_move_118 : decode cX2_move 118 = .ok (.iconst 0, 1) := dk_3 (dk_at dksX2_move_4 22 rfl rfl)
theorem dX2_move_119 : decode cX2_move 119 = .ok (.bastore, 1) := dk_84 (dk_at dksX2_move_4 23 rfl rfl)
theorem dX2_move_120 : decode cX2_move 120 = .ok (.iinc 3 (-1), 3) := dk_132 3 255 (dk_at dksX2_move_5 0 rfl rfl)
theorem dX2_move_123 : decode cX2_move 123 = .ok (.iinc 4 1, 3) := dk_132 4 1 (dk_at dksX2_move_5 3 rfl rfl)
theorem dX2_move_126 : decode cX2_move 126 = .ok (.goto (-38), 3) := dk_167 255 218 (dk_at dksX2_move_5 6 rfl rfl)
theorem dX2_move_129 : decode cX2_move 129 = .ok (.return_, 1) := dk_177 (dk_at dksX2_move_5 9 rfl rfl)
abbrev cX2_leave : ByteArray := prog_4_method_25_code
def yX2_leave : MethodName := ⟨RX2, "leave", "(LHyperVane$Guest;)V"⟩
def dkwX2_leave_4 : List UInt8 := [177]
abbrev dktX2_leave_4 : List UInt8 := dkwX2_leave_4 ++ []
def dkwX2_leave_3 : List UInt8 := [180, 0, 95, 28, 3, 84, 132, 2, 1, 167, 255, 240, 42, 180, 0, 83, 43, 166, 0, 7, 42, 182, 1, 3]
abbrev dktX2_leave_3 : List UInt8 := dkwX2_leave_3 ++ dktX2_leave_4
def dkwX2_leave_2 : List UInt8 := [180, 0, 56, 43, 166, 0, 7, 45, 182, 0, 99, 167, 255, 225, 3, 61, 28, 16, 6, 162, 0, 16, 43]
abbrev dktX2_leave_2 : List UInt8 := dkwX2_leave_2 ++ dktX2_leave_3
def dkwX2_leave_1 : List UInt8 := [182, 0, 29, 77, 44, 185, 0, 33, 1, 0, 153, 0, 28, 44, 185, 0, 39, 1, 0, 192, 0, 53, 78, 45]
abbrev dktX2_leave_1 : List UInt8 := dkwX2_leave_1 ++ dktX2_leave_2
def dkwX2_leave_0 : List UInt8 := [43, 7, 181, 0, 158, 43, 1, 181, 0, 136, 43, 3, 181, 0, 253, 43, 2, 181, 0, 250, 42, 180, 0, 18]
abbrev dktX2_leave_0 : List UInt8 := dkwX2_leave_0 ++ dktX2_leave_1
theorem dksX2_leave_0 : cX2_leave.data.toList.drop 0 = dktX2_leave_0 := by decide +kernel
theorem dksX2_leave_1 : cX2_leave.data.toList.drop 24 = dktX2_leave_1 := dk_seg dksX2_leave_0 24 rfl rfl
theorem dksX2_leave_2 : cX2_leave.data.toList.drop 48 = dktX2_leave_2 := dk_seg dksX2_leave_1 24 rfl rfl
theorem dksX2_leave_3 : cX2_leave.data.toList.drop 71 = dktX2_leave_3 := dk_seg dksX2_leave_2 23 rfl rfl
theorem dksX2_leave_4 : cX2_leave.data.toList.drop 95 = dktX2_leave_4 := dk_seg dksX2_leave_3 24 rfl rfl
theorem dX2_leave_0 : decode cX2_leave 0 = .ok (.aload_n 1, 1) := dk_43 (dk_at dksX2_leave_0 0 rfl rfl)
theorem dX2_leave_1 : decode cX2_leave 1 = .ok (.iconst 4, 1) := dk_7 (dk_at dksX2_leave_0 1 rfl rfl)
theorem dX2_leave_2 : decode cX2_leave 2 = .ok (.putfield 158, 3) := dk_181 0 158 (dk_at dksX2_leave_0 2 rfl rfl)
theorem dX2_leave_5 : decode cX2_leave 5 = .ok (.aload_n 1, 1) := dk_43 (dk_at dksX2_leave_0 5 rfl rfl)
theorem dX2_leave_6 : decode cX2_leave 6 = .ok (.aconst_null, 1) := dk_1 (dk_at dksX2_leave_0 6 rfl rfl)
theorem dX2_leave_7 : decode cX2_leave 7 = .ok (.putfield 136, 3) := dk_181 0 136 (dk_at dksX2_leave_0 7 rfl rfl)
theorem dX2_leave_10 : decode cX2_leave 10 = .ok (.aload_n 1, 1) := dk_43 (dk_at dksX2_leave_0 10 rfl rfl)
theorem dX2_leave_11 : decode cX2_leave 11 = .ok (.iconst 0, 1) := dk_3 (dk_at dksX2_leave_0 11 rfl rfl)
theorem dX2_leave_12 : decode cX2_leave 12 = .ok (.putfield 253, 3) := dk_181 0 253 (dk_at dksX2_leave_0 12 rfl rfl)
theorem dX2_leave_15 : decode cX2_leave 15 = .ok (.aload_n 1, 1) := dk_43 (dk_at dksX2_leave_0 15 rfl rfl)
theorem dX2_leave_16 : decode cX2_leave 16 = .ok (.iconst (-1), 1) := dk_2 (dk_at dksX2_leave_0 16 rfl rfl)
theorem dX2_leave_17 : decode cX2_leave 17 = .ok (.putfield 250, 3) := dk_181 0 250 (dk_at dksX2_leave_0 17 rfl rfl)
theorem dX2_leave_20 : decode cX2_leave 20 = .ok (.aload_n 0, 1) := dk_42 (dk_at dksX2_leave_0 20 rfl rfl)
theorem dX2_leave_21 : decode cX2_leave 21 = .ok (.getfield 18, 3) := dk_180 0 18 (dk_at dksX2_leave_0 21 rfl rfl)
theorem dX2_leave_24 : decode cX2_leave 24 = .ok (.invokevirtual 29, 3) := dk_182 0 29 (dk_at dksX2_leave_1 0 rfl rfl)
theorem dX2_leave_27 : decode cX2_leave 27 = .ok (.astore_n 2, 1) := dk_77 (dk_at dksX2_leave_1 3 rfl rfl)
theorem dX2_leave_28 : decode cX2_leave 28 = .ok (.aload_n 2, 1) := dk_44 (dk_at dksX2_leave_1 4 rfl rfl)
theorem dX2_leave_29 : decode cX2_leave 29 = .ok (.invokeinterface 33 1, 5) := by decide +kernel
theorem dX2_leave_34 : decode cX2_leave 34 = .ok (.ifCond .eq 28, 3) := dk_153 0 28 (dk_at dksX2_leave_1 10 rfl rfl)
theorem dX2_leave_37 : decode cX2_leave 37 = .ok (.aload_n 2, 1) := dk_44 (dk_at dksX2_leave_1 13 rfl rfl)
theorem dX2_leave_38 : decode cX2_leave 38 = .ok (.invokeinterface 39 1, 5) := by decide +kernel
theorem dX2_leave_43 : decode cX2_leave 43 = .ok (.checkcast 53, 3) := dk_192 0 53 (dk_at dksX2_leave_1 19 rfl rfl)
theorem dX2_leave_46 : decode cX2_leave 46 = .ok (.astore_n 3, 1) := dk_78 (dk_at dksX2_leave_1 22 rfl rfl)
theorem dX2_leave_47 : decode cX2_leave 47 = .ok (.aload_n 3, 1) := dk_45 (dk_at dksX2_leave_1 23 rfl rfl)
theorem dX2_leave_48 : decode cX2_leave 48 = .ok (.getfield 56, 3) := dk_180 0 56 (dk_at dksX2_leave_2 0 rfl rfl)
theorem dX2_leave_51 : decode cX2_leave 51 = .ok (.aload_n 1, 1) := dk_43 (dk_at dksX2_leave_2 3 rfl rfl)
theorem dX2_leave_52 : decode cX2_leave 52 = .ok (.if_acmp .ne 7, 3) := dk_166 0 7 (dk_at dksX2_leave_2 4 rfl rfl)
theorem dX2_leave_55 : decode cX2_leave 55 = .ok (.aload_n 3, 1) := dk_45 (dk_at dksX2_leave_2 7 rfl rfl)
theorem dX2_leave_56 : decode cX2_leave 56 = .ok (.invokevirtual 99, 3) := dk_182 0 99 (dk_at dksX2_leave_2 8 rfl rfl)
theorem dX2_leave_59 : decode cX2_leave 59 = .ok (.goto (-31), 3) := dk_167 255 225 (dk_at dksX2_leave_2 11 rfl rfl)
theorem dX2_leave_62 : decode cX2_leave 62 = .ok (.iconst 0, 1) := dk_3 (dk_at dksX2_leave_2 14 rfl rfl)
theorem dX2_leave_63 : decode cX2_leave 63 = .ok (.istore_n 2, 1) := dk_61 (dk_at dksX2_leave_2 15 rfl rfl)
theorem dX2_leave_64 : decode cX2_leave 64 = .ok (.iload_n 2, 1) := dk_28 (dk_at dksX2_leave_2 16 rfl rfl)
theorem dX2_leave_65 : decode cX2_leave 65 = .ok (.bipush 6, 2) := dk_16 6 (dk_at dksX2_leave_2 17 rfl rfl)
theorem dX2_leave_67 : decode cX2_leave 67 = .ok (.if_icmp .ge 16, 3) := dk_162 0 16 (dk_at dksX2_leave_2 19 rfl rfl)
theorem dX2_leave_70 : decode cX2_leave 70 = .ok (.aload_n 1, 1) := dk_43 (dk_at dksX2_leave_2 22 rfl rfl)
theorem dX2_leave_71 : decode cX2_leave 71 = .ok (.getfield 95, 3) := dk_180 0 95 (dk_at dksX2_leave_3 0 rfl rfl)
theorem dX2_leave_74 : decode cX2_leave 74 = .ok (.iload_n 2, 1) := dk_28 (dk_at dksX2_leave_3 3 rfl rfl)
theorem dX2_leave_75 : decode cX2_leave 75 = .ok (.iconst 0, 1) := dk_3 (dk_at dksX2_leave_3 4 rfl rfl)
theorem dX2_leave_76 : decode cX2_leave 76 = .ok (.bastore, 1) := dk_84 (dk_at dksX2_leave_3 5 rfl rfl)
theorem dX2_leave_77 : decode cX2_leave 77 = .ok (.iinc 2 1, 3) := dk_132 2 1 (dk_at dksX2_leave_3 6 rfl rfl)
theorem dX2_leave_80 : decode cX2_leave 80 = .ok (.goto (-16), 3) := dk_167 255 240 (dk_at dksX2_leave_3 9 rfl rfl)
theorem dX2_leave_83 : decode cX2_leave 83 = .ok (.aload_n 0, 1) := dk_42 (dk_at dksX2_leave_3 12 rfl rfl)
theorem dX2_leave_84 : decode cX2_leave 84 = .ok (.getfield 83, 3) := dk_180 0 83 (dk_at dksX2_leave_3 13 rfl rfl)
theorem dX2_leave_87 : decode cX2_leave 87 = .ok (.aload_n 1, 1) := dk_43 (dk_at dksX2_leave_3 16 rfl rfl)
theorem dX2_leave_88 : decode cX2_leave 88 = .ok (.if_acmp .ne 7, 3) := dk_166 0 7 (dk_at dksX2_leave_3 17 rfl rfl)
theorem dX2_leave_91 : decode cX2_leave 91 = .ok (.aload_n 0, 1) := dk_42 (dk_at dksX2_leave_3 20 rfl rfl)
theorem dX2_leave_92 : decode cX2_leave 92 = .ok (.invokevirtual 259, 3) := dk_182 1 3 (dk_at dksX2_leave_3 21 rfl rfl)
theorem dX2_leave_95 : decode cX2_leave 95 = .ok (.return_, 1) := dk_177 (dk_at dksX2_leave_4 0 rfl rfl)
abbrev cX2_startMove : ByteArray := prog_4_method_26_code
def yX2_startMove : MethodName := ⟨RX2, "startMove", "(LHyperVane$Guest;I)I"⟩
def dkwX2_startMove_2 : List UInt8 := [132, 3, 1, 167, 255, 218, 43, 28, 181, 1, 19, 43, 42, 180, 0, 77, 181, 1, 22, 43, 182, 1, 16, 172]
abbrev dktX2_startMove_2 : List UInt8 := dkwX2_startMove_2 ++ []
def dkwX2_startMove_1 : List UInt8 := [180, 0, 95, 29, 51, 154, 0, 12, 42, 43, 29, 182, 0, 112, 198, 0, 7, 4, 167, 0, 4, 3, 84]
abbrev dktX2_startMove_1 : List UInt8 := dkwX2_startMove_1 ++ dktX2_startMove_2
def dkwX2_startMove_0 : List UInt8 := [43, 16, 6, 188, 4, 181, 0, 136, 3, 62, 29, 16, 6, 162, 0, 38, 43, 180, 0, 136, 29, 43]
abbrev dktX2_startMove_0 : List UInt8 := dkwX2_startMove_0 ++ dktX2_startMove_1
theorem dksX2_startMove_0 : cX2_startMove.data.toList.drop 0 = dktX2_startMove_0 := by decide +kernel
theorem dksX2_startMove_1 : cX2_startMove.data.toList.drop 22 = dktX2_startMove_1 := dk_seg dksX2_startMove_0 22 rfl rfl
theorem dksX2_startMove_2 : cX2_startMove.data.toList.drop 45 = dktX2_startMove_2 := dk_seg dksX2_startMove_1 23 rfl rfl
theorem dX2_startMove_0 : decode cX2_startMove 0 = .ok (.aload_n 1, 1) := dk_43 (dk_at dksX2_startMove_0 0 rfl rfl)
theorem dX2_startMove_1 : decode cX2_startMove 1 = .ok (.bipush 6, 2) := dk_16 6 (dk_at dksX2_startMove_0 1 rfl rfl)
theorem dX2_startMove_3 : decode cX2_startMove 3 = .ok (.newarray .boolean, 2) := dk_188_4 (dk_at dksX2_startMove_0 3 rfl rfl)
theorem dX2_startMove_5 : decode cX2_startMove 5 = .ok (.putfield 136, 3) := dk_181 0 136 (dk_at dksX2_startMove_0 5 rfl rfl)
theorem dX2_startMove_8 : decode cX2_startMove 8 = .ok (.iconst 0, 1) := dk_3 (dk_at dksX2_startMove_0 8 rfl rfl)
theorem dX2_startMove_9 : decode cX2_startMove 9 = .ok (.istore_n 3, 1) := dk_62 (dk_at dksX2_startMove_0 9 rfl rfl)
theorem dX2_startMove_10 : decode cX2_startMove 10 = .ok (.iload_n 3, 1) := dk_29 (dk_at dksX2_startMove_0 10 rfl rfl)
theorem dX2_startMove_11 : decode cX2_startMove 11 = .ok (.bipush 6, 2) := dk_16 6 (dk_at dksX2_startMove_0 11 rfl rfl)
theorem dX2_startMove_13 : decode cX2_startMove 13 = .ok (.if_icmp .ge 38, 3) := dk_162 0 38 (dk_at dksX2_startMove_0 13 rfl rfl)
theorem dX2_startMove_16 : decode cX2_startMove 16 = .ok (.aload_n 1, 1) := dk_43 (dk_at dksX2_startMove_0 16 rfl rfl)
theorem dX2_startMove_17 : decode cX2_startMove 17 = .ok (.getfield 136, 3) := dk_180 0 136 (dk_at dksX2_startMove_0 17 rfl rfl)
theorem dX2_startMove_20 : decode cX2_startMove 20 = .ok (.iload_n 3, 1) := dk_29 (dk_at dksX2_startMove_0 20 rfl rfl)
theorem dX2_startMove_21 : decode cX2_startMove 21 = .ok (.aload_n 1, 1) := dk_43 (dk_at dksX2_startMove_0 21 rfl rfl)
theorem dX2_startMove_22 : decode cX2_startMove 22 = .ok (.getfield 95, 3) := dk_180 0 95 (dk_at dksX2_startMove_1 0 rfl rfl)
theorem dX2_startMove_25 : decode cX2_startMove 25 = .ok (.iload_n 3, 1) := dk_29 (dk_at dksX2_startMove_1 3 rfl rfl)
theorem dX2_startMove_26 : decode cX2_startMove 26 = .ok (.baload, 1) := dk_51 (dk_at dksX2_startMove_1 4 rfl rfl)
theorem dX2_startMove_27 : decode cX2_startMove 27 = .ok (.ifCond .ne 12, 3) := dk_154 0 12 (dk_at dksX2_startMove_1 5 rfl rfl)
theorem dX2_startMove_30 : decode cX2_startMove 30 = .ok (.aload_n 0, 1) := dk_42 (dk_at dksX2_startMove_1 8 rfl rfl)
theorem dX2_startMove_31 : decode cX2_startMove 31 = .ok (.aload_n 1, 1) := dk_43 (dk_at dksX2_startMove_1 9 rfl rfl)
theorem dX2_startMove_32 : decode cX2_startMove 32 = .ok (.iload_n 3, 1) := dk_29 (dk_at dksX2_startMove_1 10 rfl rfl)
theorem dX2_startMove_33 : decode cX2_startMove 33 = .ok (.invokevirtual 112, 3) := dk_182 0 112 (dk_at dksX2_startMove_1 11 rfl rfl)
theorem dX2_startMove_36 : decode cX2_startMove 36 = .ok (.ifnull 7, 3) := dk_198 0 7 (dk_at dksX2_startMove_1 14 rfl rfl)
theorem dX2_startMove_39 : decode cX2_startMove 39 = .ok (.iconst 1, 1) := dk_4 (dk_at dksX2_startMove_1 17 rfl rfl)
theorem dX2_startMove_40 : decode cX2_startMove 40 = .ok (.goto 4, 3) := dk_167 0 4 (dk_at dksX2_startMove_1 18 rfl rfl)
theorem dX2_startMove_43 : decode cX2_startMove 43 = .ok (.iconst 0, 1) := dk_3 (dk_at dksX2_startMove_1 21 rfl rfl)
theorem dX2_startMove_44 : decode cX2_startMove 44 = .ok (.bastore, 1) := dk_84 (dk_at dksX2_startMove_1 22 rfl rfl)
theorem dX2_startMove_45 : decode cX2_startMove 45 = .ok (.iinc 3 1, 3) := dk_132 3 1 (dk_at dksX2_startMove_2 0 rfl rfl)
theorem dX2_startMove_48 : decode cX2_startMove 48 = .ok (.goto (-38), 3) := dk_167 255 218 (dk_at dksX2_startMove_2 3 rfl rfl)
theorem dX2_startMove_51 : decode cX2_startMove 51 = .ok (.aload_n 1, 1) := dk_43 (dk_at dksX2_startMove_2 6 rfl rfl)
theorem dX2_startMove_52 : decode cX2_startMove 52 = .ok (.iload_n 2, 1) := dk_28 (dk_at dksX2_startMove_2 7 rfl rfl)
theorem dX2_startMove_53 : decode cX2_startMove 53 = .ok (.putfield 275, 3) := dk_181 1 19 (dk_at dksX2_startMove_2 8 rfl rfl)
theorem dX2_startMove_56 : decode cX2_startMove 56 = .ok (.aload_n 1, 1) := dk_43 (dk_at dksX2_startMove_2 11 rfl rfl)
theorem dX2_startMove_57 : decode cX2_startMove 57 = .ok (.aload_n 0, 1) := dk_42 (dk_at dksX2_startMove_2 12 rfl rfl)
theorem dX2_startMove_58 : decode cX2_startMove 58 = .ok (.getfield 77, 3) := dk_180 0 77 (dk_at dksX2_startMove_2 13 rfl rfl)
theorem dX2_startMove_61 : decode cX2_startMove 61 = .ok (.putfield 278, 3) := dk_181 1 22 (dk_at dksX2_startMove_2 16 rfl rfl)
theorem dX2_startMove_64 : decode cX2_startMove 64 = .ok (.aload_n 1, 1) := dk_43 (dk_at dksX2_startMove_2 19 rfl rfl)
theorem dX2_startMove_65 : decode cX2_startMove 65 = .ok (.invokevirtual 272, 3) := dk_182 1 16 (dk_at dksX2_startMove_2 20 rfl rfl)
theorem dX2_startMove_68 : decode cX2_startMove 68 = .ok (.ireturn, 1) := dk_172 (dk_at dksX2_startMove_2 23 rfl rfl)
abbrev cX2_giveUp : ByteArray := prog_4_method_7_code
def yX2_giveUp : MethodName := ⟨RX2, "giveUp", "(LHyperVane$Guest;I)I"⟩
def dkwX2_giveUp_3 : List UInt8 := [172, 43, 25, 5, 184, 0, 116, 132, 3, 1, 132, 4, 1, 167, 255, 176, 29, 172]
abbrev dktX2_giveUp_3 : List UInt8 := dkwX2_giveUp_3 ++ []
def dkwX2_giveUp_2 : List UInt8 := [25, 5, 180, 0, 70, 162, 0, 7, 25, 7, 58, 5, 132, 6, 1, 167, 255, 210, 25, 5, 199, 0, 5, 29]
abbrev dktX2_giveUp_2 : List UInt8 := dkwX2_giveUp_2 ++ dktX2_giveUp_3
def dkwX2_giveUp_1 : List UInt8 := [42, 43, 21, 6, 182, 0, 112, 58, 7, 25, 7, 198, 0, 25, 25, 5, 198, 0, 16, 25, 7, 180, 0, 70]
abbrev dktX2_giveUp_1 : List UInt8 := dkwX2_giveUp_1 ++ dktX2_giveUp_2
def dkwX2_giveUp_0 : List UInt8 := [3, 62, 3, 54, 4, 21, 4, 28, 162, 0, 80, 1, 58, 5, 3, 54, 6, 21, 6, 16, 6, 162, 0, 45]
abbrev dktX2_giveUp_0 : List UInt8 := dkwX2_giveUp_0 ++ dktX2_giveUp_1
theorem dksX2_giveUp_0 : cX2_giveUp.data.toList.drop 0 = dktX2_giveUp_0 := by decide +kernel
theorem dksX2_giveUp_1 : cX2_giveUp.data.toList.drop 24 = dktX2_giveUp_1 := dk_seg dksX2_giveUp_0 24 rfl rfl
theorem dksX2_giveUp_2 : cX2_giveUp.data.toList.drop 48 = dktX2_giveUp_2 := dk_seg dksX2_giveUp_1 24 rfl rfl
theorem dksX2_giveUp_3 : cX2_giveUp.data.toList.drop 72 = dktX2_giveUp_3 := dk_seg dksX2_giveUp_2 24 rfl rfl
theorem dX2_giveUp_0 : decode cX2_giveUp 0 = .ok (.iconst 0, 1) := dk_3 (dk_at dksX2_giveUp_0 0 rfl rfl)
theorem dX2_giveUp_1 : decode cX2_giveUp 1 = .ok (.istore_n 3, 1) := dk_62 (dk_at dksX2_giveUp_0 1 rfl rfl)
theorem dX2_giveUp_2 : decode cX2_giveUp 2 = .ok (.iconst 0, 1) := dk_3 (dk_at dksX2_giveUp_0 2 rfl rfl)
theorem dX2_giveUp_3 : decode cX2_giveUp 3 = .ok (.istore 4, 2) := dk_54 4 (dk_at dksX2_giveUp_0 3 rfl rfl)
theorem dX2_giveUp_5 : decode cX2_giveUp 5 = .ok (.iload 4, 2) := dk_21 4 (dk_at dksX2_giveUp_0 5 rfl rfl)
theorem dX2_giveUp_7 : decode cX2_giveUp 7 = .ok (.iload_n 2, 1) := dk_28 (dk_at dksX2_giveUp_0 7 rfl rfl)
theorem dX2_giveUp_8 : decode cX2_giveUp 8 = .ok (.if_icmp .ge 80, 3) := dk_162 0 80 (dk_at dksX2_giveUp_0 8 rfl rfl)
theorem dX2_giveUp_11 : decode cX2_giveUp 11 = .ok (.aconst_null, 1) := dk_1 (dk_at dksX2_giveUp_0 11 rfl rfl)
theorem dX2_giveUp_12 : decode cX2_giveUp 12 = .ok (.astore 5, 2) := dk_58 5 (dk_at dksX2_giveUp_0 12 rfl rfl)
theorem dX2_giveUp_14 : decode cX2_giveUp 14 = .ok (.iconst 0, 1) := dk_3 (dk_at dksX2_giveUp_0 14 rfl rfl)
theorem dX2_giveUp_15 : decode cX2_giveUp 15 = .ok (.istore 6, 2) := dk_54 6 (dk_at dksX2_giveUp_0 15 rfl rfl)
theorem dX2_giveUp_17 : decode cX2_giveUp 17 = .ok (.iload 6, 2) := dk_21 6 (dk_at dksX2_giveUp_0 17 rfl rfl)
theorem dX2_giveUp_19 : decode cX2_giveUp 19 = .ok (.bipush 6, 2) := dk_16 6 (dk_at dksX2_giveUp_0 19 rfl rfl)
theorem dX2_giveUp_21 : decode cX2_giveUp 21 = .ok (.if_icmp .ge 45, 3) := dk_162 0 45 (dk_at dksX2_giveUp_0 21 rfl rfl)
theorem dX2_giveUp_24 : decode cX2_giveUp 24 = .ok (.aload_n 0, 1) := dk_42 (dk_at dksX2_giveUp_1 0 rfl rfl)
theorem dX2_giveUp_25 : decode cX2_giveUp 25 = .ok (.aload_n 1, 1) := dk_43 (dk_at dksX2_giveUp_1 1 rfl rfl)
theorem dX2_giveUp_26 : decode cX2_giveUp 26 = .ok (.iload 6, 2) := dk_21 6 (dk_at dksX2_giveUp_1 2 rfl rfl)
theorem dX2_giveUp_28 : decode cX2_giveUp 28 = .ok (.invokevirtual 112, 3) := dk_182 0 112 (dk_at dksX2_giveUp_1 4 rfl rfl)
theorem dX2_giveUp_31 : decode cX2_giveUp 31 = .ok (.astore 7, 2) := dk_58 7 (dk_at dksX2_giveUp_1 7 rfl rfl)
theorem dX2_giveUp_33 : decode cX2_giveUp 33 = .ok (.aload 7, 2) := dk_25 7 (dk_at dksX2_giveUp_1 9 rfl rfl)
theorem dX2_giveUp_35 : decode cX2_giveUp 35 = .ok (.ifnull 25, 3) := dk_198 0 25 (dk_at dksX2_giveUp_1 11 rfl rfl)
theorem dX2_giveUp_38 : decode cX2_giveUp 38 = .ok (.aload 5, 2) := dk_25 5 (dk_at dksX2_giveUp_1 14 rfl rfl)
theorem dX2_giveUp_40 : decode cX2_giveUp 40 = .ok (.ifnull 16, 3) := dk_198 0 16 (dk_at dksX2_giveUp_1 16 rfl rfl)
theorem dX2_giveUp_43 : decode cX2_giveUp 43 = .ok (.aload 7, 2) := dk_25 7 (dk_at dksX2_giveUp_1 19 rfl rfl)
theorem dX2_giveUp_45 : decode cX2_giveUp 45 = .ok (.getfield 70, 3) := dk_180 0 70 (dk_at dksX2_giveUp_1 21 rfl rfl)
theorem dX2_giveUp_48 : decode cX2_giveUp 48 = .ok (.aload 5, 2) := dk_25 5 (dk_at dksX2_giveUp_2 0 rfl rfl)
theorem dX2_giveUp_50 : decode cX2_giveUp 50 = .ok (.getfield 70, 3) := dk_180 0 70 (dk_at dksX2_giveUp_2 2 rfl rfl)
theorem dX2_giveUp_53 : decode cX2_giveUp 53 = .ok (.if_icmp .ge 7, 3) := dk_162 0 7 (dk_at dksX2_giveUp_2 5 rfl rfl)
theorem dX2_giveUp_56 : decode cX2_giveUp 56 = .ok (.aload 7, 2) := dk_25 7 (dk_at dksX2_giveUp_2 8 rfl rfl)
theorem dX2_giveUp_58 : decode cX2_giveUp 58 = .ok (.astore 5, 2) := dk_58 5 (dk_at dksX2_giveUp_2 10 rfl rfl)
theorem dX2_giveUp_60 : decode cX2_giveUp 60 = .ok (.iinc 6 1, 3) := dk_132 6 1 (dk_at dksX2_giveUp_2 12 rfl rfl)
theorem dX2_giveUp_63 : decode cX2_giveUp 63 = .ok (.goto (-46), 3) := dk_167 255 210 (dk_at dksX2_giveUp_2 15 rfl rfl)
theorem dX2_giveUp_66 : decode cX2_giveUp 66 = .ok (.aload 5, 2) := dk_25 5 (dk_at dksX2_giveUp_2 18 rfl rfl)
theorem dX2_giveUp_68 : decode cX2_giveUp 68 = .ok (.ifnonnull 5, 3) := dk_199 0 5 (dk_at dksX2_giveUp_2 20 rfl rfl)
theorem dX2_giveUp_71 : decode cX2_giveUp 71 = .ok (.iload_n 3, 1) := dk_29 (dk_at dksX2_giveUp_2 23 rfl rfl)
theorem dX2_giveUp_72 : decode cX2_giveUp 72 = .ok (.ireturn, 1) := dk_172 (dk_at dksX2_giveUp_3 0 rfl rfl)
theorem dX2_giveUp_73 : decode cX2_giveUp 73 = .ok (.aload_n 1, 1) := dk_43 (dk_at dksX2_giveUp_3 1 rfl rfl)
theorem dX2_giveUp_74 : decode cX2_giveUp 74 = .ok (.aload 5, 2) := dk_25 5 (dk_at dksX2_giveUp_3 2 rfl rfl)
theorem dX2_giveUp_76 : decode cX2_giveUp 76 = .ok (.invokestatic 116, 3) := dk_184 0 116 (dk_at dksX2_giveUp_3 4 rfl rfl)
theorem dX2_giveUp_79 : decode cX2_giveUp 79 = .ok (.iinc 3 1, 3) := dk_132 3 1 (dk_at dksX2_giveUp_3 7 rfl rfl)
theorem dX2_giveUp_82 : decode cX2_giveUp 82 = .ok (.iinc 4 1, 3) := dk_132 4 1 (dk_at dksX2_giveUp_3 10 rfl rfl)
theorem dX2_giveUp_85 : decode cX2_giveUp 85 = .ok (.goto (-80), 3) := dk_167 255 176 (dk_at dksX2_giveUp_3 13 rfl rfl)
theorem dX2_giveUp_88 : decode cX2_giveUp 88 = .ok (.iload_n 3, 1) := dk_29 (dk_at dksX2_giveUp_3 16 rfl rfl)
theorem dX2_giveUp_89 : decode cX2_giveUp 89 = .ok (.ireturn, 1) := dk_172 (dk_at dksX2_giveUp_3 17 rfl rfl)
abbrev cX2_giveUp_2 : ByteArray := prog_4_method_8_code
def yX2_giveUp_2 : MethodName := ⟨RX2, "giveUp", "(LHyperVane$Guest;LHyperVane$Frame;)V"⟩
def dkwX2_giveUp_2_3 : List UInt8 := [182, 0, 49, 87, 177]
abbrev dktX2_giveUp_2_3 : List UInt8 := dkwX2_giveUp_2_3 ++ []
def dkwX2_giveUp_2_2 : List UInt8 := [180, 0, 139, 180, 0, 143, 5, 188, 10, 89, 3, 42, 180, 0, 139, 180, 0, 148, 79, 89, 4, 28, 79]
abbrev dktX2_giveUp_2_2 : List UInt8 := dkwX2_giveUp_2_2 ++ dktX2_giveUp_2_3
def dkwX2_giveUp_2_1 : List UInt8 := [3, 79, 42, 182, 0, 133, 153, 0, 10, 42, 180, 0, 136, 28, 3, 84, 42, 180, 0, 139, 198, 0, 31, 42]
abbrev dktX2_giveUp_2_1 : List UInt8 := dkwX2_giveUp_2_1 ++ dktX2_giveUp_2_2
def dkwX2_giveUp_2_0 : List UInt8 := [43, 180, 0, 67, 61, 43, 182, 0, 99, 42, 180, 0, 120, 28, 4, 84, 42, 180, 0, 123, 180, 0, 127, 28]
abbrev dktX2_giveUp_2_0 : List UInt8 := dkwX2_giveUp_2_0 ++ dktX2_giveUp_2_1
theorem dksX2_giveUp_2_0 : cX2_giveUp_2.data.toList.drop 0 = dktX2_giveUp_2_0 := by decide +kernel
theorem dksX2_giveUp_2_1 : cX2_giveUp_2.data.toList.drop 24 = dktX2_giveUp_2_1 := dk_seg dksX2_giveUp_2_0 24 rfl rfl
theorem dksX2_giveUp_2_2 : cX2_giveUp_2.data.toList.drop 48 = dktX2_giveUp_2_2 := dk_seg dksX2_giveUp_2_1 24 rfl rfl
theorem dksX2_giveUp_2_3 : cX2_giveUp_2.data.toList.drop 71 = dktX2_giveUp_2_3 := dk_seg dksX2_giveUp_2_2 23 rfl rfl
theorem dX2_giveUp_2_0 : decode cX2_giveUp_2 0 = .ok (.aload_n 1, 1) := dk_43 (dk_at dksX2_giveUp_2_0 0 rfl rfl)
theorem dX2_giveUp_2_1 : decode cX2_giveUp_2 1 = .ok (.getfield 67, 3) := dk_180 0 67 (dk_at dksX2_giveUp_2_0 1 rfl rfl)
theorem dX2_giveUp_2_4 : decode cX2_giveUp_2 4 = .ok (.istore_n 2, 1) := dk_61 (dk_at dksX2_giveUp_2_0 4 rfl rfl)
theorem dX2_giveUp_2_5 : decode cX2_giveUp_2 5 = .ok (.aload_n 1, 1) := dk_43 (dk_at dksX2_giveUp_2_0 5 rfl rfl)
theorem dX2_giveUp_2_6 : decode cX2_giveUp_2 6 = .ok (.invokevirtual 99, 3) := dk_182 0 99 (dk_at dksX2_giveUp_2_0 6 rfl rfl)
theorem dX2_giveUp_2_9 : decode cX2_giveUp_2 9 = .ok (.aload_n 0, 1) := dk_42 (dk_at dksX2_giveUp_2_0 9 rfl rfl)
theorem dX2_giveUp_2_10 : decode cX2_giveUp_2 10 = .ok (.getfield 120, 3) := dk_180 0 120 (dk_at dksX2_giveUp_2_0 10 rfl rfl)
theorem dX2_giveUp_2_13 : decode cX2_giveUp_2 13 = .ok (.iload_n 2, 1) := dk_28 (dk_at dksX2_giveUp_2_0 13 rfl rfl)
theorem dX2_giveUp_2_14 : decode cX2_giveUp_2 14 = .ok (.iconst 1, 1) := dk_4 (dk_at dksX2_giveUp_2_0 14 rfl rfl)
theorem dX2_giveUp_2_15 : decode cX2_giveUp_2 15 = .ok (.bastore, 1) := dk_84 (dk_at dksX2_giveUp_2_0 15 rfl rfl)
theorem dX2_giveUp_2_16 : decode cX2_giveUp_2 16 = .ok (.aload_n 0, 1) := dk_42 (dk_at dksX2_giveUp_2_0 16 rfl rfl)
theorem dX2_giveUp_2_17 : decode cX2_giveUp_2 17 = .ok (.getfield 123, 3) := dk_180 0 123 (dk_at dksX2_giveUp_2_0 17 rfl rfl)
theorem dX2_giveUp_2_20 : decode cX2_giveUp_2 20 = .ok (.getfield 127, 3) := dk_180 0 127 (dk_at dksX2_giveUp_2_0 20 rfl rfl)
theorem dX2_giveUp_2_23 : decode cX2_giveUp_2 23 = .ok (.iload_n 2, 1) := dk_28 (dk_at dksX2_giveUp_2_0 23 rfl rfl)
theorem dX2_giveUp_2_24 : decode cX2_giveUp_2 24 = .ok (.iconst 0, 1) := dk_3 (dk_at dksX2_giveUp_2_1 0 rfl rfl)
theorem dX2_giveUp_2_25 : decode cX2_giveUp_2 25 = .ok (.iastore, 1) := dk_79 (dk_at dksX2_giveUp_2_1 1 rfl rfl)
theorem dX2_giveUp_2_26 : decode cX2_giveUp_2 26 = .ok (.aload_n 0, 1) := dk_42 (dk_at dksX2_giveUp_2_1 2 rfl rfl)
theorem dX2_giveUp_2_27 : decode cX2_giveUp_2 27 = .ok (.invokevirtual 133, 3) := dk_182 0 133 (dk_at dksX2_giveUp_2_1 3 rfl rfl)
theorem dX2_giveUp_2_30 : decode cX2_giveUp_2 30 = .ok (.ifCond .eq 10, 3) := dk_153 0 10 (dk_at dksX2_giveUp_2_1 6 rfl rfl)
theorem dX2_giveUp_2_33 : decode cX2_giveUp_2 33 = .ok (.aload_n 0, 1) := dk_42 (dk_at dksX2_giveUp_2_1 9 rfl rfl)
theorem dX2_giveUp_2_34 : decode cX2_giveUp_2 34 = .ok (.getfield 136, 3) := dk_180 0 136 (dk_at dksX2_giveUp_2_1 10 rfl rfl)
theorem dX2_giveUp_2_37 : decode cX2_giveUp_2 37 = .ok (.iload_n 2, 1) := dk_28 (dk_at dksX2_giveUp_2_1 13 rfl rfl)
theorem dX2_giveUp_2_38 : decode cX2_giveUp_2 38 = .ok (.iconst 0, 1) := dk_3 (dk_at dksX2_giveUp_2_1 14 rfl rfl)
theorem dX2_giveUp_2_39 : decode cX2_giveUp_2 39 = .ok (.bastore, 1) := dk_84 (dk_at dksX2_giveUp_2_1 15 rfl rfl)
theorem dX2_giveUp_2_40 : decode cX2_giveUp_2 40 = .ok (.aload_n 0, 1) := dk_42 (dk_at dksX2_giveUp_2_1 16 rfl rfl)
theorem dX2_giveUp_2_41 : decode cX2_giveUp_2 41 = .ok (.getfield 139, 3) := dk_180 0 139 (dk_at dksX2_giveUp_2_1 17 rfl rfl)
theorem dX2_giveUp_2_44 : decode cX2_giveUp_2 44 = .ok (.ifnull 31, 3) := dk_198 0 31 (dk_at dksX2_giveUp_2_1 20 rfl rfl)
theorem dX2_giveUp_2_47 : decode cX2_giveUp_2 47 = .ok (.aload_n 0, 1) := dk_42 (dk_at dksX2_giveUp_2_1 23 rfl rfl)
theorem dX2_giveUp_2_48 : decode cX2_giveUp_2 48 = .ok (.getfield 139, 3) := dk_180 0 139 (dk_at dksX2_giveUp_2_2 0 rfl rfl)
theorem dX2_giveUp_2_51 : decode cX2_giveUp_2 51 = .ok (.getfield 143, 3) := dk_180 0 143 (dk_at dksX2_giveUp_2_2 3 rfl rfl)
theorem dX2_giveUp_2_54 : decode cX2_giveUp_2 54 = .ok (.iconst 2, 1) := dk_5 (dk_at dksX2_giveUp_2_2 6 rfl rfl)
theorem dX2_giveUp_2_55 : decode cX2_giveUp_2 55 = .ok (.newarray .int, 2) := dk_188_10 (dk_at dksX2_giveUp_2_2 7 rfl rfl)
theorem dX2_giveUp_2_57 : decode cX2_giveUp_2 57 = .ok (.dup, 1) := dk_89 (dk_at dksX2_giveUp_2_2 9 rfl rfl)
theorem dX2_giveUp_2_58 : decode cX2_giveUp_2 58 = .ok (.iconst 0, 1) := dk_3 (dk_at dksX2_giveUp_2_2 10 rfl rfl)
theorem dX2_giveUp_2_59 : decode cX2_giveUp_2 59 = .ok (.aload_n 0, 1) := dk_42 (dk_at dksX2_giveUp_2_2 11 rfl rfl)
theorem dX2_giveUp_2_60 : decode cX2_giveUp_2 60 = .ok (.getfield 139, 3) := dk_180 0 139 (dk_at dksX2_giveUp_2_2 12 rfl rfl)
theorem dX2_giveUp_2_63 : decode cX2_giveUp_2 63 = .ok (.getfield 148, 3) := dk_180 0 148 (dk_at dksX2_giveUp_2_2 15 rfl rfl)
theorem dX2_giveUp_2_66 : decode cX2_giveUp_2 66 = .ok (.iastore, 1) := dk_79 (dk_at dksX2_giveUp_2_2 18 rfl rfl)
theorem dX2_giveUp_2_67 : decode cX2_giveUp_2 67 = .ok (.dup, 1) := dk_89 (dk_at dksX2_giveUp_2_2 19 rfl rfl)
theorem dX2_giveUp_2_68 : decode cX2_giveUp_2 68 = .ok (.iconst 1, 1) := dk_4 (dk_at dksX2_giveUp_2_2 20 rfl rfl)
theorem dX2_giveUp_2_69 : decode cX2_giveUp_2 69 = .ok (.iload_n 2, 1) := dk_28 (dk_at dksX2_giveUp_2_2 21 rfl rfl)
theorem dX2_giveUp_2_70 : decode cX2_giveUp_2 70 = .ok (.iastore, 1) := dk_79 (dk_at dksX2_giveUp_2_2 22 rfl rfl)
theorem dX2_giveUp_2_71 : decode cX2_giveUp_2 71 = .ok (.invokevirtual 49, 3) := dk_182 0 49 (dk_at dksX2_giveUp_2_3 0 rfl rfl)
theorem dX2_giveUp_2_74 : decode cX2_giveUp_2 74 = .ok (.pop, 1) := dk_87 (dk_at dksX2_giveUp_2_3 3 rfl rfl)
theorem dX2_giveUp_2_75 : decode cX2_giveUp_2 75 = .ok (.return_, 1) := dk_177 (dk_at dksX2_giveUp_2_3 4 rfl rfl)
theorem q55 : (Jvm.Cond.initialized "HyperVane$Machine") ∈ lw_all := lw_g (lw_at lw_m1 2 rfl) rfl
theorem q94 : (Jvm.Cond.instantiable "HyperVane$Machine" (10 : Nat)) ∈ lw_all := lw_g (lw_at lw_m1 41 rfl) rfl
theorem q96 : (Jvm.Cond.instanceMethod ({ cls := "HyperVane$Machine", name := "<init>", desc := "()V" } : Jvm.MethodName)) ∈ lw_all := lw_g (lw_at lw_m1 43 rfl) rfl
theorem q97 : (Jvm.Cond.code ({ cls := "HyperVane$Machine", name := "<init>", desc := "()V" } : Jvm.MethodName) prog_4_method_1_code (1 : Nat) (Option.none : Option Jvm.ClassFile.FieldType)) ∈ lw_all := lw_g (lw_at lw_m1 44 rfl) rfl
theorem q98 : (Jvm.Cond.methodLink "HyperVane$Machine" (3 : Nat) ({ cls := "java/lang/Object", name := "<init>", desc := "()V" } : Jvm.MethodName)) ∈ lw_all := lw_g (lw_at lw_m1 45 rfl) rfl
theorem q99 : (Jvm.Cond.classLink "HyperVane$Machine" (9 : Nat) "java/util/ArrayList") ∈ lw_all := lw_g (lw_at lw_m1 46 rfl) rfl
theorem q101 : (Jvm.Cond.methodLink "HyperVane$Machine" (11 : Nat) ({ cls := "java/util/ArrayList", name := "<init>", desc := "()V" } : Jvm.MethodName)) ∈ lw_all := lw_g (lw_at lw_m1 48 rfl) rfl
theorem q128 : (Jvm.Cond.fieldLink "HyperVane$Machine" (12 : Nat) "HyperVane$Machine" "guests" "Ljava/util/ArrayList;") ∈ lw_all := lw_g (lw_at lw_m1 75 rfl) rfl
theorem q130 : (Jvm.Cond.fieldLink "HyperVane$Machine" (18 : Nat) "HyperVane$Machine" "frames" "Ljava/util/ArrayList;") ∈ lw_all := lw_g (lw_at lw_m1 77 rfl) rfl
theorem q132 : (Jvm.Cond.fieldLink "HyperVane$Machine" (77 : Nat) "HyperVane$Machine" "now" "I") ∈ lw_all := lw_g (lw_at lw_m1 79 rfl) rfl
theorem q134 : (Jvm.Cond.fieldLink "HyperVane$Machine" (80 : Nat) "HyperVane$Machine" "latest" "LHyperVane$Guest;") ∈ lw_all := lw_g (lw_at lw_m1 81 rfl) rfl
theorem q136 : (Jvm.Cond.fieldLink "HyperVane$Machine" (83 : Nat) "HyperVane$Machine" "inWork" "LHyperVane$Guest;") ∈ lw_all := lw_g (lw_at lw_m1 83 rfl) rfl
theorem q138 : (Jvm.Cond.fieldLink "HyperVane$Machine" (21 : Nat) "HyperVane$Machine" "since" "I") ∈ lw_all := lw_g (lw_at lw_m1 85 rfl) rfl
theorem q140 : (Jvm.Cond.fieldLink "HyperVane$Machine" (25 : Nat) "HyperVane$Machine" "lastServed" "I") ∈ lw_all := lw_g (lw_at lw_m1 87 rfl) rfl
theorem q141 : (Jvm.Cond.fieldLink "HyperVane$Machine" (86 : Nat) "HyperVane$Machine" "idle" "I") ∈ lw_all := lw_g (lw_at lw_m1 88 rfl) rfl
theorem q143 : (Jvm.Cond.fieldLink "HyperVane$Machine" (89 : Nat) "HyperVane$Machine" "toDisk" "I") ∈ lw_all := lw_g (lw_at lw_m1 90 rfl) rfl
theorem q145 : (Jvm.Cond.fieldLink "HyperVane$Machine" (92 : Nat) "HyperVane$Machine" "over" "I") ∈ lw_all := lw_g (lw_at lw_m1 92 rfl) rfl
theorem q147 : (Jvm.Cond.laysFinal "HyperVane$Machine" "HyperVane$Machine" "guests" "Ljava/util/ArrayList;") ∈ lw_all := lw_g (lw_at lw_m1 94 rfl) rfl
theorem q148 : (Jvm.Cond.soleField "HyperVane$Machine" "guests") ∈ lw_all := lw_g (lw_at lw_m1 95 rfl) rfl
theorem q149 : (Jvm.Cond.laysFinal "HyperVane$Machine" "HyperVane$Machine" "frames" "Ljava/util/ArrayList;") ∈ lw_all := lw_g (lw_at lw_m1 96 rfl) rfl
theorem q150 : (Jvm.Cond.soleField "HyperVane$Machine" "frames") ∈ lw_all := lw_g (lw_at lw_m1 97 rfl) rfl
theorem q151 : (Jvm.Cond.lays "HyperVane$Machine" "HyperVane$Machine" "now" "I") ∈ lw_all := lw_g (lw_at lw_m1 98 rfl) rfl
theorem q152 : (Jvm.Cond.soleField "HyperVane$Machine" "now") ∈ lw_all := lw_g (lw_at lw_m1 99 rfl) rfl
theorem q153 : (Jvm.Cond.lays "HyperVane$Machine" "HyperVane$Machine" "latest" "LHyperVane$Guest;") ∈ lw_all := lw_g (lw_at lw_m1 100 rfl) rfl
theorem q154 : (Jvm.Cond.soleField "HyperVane$Machine" "latest") ∈ lw_all := lw_g (lw_at lw_m1 101 rfl) rfl
theorem q155 : (Jvm.Cond.lays "HyperVane$Machine" "HyperVane$Machine" "inWork" "LHyperVane$Guest;") ∈ lw_all := lw_g (lw_at lw_m1 102 rfl) rfl
theorem q156 : (Jvm.Cond.soleField "HyperVane$Machine" "inWork") ∈ lw_all := lw_g (lw_at lw_m1 103 rfl) rfl
theorem q157 : (Jvm.Cond.lays "HyperVane$Machine" "HyperVane$Machine" "since" "I") ∈ lw_all := lw_g (lw_at lw_m1 104 rfl) rfl
theorem q158 : (Jvm.Cond.soleField "HyperVane$Machine" "since") ∈ lw_all := lw_g (lw_at lw_m1 105 rfl) rfl
theorem q159 : (Jvm.Cond.lays "HyperVane$Machine" "HyperVane$Machine" "lastServed" "I") ∈ lw_all := lw_g (lw_at lw_m1 106 rfl) rfl
theorem q160 : (Jvm.Cond.soleField "HyperVane$Machine" "lastServed") ∈ lw_all := lw_g (lw_at lw_m1 107 rfl) rfl
theorem q161 : (Jvm.Cond.lays "HyperVane$Machine" "HyperVane$Machine" "idle" "I") ∈ lw_all := lw_g (lw_at lw_m1 108 rfl) rfl
theorem q162 : (Jvm.Cond.soleField "HyperVane$Machine" "idle") ∈ lw_all := lw_g (lw_at lw_m1 109 rfl) rfl
theorem q163 : (Jvm.Cond.lays "HyperVane$Machine" "HyperVane$Machine" "toDisk" "I") ∈ lw_all := lw_g (lw_at lw_m1 110 rfl) rfl
theorem q164 : (Jvm.Cond.soleField "HyperVane$Machine" "toDisk") ∈ lw_all := lw_g (lw_at lw_m1 111 rfl) rfl
theorem q165 : (Jvm.Cond.lays "HyperVane$Machine" "HyperVane$Machine" "over" "I") ∈ lw_all := lw_g (lw_at lw_m1 112 rfl) rfl
theorem q166 : (Jvm.Cond.soleField "HyperVane$Machine" "over") ∈ lw_all := lw_g (lw_at lw_m1 113 rfl) rfl
theorem q167 : (Jvm.Cond.superclass "HyperVane$Machine" "java/lang/Object") ∈ lw_all := lw_g (lw_at lw_m1 114 rfl) rfl
theorem q169 : (Jvm.Cond.instanceMethod ({ cls := "HyperVane$Machine", name := "setFrames", desc := "(I)I" } : Jvm.MethodName)) ∈ lw_all := lw_g (lw_at lw_m1 116 rfl) rfl
theorem q170 : (Jvm.Cond.selects "HyperVane$Machine" ({ cls := "HyperVane$Machine", name := "setFrames", desc := "(I)I" } : Jvm.MethodName) ({ cls := "HyperVane$Machine", name := "setFrames", desc := "(I)I" } : Jvm.MethodName)) ∈ lw_all := lw_g (lw_at lw_m1 117 rfl) rfl
theorem q171 : (Jvm.Cond.code ({ cls := "HyperVane$Machine", name := "setFrames", desc := "(I)I" } : Jvm.MethodName) prog_4_method_6_code (4 : Nat) (Option.some Jvm.ClassFile.FieldType.int)) ∈ lw_all := lw_g (lw_at lw_m1 118 rfl) rfl
theorem q172 : (Jvm.Cond.methodLink "HyperVane$Machine" (105 : Nat) ({ cls := "java/util/ArrayList", name := "size", desc := "()I" } : Jvm.MethodName)) ∈ lw_all := lw_g (lw_at lw_m1 119 rfl) rfl
theorem q176 : (Jvm.Cond.methodLink "HyperVane$Machine" (109 : Nat) ({ cls := "java/util/ArrayList", name := "remove", desc := "(I)Ljava/lang/Object;" } : Jvm.MethodName)) ∈ lw_all := lw_g (lw_at lw_m1 123 rfl) rfl
theorem q193 : (Jvm.Cond.classLink "HyperVane$Machine" (53 : Nat) "HyperVane$Frame") ∈ lw_all := lw_g (lw_at lw_m1 140 rfl) rfl
theorem q194 : (Jvm.Cond.methodLink "HyperVane$Machine" (102 : Nat) ({ cls := "HyperVane$Machine", name := "toDisk", desc := "(LHyperVane$Frame;)V" } : Jvm.MethodName)) ∈ lw_all := lw_g (lw_at lw_m1 141 rfl) rfl
theorem q195 : (Jvm.Cond.privateMethod ({ cls := "HyperVane$Machine", name := "toDisk", desc := "(LHyperVane$Frame;)V" } : Jvm.MethodName)) ∈ lw_tbl := lw_at lw_m1 142 rfl
theorem q196 : (Jvm.Cond.instanceMethod ({ cls := "HyperVane$Machine", name := "toDisk", desc := "(LHyperVane$Frame;)V" } : Jvm.MethodName)) ∈ lw_all := lw_g (lw_at lw_m1 143 rfl) rfl
theorem q197 : (Jvm.Cond.code ({ cls := "HyperVane$Machine", name := "toDisk", desc := "(LHyperVane$Frame;)V" } : Jvm.MethodName) prog_4_method_4_code (2 : Nat) (Option.none : Option Jvm.ClassFile.FieldType)) ∈ lw_all := lw_g (lw_at lw_m1 144 rfl) rfl
theorem q198 : (Jvm.Cond.methodLink "HyperVane$Machine" (99 : Nat) ({ cls := "HyperVane$Frame", name := "free", desc := "()V" } : Jvm.MethodName)) ∈ lw_all := lw_g (lw_at lw_m1 145 rfl) rfl
theorem q207 : (Jvm.Cond.methodLinkNest "HyperVane$Machine" (55 : Nat) ({ cls := "HyperVane$Frame", name := "<init>", desc := "()V" } : Jvm.MethodName) "HyperVane") ∈ lw_tbl := lw_at lw_m1 154 rfl
theorem q212 : (Jvm.Cond.fieldLinkNest "HyperVane$Machine" (56 : Nat) "HyperVane$Frame" "guest" "LHyperVane$Guest;" "HyperVane") ∈ lw_tbl := lw_at lw_m1 159 rfl
theorem q215 : (Jvm.Cond.fieldLinkNest "HyperVane$Machine" (67 : Nat) "HyperVane$Frame" "page" "I" "HyperVane") ∈ lw_tbl := lw_at lw_m1 162 rfl
theorem q218 : (Jvm.Cond.fieldLinkNest "HyperVane$Machine" (70 : Nat) "HyperVane$Frame" "used" "I" "HyperVane") ∈ lw_tbl := lw_at lw_m1 165 rfl
theorem q227 : (Jvm.Cond.methodLink "HyperVane$Machine" (49 : Nat) ({ cls := "java/util/ArrayList", name := "add", desc := "(Ljava/lang/Object;)Z" } : Jvm.MethodName)) ∈ lw_all := lw_g (lw_at lw_m1 174 rfl) rfl
theorem q262 : (Jvm.Cond.selects "HyperVane$Machine" ({ cls := "java/lang/Object", name := "getClass", desc := "()Ljava/lang/Class;" } : Jvm.MethodName) ({ cls := "java/lang/Object", name := "getClass", desc := "()Ljava/lang/Class;" } : Jvm.MethodName)) ∈ lw_all := lw_g (lw_at lw_m1 209 rfl) rfl
theorem q378 : (Jvm.Cond.instanceMethod ({ cls := "HyperVane$Machine", name := "frameOf", desc := "(LHyperVane$Guest;I)LHyperVane$Frame;" } : Jvm.MethodName)) ∈ lw_all := lw_g (lw_at lw_m2 85 rfl) rfl
theorem q379 : (Jvm.Cond.selects "HyperVane$Machine" ({ cls := "HyperVane$Machine", name := "frameOf", desc := "(LHyperVane$Guest;I)LHyperVane$Frame;" } : Jvm.MethodName) ({ cls := "HyperVane$Machine", name := "frameOf", desc := "(LHyperVane$Guest;I)LHyperVane$Frame;" } : Jvm.MethodName)) ∈ lw_all := lw_g (lw_at lw_m2 86 rfl) rfl
theorem q380 : (Jvm.Cond.code ({ cls := "HyperVane$Machine", name := "frameOf", desc := "(LHyperVane$Guest;I)LHyperVane$Frame;" } : Jvm.MethodName) prog_4_method_3_code (5 : Nat) (Option.some (Jvm.ClassFile.FieldType.object "HyperVane$Frame"))) ∈ lw_all := lw_g (lw_at lw_m2 87 rfl) rfl
theorem q381 : (Jvm.Cond.methodLink "HyperVane$Machine" (29 : Nat) ({ cls := "java/util/ArrayList", name := "iterator", desc := "()Ljava/util/Iterator;" } : Jvm.MethodName)) ∈ lw_all := lw_g (lw_at lw_m2 88 rfl) rfl
theorem q382 : (Jvm.Cond.interfaceEntry "HyperVane$Machine" (33 : Nat)) ∈ lw_tbl := lw_at lw_m2 89 rfl
theorem q383 : (Jvm.Cond.methodLink "HyperVane$Machine" (33 : Nat) ({ cls := "java/util/Iterator", name := "hasNext", desc := "()Z" } : Jvm.MethodName)) ∈ lw_all := lw_g (lw_at lw_m2 90 rfl) rfl
theorem q384 : (Jvm.Cond.interfaceEntry "HyperVane$Machine" (39 : Nat)) ∈ lw_tbl := lw_at lw_m2 91 rfl
theorem q385 : (Jvm.Cond.methodLink "HyperVane$Machine" (39 : Nat) ({ cls := "java/util/Iterator", name := "next", desc := "()Ljava/lang/Object;" } : Jvm.MethodName)) ∈ lw_all := lw_g (lw_at lw_m2 92 rfl) rfl
theorem q414 : (Jvm.Cond.selects "HyperVane$Machine" ({ cls := "java/lang/Object", name := "equals", desc := "(Ljava/lang/Object;)Z" } : Jvm.MethodName) ({ cls := "java/lang/Object", name := "equals", desc := "(Ljava/lang/Object;)Z" } : Jvm.MethodName)) ∈ lw_all := lw_g (lw_at lw_m2 121 rfl) rfl
theorem q471 : (Jvm.Cond.fieldLinkNest "HyperVane$Machine" (127 : Nat) "HyperVane$Mind" "values" "[I" "HyperVane") ∈ lw_tbl := lw_at lw_m2 178 rfl
theorem q534 : (Jvm.Cond.instanceMethod ({ cls := "HyperVane$Machine", name := "copy", desc := "()LHyperVane$Machine;" } : Jvm.MethodName)) ∈ lw_all := lw_g (lw_at lw_m3 1 rfl) rfl
theorem q535 : (Jvm.Cond.selects "HyperVane$Machine" ({ cls := "HyperVane$Machine", name := "copy", desc := "()LHyperVane$Machine;" } : Jvm.MethodName) ({ cls := "HyperVane$Machine", name := "copy", desc := "()LHyperVane$Machine;" } : Jvm.MethodName)) ∈ lw_all := lw_g (lw_at lw_m3 2 rfl) rfl
theorem q536 : (Jvm.Cond.code ({ cls := "HyperVane$Machine", name := "copy", desc := "()LHyperVane$Machine;" } : Jvm.MethodName) prog_4_method_2_code (5 : Nat) (Option.some (Jvm.ClassFile.FieldType.object "HyperVane$Machine"))) ∈ lw_all := lw_g (lw_at lw_m3 3 rfl) rfl
theorem q537 : (Jvm.Cond.classLink "HyperVane$Machine" (13 : Nat) "HyperVane$Machine") ∈ lw_all := lw_g (lw_at lw_m3 4 rfl) rfl
theorem q538 : (Jvm.Cond.methodLink "HyperVane$Machine" (28 : Nat) ({ cls := "HyperVane$Machine", name := "<init>", desc := "()V" } : Jvm.MethodName)) ∈ lw_all := lw_g (lw_at lw_m3 5 rfl) rfl
theorem q539 : (Jvm.Cond.classLink "HyperVane$Machine" (43 : Nat) "HyperVane$Guest") ∈ lw_all := lw_g (lw_at lw_m3 6 rfl) rfl
theorem q540 : (Jvm.Cond.methodLink "HyperVane$Machine" (45 : Nat) ({ cls := "HyperVane$Guest", name := "copy", desc := "()LHyperVane$Guest;" } : Jvm.MethodName)) ∈ lw_all := lw_g (lw_at lw_m3 7 rfl) rfl
theorem q553 : (Jvm.Cond.fieldLinkNest "HyperVane$Machine" (60 : Nat) "HyperVane$Guest" "number" "I" "HyperVane") ∈ lw_tbl := lw_at lw_m3 20 rfl
theorem q557 : (Jvm.Cond.fieldLinkNest "HyperVane$Machine" (197 : Nat) "HyperVane$Guest" "weight" "I" "HyperVane") ∈ lw_tbl := lw_at lw_m3 24 rfl
theorem q559 : (Jvm.Cond.fieldLinkNest "HyperVane$Machine" (123 : Nat) "HyperVane$Guest" "mind" "LHyperVane$Mind;" "HyperVane") ∈ lw_tbl := lw_at lw_m3 26 rfl
theorem q562 : (Jvm.Cond.fieldLinkNest "HyperVane$Machine" (158 : Nat) "HyperVane$Guest" "state" "I" "HyperVane") ∈ lw_tbl := lw_at lw_m3 29 rfl
theorem q568 : (Jvm.Cond.fieldLinkNest "HyperVane$Machine" (284 : Nat) "HyperVane$Guest" "isPausedByMove" "Z" "HyperVane") ∈ lw_tbl := lw_at lw_m3 35 rfl
theorem q570 : (Jvm.Cond.fieldLinkNest "HyperVane$Machine" (250 : Nat) "HyperVane$Guest" "stuckTill" "I" "HyperVane") ∈ lw_tbl := lw_at lw_m3 37 rfl
theorem q573 : (Jvm.Cond.fieldLinkNest "HyperVane$Machine" (164 : Nat) "HyperVane$Guest" "time" "I" "HyperVane") ∈ lw_tbl := lw_at lw_m3 40 rfl
theorem q576 : (Jvm.Cond.fieldLinkNest "HyperVane$Machine" (256 : Nat) "HyperVane$Guest" "pending" "I" "HyperVane") ∈ lw_tbl := lw_at lw_m3 43 rfl
theorem q579 : (Jvm.Cond.fieldLinkNest "HyperVane$Machine" (181 : Nat) "HyperVane$Guest" "credits" "I" "HyperVane") ∈ lw_tbl := lw_at lw_m3 46 rfl
theorem q582 : (Jvm.Cond.fieldLinkNest "HyperVane$Machine" (157 : Nat) "HyperVane$Guest" "done" "I" "HyperVane") ∈ lw_tbl := lw_at lw_m3 49 rfl
theorem q585 : (Jvm.Cond.fieldLinkNest "HyperVane$Machine" (174 : Nat) "HyperVane$Guest" "stolen" "I" "HyperVane") ∈ lw_tbl := lw_at lw_m3 52 rfl
theorem q588 : (Jvm.Cond.fieldLinkNest "HyperVane$Machine" (253 : Nat) "HyperVane$Guest" "queue" "I" "HyperVane") ∈ lw_tbl := lw_at lw_m3 55 rfl
theorem q591 : (Jvm.Cond.fieldLinkNest "HyperVane$Machine" (240 : Nat) "HyperVane$Guest" "exits" "[I" "HyperVane") ∈ lw_tbl := lw_at lw_m3 58 rfl
theorem q594 : (Jvm.Cond.fieldLinkNest "HyperVane$Machine" (95 : Nat) "HyperVane$Guest" "areOnDisk" "[Z" "HyperVane") ∈ lw_tbl := lw_at lw_m3 61 rfl
theorem q597 : (Jvm.Cond.fieldLinkNest "HyperVane$Machine" (120 : Nat) "HyperVane$Guest" "areGiven" "[Z" "HyperVane") ∈ lw_tbl := lw_at lw_m3 64 rfl
theorem q600 : (Jvm.Cond.fieldLinkNest "HyperVane$Machine" (136 : Nat) "HyperVane$Guest" "left" "[Z" "HyperVane") ∈ lw_tbl := lw_at lw_m3 67 rfl
theorem q603 : (Jvm.Cond.fieldLinkNest "HyperVane$Machine" (275 : Nat) "HyperVane$Guest" "speed" "I" "HyperVane") ∈ lw_tbl := lw_at lw_m3 70 rfl
theorem q605 : (Jvm.Cond.fieldLinkNest "HyperVane$Machine" (278 : Nat) "HyperVane$Guest" "movedSince" "I" "HyperVane") ∈ lw_tbl := lw_at lw_m3 72 rfl
theorem q607 : (Jvm.Cond.fieldLinkNest "HyperVane$Machine" (265 : Nat) "HyperVane$Guest" "isToBeOver" "Z" "HyperVane") ∈ lw_tbl := lw_at lw_m3 74 rfl
theorem q609 : (Jvm.Cond.fieldLinkNest "HyperVane$Machine" (287 : Nat) "HyperVane$Guest" "down" "I" "HyperVane") ∈ lw_tbl := lw_at lw_m3 76 rfl
theorem q612 : (Jvm.Cond.fieldLinkNest "HyperVane$Machine" (139 : Nat) "HyperVane$Guest" "past" "LHyperVane$Past;" "HyperVane") ∈ lw_tbl := lw_at lw_m3 79 rfl
theorem q684 : (Jvm.Cond.fieldLinkNest "HyperVane$Machine" (143 : Nat) "HyperVane$Past" "given" "Ljava/util/ArrayList;" "HyperVane") ∈ lw_tbl := lw_at lw_m3 151 rfl
theorem q686 : (Jvm.Cond.fieldLinkNest "HyperVane$Machine" (148 : Nat) "HyperVane$Past" "done" "I" "HyperVane") ∈ lw_tbl := lw_at lw_m3 153 rfl
theorem q700 : (Jvm.Cond.methodLink "HyperVane$Machine" (63 : Nat) ({ cls := "java/util/ArrayList", name := "get", desc := "(I)Ljava/lang/Object;" } : Jvm.MethodName)) ∈ lw_all := lw_g (lw_at lw_m3 167 rfl) rfl
theorem q701 : (Jvm.Cond.methodLink "HyperVane$Machine" (73 : Nat) ({ cls := "HyperVane$Frame", name := "set", desc := "(LHyperVane$Guest;II)V" } : Jvm.MethodName)) ∈ lw_all := lw_g (lw_at lw_m3 168 rfl) rfl
theorem q703 : (Jvm.Cond.instanceMethod ({ cls := "HyperVane$Machine", name := "run", desc := "(I)I" } : Jvm.MethodName)) ∈ lw_all := lw_g (lw_at lw_m3 170 rfl) rfl
theorem q704 : (Jvm.Cond.selects "HyperVane$Machine" ({ cls := "HyperVane$Machine", name := "run", desc := "(I)I" } : Jvm.MethodName) ({ cls := "HyperVane$Machine", name := "run", desc := "(I)I" } : Jvm.MethodName)) ∈ lw_all := lw_g (lw_at lw_m3 171 rfl) rfl
theorem q705 : (Jvm.Cond.code ({ cls := "HyperVane$Machine", name := "run", desc := "(I)I" } : Jvm.MethodName) prog_4_method_9_code (4 : Nat) (Option.some Jvm.ClassFile.FieldType.int)) ∈ lw_all := lw_g (lw_at lw_m3 172 rfl) rfl
theorem q706 : (Jvm.Cond.methodLink "HyperVane$Machine" (151 : Nat) ({ cls := "HyperVane$Machine", name := "doneOfAll", desc := "()I" } : Jvm.MethodName)) ∈ lw_all := lw_g (lw_at lw_m3 173 rfl) rfl
theorem q707 : (Jvm.Cond.privateMethod ({ cls := "HyperVane$Machine", name := "doneOfAll", desc := "()I" } : Jvm.MethodName)) ∈ lw_tbl := lw_at lw_m3 174 rfl
theorem q708 : (Jvm.Cond.instanceMethod ({ cls := "HyperVane$Machine", name := "doneOfAll", desc := "()I" } : Jvm.MethodName)) ∈ lw_all := lw_g (lw_at lw_m3 175 rfl) rfl
theorem q709 : (Jvm.Cond.code ({ cls := "HyperVane$Machine", name := "doneOfAll", desc := "()I" } : Jvm.MethodName) prog_4_method_10_code (4 : Nat) (Option.some Jvm.ClassFile.FieldType.int)) ∈ lw_all := lw_g (lw_at lw_m3 176 rfl) rfl
theorem q710 : (Jvm.Cond.methodLink "HyperVane$Machine" (154 : Nat) ({ cls := "HyperVane$Machine", name := "tick", desc := "()V" } : Jvm.MethodName)) ∈ lw_all := lw_g (lw_at lw_m3 177 rfl) rfl
theorem q711 : (Jvm.Cond.privateMethod ({ cls := "HyperVane$Machine", name := "tick", desc := "()V" } : Jvm.MethodName)) ∈ lw_tbl := lw_at lw_m3 178 rfl
theorem q712 : (Jvm.Cond.instanceMethod ({ cls := "HyperVane$Machine", name := "tick", desc := "()V" } : Jvm.MethodName)) ∈ lw_all := lw_g (lw_at lw_m3 179 rfl) rfl
theorem q713 : (Jvm.Cond.code ({ cls := "HyperVane$Machine", name := "tick", desc := "()V" } : Jvm.MethodName) prog_4_method_11_code (3 : Nat) (Option.none : Option Jvm.ClassFile.FieldType)) ∈ lw_all := lw_g (lw_at lw_m3 180 rfl) rfl
theorem q714 : (Jvm.Cond.methodLink "HyperVane$Machine" (161 : Nat) ({ cls := "HyperVane$Guest", name := "isAway", desc := "()Z" } : Jvm.MethodName)) ∈ lw_all := lw_g (lw_at lw_m3 181 rfl) rfl
theorem q718 : (Jvm.Cond.methodLink "HyperVane$Machine" (167 : Nat) ({ cls := "HyperVane$Guest", name := "wake", desc := "(I)V" } : Jvm.MethodName)) ∈ lw_all := lw_g (lw_at lw_m3 185 rfl) rfl
theorem q722 : (Jvm.Cond.methodLink "HyperVane$Machine" (171 : Nat) ({ cls := "HyperVane$Machine", name := "chosen", desc := "()LHyperVane$Guest;" } : Jvm.MethodName)) ∈ lw_all := lw_g (lw_at lw_m3 189 rfl) rfl
theorem q723 : (Jvm.Cond.privateMethod ({ cls := "HyperVane$Machine", name := "chosen", desc := "()LHyperVane$Guest;" } : Jvm.MethodName)) ∈ lw_tbl := lw_at lw_m3 190 rfl
theorem q724 : (Jvm.Cond.instanceMethod ({ cls := "HyperVane$Machine", name := "chosen", desc := "()LHyperVane$Guest;" } : Jvm.MethodName)) ∈ lw_all := lw_g (lw_at lw_m3 191 rfl) rfl
theorem q725 : (Jvm.Cond.code ({ cls := "HyperVane$Machine", name := "chosen", desc := "()LHyperVane$Guest;" } : Jvm.MethodName) prog_4_method_12_code (4 : Nat) (Option.some (Jvm.ClassFile.FieldType.object "HyperVane$Guest"))) ∈ lw_all := lw_g (lw_at lw_m3 192 rfl) rfl
theorem q726 : (Jvm.Cond.methodLink "HyperVane$Machine" (194 : Nat) ({ cls := "HyperVane$Machine", name := "mostCredits", desc := "()LHyperVane$Guest;" } : Jvm.MethodName)) ∈ lw_all := lw_g (lw_at lw_m3 193 rfl) rfl
theorem q727 : (Jvm.Cond.privateMethod ({ cls := "HyperVane$Machine", name := "mostCredits", desc := "()LHyperVane$Guest;" } : Jvm.MethodName)) ∈ lw_tbl := lw_at lw_m3 194 rfl
theorem q728 : (Jvm.Cond.instanceMethod ({ cls := "HyperVane$Machine", name := "mostCredits", desc := "()LHyperVane$Guest;" } : Jvm.MethodName)) ∈ lw_all := lw_g (lw_at lw_m3 195 rfl) rfl
theorem q729 : (Jvm.Cond.code ({ cls := "HyperVane$Machine", name := "mostCredits", desc := "()LHyperVane$Guest;" } : Jvm.MethodName) prog_4_method_13_code (4 : Nat) (Option.some (Jvm.ClassFile.FieldType.object "HyperVane$Guest"))) ∈ lw_all := lw_g (lw_at lw_m3 196 rfl) rfl
theorem q730 : (Jvm.Cond.methodLink "HyperVane$Machine" (200 : Nat) ({ cls := "java/lang/Math", name := "min", desc := "(II)I" } : Jvm.MethodName)) ∈ lw_all := lw_g (lw_at lw_m3 197 rfl) rfl
theorem q731 : (Jvm.Cond.methodLinkNest "HyperVane$Machine" (177 : Nat) ({ cls := "HyperVane", name := "one", desc := "(Z)I" } : Jvm.MethodName) "HyperVane") ∈ lw_tbl := lw_at lw_m3 198 rfl
theorem q732 : (Jvm.Cond.methodLink "HyperVane$Machine" (184 : Nat) ({ cls := "HyperVane$Machine", name := "go", desc := "(LHyperVane$Guest;)V" } : Jvm.MethodName)) ∈ lw_all := lw_g (lw_at lw_m3 199 rfl) rfl
theorem q733 : (Jvm.Cond.privateMethod ({ cls := "HyperVane$Machine", name := "go", desc := "(LHyperVane$Guest;)V" } : Jvm.MethodName)) ∈ lw_tbl := lw_at lw_m3 200 rfl
theorem q734 : (Jvm.Cond.instanceMethod ({ cls := "HyperVane$Machine", name := "go", desc := "(LHyperVane$Guest;)V" } : Jvm.MethodName)) ∈ lw_all := lw_g (lw_at lw_m3 201 rfl) rfl
theorem q735 : (Jvm.Cond.code ({ cls := "HyperVane$Machine", name := "go", desc := "(LHyperVane$Guest;)V" } : Jvm.MethodName) prog_4_method_14_code (3 : Nat) (Option.none : Option Jvm.ClassFile.FieldType)) ∈ lw_all := lw_g (lw_at lw_m3 202 rfl) rfl
theorem q736 : (Jvm.Cond.methodLink "HyperVane$Machine" (206 : Nat) ({ cls := "HyperVane$Mind", name := "op", desc := "()LHyperVane$Op;" } : Jvm.MethodName)) ∈ lw_all := lw_g (lw_at lw_m3 203 rfl) rfl
theorem q737 : (Jvm.Cond.methodLink "HyperVane$Machine" (215 : Nat) ({ cls := "HyperVane$Machine", name := "touch", desc := "(LHyperVane$Guest;LHyperVane$Op;)V" } : Jvm.MethodName)) ∈ lw_all := lw_g (lw_at lw_m3 204 rfl) rfl
theorem q738 : (Jvm.Cond.privateMethod ({ cls := "HyperVane$Machine", name := "touch", desc := "(LHyperVane$Guest;LHyperVane$Op;)V" } : Jvm.MethodName)) ∈ lw_tbl := lw_at lw_m3 205 rfl
theorem q739 : (Jvm.Cond.instanceMethod ({ cls := "HyperVane$Machine", name := "touch", desc := "(LHyperVane$Guest;LHyperVane$Op;)V" } : Jvm.MethodName)) ∈ lw_all := lw_g (lw_at lw_m3 206 rfl) rfl
theorem q740 : (Jvm.Cond.code ({ cls := "HyperVane$Machine", name := "touch", desc := "(LHyperVane$Guest;LHyperVane$Op;)V" } : Jvm.MethodName) prog_4_method_17_code (4 : Nat) (Option.none : Option Jvm.ClassFile.FieldType)) ∈ lw_all := lw_g (lw_at lw_m3 207 rfl) rfl
theorem q741 : (Jvm.Cond.methodLink "HyperVane$Machine" (112 : Nat) ({ cls := "HyperVane$Machine", name := "frameOf", desc := "(LHyperVane$Guest;I)LHyperVane$Frame;" } : Jvm.MethodName)) ∈ lw_all := lw_g (lw_at lw_m3 208 rfl) rfl
theorem q742 : (Jvm.Cond.methodLink "HyperVane$Machine" (133 : Nat) ({ cls := "HyperVane$Guest", name := "isMoved", desc := "()Z" } : Jvm.MethodName)) ∈ lw_all := lw_g (lw_at lw_m3 209 rfl) rfl
theorem q743 : (Jvm.Cond.methodLink "HyperVane$Machine" (229 : Nat) ({ cls := "HyperVane$Machine", name := "finish", desc := "(LHyperVane$Guest;I)V" } : Jvm.MethodName)) ∈ lw_all := lw_g (lw_at lw_m3 210 rfl) rfl
theorem q744 : (Jvm.Cond.static ({ cls := "HyperVane$Machine", name := "finish", desc := "(LHyperVane$Guest;I)V" } : Jvm.MethodName)) ∈ lw_all := lw_g (lw_at lw_m3 211 rfl) rfl
theorem q745 : (Jvm.Cond.code ({ cls := "HyperVane$Machine", name := "finish", desc := "(LHyperVane$Guest;I)V" } : Jvm.MethodName) prog_4_method_16_code (2 : Nat) (Option.none : Option Jvm.ClassFile.FieldType)) ∈ lw_all := lw_g (lw_at lw_m3 212 rfl) rfl
theorem q746 : (Jvm.Cond.methodLink "HyperVane$Machine" (234 : Nat) ({ cls := "HyperVane$Mind", name := "work", desc := "(I)V" } : Jvm.MethodName)) ∈ lw_all := lw_g (lw_at lw_m3 213 rfl) rfl
theorem q747 : (Jvm.Cond.methodLink "HyperVane$Machine" (243 : Nat) ({ cls := "HyperVane$Machine", name := "fetch", desc := "(LHyperVane$Guest;I)V" } : Jvm.MethodName)) ∈ lw_all := lw_g (lw_at lw_m3 214 rfl) rfl
theorem q748 : (Jvm.Cond.privateMethod ({ cls := "HyperVane$Machine", name := "fetch", desc := "(LHyperVane$Guest;I)V" } : Jvm.MethodName)) ∈ lw_tbl := lw_at lw_m3 215 rfl
theorem q749 : (Jvm.Cond.instanceMethod ({ cls := "HyperVane$Machine", name := "fetch", desc := "(LHyperVane$Guest;I)V" } : Jvm.MethodName)) ∈ lw_all := lw_g (lw_at lw_m3 216 rfl) rfl
theorem q750 : (Jvm.Cond.code ({ cls := "HyperVane$Machine", name := "fetch", desc := "(LHyperVane$Guest;I)V" } : Jvm.MethodName) prog_4_method_18_code (3 : Nat) (Option.none : Option Jvm.ClassFile.FieldType)) ∈ lw_all := lw_g (lw_at lw_m3 217 rfl) rfl
theorem q751 : (Jvm.Cond.methodLink "HyperVane$Machine" (246 : Nat) ({ cls := "HyperVane$Machine", name := "taken", desc := "()LHyperVane$Frame;" } : Jvm.MethodName)) ∈ lw_all := lw_g (lw_at lw_m3 218 rfl) rfl
theorem q752 : (Jvm.Cond.privateMethod ({ cls := "HyperVane$Machine", name := "taken", desc := "()LHyperVane$Frame;" } : Jvm.MethodName)) ∈ lw_tbl := lw_at lw_m3 219 rfl
theorem q753 : (Jvm.Cond.instanceMethod ({ cls := "HyperVane$Machine", name := "taken", desc := "()LHyperVane$Frame;" } : Jvm.MethodName)) ∈ lw_all := lw_g (lw_at lw_m3 220 rfl) rfl
theorem q754 : (Jvm.Cond.code ({ cls := "HyperVane$Machine", name := "taken", desc := "()LHyperVane$Frame;" } : Jvm.MethodName) prog_4_method_5_code (4 : Nat) (Option.some (Jvm.ClassFile.FieldType.object "HyperVane$Frame"))) ∈ lw_all := lw_g (lw_at lw_m3 221 rfl) rfl
theorem q755 : (Jvm.Cond.methodLink "HyperVane$Machine" (219 : Nat) ({ cls := "HyperVane$Machine", name := "send", desc := "(LHyperVane$Guest;)V" } : Jvm.MethodName)) ∈ lw_all := lw_g (lw_at lw_m3 222 rfl) rfl
theorem q756 : (Jvm.Cond.privateMethod ({ cls := "HyperVane$Machine", name := "send", desc := "(LHyperVane$Guest;)V" } : Jvm.MethodName)) ∈ lw_tbl := lw_at lw_m3 223 rfl
theorem q757 : (Jvm.Cond.instanceMethod ({ cls := "HyperVane$Machine", name := "send", desc := "(LHyperVane$Guest;)V" } : Jvm.MethodName)) ∈ lw_all := lw_g (lw_at lw_m3 224 rfl) rfl
theorem q758 : (Jvm.Cond.code ({ cls := "HyperVane$Machine", name := "send", desc := "(LHyperVane$Guest;)V" } : Jvm.MethodName) prog_4_method_19_code (2 : Nat) (Option.none : Option Jvm.ClassFile.FieldType)) ∈ lw_all := lw_g (lw_at lw_m3 225 rfl) rfl
theorem q759 : (Jvm.Cond.methodLink "HyperVane$Machine" (222 : Nat) ({ cls := "HyperVane$Machine", name := "await", desc := "(LHyperVane$Guest;)V" } : Jvm.MethodName)) ∈ lw_all := lw_g (lw_at lw_m3 226 rfl) rfl
theorem q760 : (Jvm.Cond.privateMethod ({ cls := "HyperVane$Machine", name := "await", desc := "(LHyperVane$Guest;)V" } : Jvm.MethodName)) ∈ lw_tbl := lw_at lw_m3 227 rfl
theorem q761 : (Jvm.Cond.instanceMethod ({ cls := "HyperVane$Machine", name := "await", desc := "(LHyperVane$Guest;)V" } : Jvm.MethodName)) ∈ lw_all := lw_g (lw_at lw_m3 228 rfl) rfl
theorem q762 : (Jvm.Cond.code ({ cls := "HyperVane$Machine", name := "await", desc := "(LHyperVane$Guest;)V" } : Jvm.MethodName) prog_4_method_20_code (3 : Nat) (Option.none : Option Jvm.ClassFile.FieldType)) ∈ lw_all := lw_g (lw_at lw_m3 229 rfl) rfl
theorem q763 : (Jvm.Cond.methodLink "HyperVane$Machine" (225 : Nat) ({ cls := "HyperVane$Machine", name := "log", desc := "(LHyperVane$Guest;I)V" } : Jvm.MethodName)) ∈ lw_all := lw_g (lw_at lw_m3 230 rfl) rfl
theorem q764 : (Jvm.Cond.static ({ cls := "HyperVane$Machine", name := "log", desc := "(LHyperVane$Guest;I)V" } : Jvm.MethodName)) ∈ lw_all := lw_g (lw_at lw_m3 231 rfl) rfl
theorem q765 : (Jvm.Cond.code ({ cls := "HyperVane$Machine", name := "log", desc := "(LHyperVane$Guest;I)V" } : Jvm.MethodName) prog_4_method_15_code (2 : Nat) (Option.none : Option Jvm.ClassFile.FieldType)) ∈ lw_all := lw_g (lw_at lw_m3 232 rfl) rfl
theorem q766 : (Jvm.Cond.methodLink "HyperVane$Machine" (232 : Nat) ({ cls := "HyperVane$Past", name := "add", desc := "(I)V" } : Jvm.MethodName)) ∈ lw_all := lw_g (lw_at lw_m3 233 rfl) rfl
theorem q790 : (Jvm.Cond.methodLink "HyperVane$Machine" (188 : Nat) ({ cls := "HyperVane$Machine", name := "device", desc := "()V" } : Jvm.MethodName)) ∈ lw_all := lw_g (lw_at lw_m4 17 rfl) rfl
theorem q791 : (Jvm.Cond.privateMethod ({ cls := "HyperVane$Machine", name := "device", desc := "()V" } : Jvm.MethodName)) ∈ lw_tbl := lw_at lw_m4 18 rfl
theorem q792 : (Jvm.Cond.instanceMethod ({ cls := "HyperVane$Machine", name := "device", desc := "()V" } : Jvm.MethodName)) ∈ lw_all := lw_g (lw_at lw_m4 19 rfl) rfl
theorem q793 : (Jvm.Cond.code ({ cls := "HyperVane$Machine", name := "device", desc := "()V" } : Jvm.MethodName) prog_4_method_21_code (3 : Nat) (Option.none : Option Jvm.ClassFile.FieldType)) ∈ lw_all := lw_g (lw_at lw_m4 20 rfl) rfl
theorem q794 : (Jvm.Cond.methodLink "HyperVane$Machine" (259 : Nat) ({ cls := "HyperVane$Machine", name := "stopWork", desc := "()V" } : Jvm.MethodName)) ∈ lw_all := lw_g (lw_at lw_m4 21 rfl) rfl
theorem q795 : (Jvm.Cond.privateMethod ({ cls := "HyperVane$Machine", name := "stopWork", desc := "()V" } : Jvm.MethodName)) ∈ lw_tbl := lw_at lw_m4 22 rfl
theorem q796 : (Jvm.Cond.instanceMethod ({ cls := "HyperVane$Machine", name := "stopWork", desc := "()V" } : Jvm.MethodName)) ∈ lw_all := lw_g (lw_at lw_m4 23 rfl) rfl
theorem q797 : (Jvm.Cond.code ({ cls := "HyperVane$Machine", name := "stopWork", desc := "()V" } : Jvm.MethodName) prog_4_method_23_code (1 : Nat) (Option.none : Option Jvm.ClassFile.FieldType)) ∈ lw_all := lw_g (lw_at lw_m4 24 rfl) rfl
theorem q798 : (Jvm.Cond.methodLink "HyperVane$Machine" (262 : Nat) ({ cls := "HyperVane$Machine", name := "begin", desc := "(LHyperVane$Guest;)V" } : Jvm.MethodName)) ∈ lw_all := lw_g (lw_at lw_m4 25 rfl) rfl
theorem q799 : (Jvm.Cond.privateMethod ({ cls := "HyperVane$Machine", name := "begin", desc := "(LHyperVane$Guest;)V" } : Jvm.MethodName)) ∈ lw_tbl := lw_at lw_m4 26 rfl
theorem q800 : (Jvm.Cond.instanceMethod ({ cls := "HyperVane$Machine", name := "begin", desc := "(LHyperVane$Guest;)V" } : Jvm.MethodName)) ∈ lw_all := lw_g (lw_at lw_m4 27 rfl) rfl
theorem q801 : (Jvm.Cond.code ({ cls := "HyperVane$Machine", name := "begin", desc := "(LHyperVane$Guest;)V" } : Jvm.MethodName) prog_4_method_22_code (2 : Nat) (Option.none : Option Jvm.ClassFile.FieldType)) ∈ lw_all := lw_g (lw_at lw_m4 28 rfl) rfl
theorem q802 : (Jvm.Cond.methodLink "HyperVane$Machine" (191 : Nat) ({ cls := "HyperVane$Machine", name := "move", desc := "(LHyperVane$Guest;)V" } : Jvm.MethodName)) ∈ lw_all := lw_g (lw_at lw_m4 29 rfl) rfl
theorem q803 : (Jvm.Cond.privateMethod ({ cls := "HyperVane$Machine", name := "move", desc := "(LHyperVane$Guest;)V" } : Jvm.MethodName)) ∈ lw_tbl := lw_at lw_m4 30 rfl
theorem q804 : (Jvm.Cond.instanceMethod ({ cls := "HyperVane$Machine", name := "move", desc := "(LHyperVane$Guest;)V" } : Jvm.MethodName)) ∈ lw_all := lw_g (lw_at lw_m4 31 rfl) rfl
theorem q805 : (Jvm.Cond.code ({ cls := "HyperVane$Machine", name := "move", desc := "(LHyperVane$Guest;)V" } : Jvm.MethodName) prog_4_method_24_code (5 : Nat) (Option.none : Option Jvm.ClassFile.FieldType)) ∈ lw_all := lw_g (lw_at lw_m4 32 rfl) rfl
theorem q806 : (Jvm.Cond.methodLink "HyperVane$Machine" (269 : Nat) ({ cls := "HyperVane$Machine", name := "leave", desc := "(LHyperVane$Guest;)V" } : Jvm.MethodName)) ∈ lw_all := lw_g (lw_at lw_m4 33 rfl) rfl
theorem q807 : (Jvm.Cond.privateMethod ({ cls := "HyperVane$Machine", name := "leave", desc := "(LHyperVane$Guest;)V" } : Jvm.MethodName)) ∈ lw_tbl := lw_at lw_m4 34 rfl
theorem q808 : (Jvm.Cond.instanceMethod ({ cls := "HyperVane$Machine", name := "leave", desc := "(LHyperVane$Guest;)V" } : Jvm.MethodName)) ∈ lw_all := lw_g (lw_at lw_m4 35 rfl) rfl
theorem q809 : (Jvm.Cond.code ({ cls := "HyperVane$Machine", name := "leave", desc := "(LHyperVane$Guest;)V" } : Jvm.MethodName) prog_4_method_25_code (4 : Nat) (Option.none : Option Jvm.ClassFile.FieldType)) ∈ lw_all := lw_g (lw_at lw_m4 36 rfl) rfl
theorem q810 : (Jvm.Cond.methodLink "HyperVane$Machine" (272 : Nat) ({ cls := "HyperVane$Guest", name := "manyLeft", desc := "()I" } : Jvm.MethodName)) ∈ lw_all := lw_g (lw_at lw_m4 37 rfl) rfl
theorem q811 : (Jvm.Cond.methodLink "HyperVane$Machine" (281 : Nat) ({ cls := "HyperVane$Guest", name := "pause", desc := "()V" } : Jvm.MethodName)) ∈ lw_all := lw_g (lw_at lw_m4 38 rfl) rfl
theorem q824 : (Jvm.Cond.instanceMethod ({ cls := "HyperVane$Machine", name := "startMove", desc := "(LHyperVane$Guest;I)I" } : Jvm.MethodName)) ∈ lw_all := lw_g (lw_at lw_m4 51 rfl) rfl
theorem q825 : (Jvm.Cond.selects "HyperVane$Machine" ({ cls := "HyperVane$Machine", name := "startMove", desc := "(LHyperVane$Guest;I)I" } : Jvm.MethodName) ({ cls := "HyperVane$Machine", name := "startMove", desc := "(LHyperVane$Guest;I)I" } : Jvm.MethodName)) ∈ lw_all := lw_g (lw_at lw_m4 52 rfl) rfl
theorem q826 : (Jvm.Cond.code ({ cls := "HyperVane$Machine", name := "startMove", desc := "(LHyperVane$Guest;I)I" } : Jvm.MethodName) prog_4_method_26_code (4 : Nat) (Option.some Jvm.ClassFile.FieldType.int)) ∈ lw_all := lw_g (lw_at lw_m4 53 rfl) rfl
theorem q1022 : (Jvm.Cond.fieldLinkNest "HyperVane$Machine" (210 : Nat) "HyperVane$Op" "kind" "I" "HyperVane") ∈ lw_tbl := lw_at lw_m5 9 rfl
theorem q1025 : (Jvm.Cond.fieldLinkNest "HyperVane$Machine" (237 : Nat) "HyperVane$Op" "a" "I" "HyperVane") ∈ lw_tbl := lw_at lw_m5 12 rfl
theorem q1066 : (Jvm.Cond.instanceMethod ({ cls := "HyperVane$Machine", name := "giveUp", desc := "(LHyperVane$Guest;I)I" } : Jvm.MethodName)) ∈ lw_all := lw_g (lw_at lw_m5 53 rfl) rfl
theorem q1067 : (Jvm.Cond.selects "HyperVane$Machine" ({ cls := "HyperVane$Machine", name := "giveUp", desc := "(LHyperVane$Guest;I)I" } : Jvm.MethodName) ({ cls := "HyperVane$Machine", name := "giveUp", desc := "(LHyperVane$Guest;I)I" } : Jvm.MethodName)) ∈ lw_all := lw_g (lw_at lw_m5 54 rfl) rfl
theorem q1068 : (Jvm.Cond.code ({ cls := "HyperVane$Machine", name := "giveUp", desc := "(LHyperVane$Guest;I)I" } : Jvm.MethodName) prog_4_method_7_code (8 : Nat) (Option.some Jvm.ClassFile.FieldType.int)) ∈ lw_all := lw_g (lw_at lw_m5 55 rfl) rfl
theorem q1069 : (Jvm.Cond.methodLink "HyperVane$Machine" (116 : Nat) ({ cls := "HyperVane$Machine", name := "giveUp", desc := "(LHyperVane$Guest;LHyperVane$Frame;)V" } : Jvm.MethodName)) ∈ lw_all := lw_g (lw_at lw_m5 56 rfl) rfl
theorem q1070 : (Jvm.Cond.static ({ cls := "HyperVane$Machine", name := "giveUp", desc := "(LHyperVane$Guest;LHyperVane$Frame;)V" } : Jvm.MethodName)) ∈ lw_all := lw_g (lw_at lw_m5 57 rfl) rfl
theorem q1071 : (Jvm.Cond.code ({ cls := "HyperVane$Machine", name := "giveUp", desc := "(LHyperVane$Guest;LHyperVane$Frame;)V" } : Jvm.MethodName) prog_4_method_8_code (3 : Nat) (Option.none : Option Jvm.ClassFile.FieldType)) ∈ lw_all := lw_g (lw_at lw_m5 58 rfl) rfl
theorem q1701 : (Jvm.Cond.castable "HyperVane$Machine" "java/lang/Object") ∈ lw_tbl := lw_at lw_m7 208 rfl
theorem in_X2 : ∀ w ∈ wsX20, w ∈ lw_all := lw_in wsX20 [147, 149, 151, 153, 155, 157, 159, 161, 163, 165] (by decide +kernel) (by decide +kernel)

/-! HyperVane$Guest -/
set_option maxRecDepth 100000
def RX6 : String := "HyperVane$Guest"
def TX6 : u_T := fun k => match k with
  | 0 => ("HyperVane$Guest", "number", "I", true)
  | 1 => ("HyperVane$Guest", "weight", "I", false)
  | 2 => ("HyperVane$Guest", "mind", "LHyperVane$Mind;", false)
  | 3 => ("HyperVane$Guest", "state", "I", false)
  | 4 => ("HyperVane$Guest", "before", "I", false)
  | 5 => ("HyperVane$Guest", "isPausedByMove", "Z", false)
  | 6 => ("HyperVane$Guest", "stuckTill", "I", false)
  | 7 => ("HyperVane$Guest", "time", "I", false)
  | 8 => ("HyperVane$Guest", "pending", "I", false)
  | 9 => ("HyperVane$Guest", "credits", "I", false)
  | 10 => ("HyperVane$Guest", "done", "I", false)
  | 11 => ("HyperVane$Guest", "stolen", "I", false)
  | 12 => ("HyperVane$Guest", "queue", "I", false)
  | 13 => ("HyperVane$Guest", "exits", "[I", true)
  | 14 => ("HyperVane$Guest", "areOnDisk", "[Z", true)
  | 15 => ("HyperVane$Guest", "areGiven", "[Z", true)
  | 16 => ("HyperVane$Guest", "left", "[Z", false)
  | 17 => ("HyperVane$Guest", "speed", "I", false)
  | 18 => ("HyperVane$Guest", "movedSince", "I", false)
  | 19 => ("HyperVane$Guest", "isToBeOver", "Z", false)
  | 20 => ("HyperVane$Guest", "down", "I", false)
  | _ => ("HyperVane$Guest", "past", "LHyperVane$Past;", false)
def tyX6 : Nat → FieldType := fun k => match k with
  | 0 => .int
  | 1 => .int
  | 2 => .object "HyperVane$Mind"
  | 3 => .int
  | 4 => .int
  | 5 => .boolean
  | 6 => .int
  | 7 => .int
  | 8 => .int
  | 9 => .int
  | 10 => .int
  | 11 => .int
  | 12 => .int
  | 13 => .array .int
  | 14 => .array .boolean
  | 15 => .array .boolean
  | 16 => .array .boolean
  | 17 => .int
  | 18 => .int
  | 19 => .boolean
  | 20 => .int
  | _ => .object "HyperVane$Past"
abbrev wsX60 : List Cond := u_ws RX6 TX6 22
set_option maxRecDepth 100000 in
theorem nmX6 : ∀ a, a < 22 → ∀ b, b < 22 → a ≠ b → (TX6 a).2.1 ≠ (TX6 b).2.1 := by decide +kernel
set_option maxRecDepth 100000 in
theorem tyX6_ok : ∀ k, k < 22 → parseFieldDescriptor (TX6 k).2.2.1 = some (tyX6 k) := by decide +kernel
abbrev cX6_manyLeft : ByteArray := prog_3_method_5_code
def yX6_manyLeft : MethodName := ⟨RX6, "manyLeft", "()I"⟩
def dkwX6_manyLeft_1 : List UInt8 := [184, 0, 113, 96, 60, 132, 2, 1, 167, 255, 228, 42, 182, 0, 109, 153, 0, 7, 27, 167, 0, 4, 2, 172]
abbrev dktX6_manyLeft_1 : List UInt8 := dkwX6_manyLeft_1 ++ []
def dkwX6_manyLeft_0 : List UInt8 := [3, 60, 3, 61, 42, 182, 0, 109, 153, 0, 27, 28, 16, 6, 162, 0, 21, 27, 42, 180, 0, 80, 28, 51]
abbrev dktX6_manyLeft_0 : List UInt8 := dkwX6_manyLeft_0 ++ dktX6_manyLeft_1
theorem dksX6_manyLeft_0 : cX6_manyLeft.data.toList.drop 0 = dktX6_manyLeft_0 := by decide +kernel
theorem dksX6_manyLeft_1 : cX6_manyLeft.data.toList.drop 24 = dktX6_manyLeft_1 := dk_seg dksX6_manyLeft_0 24 rfl rfl
theorem dX6_manyLeft_0 : decode cX6_manyLeft 0 = .ok (.iconst 0, 1) := dk_3 (dk_at dksX6_manyLeft_0 0 rfl rfl)
theorem dX6_manyLeft_1 : decode cX6_manyLeft 1 = .ok (.istore_n 1, 1) := dk_60 (dk_at dksX6_manyLeft_0 1 rfl rfl)
theorem dX6_manyLeft_2 : decode cX6_manyLeft 2 = .ok (.iconst 0, 1) := dk_3 (dk_at dksX6_manyLeft_0 2 rfl rfl)
theorem dX6_manyLeft_3 : decode cX6_manyLeft 3 = .ok (.istore_n 2, 1) := dk_61 (dk_at dksX6_manyLeft_0 3 rfl rfl)
theorem dX6_manyLeft_4 : decode cX6_manyLeft 4 = .ok (.aload_n 0, 1) := dk_42 (dk_at dksX6_manyLeft_0 4 rfl rfl)
theorem dX6_manyLeft_5 : decode cX6_manyLeft 5 = .ok (.invokevirtual 109, 3) := dk_182 0 109 (dk_at dksX6_manyLeft_0 5 rfl rfl)
theorem dX6_manyLeft_8 : decode cX6_manyLeft 8 = .ok (.ifCond .eq 27, 3) := dk_153 0 27 (dk_at dksX6_manyLeft_0 8 rfl rfl)
theorem dX6_manyLeft_11 : decode cX6_manyLeft 11 = .ok (.iload_n 2, 1) := dk_28 (dk_at dksX6_manyLeft_0 11 rfl rfl)
theorem dX6_manyLeft_12 : decode cX6_manyLeft 12 = .ok (.bipush 6, 2) := dk_16 6 (dk_at dksX6_manyLeft_0 12 rfl rfl)
theorem dX6_manyLeft_14 : decode cX6_manyLeft 14 = .ok (.if_icmp .ge 21, 3) := dk_162 0 21 (dk_at dksX6_manyLeft_0 14 rfl rfl)
theorem dX6_manyLeft_17 : decode cX6_manyLeft 17 = .ok (.iload_n 1, 1) := dk_27 (dk_at dksX6_manyLeft_0 17 rfl rfl)
theorem dX6_manyLeft_18 : decode cX6_manyLeft 18 = .ok (.aload_n 0, 1) := dk_42 (dk_at dksX6_manyLeft_0 18 rfl rfl)
theorem dX6_manyLeft_19 : decode cX6_manyLeft 19 = .ok (.getfield 80, 3) := dk_180 0 80 (dk_at dksX6_manyLeft_0 19 rfl rfl)
theorem dX6_manyLeft_22 : decode cX6_manyLeft 22 = .ok (.iload_n 2, 1) := dk_28 (dk_at dksX6_manyLeft_0 22 rfl rfl)
theorem dX6_manyLeft_23 : decode cX6_manyLeft 23 = .ok (.baload, 1) := dk_51 (dk_at dksX6_manyLeft_0 23 rfl rfl)
theorem dX6_manyLeft_24 : decode cX6_manyLeft 24 = .ok (.invokestatic 113, 3) := dk_184 0 113 (dk_at dksX6_manyLeft_1 0 rfl rfl)
theorem dX6_manyLeft_27 : decode cX6_manyLeft 27 = .ok (.iadd, 1) := dk_96 (dk_at dksX6_manyLeft_1 3 rfl rfl)
theorem dX6_manyLeft_28 : decode cX6_manyLeft 28 = .ok (.istore_n 1, 1) := dk_60 (dk_at dksX6_manyLeft_1 4 rfl rfl)
theorem dX6_manyLeft_29 : decode cX6_manyLeft 29 = .ok (.iinc 2 1, 3) := dk_132 2 1 (dk_at dksX6_manyLeft_1 5 rfl rfl)
theorem dX6_manyLeft_32 : decode cX6_manyLeft 32 = .ok (.goto (-28), 3) := dk_167 255 228 (dk_at dksX6_manyLeft_1 8 rfl rfl)
theorem dX6_manyLeft_35 : decode cX6_manyLeft 35 = .ok (.aload_n 0, 1) := dk_42 (dk_at dksX6_manyLeft_1 11 rfl rfl)
theorem dX6_manyLeft_36 : decode cX6_manyLeft 36 = .ok (.invokevirtual 109, 3) := dk_182 0 109 (dk_at dksX6_manyLeft_1 12 rfl rfl)
theorem dX6_manyLeft_39 : decode cX6_manyLeft 39 = .ok (.ifCond .eq 7, 3) := dk_153 0 7 (dk_at dksX6_manyLeft_1 15 rfl rfl)
theorem dX6_manyLeft_42 : decode cX6_manyLeft 42 = .ok (.iload_n 1, 1) := dk_27 (dk_at dksX6_manyLeft_1 18 rfl rfl)
theorem dX6_manyLeft_43 : decode cX6_manyLeft 43 = .ok (.goto 4, 3) := dk_167 0 4 (dk_at dksX6_manyLeft_1 19 rfl rfl)
theorem dX6_manyLeft_46 : decode cX6_manyLeft 46 = .ok (.iconst (-1), 1) := dk_2 (dk_at dksX6_manyLeft_1 22 rfl rfl)
theorem dX6_manyLeft_47 : decode cX6_manyLeft 47 = .ok (.ireturn, 1) := dk_172 (dk_at dksX6_manyLeft_1 23 rfl rfl)
abbrev cX6_isMoved : ByteArray := prog_3_method_4_code
def yX6_isMoved : MethodName := ⟨RX6, "isMoved", "()Z"⟩
def dkwX6_isMoved_0 : List UInt8 := [42, 180, 0, 80, 198, 0, 7, 4, 167, 0, 4, 3, 172]
abbrev dktX6_isMoved_0 : List UInt8 := dkwX6_isMoved_0 ++ []
theorem dksX6_isMoved_0 : cX6_isMoved.data.toList.drop 0 = dktX6_isMoved_0 := by decide +kernel
theorem dX6_isMoved_0 : decode cX6_isMoved 0 = .ok (.aload_n 0, 1) := dk_42 (dk_at dksX6_isMoved_0 0 rfl rfl)
theorem dX6_isMoved_1 : decode cX6_isMoved 1 = .ok (.getfield 80, 3) := dk_180 0 80 (dk_at dksX6_isMoved_0 1 rfl rfl)
theorem dX6_isMoved_4 : decode cX6_isMoved 4 = .ok (.ifnull 7, 3) := dk_198 0 7 (dk_at dksX6_isMoved_0 4 rfl rfl)
theorem dX6_isMoved_7 : decode cX6_isMoved 7 = .ok (.iconst 1, 1) := dk_4 (dk_at dksX6_isMoved_0 7 rfl rfl)
theorem dX6_isMoved_8 : decode cX6_isMoved 8 = .ok (.goto 4, 3) := dk_167 0 4 (dk_at dksX6_isMoved_0 8 rfl rfl)
theorem dX6_isMoved_11 : decode cX6_isMoved 11 = .ok (.iconst 0, 1) := dk_3 (dk_at dksX6_isMoved_0 11 rfl rfl)
theorem dX6_isMoved_12 : decode cX6_isMoved 12 = .ok (.ireturn, 1) := dk_172 (dk_at dksX6_isMoved_0 12 rfl rfl)
abbrev cX6_copy : ByteArray := prog_3_method_2_code
def yX6_copy : MethodName := ⟨RX6, "copy", "()LHyperVane$Guest;"⟩
def dkwX6_copy_9 : List UInt8 := [180, 0, 100, 199, 0, 7, 1, 167, 0, 10, 42, 180, 0, 100, 182, 0, 104, 181, 0, 100, 43, 176]
abbrev dktX6_copy_9 : List UInt8 := dkwX6_copy_9 ++ []
def dkwX6_copy_8 : List UInt8 := [180, 0, 91, 181, 0, 91, 43, 42, 180, 0, 94, 181, 0, 94, 43, 42, 180, 0, 97, 181, 0, 97, 43, 42]
abbrev dktX6_copy_8 : List UInt8 := dkwX6_copy_8 ++ dktX6_copy_9
def dkwX6_copy_7 : List UInt8 := [180, 0, 80, 182, 0, 83, 192, 0, 84, 181, 0, 80, 43, 42, 180, 0, 88, 181, 0, 88, 43, 42]
abbrev dktX6_copy_7 : List UInt8 := dkwX6_copy_7 ++ dktX6_copy_8
def dkwX6_copy_6 : List UInt8 := [180, 0, 36, 3, 16, 6, 184, 0, 74, 43, 42, 180, 0, 80, 199, 0, 7, 1, 167, 0, 13, 42]
abbrev dktX6_copy_6 : List UInt8 := dkwX6_copy_6 ++ dktX6_copy_7
def dkwX6_copy_5 : List UInt8 := [184, 0, 74, 42, 180, 0, 32, 3, 43, 180, 0, 32, 3, 16, 6, 184, 0, 74, 42, 180, 0, 36, 3, 43]
abbrev dktX6_copy_5 : List UInt8 := dkwX6_copy_5 ++ dktX6_copy_6
def dkwX6_copy_4 : List UInt8 := [181, 0, 68, 43, 42, 180, 0, 71, 181, 0, 71, 42, 180, 0, 28, 3, 43, 180, 0, 28, 3, 8]
abbrev dktX6_copy_4 : List UInt8 := dkwX6_copy_4 ++ dktX6_copy_5
def dkwX6_copy_3 : List UInt8 := [181, 0, 59, 43, 42, 180, 0, 62, 181, 0, 62, 43, 42, 180, 0, 65, 181, 0, 65, 43, 42, 180, 0, 68]
abbrev dktX6_copy_3 : List UInt8 := dkwX6_copy_3 ++ dktX6_copy_4
def dkwX6_copy_2 : List UInt8 := [181, 0, 52, 43, 42, 180, 0, 25, 181, 0, 25, 43, 42, 180, 0, 56, 181, 0, 56, 43, 42, 180, 0, 59]
abbrev dktX6_copy_2 : List UInt8 := dkwX6_copy_2 ++ dktX6_copy_3
def dkwX6_copy_1 : List UInt8 := [181, 0, 12, 43, 42, 180, 0, 18, 181, 0, 18, 43, 42, 180, 0, 22, 181, 0, 22, 43, 42, 180, 0, 52]
abbrev dktX6_copy_1 : List UInt8 := dkwX6_copy_1 ++ dktX6_copy_2
def dkwX6_copy_0 : List UInt8 := [187, 0, 13, 89, 42, 180, 0, 39, 42, 180, 0, 42, 183, 0, 45, 76, 43, 42, 180, 0, 12, 182, 0, 48]
abbrev dktX6_copy_0 : List UInt8 := dkwX6_copy_0 ++ dktX6_copy_1
theorem dksX6_copy_0 : cX6_copy.data.toList.drop 0 = dktX6_copy_0 := by decide +kernel
theorem dksX6_copy_1 : cX6_copy.data.toList.drop 24 = dktX6_copy_1 := dk_seg dksX6_copy_0 24 rfl rfl
theorem dksX6_copy_2 : cX6_copy.data.toList.drop 48 = dktX6_copy_2 := dk_seg dksX6_copy_1 24 rfl rfl
theorem dksX6_copy_3 : cX6_copy.data.toList.drop 72 = dktX6_copy_3 := dk_seg dksX6_copy_2 24 rfl rfl
theorem dksX6_copy_4 : cX6_copy.data.toList.drop 96 = dktX6_copy_4 := dk_seg dksX6_copy_3 24 rfl rfl
theorem dksX6_copy_5 : cX6_copy.data.toList.drop 118 = dktX6_copy_5 := dk_seg dksX6_copy_4 22 rfl rfl
theorem dksX6_copy_6 : cX6_copy.data.toList.drop 142 = dktX6_copy_6 := dk_seg dksX6_copy_5 24 rfl rfl
theorem dksX6_copy_7 : cX6_copy.data.toList.drop 164 = dktX6_copy_7 := dk_seg dksX6_copy_6 22 rfl rfl
theorem dksX6_copy_8 : cX6_copy.data.toList.drop 186 = dktX6_copy_8 := dk_seg dksX6_copy_7 22 rfl rfl
theorem dksX6_copy_9 : cX6_copy.data.toList.drop 210 = dktX6_copy_9 := dk_seg dksX6_copy_8 24 rfl rfl
theorem dX6_copy_0 : decode cX6_copy 0 = .ok (.new 13, 3) := dk_187 0 13 (dk_at dksX6_copy_0 0 rfl rfl)
theorem dX6_copy_3 : decode cX6_copy 3 = .ok (.dup, 1) := dk_89 (dk_at dksX6_copy_0 3 rfl rfl)
theorem dX6_copy_4 : decode cX6_copy 4 = .ok (.aload_n 0, 1) := dk_42 (dk_at dksX6_copy_0 4 rfl rfl)
theorem dX6_copy_5 : decode cX6_copy 5 = .ok (.getfield 39, 3) := dk_180 0 39 (dk_at dksX6_copy_0 5 rfl rfl)
theorem dX6_copy_8 : decode cX6_copy 8 = .ok (.aload_n 0, 1) := dk_42 (dk_at dksX6_copy_0 8 rfl rfl)
theorem dX6_copy_9 : decode cX6_copy 9 = .ok (.getfield 42, 3) := dk_180 0 42 (dk_at dksX6_copy_0 9 rfl rfl)
theorem dX6_copy_12 : decode cX6_copy 12 = .ok (.invokespecial 45, 3) := dk_183 0 45 (dk_at dksX6_copy_0 12 rfl rfl)
theorem dX6_copy_15 : decode cX6_copy 15 = .ok (.astore_n 1, 1) := dk_76 (dk_at dksX6_copy_0 15 rfl rfl)
theorem dX6_copy_16 : decode cX6_copy 16 = .ok (.aload_n 1, 1) := dk_43 (dk_at dksX6_copy_0 16 rfl rfl)
theorem dX6_copy_17 : decode cX6_copy 17 = .ok (.aload_n 0, 1) := dk_42 (dk_at dksX6_copy_0 17 rfl rfl)
theorem dX6_copy_18 : decode cX6_copy 18 = .ok (.getfield 12, 3) := dk_180 0 12 (dk_at dksX6_copy_0 18 rfl rfl)
theorem dX6_copy_21 : decode cX6_copy 21 = .ok (.invokevirtual 48, 3) := dk_182 0 48 (dk_at dksX6_copy_0 21 rfl rfl)
theorem dX6_copy_24 : decode cX6_copy 24 = .ok (.putfield 12, 3) := dk_181 0 12 (dk_at dksX6_copy_1 0 rfl rfl)
theorem dX6_copy_27 : decode cX6_copy 27 = .ok (.aload_n 1, 1) := dk_43 (dk_at dksX6_copy_1 3 rfl rfl)
theorem dX6_copy_28 : decode cX6_copy 28 = .ok (.aload_n 0, 1) := dk_42 (dk_at dksX6_copy_1 4 rfl rfl)
theorem dX6_copy_29 : decode cX6_copy 29 = .ok (.getfield 18, 3) := dk_180 0 18 (dk_at dksX6_copy_1 5 rfl rfl)
theorem dX6_copy_32 : decode cX6_copy 32 = .ok (.putfield 18, 3) := dk_181 0 18 (dk_at dksX6_copy_1 8 rfl rfl)
theorem dX6_copy_35 : decode cX6_copy 35 = .ok (.aload_n 1, 1) := dk_43 (dk_at dksX6_copy_1 11 rfl rfl)
theorem dX6_copy_36 : decode cX6_copy 36 = .ok (.aload_n 0, 1) := dk_42 (dk_at dksX6_copy_1 12 rfl rfl)
theorem dX6_copy_37 : decode cX6_copy 37 = .ok (.getfield 22, 3) := dk_180 0 22 (dk_at dksX6_copy_1 13 rfl rfl)
theorem dX6_copy_40 : decode cX6_copy 40 = .ok (.putfield 22, 3) := dk_181 0 22 (dk_at dksX6_copy_1 16 rfl rfl)
theorem dX6_copy_43 : decode cX6_copy 43 = .ok (.aload_n 1, 1) := dk_43 (dk_at dksX6_copy_1 19 rfl rfl)
theorem dX6_copy_44 : decode cX6_copy 44 = .ok (.aload_n 0, 1) := dk_42 (dk_at dksX6_copy_1 20 rfl rfl)
theorem dX6_copy_45 : decode cX6_copy 45 = .ok (.getfield 52, 3) := dk_180 0 52 (dk_at dksX6_copy_1 21 rfl rfl)
theorem dX6_copy_48 : decode cX6_copy 48 = .ok (.putfield 52, 3) := dk_181 0 52 (dk_at dksX6_copy_2 0 rfl rfl)
theorem dX6_copy_51 : decode cX6_copy 51 = .ok (.aload_n 1, 1) := dk_43 (dk_at dksX6_copy_2 3 rfl rfl)
theorem dX6_copy_52 : decode cX6_copy 52 = .ok (.aload_n 0, 1) := dk_42 (dk_at dksX6_copy_2 4 rfl rfl)
theorem dX6_copy_53 : decode cX6_copy 53 = .ok (.getfield 25, 3) := dk_180 0 25 (dk_at dksX6_copy_2 5 rfl rfl)
theorem dX6_copy_56 : decode cX6_copy 56 = .ok (.putfield 25, 3) := dk_181 0 25 (dk_at dksX6_copy_2 8 rfl rfl)
theorem dX6_copy_59 : decode cX6_copy 59 = .ok (.aload_n 1, 1) := dk_43 (dk_at dksX6_copy_2 11 rfl rfl)
theorem dX6_copy_60 : decode cX6_copy 60 = .ok (.aload_n 0, 1) := dk_42 (dk_at dksX6_copy_2 12 rfl rfl)
theorem dX6_copy_61 : decode cX6_copy 61 = .ok (.getfield 56, 3) := dk_180 0 56 (dk_at dksX6_copy_2 13 rfl rfl)
theorem dX6_copy_64 : decode cX6_copy 64 = .ok (.putfield 56, 3) := dk_181 0 56 (dk_at dksX6_copy_2 16 rfl rfl)
theorem dX6_copy_67 : decode cX6_copy 67 = .ok (.aload_n 1, 1) := dk_43 (dk_at dksX6_copy_2 19 rfl rfl)
theorem dX6_copy_68 : decode cX6_copy 68 = .ok (.aload_n 0, 1) := dk_42 (dk_at dksX6_copy_2 20 rfl rfl)
theorem dX6_copy_69 : decode cX6_copy 69 = .ok (.getfield 59, 3) := dk_180 0 59 (dk_at dksX6_copy_2 21 rfl rfl)
theorem dX6_copy_72 : decode cX6_copy 72 = .ok (.putfield 59, 3) := dk_181 0 59 (dk_at dksX6_copy_3 0 rfl rfl)
theorem dX6_copy_75 : decode cX6_copy 75 = .ok (.aload_n 1, 1) := dk_43 (dk_at dksX6_copy_3 3 rfl rfl)
theorem dX6_copy_76 : decode cX6_copy 76 = .ok (.aload_n 0, 1) := dk_42 (dk_at dksX6_copy_3 4 rfl rfl)
theorem dX6_copy_77 : decode cX6_copy 77 = .ok (.getfield 62, 3) := dk_180 0 62 (dk_at dksX6_copy_3 5 rfl rfl)
theorem dX6_copy_80 : decode cX6_copy 80 = .ok (.putfield 62, 3) := dk_181 0 62 (dk_at dksX6_copy_3 8 rfl rfl)
theorem dX6_copy_83 : decode cX6_copy 83 = .ok (.aload_n 1, 1) := dk_43 (dk_at dksX6_copy_3 11 rfl rfl)
theorem dX6_copy_84 : decode cX6_copy 84 = .ok (.aload_n 0, 1) := dk_42 (dk_at dksX6_copy_3 12 rfl rfl)
theorem dX6_copy_85 : decode cX6_copy 85 = .ok (.getfield 65, 3) := dk_180 0 65 (dk_at dksX6_copy_3 13 rfl rfl)
theorem dX6_copy_88 : decode cX6_copy 88 = .ok (.putfield 65, 3) := dk_181 0 65 (dk_at dksX6_copy_3 16 rfl rfl)
theorem dX6_copy_91 : decode cX6_copy 91 = .ok (.aload_n 1, 1) := dk_43 (dk_at dksX6_copy_3 19 rfl rfl)
theorem dX6_copy_92 : decode cX6_copy 92 = .ok (.aload_n 0, 1) := dk_42 (dk_at dksX6_copy_3 20 rfl rfl)
theorem dX6_copy_93 : decode cX6_copy 93 = .ok (.getfield 68, 3) := dk_180 0 68 (dk_at dksX6_copy_3 21 rfl rfl)
theorem dX6_copy_96 : decode cX6_copy 96 = .ok (.putfield 68, 3) := dk_181 0 68 (dk_at dksX6_copy_4 0 rfl rfl)
theorem dX6_copy_99 : decode cX6_copy 99 = .ok (.aload_n 1, 1) := dk_43 (dk_at dksX6_copy_4 3 rfl rfl)
theorem dX6_copy_100 : decode cX6_copy 100 = .ok (.aload_n 0, 1) := dk_42 (dk_at dksX6_copy_4 4 rfl rfl)
theorem dX6_copy_101 : decode cX6_copy 101 = .ok (.getfield 71, 3) := dk_180 0 71 (dk_at dksX6_copy_4 5 rfl rfl)
theorem dX6_copy_104 : decode cX6_copy 104 = .ok (.putfield 71, 3) := dk_181 0 71 (dk_at dksX6_copy_4 8 rfl rfl)
theorem dX6_copy_107 : decode cX6_copy 107 = .ok (.aload_n 0, 1) := dk_42 (dk_at dksX6_copy_4 11 rfl rfl)
theorem dX6_copy_108 : decode cX6_copy 108 = .ok (.getfield 28, 3) := dk_180 0 28 (dk_at dksX6_copy_4 12 rfl rfl)
theorem dX6_copy_111 : decode cX6_copy 111 = .ok (.iconst 0, 1) := dk_3 (dk_at dksX6_copy_4 15 rfl rfl)
theorem dX6_copy_112 : decode cX6_copy 112 = .ok (.aload_n 1, 1) := dk_43 (dk_at dksX6_copy_4 16 rfl rfl)
theorem dX6_copy_113 : decode cX6_copy 113 = .ok (.getfield 28, 3) := dk_180 0 28 (dk_at dksX6_copy_4 17 rfl rfl)
theorem dX6_copy_116 : decode cX6_copy 116 = .ok (.iconst 0, 1) := dk_3 (dk_at dksX6_copy_4 20 rfl rfl)
theorem dX6_copy_117 : decode cX6_copy 117 = .ok (.iconst 5, 1) := dk_8 (dk_at dksX6_copy_4 21 rfl rfl)
theorem dX6_copy_118 : decode cX6_copy 118 = .ok (.invokestatic 74, 3) := dk_184 0 74 (dk_at dksX6_copy_5 0 rfl rfl)
theorem dX6_copy_121 : decode cX6_copy 121 = .ok (.aload_n 0, 1) := dk_42 (dk_at dksX6_copy_5 3 rfl rfl)
theorem dX6_copy_122 : decode cX6_copy 122 = .ok (.getfield 32, 3) := dk_180 0 32 (dk_at dksX6_copy_5 4 rfl rfl)
theorem dX6_copy_125 : decode cX6_copy 125 = .ok (.iconst 0, 1) := dk_3 (dk_at dksX6_copy_5 7 rfl rfl)
theorem dX6_copy_126 : decode cX6_copy 126 = .ok (.aload_n 1, 1) := dk_43 (dk_at dksX6_copy_5 8 rfl rfl)
theorem dX6_copy_127 : decode cX6_copy 127 = .ok (.getfield 32, 3) := dk_180 0 32 (dk_at dksX6_copy_5 9 rfl rfl)
theorem dX6_copy_130 : decode cX6_copy 130 = .ok (.iconst 0, 1) := dk_3 (dk_at dksX6_copy_5 12 rfl rfl)
theorem dX6_copy_131 : decode cX6_copy 131 = .ok (.bipush 6, 2) := dk_16 6 (dk_at dksX6_copy_5 13 rfl rfl)
theorem dX6_copy_133 : decode cX6_copy 133 = .ok (.invokestatic 74, 3) := dk_184 0 74 (dk_at dksX6_copy_5 15 rfl rfl)
theorem dX6_copy_136 : decode cX6_copy 136 = .ok (.aload_n 0, 1) := dk_42 (dk_at dksX6_copy_5 18 rfl rfl)
theorem dX6_copy_137 : decode cX6_copy 137 = .ok (.getfield 36, 3) := dk_180 0 36 (dk_at dksX6_copy_5 19 rfl rfl)
theorem dX6_copy_140 : decode cX6_copy 140 = .ok (.iconst 0, 1) := dk_3 (dk_at dksX6_copy_5 22 rfl rfl)
theorem dX6_copy_141 : decode cX6_copy 141 = .ok (.aload_n 1, 1) := dk_43 (dk_at dksX6_copy_5 23 rfl rfl)
theorem dX6_copy_142 : decode cX6_copy 142 = .ok (.getfield 36, 3) := dk_180 0 36 (dk_at dksX6_copy_6 0 rfl rfl)
theorem dX6_copy_145 : decode cX6_copy 145 = .ok (.iconst 0, 1) := dk_3 (dk_at dksX6_copy_6 3 rfl rfl)
theorem dX6_copy_146 : decode cX6_copy 146 = .ok (.bipush 6, 2) := dk_16 6 (dk_at dksX6_copy_6 4 rfl rfl)
theorem dX6_copy_148 : decode cX6_copy 148 = .ok (.invokestatic 74, 3) := dk_184 0 74 (dk_at dksX6_copy_6 6 rfl rfl)
theorem dX6_copy_151 : decode cX6_copy 151 = .ok (.aload_n 1, 1) := dk_43 (dk_at dksX6_copy_6 9 rfl rfl)
theorem dX6_copy_152 : decode cX6_copy 152 = .ok (.aload_n 0, 1) := dk_42 (dk_at dksX6_copy_6 10 rfl rfl)
theorem dX6_copy_153 : decode cX6_copy 153 = .ok (.getfield 80, 3) := dk_180 0 80 (dk_at dksX6_copy_6 11 rfl rfl)
theorem dX6_copy_156 : decode cX6_copy 156 = .ok (.ifnonnull 7, 3) := dk_199 0 7 (dk_at dksX6_copy_6 14 rfl rfl)
theorem dX6_copy_159 : decode cX6_copy 159 = .ok (.aconst_null, 1) := dk_1 (dk_at dksX6_copy_6 17 rfl rfl)
theorem dX6_copy_160 : decode cX6_copy 160 = .ok (.goto 13, 3) := dk_167 0 13 (dk_at dksX6_copy_6 18 rfl rfl)
theorem dX6_copy_163 : decode cX6_copy 163 = .ok (.aload_n 0, 1) := dk_42 (dk_at dksX6_copy_6 21 rfl rfl)
theorem dX6_copy_164 : decode cX6_copy 164 = .ok (.getfield 80, 3) := dk_180 0 80 (dk_at dksX6_copy_7 0 rfl rfl)
theorem dX6_copy_167 : decode cX6_copy 167 = .ok (.invokevirtual 83, 3) := dk_182 0 83 (dk_at dksX6_copy_7 3 rfl rfl)
theorem dX6_copy_170 : decode cX6_copy 170 = .ok (.checkcast 84, 3) := dk_192 0 84 (dk_at dksX6_copy_7 6 rfl rfl)
theorem dX6_copy_173 : decode cX6_copy 173 = .ok (.putfield 80, 3) := dk_181 0 80 (dk_at dksX6_copy_7 9 rfl rfl)
theorem dX6_copy_176 : decode cX6_copy 176 = .ok (.aload_n 1, 1) := dk_43 (dk_at dksX6_copy_7 12 rfl rfl)
theorem dX6_copy_177 : decode cX6_copy 177 = .ok (.aload_n 0, 1) := dk_42 (dk_at dksX6_copy_7 13 rfl rfl)
theorem dX6_copy_178 : decode cX6_copy 178 = .ok (.getfield 88, 3) := dk_180 0 88 (dk_at dksX6_copy_7 14 rfl rfl)
theorem dX6_copy_181 : decode cX6_copy 181 = .ok (.putfield 88, 3) := dk_181 0 88 (dk_at dksX6_copy_7 17 rfl rfl)
theorem dX6_copy_184 : decode cX6_copy 184 = .ok (.aload_n 1, 1) := dk_43 (dk_at dksX6_copy_7 20 rfl rfl)
theorem dX6_copy_185 : decode cX6_copy 185 = .ok (.aload_n 0, 1) := dk_42 (dk_at dksX6_copy_7 21 rfl rfl)
theorem dX6_copy_186 : decode cX6_copy 186 = .ok (.getfield 91, 3) := dk_180 0 91 (dk_at dksX6_copy_8 0 rfl rfl)
theorem dX6_copy_189 : decode cX6_copy 189 = .ok (.putfield 91, 3) := dk_181 0 91 (dk_at dksX6_copy_8 3 rfl rfl)
theorem dX6_copy_192 : decode cX6_copy 192 = .ok (.aload_n 1, 1) := dk_43 (dk_at dksX6_copy_8 6 rfl rfl)
theorem dX6_copy_193 : decode cX6_copy 193 = .ok (.aload_n 0, 1) := dk_42 (dk_at dksX6_copy_8 7 rfl rfl)
theorem dX6_copy_194 : decode cX6_copy 194 = .ok (.getfield 94, 3) := dk_180 0 94 (dk_at dksX6_copy_8 8 rfl rfl)
theorem dX6_copy_197 : decode cX6_copy 197 = .ok (.putfield 94, 3) := dk_181 0 94 (dk_at dksX6_copy_8 11 rfl rfl)
theorem dX6_copy_200 : decode cX6_copy 200 = .ok (.aload_n 1, 1) := dk_43 (dk_at dksX6_copy_8 14 rfl rfl)
theorem dX6_copy_201 : decode cX6_copy 201 = .ok (.aload_n 0, 1) := dk_42 (dk_at dksX6_copy_8 15 rfl rfl)
theorem dX6_copy_202 : decode cX6_copy 202 = .ok (.getfield 97, 3) := dk_180 0 97 (dk_at dksX6_copy_8 16 rfl rfl)
theorem dX6_copy_205 : decode cX6_copy 205 = .ok (.putfield 97, 3) := dk_181 0 97 (dk_at dksX6_copy_8 19 rfl rfl)
theorem dX6_copy_208 : decode cX6_copy 208 = .ok (.aload_n 1, 1) := dk_43 (dk_at dksX6_copy_8 22 rfl rfl)
theorem dX6_copy_209 : decode cX6_copy 209 = .ok (.aload_n 0, 1) := dk_42 (dk_at dksX6_copy_8 23 rfl rfl)
theorem dX6_copy_210 : decode cX6_copy 210 = .ok (.getfield 100, 3) := dk_180 0 100 (dk_at dksX6_copy_9 0 rfl rfl)
theorem dX6_copy_213 : decode cX6_copy 213 = .ok (.ifnonnull 7, 3) := dk_199 0 7 (dk_at dksX6_copy_9 3 rfl rfl)
theorem dX6_copy_216 : decode cX6_copy 216 = .ok (.aconst_null, 1) := dk_1 (dk_at dksX6_copy_9 6 rfl rfl)
theorem dX6_copy_217 : decode cX6_copy 217 = .ok (.goto 10, 3) := dk_167 0 10 (dk_at dksX6_copy_9 7 rfl rfl)
theorem dX6_copy_220 : decode cX6_copy 220 = .ok (.aload_n 0, 1) := dk_42 (dk_at dksX6_copy_9 10 rfl rfl)
theorem dX6_copy_221 : decode cX6_copy 221 = .ok (.getfield 100, 3) := dk_180 0 100 (dk_at dksX6_copy_9 11 rfl rfl)
theorem dX6_copy_224 : decode cX6_copy 224 = .ok (.invokevirtual 104, 3) := dk_182 0 104 (dk_at dksX6_copy_9 14 rfl rfl)
theorem dX6_copy_227 : decode cX6_copy 227 = .ok (.putfield 100, 3) := dk_181 0 100 (dk_at dksX6_copy_9 17 rfl rfl)
theorem dX6_copy_230 : decode cX6_copy 230 = .ok (.aload_n 1, 1) := dk_43 (dk_at dksX6_copy_9 20 rfl rfl)
theorem dX6_copy_231 : decode cX6_copy 231 = .ok (.areturn, 1) := dk_176 (dk_at dksX6_copy_9 21 rfl rfl)
abbrev cX6_init : ByteArray := prog_3_method_1_code
def yX6_init : MethodName := ⟨RX6, "<init>", "(II)V"⟩
def dkwX6_init_2 : List UInt8 := [16, 6, 188, 4, 181, 0, 36, 42, 27, 181, 0, 39, 42, 28, 181, 0, 42, 177]
abbrev dktX6_init_2 : List UInt8 := dkwX6_init_2 ++ []
def dkwX6_init_1 : List UInt8 := [181, 0, 22, 42, 2, 181, 0, 25, 42, 8, 188, 10, 181, 0, 28, 42, 16, 6, 188, 4, 181, 0, 32, 42]
abbrev dktX6_init_1 : List UInt8 := dkwX6_init_1 ++ dktX6_init_2
def dkwX6_init_0 : List UInt8 := [42, 183, 0, 3, 42, 187, 0, 9, 89, 183, 0, 11, 181, 0, 12, 42, 8, 181, 0, 18, 42, 8]
abbrev dktX6_init_0 : List UInt8 := dkwX6_init_0 ++ dktX6_init_1
theorem dksX6_init_0 : cX6_init.data.toList.drop 0 = dktX6_init_0 := by decide +kernel
theorem dksX6_init_1 : cX6_init.data.toList.drop 22 = dktX6_init_1 := dk_seg dksX6_init_0 22 rfl rfl
theorem dksX6_init_2 : cX6_init.data.toList.drop 46 = dktX6_init_2 := dk_seg dksX6_init_1 24 rfl rfl
theorem dX6_init_0 : decode cX6_init 0 = .ok (.aload_n 0, 1) := dk_42 (dk_at dksX6_init_0 0 rfl rfl)
theorem dX6_init_1 : decode cX6_init 1 = .ok (.invokespecial 3, 3) := dk_183 0 3 (dk_at dksX6_init_0 1 rfl rfl)
theorem dX6_init_4 : decode cX6_init 4 = .ok (.aload_n 0, 1) := dk_42 (dk_at dksX6_init_0 4 rfl rfl)
theorem dX6_init_5 : decode cX6_init 5 = .ok (.new 9, 3) := dk_187 0 9 (dk_at dksX6_init_0 5 rfl rfl)
theorem dX6_init_8 : decode cX6_init 8 = .ok (.dup, 1) := dk_89 (dk_at dksX6_init_0 8 rfl rfl)
theorem dX6_init_9 : decode cX6_init 9 = .ok (.invokespecial 11, 3) := dk_183 0 11 (dk_at dksX6_init_0 9 rfl rfl)
theorem dX6_init_12 : decode cX6_init 12 = .ok (.putfield 12, 3) := dk_181 0 12 (dk_at dksX6_init_0 12 rfl rfl)
theorem dX6_init_15 : decode cX6_init 15 = .ok (.aload_n 0, 1) := dk_42 (dk_at dksX6_init_0 15 rfl rfl)
theorem dX6_init_16 : decode cX6_init 16 = .ok (.iconst 5, 1) := dk_8 (dk_at dksX6_init_0 16 rfl rfl)
theorem dX6_init_17 : decode cX6_init 17 = .ok (.putfield 18, 3) := dk_181 0 18 (dk_at dksX6_init_0 17 rfl rfl)
theorem dX6_init_20 : decode cX6_init 20 = .ok (.aload_n 0, 1) := dk_42 (dk_at dksX6_init_0 20 rfl rfl)
theorem dX6_init_21 : decode cX6_init 21 = .ok (.iconst 5, 1) := dk_8 (dk_at dksX6_init_0 21 rfl rfl)
theorem dX6_init_22 : decode cX6_init 22 = .ok (.putfield 22, 3) := dk_181 0 22 (dk_at dksX6_init_1 0 rfl rfl)
theorem dX6_init_25 : decode cX6_init 25 = .ok (.aload_n 0, 1) := dk_42 (dk_at dksX6_init_1 3 rfl rfl)
theorem dX6_init_26 : decode cX6_init 26 = .ok (.iconst (-1), 1) := dk_2 (dk_at dksX6_init_1 4 rfl rfl)
theorem dX6_init_27 : decode cX6_init 27 = .ok (.putfield 25, 3) := dk_181 0 25 (dk_at dksX6_init_1 5 rfl rfl)
theorem dX6_init_30 : decode cX6_init 30 = .ok (.aload_n 0, 1) := dk_42 (dk_at dksX6_init_1 8 rfl rfl)
theorem dX6_init_31 : decode cX6_init 31 = .ok (.iconst 5, 1) := dk_8 (dk_at dksX6_init_1 9 rfl rfl)
theorem dX6_init_32 : decode cX6_init 32 = .ok (.newarray .int, 2) := dk_188_10 (dk_at dksX6_init_1 10 rfl rfl)
theorem dX6_init_34 : decode cX6_init 34 = .ok (.putfield 28, 3) := dk_181 0 28 (dk_at dksX6_init_1 12 rfl rfl)
theorem dX6_init_37 : decode cX6_init 37 = .ok (.aload_n 0, 1) := dk_42 (dk_at dksX6_init_1 15 rfl rfl)
theorem dX6_init_38 : decode cX6_init 38 = .ok (.bipush 6, 2) := dk_16 6 (dk_at dksX6_init_1 16 rfl rfl)
theorem dX6_init_40 : decode cX6_init 40 = .ok (.newarray .boolean, 2) := dk_188_4 (dk_at dksX6_init_1 18 rfl rfl)
theorem dX6_init_42 : decode cX6_init 42 = .ok (.putfield 32, 3) := dk_181 0 32 (dk_at dksX6_init_1 20 rfl rfl)
theorem dX6_init_45 : decode cX6_init 45 = .ok (.aload_n 0, 1) := dk_42 (dk_at dksX6_init_1 23 rfl rfl)
theorem dX6_init_46 : decode cX6_init 46 = .ok (.bipush 6, 2) := dk_16 6 (dk_at dksX6_init_2 0 rfl rfl)
theorem dX6_init_48 : decode cX6_init 48 = .ok (.newarray .boolean, 2) := dk_188_4 (dk_at dksX6_init_2 2 rfl rfl)
theorem dX6_init_50 : decode cX6_init 50 = .ok (.putfield 36, 3) := dk_181 0 36 (dk_at dksX6_init_2 4 rfl rfl)
theorem dX6_init_53 : decode cX6_init 53 = .ok (.aload_n 0, 1) := dk_42 (dk_at dksX6_init_2 7 rfl rfl)
theorem dX6_init_54 : decode cX6_init 54 = .ok (.iload_n 1, 1) := dk_27 (dk_at dksX6_init_2 8 rfl rfl)
theorem dX6_init_55 : decode cX6_init 55 = .ok (.putfield 39, 3) := dk_181 0 39 (dk_at dksX6_init_2 9 rfl rfl)
theorem dX6_init_58 : decode cX6_init 58 = .ok (.aload_n 0, 1) := dk_42 (dk_at dksX6_init_2 12 rfl rfl)
theorem dX6_init_59 : decode cX6_init 59 = .ok (.iload_n 2, 1) := dk_28 (dk_at dksX6_init_2 13 rfl rfl)
theorem dX6_init_60 : decode cX6_init 60 = .ok (.putfield 42, 3) := dk_181 0 42 (dk_at dksX6_init_2 14 rfl rfl)
theorem dX6_init_63 : decode cX6_init 63 = .ok (.return_, 1) := dk_177 (dk_at dksX6_init_2 17 rfl rfl)
abbrev cX6_isAway : ByteArray := prog_3_method_3_code
def yX6_isAway : MethodName := ⟨RX6, "isAway", "()Z"⟩
def dkwX6_isAway_0 : List UInt8 := [42, 180, 0, 18, 7, 160, 0, 7, 4, 167, 0, 4, 3, 172]
abbrev dktX6_isAway_0 : List UInt8 := dkwX6_isAway_0 ++ []
theorem dksX6_isAway_0 : cX6_isAway.data.toList.drop 0 = dktX6_isAway_0 := by decide +kernel
theorem dX6_isAway_0 : decode cX6_isAway 0 = .ok (.aload_n 0, 1) := dk_42 (dk_at dksX6_isAway_0 0 rfl rfl)
theorem dX6_isAway_1 : decode cX6_isAway 1 = .ok (.getfield 18, 3) := dk_180 0 18 (dk_at dksX6_isAway_0 1 rfl rfl)
theorem dX6_isAway_4 : decode cX6_isAway 4 = .ok (.iconst 4, 1) := dk_7 (dk_at dksX6_isAway_0 4 rfl rfl)
theorem dX6_isAway_5 : decode cX6_isAway 5 = .ok (.if_icmp .ne 7, 3) := dk_160 0 7 (dk_at dksX6_isAway_0 5 rfl rfl)
theorem dX6_isAway_8 : decode cX6_isAway 8 = .ok (.iconst 1, 1) := dk_4 (dk_at dksX6_isAway_0 8 rfl rfl)
theorem dX6_isAway_9 : decode cX6_isAway 9 = .ok (.goto 4, 3) := dk_167 0 4 (dk_at dksX6_isAway_0 9 rfl rfl)
theorem dX6_isAway_12 : decode cX6_isAway 12 = .ok (.iconst 0, 1) := dk_3 (dk_at dksX6_isAway_0 12 rfl rfl)
theorem dX6_isAway_13 : decode cX6_isAway 13 = .ok (.ireturn, 1) := dk_172 (dk_at dksX6_isAway_0 13 rfl rfl)
abbrev cX6_wake : ByteArray := prog_3_method_8_code
def yX6_wake : MethodName := ⟨RX6, "wake", "(I)V"⟩
def dkwX6_wake_1 : List UInt8 := [181, 0, 25, 177]
abbrev dktX6_wake_1 : List UInt8 := dkwX6_wake_1 ++ []
def dkwX6_wake_0 : List UInt8 := [42, 180, 0, 18, 5, 160, 0, 11, 42, 180, 0, 25, 27, 164, 0, 4, 177, 42, 3, 181, 0, 18, 42, 2]
abbrev dktX6_wake_0 : List UInt8 := dkwX6_wake_0 ++ dktX6_wake_1
theorem dksX6_wake_0 : cX6_wake.data.toList.drop 0 = dktX6_wake_0 := by decide +kernel
theorem dksX6_wake_1 : cX6_wake.data.toList.drop 24 = dktX6_wake_1 := dk_seg dksX6_wake_0 24 rfl rfl
theorem dX6_wake_0 : decode cX6_wake 0 = .ok (.aload_n 0, 1) := dk_42 (dk_at dksX6_wake_0 0 rfl rfl)
theorem dX6_wake_1 : decode cX6_wake 1 = .ok (.getfield 18, 3) := dk_180 0 18 (dk_at dksX6_wake_0 1 rfl rfl)
theorem dX6_wake_4 : decode cX6_wake 4 = .ok (.iconst 2, 1) := dk_5 (dk_at dksX6_wake_0 4 rfl rfl)
theorem dX6_wake_5 : decode cX6_wake 5 = .ok (.if_icmp .ne 11, 3) := dk_160 0 11 (dk_at dksX6_wake_0 5 rfl rfl)
theorem dX6_wake_8 : decode cX6_wake 8 = .ok (.aload_n 0, 1) := dk_42 (dk_at dksX6_wake_0 8 rfl rfl)
theorem dX6_wake_9 : decode cX6_wake 9 = .ok (.getfield 25, 3) := dk_180 0 25 (dk_at dksX6_wake_0 9 rfl rfl)
theorem dX6_wake_12 : decode cX6_wake 12 = .ok (.iload_n 1, 1) := dk_27 (dk_at dksX6_wake_0 12 rfl rfl)
theorem dX6_wake_13 : decode cX6_wake 13 = .ok (.if_icmp .le 4, 3) := dk_164 0 4 (dk_at dksX6_wake_0 13 rfl rfl)
theorem dX6_wake_16 : decode cX6_wake 16 = .ok (.return_, 1) := dk_177 (dk_at dksX6_wake_0 16 rfl rfl)
theorem dX6_wake_17 : decode cX6_wake 17 = .ok (.aload_n 0, 1) := dk_42 (dk_at dksX6_wake_0 17 rfl rfl)
theorem dX6_wake_18 : decode cX6_wake 18 = .ok (.iconst 0, 1) := dk_3 (dk_at dksX6_wake_0 18 rfl rfl)
theorem dX6_wake_19 : decode cX6_wake 19 = .ok (.putfield 18, 3) := dk_181 0 18 (dk_at dksX6_wake_0 19 rfl rfl)
theorem dX6_wake_22 : decode cX6_wake 22 = .ok (.aload_n 0, 1) := dk_42 (dk_at dksX6_wake_0 22 rfl rfl)
theorem dX6_wake_23 : decode cX6_wake 23 = .ok (.iconst (-1), 1) := dk_2 (dk_at dksX6_wake_0 23 rfl rfl)
theorem dX6_wake_24 : decode cX6_wake 24 = .ok (.putfield 25, 3) := dk_181 0 25 (dk_at dksX6_wake_1 0 rfl rfl)
theorem dX6_wake_27 : decode cX6_wake 27 = .ok (.return_, 1) := dk_177 (dk_at dksX6_wake_1 3 rfl rfl)
abbrev cX6_pause : ByteArray := prog_3_method_6_code
def yX6_pause : MethodName := ⟨RX6, "pause", "()V"⟩
def dkwX6_pause_0 : List UInt8 := [42, 42, 180, 0, 18, 181, 0, 22, 42, 6, 181, 0, 18, 177]
abbrev dktX6_pause_0 : List UInt8 := dkwX6_pause_0 ++ []
theorem dksX6_pause_0 : cX6_pause.data.toList.drop 0 = dktX6_pause_0 := by decide +kernel
theorem dX6_pause_0 : decode cX6_pause 0 = .ok (.aload_n 0, 1) := dk_42 (dk_at dksX6_pause_0 0 rfl rfl)
theorem dX6_pause_1 : decode cX6_pause 1 = .ok (.aload_n 0, 1) := dk_42 (dk_at dksX6_pause_0 1 rfl rfl)
theorem dX6_pause_2 : decode cX6_pause 2 = .ok (.getfield 18, 3) := dk_180 0 18 (dk_at dksX6_pause_0 2 rfl rfl)
theorem dX6_pause_5 : decode cX6_pause 5 = .ok (.putfield 22, 3) := dk_181 0 22 (dk_at dksX6_pause_0 5 rfl rfl)
theorem dX6_pause_8 : decode cX6_pause 8 = .ok (.aload_n 0, 1) := dk_42 (dk_at dksX6_pause_0 8 rfl rfl)
theorem dX6_pause_9 : decode cX6_pause 9 = .ok (.iconst 3, 1) := dk_6 (dk_at dksX6_pause_0 9 rfl rfl)
theorem dX6_pause_10 : decode cX6_pause 10 = .ok (.putfield 18, 3) := dk_181 0 18 (dk_at dksX6_pause_0 10 rfl rfl)
theorem dX6_pause_13 : decode cX6_pause 13 = .ok (.return_, 1) := dk_177 (dk_at dksX6_pause_0 13 rfl rfl)
abbrev cX6_goOn : ByteArray := prog_3_method_7_code
def yX6_goOn : MethodName := ⟨RX6, "goOn", "(I)V"⟩
def dkwX6_goOn_1 : List UInt8 := [3, 181, 0, 18, 42, 27, 182, 0, 117, 177]
abbrev dktX6_goOn_1 : List UInt8 := dkwX6_goOn_1 ++ []
def dkwX6_goOn_0 : List UInt8 := [42, 42, 180, 0, 22, 181, 0, 18, 42, 180, 0, 18, 4, 160, 0, 15, 42, 180, 0, 59, 158, 0, 8, 42]
abbrev dktX6_goOn_0 : List UInt8 := dkwX6_goOn_0 ++ dktX6_goOn_1
theorem dksX6_goOn_0 : cX6_goOn.data.toList.drop 0 = dktX6_goOn_0 := by decide +kernel
theorem dksX6_goOn_1 : cX6_goOn.data.toList.drop 24 = dktX6_goOn_1 := dk_seg dksX6_goOn_0 24 rfl rfl
theorem dX6_goOn_0 : decode cX6_goOn 0 = .ok (.aload_n 0, 1) := dk_42 (dk_at dksX6_goOn_0 0 rfl rfl)
theorem dX6_goOn_1 : decode cX6_goOn 1 = .ok (.aload_n 0, 1) := dk_42 (dk_at dksX6_goOn_0 1 rfl rfl)
theorem dX6_goOn_2 : decode cX6_goOn 2 = .ok (.getfield 22, 3) := dk_180 0 22 (dk_at dksX6_goOn_0 2 rfl rfl)
theorem dX6_goOn_5 : decode cX6_goOn 5 = .ok (.putfield 18, 3) := dk_181 0 18 (dk_at dksX6_goOn_0 5 rfl rfl)
theorem dX6_goOn_8 : decode cX6_goOn 8 = .ok (.aload_n 0, 1) := dk_42 (dk_at dksX6_goOn_0 8 rfl rfl)
theorem dX6_goOn_9 : decode cX6_goOn 9 = .ok (.getfield 18, 3) := dk_180 0 18 (dk_at dksX6_goOn_0 9 rfl rfl)
theorem dX6_goOn_12 : decode cX6_goOn 12 = .ok (.iconst 1, 1) := dk_4 (dk_at dksX6_goOn_0 12 rfl rfl)
theorem dX6_goOn_13 : decode cX6_goOn 13 = .ok (.if_icmp .ne 15, 3) := dk_160 0 15 (dk_at dksX6_goOn_0 13 rfl rfl)
theorem dX6_goOn_16 : decode cX6_goOn 16 = .ok (.aload_n 0, 1) := dk_42 (dk_at dksX6_goOn_0 16 rfl rfl)
theorem dX6_goOn_17 : decode cX6_goOn 17 = .ok (.getfield 59, 3) := dk_180 0 59 (dk_at dksX6_goOn_0 17 rfl rfl)
theorem dX6_goOn_20 : decode cX6_goOn 20 = .ok (.ifCond .le 8, 3) := dk_158 0 8 (dk_at dksX6_goOn_0 20 rfl rfl)
theorem dX6_goOn_23 : decode cX6_goOn 23 = .ok (.aload_n 0, 1) := dk_42 (dk_at dksX6_goOn_0 23 rfl rfl)
theorem dX6_goOn_24 : decode cX6_goOn 24 = .ok (.iconst 0, 1) := dk_3 (dk_at dksX6_goOn_1 0 rfl rfl)
theorem dX6_goOn_25 : decode cX6_goOn 25 = .ok (.putfield 18, 3) := dk_181 0 18 (dk_at dksX6_goOn_1 1 rfl rfl)
theorem dX6_goOn_28 : decode cX6_goOn 28 = .ok (.aload_n 0, 1) := dk_42 (dk_at dksX6_goOn_1 4 rfl rfl)
theorem dX6_goOn_29 : decode cX6_goOn 29 = .ok (.iload_n 1, 1) := dk_27 (dk_at dksX6_goOn_1 5 rfl rfl)
theorem dX6_goOn_30 : decode cX6_goOn 30 = .ok (.invokevirtual 117, 3) := dk_182 0 117 (dk_at dksX6_goOn_1 6 rfl rfl)
theorem dX6_goOn_33 : decode cX6_goOn 33 = .ok (.return_, 1) := dk_177 (dk_at dksX6_goOn_1 9 rfl rfl)
theorem q73 : (Jvm.Cond.initialized "HyperVane$Guest") ∈ lw_all := lw_g (lw_at lw_m1 20 rfl) rfl
theorem q261 : (Jvm.Cond.selects "HyperVane$Guest" ({ cls := "java/lang/Object", name := "getClass", desc := "()Ljava/lang/Class;" } : Jvm.MethodName) ({ cls := "java/lang/Object", name := "getClass", desc := "()Ljava/lang/Class;" } : Jvm.MethodName)) ∈ lw_all := lw_g (lw_at lw_m1 208 rfl) rfl
theorem q387 : (Jvm.Cond.instanceMethod ({ cls := "HyperVane$Guest", name := "manyLeft", desc := "()I" } : Jvm.MethodName)) ∈ lw_all := lw_g (lw_at lw_m2 94 rfl) rfl
theorem q388 : (Jvm.Cond.selects "HyperVane$Guest" ({ cls := "HyperVane$Guest", name := "manyLeft", desc := "()I" } : Jvm.MethodName) ({ cls := "HyperVane$Guest", name := "manyLeft", desc := "()I" } : Jvm.MethodName)) ∈ lw_all := lw_g (lw_at lw_m2 95 rfl) rfl
theorem q389 : (Jvm.Cond.code ({ cls := "HyperVane$Guest", name := "manyLeft", desc := "()I" } : Jvm.MethodName) prog_3_method_5_code (3 : Nat) (Option.some Jvm.ClassFile.FieldType.int)) ∈ lw_all := lw_g (lw_at lw_m2 96 rfl) rfl
theorem q390 : (Jvm.Cond.methodLink "HyperVane$Guest" (109 : Nat) ({ cls := "HyperVane$Guest", name := "isMoved", desc := "()Z" } : Jvm.MethodName)) ∈ lw_all := lw_g (lw_at lw_m2 97 rfl) rfl
theorem q391 : (Jvm.Cond.instanceMethod ({ cls := "HyperVane$Guest", name := "isMoved", desc := "()Z" } : Jvm.MethodName)) ∈ lw_all := lw_g (lw_at lw_m2 98 rfl) rfl
theorem q392 : (Jvm.Cond.selects "HyperVane$Guest" ({ cls := "HyperVane$Guest", name := "isMoved", desc := "()Z" } : Jvm.MethodName) ({ cls := "HyperVane$Guest", name := "isMoved", desc := "()Z" } : Jvm.MethodName)) ∈ lw_all := lw_g (lw_at lw_m2 99 rfl) rfl
theorem q393 : (Jvm.Cond.code ({ cls := "HyperVane$Guest", name := "isMoved", desc := "()Z" } : Jvm.MethodName) prog_3_method_4_code (1 : Nat) (Option.some Jvm.ClassFile.FieldType.boolean)) ∈ lw_all := lw_g (lw_at lw_m2 100 rfl) rfl
theorem q394 : (Jvm.Cond.methodLinkNest "HyperVane$Guest" (113 : Nat) ({ cls := "HyperVane", name := "one", desc := "(Z)I" } : Jvm.MethodName) "HyperVane") ∈ lw_tbl := lw_at lw_m2 101 rfl
theorem q413 : (Jvm.Cond.selects "HyperVane$Guest" ({ cls := "java/lang/Object", name := "equals", desc := "(Ljava/lang/Object;)Z" } : Jvm.MethodName) ({ cls := "java/lang/Object", name := "equals", desc := "(Ljava/lang/Object;)Z" } : Jvm.MethodName)) ∈ lw_all := lw_g (lw_at lw_m2 120 rfl) rfl
theorem q541 : (Jvm.Cond.instanceMethod ({ cls := "HyperVane$Guest", name := "copy", desc := "()LHyperVane$Guest;" } : Jvm.MethodName)) ∈ lw_all := lw_g (lw_at lw_m3 8 rfl) rfl
theorem q542 : (Jvm.Cond.selects "HyperVane$Guest" ({ cls := "HyperVane$Guest", name := "copy", desc := "()LHyperVane$Guest;" } : Jvm.MethodName) ({ cls := "HyperVane$Guest", name := "copy", desc := "()LHyperVane$Guest;" } : Jvm.MethodName)) ∈ lw_all := lw_g (lw_at lw_m3 9 rfl) rfl
theorem q543 : (Jvm.Cond.code ({ cls := "HyperVane$Guest", name := "copy", desc := "()LHyperVane$Guest;" } : Jvm.MethodName) prog_3_method_2_code (2 : Nat) (Option.some (Jvm.ClassFile.FieldType.object "HyperVane$Guest"))) ∈ lw_all := lw_g (lw_at lw_m3 10 rfl) rfl
theorem q544 : (Jvm.Cond.classLink "HyperVane$Guest" (13 : Nat) "HyperVane$Guest") ∈ lw_all := lw_g (lw_at lw_m3 11 rfl) rfl
theorem q545 : (Jvm.Cond.instantiable "HyperVane$Guest" (22 : Nat)) ∈ lw_all := lw_g (lw_at lw_m3 12 rfl) rfl
theorem q546 : (Jvm.Cond.methodLink "HyperVane$Guest" (45 : Nat) ({ cls := "HyperVane$Guest", name := "<init>", desc := "(II)V" } : Jvm.MethodName)) ∈ lw_all := lw_g (lw_at lw_m3 13 rfl) rfl
theorem q547 : (Jvm.Cond.instanceMethod ({ cls := "HyperVane$Guest", name := "<init>", desc := "(II)V" } : Jvm.MethodName)) ∈ lw_all := lw_g (lw_at lw_m3 14 rfl) rfl
theorem q548 : (Jvm.Cond.code ({ cls := "HyperVane$Guest", name := "<init>", desc := "(II)V" } : Jvm.MethodName) prog_3_method_1_code (3 : Nat) (Option.none : Option Jvm.ClassFile.FieldType)) ∈ lw_all := lw_g (lw_at lw_m3 15 rfl) rfl
theorem q549 : (Jvm.Cond.methodLink "HyperVane$Guest" (3 : Nat) ({ cls := "java/lang/Object", name := "<init>", desc := "()V" } : Jvm.MethodName)) ∈ lw_all := lw_g (lw_at lw_m3 16 rfl) rfl
theorem q550 : (Jvm.Cond.classLink "HyperVane$Guest" (9 : Nat) "HyperVane$Mind") ∈ lw_all := lw_g (lw_at lw_m3 17 rfl) rfl
theorem q551 : (Jvm.Cond.methodLinkNest "HyperVane$Guest" (11 : Nat) ({ cls := "HyperVane$Mind", name := "<init>", desc := "()V" } : Jvm.MethodName) "HyperVane") ∈ lw_tbl := lw_at lw_m3 18 rfl
theorem q552 : (Jvm.Cond.fieldLink "HyperVane$Guest" (39 : Nat) "HyperVane$Guest" "number" "I") ∈ lw_all := lw_g (lw_at lw_m3 19 rfl) rfl
theorem q555 : (Jvm.Cond.fieldLink "HyperVane$Guest" (42 : Nat) "HyperVane$Guest" "weight" "I") ∈ lw_all := lw_g (lw_at lw_m3 22 rfl) rfl
theorem q558 : (Jvm.Cond.fieldLink "HyperVane$Guest" (12 : Nat) "HyperVane$Guest" "mind" "LHyperVane$Mind;") ∈ lw_all := lw_g (lw_at lw_m3 25 rfl) rfl
theorem q561 : (Jvm.Cond.fieldLink "HyperVane$Guest" (18 : Nat) "HyperVane$Guest" "state" "I") ∈ lw_all := lw_g (lw_at lw_m3 28 rfl) rfl
theorem q564 : (Jvm.Cond.fieldLink "HyperVane$Guest" (22 : Nat) "HyperVane$Guest" "before" "I") ∈ lw_all := lw_g (lw_at lw_m3 31 rfl) rfl
theorem q566 : (Jvm.Cond.fieldLink "HyperVane$Guest" (52 : Nat) "HyperVane$Guest" "isPausedByMove" "Z") ∈ lw_all := lw_g (lw_at lw_m3 33 rfl) rfl
theorem q569 : (Jvm.Cond.fieldLink "HyperVane$Guest" (25 : Nat) "HyperVane$Guest" "stuckTill" "I") ∈ lw_all := lw_g (lw_at lw_m3 36 rfl) rfl
theorem q572 : (Jvm.Cond.fieldLink "HyperVane$Guest" (56 : Nat) "HyperVane$Guest" "time" "I") ∈ lw_all := lw_g (lw_at lw_m3 39 rfl) rfl
theorem q575 : (Jvm.Cond.fieldLink "HyperVane$Guest" (59 : Nat) "HyperVane$Guest" "pending" "I") ∈ lw_all := lw_g (lw_at lw_m3 42 rfl) rfl
theorem q578 : (Jvm.Cond.fieldLink "HyperVane$Guest" (62 : Nat) "HyperVane$Guest" "credits" "I") ∈ lw_all := lw_g (lw_at lw_m3 45 rfl) rfl
theorem q581 : (Jvm.Cond.fieldLink "HyperVane$Guest" (65 : Nat) "HyperVane$Guest" "done" "I") ∈ lw_all := lw_g (lw_at lw_m3 48 rfl) rfl
theorem q584 : (Jvm.Cond.fieldLink "HyperVane$Guest" (68 : Nat) "HyperVane$Guest" "stolen" "I") ∈ lw_all := lw_g (lw_at lw_m3 51 rfl) rfl
theorem q587 : (Jvm.Cond.fieldLink "HyperVane$Guest" (71 : Nat) "HyperVane$Guest" "queue" "I") ∈ lw_all := lw_g (lw_at lw_m3 54 rfl) rfl
theorem q590 : (Jvm.Cond.fieldLink "HyperVane$Guest" (28 : Nat) "HyperVane$Guest" "exits" "[I") ∈ lw_all := lw_g (lw_at lw_m3 57 rfl) rfl
theorem q593 : (Jvm.Cond.fieldLink "HyperVane$Guest" (32 : Nat) "HyperVane$Guest" "areOnDisk" "[Z") ∈ lw_all := lw_g (lw_at lw_m3 60 rfl) rfl
theorem q596 : (Jvm.Cond.fieldLink "HyperVane$Guest" (36 : Nat) "HyperVane$Guest" "areGiven" "[Z") ∈ lw_all := lw_g (lw_at lw_m3 63 rfl) rfl
theorem q599 : (Jvm.Cond.fieldLink "HyperVane$Guest" (80 : Nat) "HyperVane$Guest" "left" "[Z") ∈ lw_all := lw_g (lw_at lw_m3 66 rfl) rfl
theorem q602 : (Jvm.Cond.fieldLink "HyperVane$Guest" (88 : Nat) "HyperVane$Guest" "speed" "I") ∈ lw_all := lw_g (lw_at lw_m3 69 rfl) rfl
theorem q604 : (Jvm.Cond.fieldLink "HyperVane$Guest" (91 : Nat) "HyperVane$Guest" "movedSince" "I") ∈ lw_all := lw_g (lw_at lw_m3 71 rfl) rfl
theorem q606 : (Jvm.Cond.fieldLink "HyperVane$Guest" (94 : Nat) "HyperVane$Guest" "isToBeOver" "Z") ∈ lw_all := lw_g (lw_at lw_m3 73 rfl) rfl
theorem q608 : (Jvm.Cond.fieldLink "HyperVane$Guest" (97 : Nat) "HyperVane$Guest" "down" "I") ∈ lw_all := lw_g (lw_at lw_m3 75 rfl) rfl
theorem q611 : (Jvm.Cond.fieldLink "HyperVane$Guest" (100 : Nat) "HyperVane$Guest" "past" "LHyperVane$Past;") ∈ lw_all := lw_g (lw_at lw_m3 78 rfl) rfl
theorem q614 : (Jvm.Cond.laysFinal "HyperVane$Guest" "HyperVane$Guest" "number" "I") ∈ lw_all := lw_g (lw_at lw_m3 81 rfl) rfl
theorem q615 : (Jvm.Cond.soleField "HyperVane$Guest" "number") ∈ lw_all := lw_g (lw_at lw_m3 82 rfl) rfl
theorem q616 : (Jvm.Cond.lays "HyperVane$Guest" "HyperVane$Guest" "weight" "I") ∈ lw_all := lw_g (lw_at lw_m3 83 rfl) rfl
theorem q617 : (Jvm.Cond.soleField "HyperVane$Guest" "weight") ∈ lw_all := lw_g (lw_at lw_m3 84 rfl) rfl
theorem q618 : (Jvm.Cond.lays "HyperVane$Guest" "HyperVane$Guest" "mind" "LHyperVane$Mind;") ∈ lw_all := lw_g (lw_at lw_m3 85 rfl) rfl
theorem q619 : (Jvm.Cond.soleField "HyperVane$Guest" "mind") ∈ lw_all := lw_g (lw_at lw_m3 86 rfl) rfl
theorem q620 : (Jvm.Cond.lays "HyperVane$Guest" "HyperVane$Guest" "state" "I") ∈ lw_all := lw_g (lw_at lw_m3 87 rfl) rfl
theorem q621 : (Jvm.Cond.soleField "HyperVane$Guest" "state") ∈ lw_all := lw_g (lw_at lw_m3 88 rfl) rfl
theorem q622 : (Jvm.Cond.lays "HyperVane$Guest" "HyperVane$Guest" "before" "I") ∈ lw_all := lw_g (lw_at lw_m3 89 rfl) rfl
theorem q623 : (Jvm.Cond.soleField "HyperVane$Guest" "before") ∈ lw_all := lw_g (lw_at lw_m3 90 rfl) rfl
theorem q624 : (Jvm.Cond.lays "HyperVane$Guest" "HyperVane$Guest" "isPausedByMove" "Z") ∈ lw_all := lw_g (lw_at lw_m3 91 rfl) rfl
theorem q625 : (Jvm.Cond.soleField "HyperVane$Guest" "isPausedByMove") ∈ lw_all := lw_g (lw_at lw_m3 92 rfl) rfl
theorem q626 : (Jvm.Cond.lays "HyperVane$Guest" "HyperVane$Guest" "stuckTill" "I") ∈ lw_all := lw_g (lw_at lw_m3 93 rfl) rfl
theorem q627 : (Jvm.Cond.soleField "HyperVane$Guest" "stuckTill") ∈ lw_all := lw_g (lw_at lw_m3 94 rfl) rfl
theorem q628 : (Jvm.Cond.lays "HyperVane$Guest" "HyperVane$Guest" "time" "I") ∈ lw_all := lw_g (lw_at lw_m3 95 rfl) rfl
theorem q629 : (Jvm.Cond.soleField "HyperVane$Guest" "time") ∈ lw_all := lw_g (lw_at lw_m3 96 rfl) rfl
theorem q630 : (Jvm.Cond.lays "HyperVane$Guest" "HyperVane$Guest" "pending" "I") ∈ lw_all := lw_g (lw_at lw_m3 97 rfl) rfl
theorem q631 : (Jvm.Cond.soleField "HyperVane$Guest" "pending") ∈ lw_all := lw_g (lw_at lw_m3 98 rfl) rfl
theorem q632 : (Jvm.Cond.lays "HyperVane$Guest" "HyperVane$Guest" "credits" "I") ∈ lw_all := lw_g (lw_at lw_m3 99 rfl) rfl
theorem q633 : (Jvm.Cond.soleField "HyperVane$Guest" "credits") ∈ lw_all := lw_g (lw_at lw_m3 100 rfl) rfl
theorem q634 : (Jvm.Cond.lays "HyperVane$Guest" "HyperVane$Guest" "done" "I") ∈ lw_all := lw_g (lw_at lw_m3 101 rfl) rfl
theorem q635 : (Jvm.Cond.soleField "HyperVane$Guest" "done") ∈ lw_all := lw_g (lw_at lw_m3 102 rfl) rfl
theorem q636 : (Jvm.Cond.lays "HyperVane$Guest" "HyperVane$Guest" "stolen" "I") ∈ lw_all := lw_g (lw_at lw_m3 103 rfl) rfl
theorem q637 : (Jvm.Cond.soleField "HyperVane$Guest" "stolen") ∈ lw_all := lw_g (lw_at lw_m3 104 rfl) rfl
theorem q638 : (Jvm.Cond.lays "HyperVane$Guest" "HyperVane$Guest" "queue" "I") ∈ lw_all := lw_g (lw_at lw_m3 105 rfl) rfl
theorem q639 : (Jvm.Cond.soleField "HyperVane$Guest" "queue") ∈ lw_all := lw_g (lw_at lw_m3 106 rfl) rfl
theorem q640 : (Jvm.Cond.laysFinal "HyperVane$Guest" "HyperVane$Guest" "exits" "[I") ∈ lw_all := lw_g (lw_at lw_m3 107 rfl) rfl
theorem q641 : (Jvm.Cond.soleField "HyperVane$Guest" "exits") ∈ lw_all := lw_g (lw_at lw_m3 108 rfl) rfl
theorem q642 : (Jvm.Cond.laysFinal "HyperVane$Guest" "HyperVane$Guest" "areOnDisk" "[Z") ∈ lw_all := lw_g (lw_at lw_m3 109 rfl) rfl
theorem q643 : (Jvm.Cond.soleField "HyperVane$Guest" "areOnDisk") ∈ lw_all := lw_g (lw_at lw_m3 110 rfl) rfl
theorem q644 : (Jvm.Cond.laysFinal "HyperVane$Guest" "HyperVane$Guest" "areGiven" "[Z") ∈ lw_all := lw_g (lw_at lw_m3 111 rfl) rfl
theorem q645 : (Jvm.Cond.soleField "HyperVane$Guest" "areGiven") ∈ lw_all := lw_g (lw_at lw_m3 112 rfl) rfl
theorem q646 : (Jvm.Cond.lays "HyperVane$Guest" "HyperVane$Guest" "left" "[Z") ∈ lw_all := lw_g (lw_at lw_m3 113 rfl) rfl
theorem q647 : (Jvm.Cond.soleField "HyperVane$Guest" "left") ∈ lw_all := lw_g (lw_at lw_m3 114 rfl) rfl
theorem q648 : (Jvm.Cond.lays "HyperVane$Guest" "HyperVane$Guest" "speed" "I") ∈ lw_all := lw_g (lw_at lw_m3 115 rfl) rfl
theorem q649 : (Jvm.Cond.soleField "HyperVane$Guest" "speed") ∈ lw_all := lw_g (lw_at lw_m3 116 rfl) rfl
theorem q650 : (Jvm.Cond.lays "HyperVane$Guest" "HyperVane$Guest" "movedSince" "I") ∈ lw_all := lw_g (lw_at lw_m3 117 rfl) rfl
theorem q651 : (Jvm.Cond.soleField "HyperVane$Guest" "movedSince") ∈ lw_all := lw_g (lw_at lw_m3 118 rfl) rfl
theorem q652 : (Jvm.Cond.lays "HyperVane$Guest" "HyperVane$Guest" "isToBeOver" "Z") ∈ lw_all := lw_g (lw_at lw_m3 119 rfl) rfl
theorem q653 : (Jvm.Cond.soleField "HyperVane$Guest" "isToBeOver") ∈ lw_all := lw_g (lw_at lw_m3 120 rfl) rfl
theorem q654 : (Jvm.Cond.lays "HyperVane$Guest" "HyperVane$Guest" "down" "I") ∈ lw_all := lw_g (lw_at lw_m3 121 rfl) rfl
theorem q655 : (Jvm.Cond.soleField "HyperVane$Guest" "down") ∈ lw_all := lw_g (lw_at lw_m3 122 rfl) rfl
theorem q656 : (Jvm.Cond.lays "HyperVane$Guest" "HyperVane$Guest" "past" "LHyperVane$Past;") ∈ lw_all := lw_g (lw_at lw_m3 123 rfl) rfl
theorem q657 : (Jvm.Cond.soleField "HyperVane$Guest" "past") ∈ lw_all := lw_g (lw_at lw_m3 124 rfl) rfl
theorem q658 : (Jvm.Cond.superclass "HyperVane$Guest" "java/lang/Object") ∈ lw_all := lw_g (lw_at lw_m3 125 rfl) rfl
theorem q660 : (Jvm.Cond.methodLink "HyperVane$Guest" (48 : Nat) ({ cls := "HyperVane$Mind", name := "copy", desc := "()LHyperVane$Mind;" } : Jvm.MethodName)) ∈ lw_all := lw_g (lw_at lw_m3 127 rfl) rfl
theorem q661 : (Jvm.Cond.methodLink "HyperVane$Guest" (74 : Nat) ({ cls := "java/lang/System", name := "arraycopy", desc := "(Ljava/lang/Object;ILjava/lang/Object;II)V" } : Jvm.MethodName)) ∈ lw_all := lw_g (lw_at lw_m3 128 rfl) rfl
theorem q662 : (Jvm.Cond.methodLink "HyperVane$Guest" (83 : Nat) ({ cls := "[Z", name := "clone", desc := "()Ljava/lang/Object;" } : Jvm.MethodName)) ∈ lw_all := lw_g (lw_at lw_m3 129 rfl) rfl
theorem q668 : (Jvm.Cond.classLink "HyperVane$Guest" (84 : Nat) "[Z") ∈ lw_all := lw_g (lw_at lw_m3 135 rfl) rfl
theorem q669 : (Jvm.Cond.methodLink "HyperVane$Guest" (104 : Nat) ({ cls := "HyperVane$Past", name := "copy", desc := "()LHyperVane$Past;" } : Jvm.MethodName)) ∈ lw_all := lw_g (lw_at lw_m3 136 rfl) rfl
theorem q715 : (Jvm.Cond.instanceMethod ({ cls := "HyperVane$Guest", name := "isAway", desc := "()Z" } : Jvm.MethodName)) ∈ lw_all := lw_g (lw_at lw_m3 182 rfl) rfl
theorem q716 : (Jvm.Cond.selects "HyperVane$Guest" ({ cls := "HyperVane$Guest", name := "isAway", desc := "()Z" } : Jvm.MethodName) ({ cls := "HyperVane$Guest", name := "isAway", desc := "()Z" } : Jvm.MethodName)) ∈ lw_all := lw_g (lw_at lw_m3 183 rfl) rfl
theorem q717 : (Jvm.Cond.code ({ cls := "HyperVane$Guest", name := "isAway", desc := "()Z" } : Jvm.MethodName) prog_3_method_3_code (1 : Nat) (Option.some Jvm.ClassFile.FieldType.boolean)) ∈ lw_all := lw_g (lw_at lw_m3 184 rfl) rfl
theorem q719 : (Jvm.Cond.instanceMethod ({ cls := "HyperVane$Guest", name := "wake", desc := "(I)V" } : Jvm.MethodName)) ∈ lw_all := lw_g (lw_at lw_m3 186 rfl) rfl
theorem q720 : (Jvm.Cond.selects "HyperVane$Guest" ({ cls := "HyperVane$Guest", name := "wake", desc := "(I)V" } : Jvm.MethodName) ({ cls := "HyperVane$Guest", name := "wake", desc := "(I)V" } : Jvm.MethodName)) ∈ lw_all := lw_g (lw_at lw_m3 187 rfl) rfl
theorem q721 : (Jvm.Cond.code ({ cls := "HyperVane$Guest", name := "wake", desc := "(I)V" } : Jvm.MethodName) prog_3_method_8_code (2 : Nat) (Option.none : Option Jvm.ClassFile.FieldType)) ∈ lw_all := lw_g (lw_at lw_m3 188 rfl) rfl
theorem q812 : (Jvm.Cond.instanceMethod ({ cls := "HyperVane$Guest", name := "pause", desc := "()V" } : Jvm.MethodName)) ∈ lw_all := lw_g (lw_at lw_m4 39 rfl) rfl
theorem q813 : (Jvm.Cond.selects "HyperVane$Guest" ({ cls := "HyperVane$Guest", name := "pause", desc := "()V" } : Jvm.MethodName) ({ cls := "HyperVane$Guest", name := "pause", desc := "()V" } : Jvm.MethodName)) ∈ lw_all := lw_g (lw_at lw_m4 40 rfl) rfl
theorem q814 : (Jvm.Cond.code ({ cls := "HyperVane$Guest", name := "pause", desc := "()V" } : Jvm.MethodName) prog_3_method_6_code (1 : Nat) (Option.none : Option Jvm.ClassFile.FieldType)) ∈ lw_all := lw_g (lw_at lw_m4 41 rfl) rfl
theorem q1047 : (Jvm.Cond.instanceMethod ({ cls := "HyperVane$Guest", name := "goOn", desc := "(I)V" } : Jvm.MethodName)) ∈ lw_all := lw_g (lw_at lw_m5 34 rfl) rfl
theorem q1048 : (Jvm.Cond.selects "HyperVane$Guest" ({ cls := "HyperVane$Guest", name := "goOn", desc := "(I)V" } : Jvm.MethodName) ({ cls := "HyperVane$Guest", name := "goOn", desc := "(I)V" } : Jvm.MethodName)) ∈ lw_all := lw_g (lw_at lw_m5 35 rfl) rfl
theorem q1049 : (Jvm.Cond.code ({ cls := "HyperVane$Guest", name := "goOn", desc := "(I)V" } : Jvm.MethodName) prog_3_method_7_code (2 : Nat) (Option.none : Option Jvm.ClassFile.FieldType)) ∈ lw_all := lw_g (lw_at lw_m5 36 rfl) rfl
theorem q1050 : (Jvm.Cond.methodLink "HyperVane$Guest" (117 : Nat) ({ cls := "HyperVane$Guest", name := "wake", desc := "(I)V" } : Jvm.MethodName)) ∈ lw_all := lw_g (lw_at lw_m5 37 rfl) rfl
theorem q1708 : (Jvm.Cond.castable "HyperVane$Guest" "java/lang/Object") ∈ lw_tbl := lw_at lw_m7 215 rfl
theorem in_X6 : ∀ w ∈ wsX60, w ∈ lw_all := lw_in wsX60 [614, 616, 618, 620, 622, 624, 626, 628, 630, 632, 634, 636, 638, 640, 642, 644, 646, 648, 650, 652, 654, 656] (by decide +kernel) (by decide +kernel)

/-! HyperVane$Mind -/
set_option maxRecDepth 100000
def RX7 : String := "HyperVane$Mind"
def TX7 : u_T := fun k => match k with
  | 0 => ("HyperVane$Mind", "tape", "Ljava/util/ArrayList;", true)
  | 1 => ("HyperVane$Mind", "values", "[I", true)
  | 2 => ("HyperVane$Mind", "place", "I", false)
  | _ => ("HyperVane$Mind", "mark", "I", false)
def tyX7 : Nat → FieldType := fun k => match k with
  | 0 => .object "java/util/ArrayList"
  | 1 => .array .int
  | 2 => .int
  | _ => .int
abbrev wsX70 : List Cond := u_ws RX7 TX7 4
theorem nmX7 : ∀ a, a < 4 → ∀ b, b < 4 → a ≠ b → (TX7 a).2.1 ≠ (TX7 b).2.1 := by decide +kernel
theorem tyX7_ok : ∀ k, k < 4 → parseFieldDescriptor (TX7 k).2.2.1 = some (tyX7 k) := by decide +kernel
abbrev cX7_copy : ByteArray := prog_5_method_2_code
def yX7_copy : MethodName := ⟨RX7, "copy", "()LHyperVane$Mind;"⟩
def dkwX7_copy_2 : List UInt8 := [181, 0, 37, 43, 176]
abbrev dktX7_copy_2 : List UInt8 := dkwX7_copy_2 ++ []
def dkwX7_copy_1 : List UInt8 := [3, 43, 180, 0, 18, 3, 16, 6, 184, 0, 27, 43, 42, 180, 0, 33, 181, 0, 33, 43, 42, 180, 0, 37]
abbrev dktX7_copy_1 : List UInt8 := dkwX7_copy_1 ++ dktX7_copy_2
def dkwX7_copy_0 : List UInt8 := [187, 0, 13, 89, 183, 0, 22, 76, 43, 180, 0, 12, 42, 180, 0, 12, 182, 0, 23, 87, 42, 180, 0, 18]
abbrev dktX7_copy_0 : List UInt8 := dkwX7_copy_0 ++ dktX7_copy_1
theorem dksX7_copy_0 : cX7_copy.data.toList.drop 0 = dktX7_copy_0 := by decide +kernel
theorem dksX7_copy_1 : cX7_copy.data.toList.drop 24 = dktX7_copy_1 := dk_seg dksX7_copy_0 24 rfl rfl
theorem dksX7_copy_2 : cX7_copy.data.toList.drop 48 = dktX7_copy_2 := dk_seg dksX7_copy_1 24 rfl rfl
theorem dX7_copy_0 : decode cX7_copy 0 = .ok (.new 13, 3) := dk_187 0 13 (dk_at dksX7_copy_0 0 rfl rfl)
theorem dX7_copy_3 : decode cX7_copy 3 = .ok (.dup, 1) := dk_89 (dk_at dksX7_copy_0 3 rfl rfl)
theorem dX7_copy_4 : decode cX7_copy 4 = .ok (.invokespecial 22, 3) := dk_183 0 22 (dk_at dksX7_copy_0 4 rfl rfl)
theorem dX7_copy_7 : decode cX7_copy 7 = .ok (.astore_n 1, 1) := dk_76 (dk_at dksX7_copy_0 7 rfl rfl)
theorem dX7_copy_8 : decode cX7_copy 8 = .ok (.aload_n 1, 1) := dk_43 (dk_at dksX7_copy_0 8 rfl rfl)
theorem dX7_copy_9 : decode cX7_copy 9 = .ok (.getfield 12, 3) := dk_180 0 12 (dk_at dksX7_copy_0 9 rfl rfl)
theorem dX7_copy_12 : decode cX7_copy 12 = .ok (.aload_n 0, 1) := dk_42 (dk_at dksX7_copy_0 12 rfl rfl)
theorem dX7_copy_13 : decode cX7_copy 13 = .ok (.getfield 12, 3) := dk_180 0 12 (dk_at dksX7_copy_0 13 rfl rfl)
theorem dX7_copy_16 : decode cX7_copy 16 = .ok (.invokevirtual 23, 3) := dk_182 0 23 (dk_at dksX7_copy_0 16 rfl rfl)
theorem dX7_copy_19 : decode cX7_copy 19 = .ok (.pop, 1) := dk_87 (dk_at dksX7_copy_0 19 rfl rfl)
theorem dX7_copy_20 : decode cX7_copy 20 = .ok (.aload_n 0, 1) := dk_42 (dk_at dksX7_copy_0 20 rfl rfl)
theorem dX7_copy_21 : decode cX7_copy 21 = .ok (.getfield 18, 3) := dk_180 0 18 (dk_at dksX7_copy_0 21 rfl rfl)
theorem dX7_copy_24 : decode cX7_copy 24 = .ok (.iconst 0, 1) := dk_3 (dk_at dksX7_copy_1 0 rfl rfl)
theorem dX7_copy_25 : decode cX7_copy 25 = .ok (.aload_n 1, 1) := dk_43 (dk_at dksX7_copy_1 1 rfl rfl)
theorem dX7_copy_26 : decode cX7_copy 26 = .ok (.getfield 18, 3) := dk_180 0 18 (dk_at dksX7_copy_1 2 rfl rfl)
theorem dX7_copy_29 : decode cX7_copy 29 = .ok (.iconst 0, 1) := dk_3 (dk_at dksX7_copy_1 5 rfl rfl)
theorem dX7_copy_30 : decode cX7_copy 30 = .ok (.bipush 6, 2) := dk_16 6 (dk_at dksX7_copy_1 6 rfl rfl)
theorem dX7_copy_32 : decode cX7_copy 32 = .ok (.invokestatic 27, 3) := dk_184 0 27 (dk_at dksX7_copy_1 8 rfl rfl)
theorem dX7_copy_35 : decode cX7_copy 35 = .ok (.aload_n 1, 1) := dk_43 (dk_at dksX7_copy_1 11 rfl rfl)
theorem dX7_copy_36 : decode cX7_copy 36 = .ok (.aload_n 0, 1) := dk_42 (dk_at dksX7_copy_1 12 rfl rfl)
theorem dX7_copy_37 : decode cX7_copy 37 = .ok (.getfield 33, 3) := dk_180 0 33 (dk_at dksX7_copy_1 13 rfl rfl)
theorem dX7_copy_40 : decode cX7_copy 40 = .ok (.putfield 33, 3) := dk_181 0 33 (dk_at dksX7_copy_1 16 rfl rfl)
theorem dX7_copy_43 : decode cX7_copy 43 = .ok (.aload_n 1, 1) := dk_43 (dk_at dksX7_copy_1 19 rfl rfl)
theorem dX7_copy_44 : decode cX7_copy 44 = .ok (.aload_n 0, 1) := dk_42 (dk_at dksX7_copy_1 20 rfl rfl)
theorem dX7_copy_45 : decode cX7_copy 45 = .ok (.getfield 37, 3) := dk_180 0 37 (dk_at dksX7_copy_1 21 rfl rfl)
theorem dX7_copy_48 : decode cX7_copy 48 = .ok (.putfield 37, 3) := dk_181 0 37 (dk_at dksX7_copy_2 0 rfl rfl)
theorem dX7_copy_51 : decode cX7_copy 51 = .ok (.aload_n 1, 1) := dk_43 (dk_at dksX7_copy_2 3 rfl rfl)
theorem dX7_copy_52 : decode cX7_copy 52 = .ok (.areturn, 1) := dk_176 (dk_at dksX7_copy_2 4 rfl rfl)
abbrev cX7_init : ByteArray := prog_5_method_1_code
def yX7_init : MethodName := ⟨RX7, "<init>", "()V"⟩
def dkwX7_init_0 : List UInt8 := [42, 183, 0, 3, 42, 187, 0, 9, 89, 183, 0, 11, 181, 0, 12, 42, 16, 6, 188, 10, 181, 0, 18, 177]
abbrev dktX7_init_0 : List UInt8 := dkwX7_init_0 ++ []
theorem dksX7_init_0 : cX7_init.data.toList.drop 0 = dktX7_init_0 := by decide +kernel
theorem dX7_init_0 : decode cX7_init 0 = .ok (.aload_n 0, 1) := dk_42 (dk_at dksX7_init_0 0 rfl rfl)
theorem dX7_init_1 : decode cX7_init 1 = .ok (.invokespecial 3, 3) := dk_183 0 3 (dk_at dksX7_init_0 1 rfl rfl)
theorem dX7_init_4 : decode cX7_init 4 = .ok (.aload_n 0, 1) := dk_42 (dk_at dksX7_init_0 4 rfl rfl)
theorem dX7_init_5 : decode cX7_init 5 = .ok (.new 9, 3) := dk_187 0 9 (dk_at dksX7_init_0 5 rfl rfl)
theorem dX7_init_8 : decode cX7_init 8 = .ok (.dup, 1) := dk_89 (dk_at dksX7_init_0 8 rfl rfl)
theorem dX7_init_9 : decode cX7_init 9 = .ok (.invokespecial 11, 3) := dk_183 0 11 (dk_at dksX7_init_0 9 rfl rfl)
theorem dX7_init_12 : decode cX7_init 12 = .ok (.putfield 12, 3) := dk_181 0 12 (dk_at dksX7_init_0 12 rfl rfl)
theorem dX7_init_15 : decode cX7_init 15 = .ok (.aload_n 0, 1) := dk_42 (dk_at dksX7_init_0 15 rfl rfl)
theorem dX7_init_16 : decode cX7_init 16 = .ok (.bipush 6, 2) := dk_16 6 (dk_at dksX7_init_0 16 rfl rfl)
theorem dX7_init_18 : decode cX7_init 18 = .ok (.newarray .int, 2) := dk_188_10 (dk_at dksX7_init_0 18 rfl rfl)
theorem dX7_init_20 : decode cX7_init 20 = .ok (.putfield 18, 3) := dk_181 0 18 (dk_at dksX7_init_0 20 rfl rfl)
theorem dX7_init_23 : decode cX7_init 23 = .ok (.return_, 1) := dk_177 (dk_at dksX7_init_0 23 rfl rfl)
abbrev cX7_op : ByteArray := prog_5_method_3_code
def yX7_op : MethodName := ⟨RX7, "op", "()LHyperVane$Op;"⟩
def dkwX7_op_0 : List UInt8 := [42, 180, 0, 12, 42, 180, 0, 33, 182, 0, 40, 192, 0, 44, 176]
abbrev dktX7_op_0 : List UInt8 := dkwX7_op_0 ++ []
theorem dksX7_op_0 : cX7_op.data.toList.drop 0 = dktX7_op_0 := by decide +kernel
theorem dX7_op_0 : decode cX7_op 0 = .ok (.aload_n 0, 1) := dk_42 (dk_at dksX7_op_0 0 rfl rfl)
theorem dX7_op_1 : decode cX7_op 1 = .ok (.getfield 12, 3) := dk_180 0 12 (dk_at dksX7_op_0 1 rfl rfl)
theorem dX7_op_4 : decode cX7_op 4 = .ok (.aload_n 0, 1) := dk_42 (dk_at dksX7_op_0 4 rfl rfl)
theorem dX7_op_5 : decode cX7_op 5 = .ok (.getfield 33, 3) := dk_180 0 33 (dk_at dksX7_op_0 5 rfl rfl)
theorem dX7_op_8 : decode cX7_op 8 = .ok (.invokevirtual 40, 3) := dk_182 0 40 (dk_at dksX7_op_0 8 rfl rfl)
theorem dX7_op_11 : decode cX7_op 11 = .ok (.checkcast 44, 3) := dk_192 0 44 (dk_at dksX7_op_0 11 rfl rfl)
theorem dX7_op_14 : decode cX7_op 14 = .ok (.areturn, 1) := dk_176 (dk_at dksX7_op_0 14 rfl rfl)
abbrev cX7_work : ByteArray := prog_5_method_4_code
def yX7_work : MethodName := ⟨RX7, "work", "(I)V"⟩
def dkwX7_work_6 : List UInt8 := [4, 96, 42, 180, 0, 12, 182, 0, 56, 112, 181, 0, 33, 177]
abbrev dktX7_work_6 : List UInt8 := dkwX7_work_6 ++ []
def dkwX7_work_5 : List UInt8 := [112, 181, 0, 37, 167, 0, 15, 42, 27, 17, 3, 232, 112, 181, 0, 37, 167, 0, 3, 42, 42, 180, 0, 33]
abbrev dktX7_work_5 : List UInt8 := dkwX7_work_5 ++ dktX7_work_6
def dkwX7_work_4 : List UInt8 := [180, 0, 37, 96, 4, 96, 17, 3, 232, 112, 79, 167, 0, 32, 42, 42, 180, 0, 37, 27, 96, 17, 3, 232]
abbrev dktX7_work_4 : List UInt8 := dkwX7_work_4 ++ dktX7_work_5
def dkwX7_work_3 : List UInt8 := [167, 0, 66, 42, 180, 0, 18, 44, 180, 0, 53, 6, 42, 180, 0, 18, 44, 180, 0, 53, 46, 104, 42]
abbrev dktX7_work_3 : List UInt8 := dkwX7_work_3 ++ dktX7_work_4
def dkwX7_work_2 : List UInt8 := [42, 42, 180, 0, 37, 42, 180, 0, 18, 44, 180, 0, 53, 46, 96, 4, 96, 17, 3, 232, 112, 181, 0, 37]
abbrev dktX7_work_2 : List UInt8 := dkwX7_work_2 ++ dktX7_work_3
def dkwX7_work_1 : List UInt8 := [170, 0, 0, 0, 0, 0, 125, 0, 0, 0, 1, 0, 0, 0, 5, 0, 0, 0, 35, 0, 0, 0, 62, 0, 0, 0, 125, 0, 0, 0, 96, 0, 0, 0, 113]
abbrev dktX7_work_1 : List UInt8 := dkwX7_work_1 ++ dktX7_work_2
def dkwX7_work_0 : List UInt8 := [42, 182, 0, 46, 77, 44, 180, 0, 50]
abbrev dktX7_work_0 : List UInt8 := dkwX7_work_0 ++ dktX7_work_1
theorem dksX7_work_0 : cX7_work.data.toList.drop 0 = dktX7_work_0 := by decide +kernel
theorem dksX7_work_1 : cX7_work.data.toList.drop 9 = dktX7_work_1 := dk_seg dksX7_work_0 9 rfl rfl
theorem dksX7_work_2 : cX7_work.data.toList.drop 44 = dktX7_work_2 := dk_seg dksX7_work_1 35 rfl rfl
theorem dksX7_work_3 : cX7_work.data.toList.drop 68 = dktX7_work_3 := dk_seg dksX7_work_2 24 rfl rfl
theorem dksX7_work_4 : cX7_work.data.toList.drop 91 = dktX7_work_4 := dk_seg dksX7_work_3 23 rfl rfl
theorem dksX7_work_5 : cX7_work.data.toList.drop 115 = dktX7_work_5 := dk_seg dksX7_work_4 24 rfl rfl
theorem dksX7_work_6 : cX7_work.data.toList.drop 139 = dktX7_work_6 := dk_seg dksX7_work_5 24 rfl rfl
theorem dX7_work_0 : decode cX7_work 0 = .ok (.aload_n 0, 1) := dk_42 (dk_at dksX7_work_0 0 rfl rfl)
theorem dX7_work_1 : decode cX7_work 1 = .ok (.invokevirtual 46, 3) := dk_182 0 46 (dk_at dksX7_work_0 1 rfl rfl)
theorem dX7_work_4 : decode cX7_work 4 = .ok (.astore_n 2, 1) := dk_77 (dk_at dksX7_work_0 4 rfl rfl)
theorem dX7_work_5 : decode cX7_work 5 = .ok (.aload_n 2, 1) := dk_44 (dk_at dksX7_work_0 5 rfl rfl)
theorem dX7_work_6 : decode cX7_work 6 = .ok (.getfield 50, 3) := dk_180 0 50 (dk_at dksX7_work_0 6 rfl rfl)
theorem dX7_work_9 : decode cX7_work 9 = .ok (.tableswitch 125 1 5 #[35, 62, 125, 96, 113], 35) := by decide +kernel
theorem dX7_work_44 : decode cX7_work 44 = .ok (.aload_n 0, 1) := dk_42 (dk_at dksX7_work_2 0 rfl rfl)
theorem dX7_work_45 : decode cX7_work 45 = .ok (.aload_n 0, 1) := dk_42 (dk_at dksX7_work_2 1 rfl rfl)
theorem dX7_work_46 : decode cX7_work 46 = .ok (.getfield 37, 3) := dk_180 0 37 (dk_at dksX7_work_2 2 rfl rfl)
theorem dX7_work_49 : decode cX7_work 49 = .ok (.aload_n 0, 1) := dk_42 (dk_at dksX7_work_2 5 rfl rfl)
theorem dX7_work_50 : decode cX7_work 50 = .ok (.getfield 18, 3) := dk_180 0 18 (dk_at dksX7_work_2 6 rfl rfl)
theorem dX7_work_53 : decode cX7_work 53 = .ok (.aload_n 2, 1) := dk_44 (dk_at dksX7_work_2 9 rfl rfl)
theorem dX7_work_54 : decode cX7_work 54 = .ok (.getfield 53, 3) := dk_180 0 53 (dk_at dksX7_work_2 10 rfl rfl)
theorem dX7_work_57 : decode cX7_work 57 = .ok (.iaload, 1) := dk_46 (dk_at dksX7_work_2 13 rfl rfl)
theorem dX7_work_58 : decode cX7_work 58 = .ok (.iadd, 1) := dk_96 (dk_at dksX7_work_2 14 rfl rfl)
theorem dX7_work_59 : decode cX7_work 59 = .ok (.iconst 1, 1) := dk_4 (dk_at dksX7_work_2 15 rfl rfl)
theorem dX7_work_60 : decode cX7_work 60 = .ok (.iadd, 1) := dk_96 (dk_at dksX7_work_2 16 rfl rfl)
theorem dX7_work_61 : decode cX7_work 61 = .ok (.sipush 1000, 3) := dk_17 3 232 (dk_at dksX7_work_2 17 rfl rfl)
theorem dX7_work_64 : decode cX7_work 64 = .ok (.irem, 1) := dk_112 (dk_at dksX7_work_2 20 rfl rfl)
theorem dX7_work_65 : decode cX7_work 65 = .ok (.putfield 37, 3) := dk_181 0 37 (dk_at dksX7_work_2 21 rfl rfl)
theorem dX7_work_68 : decode cX7_work 68 = .ok (.goto 66, 3) := dk_167 0 66 (dk_at dksX7_work_3 0 rfl rfl)
theorem dX7_work_71 : decode cX7_work 71 = .ok (.aload_n 0, 1) := dk_42 (dk_at dksX7_work_3 3 rfl rfl)
theorem dX7_work_72 : decode cX7_work 72 = .ok (.getfield 18, 3) := dk_180 0 18 (dk_at dksX7_work_3 4 rfl rfl)
theorem dX7_work_75 : decode cX7_work 75 = .ok (.aload_n 2, 1) := dk_44 (dk_at dksX7_work_3 7 rfl rfl)
theorem dX7_work_76 : decode cX7_work 76 = .ok (.getfield 53, 3) := dk_180 0 53 (dk_at dksX7_work_3 8 rfl rfl)
theorem dX7_work_79 : decode cX7_work 79 = .ok (.iconst 3, 1) := dk_6 (dk_at dksX7_work_3 11 rfl rfl)
theorem dX7_work_80 : decode cX7_work 80 = .ok (.aload_n 0, 1) := dk_42 (dk_at dksX7_work_3 12 rfl rfl)
theorem dX7_work_81 : decode cX7_work 81 = .ok (.getfield 18, 3) := dk_180 0 18 (dk_at dksX7_work_3 13 rfl rfl)
theorem dX7_work_84 : decode cX7_work 84 = .ok (.aload_n 2, 1) := dk_44 (dk_at dksX7_work_3 16 rfl rfl)
theorem dX7_work_85 : decode cX7_work 85 = .ok (.getfield 53, 3) := dk_180 0 53 (dk_at dksX7_work_3 17 rfl rfl)
theorem dX7_work_88 : decode cX7_work 88 = .ok (.iaload, 1) := dk_46 (dk_at dksX7_work_3 20 rfl rfl)
theorem dX7_work_89 : decode cX7_work 89 = .ok (.imul, 1) := dk_104 (dk_at dksX7_work_3 21 rfl rfl)
theorem dX7_work_90 : decode cX7_work 90 = .ok (.aload_n 0, 1) := dk_42 (dk_at dksX7_work_3 22 rfl rfl)
theorem dX7_work_91 : decode cX7_work 91 = .ok (.getfield 37, 3) := dk_180 0 37 (dk_at dksX7_work_4 0 rfl rfl)
theorem dX7_work_94 : decode cX7_work 94 = .ok (.iadd, 1) := dk_96 (dk_at dksX7_work_4 3 rfl rfl)
theorem dX7_work_95 : decode cX7_work 95 = .ok (.iconst 1, 1) := dk_4 (dk_at dksX7_work_4 4 rfl rfl)
theorem dX7_work_96 : decode cX7_work 96 = .ok (.iadd, 1) := dk_96 (dk_at dksX7_work_4 5 rfl rfl)
theorem dX7_work_97 : decode cX7_work 97 = .ok (.sipush 1000, 3) := dk_17 3 232 (dk_at dksX7_work_4 6 rfl rfl)
theorem dX7_work_100 : decode cX7_work 100 = .ok (.irem, 1) := dk_112 (dk_at dksX7_work_4 9 rfl rfl)
theorem dX7_work_101 : decode cX7_work 101 = .ok (.iastore, 1) := dk_79 (dk_at dksX7_work_4 10 rfl rfl)
theorem dX7_work_102 : decode cX7_work 102 = .ok (.goto 32, 3) := dk_167 0 32 (dk_at dksX7_work_4 11 rfl rfl)
theorem dX7_work_105 : decode cX7_work 105 = .ok (.aload_n 0, 1) := dk_42 (dk_at dksX7_work_4 14 rfl rfl)
theorem dX7_work_106 : decode cX7_work 106 = .ok (.aload_n 0, 1) := dk_42 (dk_at dksX7_work_4 15 rfl rfl)
theorem dX7_work_107 : decode cX7_work 107 = .ok (.getfield 37, 3) := dk_180 0 37 (dk_at dksX7_work_4 16 rfl rfl)
theorem dX7_work_110 : decode cX7_work 110 = .ok (.iload_n 1, 1) := dk_27 (dk_at dksX7_work_4 19 rfl rfl)
theorem dX7_work_111 : decode cX7_work 111 = .ok (.iadd, 1) := dk_96 (dk_at dksX7_work_4 20 rfl rfl)
theorem dX7_work_112 : decode cX7_work 112 = .ok (.sipush 1000, 3) := dk_17 3 232 (dk_at dksX7_work_4 21 rfl rfl)
theorem dX7_work_115 : decode cX7_work 115 = .ok (.irem, 1) := dk_112 (dk_at dksX7_work_5 0 rfl rfl)
theorem dX7_work_116 : decode cX7_work 116 = .ok (.putfield 37, 3) := dk_181 0 37 (dk_at dksX7_work_5 1 rfl rfl)
theorem dX7_work_119 : decode cX7_work 119 = .ok (.goto 15, 3) := dk_167 0 15 (dk_at dksX7_work_5 4 rfl rfl)
theorem dX7_work_122 : decode cX7_work 122 = .ok (.aload_n 0, 1) := dk_42 (dk_at dksX7_work_5 7 rfl rfl)
theorem dX7_work_123 : decode cX7_work 123 = .ok (.iload_n 1, 1) := dk_27 (dk_at dksX7_work_5 8 rfl rfl)
theorem dX7_work_124 : decode cX7_work 124 = .ok (.sipush 1000, 3) := dk_17 3 232 (dk_at dksX7_work_5 9 rfl rfl)
theorem dX7_work_127 : decode cX7_work 127 = .ok (.irem, 1) := dk_112 (dk_at dksX7_work_5 12 rfl rfl)
theorem dX7_work_128 : decode cX7_work 128 = .ok (.putfield 37, 3) := dk_181 0 37 (dk_at dksX7_work_5 13 rfl rfl)
theorem dX7_work_131 : decode cX7_work 131 = .ok (.goto 3, 3) := dk_167 0 3 (dk_at dksX7_work_5 16 rfl rfl)
theorem dX7_work_134 : decode cX7_work 134 = .ok (.aload_n 0, 1) := dk_42 (dk_at dksX7_work_5 19 rfl rfl)
theorem dX7_work_135 : decode cX7_work 135 = .ok (.aload_n 0, 1) := dk_42 (dk_at dksX7_work_5 20 rfl rfl)
theorem dX7_work_136 : decode cX7_work 136 = .ok (.getfield 33, 3) := dk_180 0 33 (dk_at dksX7_work_5 21 rfl rfl)
theorem dX7_work_139 : decode cX7_work 139 = .ok (.iconst 1, 1) := dk_4 (dk_at dksX7_work_6 0 rfl rfl)
theorem dX7_work_140 : decode cX7_work 140 = .ok (.iadd, 1) := dk_96 (dk_at dksX7_work_6 1 rfl rfl)
theorem dX7_work_141 : decode cX7_work 141 = .ok (.aload_n 0, 1) := dk_42 (dk_at dksX7_work_6 2 rfl rfl)
theorem dX7_work_142 : decode cX7_work 142 = .ok (.getfield 12, 3) := dk_180 0 12 (dk_at dksX7_work_6 3 rfl rfl)
theorem dX7_work_145 : decode cX7_work 145 = .ok (.invokevirtual 56, 3) := dk_182 0 56 (dk_at dksX7_work_6 6 rfl rfl)
theorem dX7_work_148 : decode cX7_work 148 = .ok (.irem, 1) := dk_112 (dk_at dksX7_work_6 9 rfl rfl)
theorem dX7_work_149 : decode cX7_work 149 = .ok (.putfield 33, 3) := dk_181 0 33 (dk_at dksX7_work_6 10 rfl rfl)
theorem dX7_work_152 : decode cX7_work 152 = .ok (.return_, 1) := dk_177 (dk_at dksX7_work_6 13 rfl rfl)
theorem q74 : (Jvm.Cond.initialized "HyperVane$Mind") ∈ lw_all := lw_g (lw_at lw_m1 21 rfl) rfl
theorem q263 : (Jvm.Cond.selects "HyperVane$Mind" ({ cls := "java/lang/Object", name := "getClass", desc := "()Ljava/lang/Class;" } : Jvm.MethodName) ({ cls := "java/lang/Object", name := "getClass", desc := "()Ljava/lang/Class;" } : Jvm.MethodName)) ∈ lw_all := lw_g (lw_at lw_m1 210 rfl) rfl
theorem q415 : (Jvm.Cond.selects "HyperVane$Mind" ({ cls := "java/lang/Object", name := "equals", desc := "(Ljava/lang/Object;)Z" } : Jvm.MethodName) ({ cls := "java/lang/Object", name := "equals", desc := "(Ljava/lang/Object;)Z" } : Jvm.MethodName)) ∈ lw_all := lw_g (lw_at lw_m2 122 rfl) rfl
theorem q456 : (Jvm.Cond.instanceMethod ({ cls := "HyperVane$Mind", name := "copy", desc := "()LHyperVane$Mind;" } : Jvm.MethodName)) ∈ lw_all := lw_g (lw_at lw_m2 163 rfl) rfl
theorem q457 : (Jvm.Cond.selects "HyperVane$Mind" ({ cls := "HyperVane$Mind", name := "copy", desc := "()LHyperVane$Mind;" } : Jvm.MethodName) ({ cls := "HyperVane$Mind", name := "copy", desc := "()LHyperVane$Mind;" } : Jvm.MethodName)) ∈ lw_all := lw_g (lw_at lw_m2 164 rfl) rfl
theorem q458 : (Jvm.Cond.code ({ cls := "HyperVane$Mind", name := "copy", desc := "()LHyperVane$Mind;" } : Jvm.MethodName) prog_5_method_2_code (2 : Nat) (Option.some (Jvm.ClassFile.FieldType.object "HyperVane$Mind"))) ∈ lw_all := lw_g (lw_at lw_m2 165 rfl) rfl
theorem q459 : (Jvm.Cond.classLink "HyperVane$Mind" (13 : Nat) "HyperVane$Mind") ∈ lw_all := lw_g (lw_at lw_m2 166 rfl) rfl
theorem q460 : (Jvm.Cond.instantiable "HyperVane$Mind" (4 : Nat)) ∈ lw_all := lw_g (lw_at lw_m2 167 rfl) rfl
theorem q461 : (Jvm.Cond.methodLink "HyperVane$Mind" (22 : Nat) ({ cls := "HyperVane$Mind", name := "<init>", desc := "()V" } : Jvm.MethodName)) ∈ lw_all := lw_g (lw_at lw_m2 168 rfl) rfl
theorem q462 : (Jvm.Cond.instanceMethod ({ cls := "HyperVane$Mind", name := "<init>", desc := "()V" } : Jvm.MethodName)) ∈ lw_all := lw_g (lw_at lw_m2 169 rfl) rfl
theorem q463 : (Jvm.Cond.code ({ cls := "HyperVane$Mind", name := "<init>", desc := "()V" } : Jvm.MethodName) prog_5_method_1_code (1 : Nat) (Option.none : Option Jvm.ClassFile.FieldType)) ∈ lw_all := lw_g (lw_at lw_m2 170 rfl) rfl
theorem q464 : (Jvm.Cond.methodLink "HyperVane$Mind" (3 : Nat) ({ cls := "java/lang/Object", name := "<init>", desc := "()V" } : Jvm.MethodName)) ∈ lw_all := lw_g (lw_at lw_m2 171 rfl) rfl
theorem q465 : (Jvm.Cond.classLink "HyperVane$Mind" (9 : Nat) "java/util/ArrayList") ∈ lw_all := lw_g (lw_at lw_m2 172 rfl) rfl
theorem q466 : (Jvm.Cond.methodLink "HyperVane$Mind" (11 : Nat) ({ cls := "java/util/ArrayList", name := "<init>", desc := "()V" } : Jvm.MethodName)) ∈ lw_all := lw_g (lw_at lw_m2 173 rfl) rfl
theorem q467 : (Jvm.Cond.fieldLink "HyperVane$Mind" (12 : Nat) "HyperVane$Mind" "tape" "Ljava/util/ArrayList;") ∈ lw_all := lw_g (lw_at lw_m2 174 rfl) rfl
theorem q469 : (Jvm.Cond.fieldLink "HyperVane$Mind" (18 : Nat) "HyperVane$Mind" "values" "[I") ∈ lw_all := lw_g (lw_at lw_m2 176 rfl) rfl
theorem q473 : (Jvm.Cond.fieldLink "HyperVane$Mind" (33 : Nat) "HyperVane$Mind" "place" "I") ∈ lw_all := lw_g (lw_at lw_m2 180 rfl) rfl
theorem q475 : (Jvm.Cond.fieldLink "HyperVane$Mind" (37 : Nat) "HyperVane$Mind" "mark" "I") ∈ lw_all := lw_g (lw_at lw_m2 182 rfl) rfl
theorem q477 : (Jvm.Cond.laysFinal "HyperVane$Mind" "HyperVane$Mind" "tape" "Ljava/util/ArrayList;") ∈ lw_all := lw_g (lw_at lw_m2 184 rfl) rfl
theorem q478 : (Jvm.Cond.soleField "HyperVane$Mind" "tape") ∈ lw_all := lw_g (lw_at lw_m2 185 rfl) rfl
theorem q479 : (Jvm.Cond.laysFinal "HyperVane$Mind" "HyperVane$Mind" "values" "[I") ∈ lw_all := lw_g (lw_at lw_m2 186 rfl) rfl
theorem q480 : (Jvm.Cond.soleField "HyperVane$Mind" "values") ∈ lw_all := lw_g (lw_at lw_m2 187 rfl) rfl
theorem q481 : (Jvm.Cond.lays "HyperVane$Mind" "HyperVane$Mind" "place" "I") ∈ lw_all := lw_g (lw_at lw_m2 188 rfl) rfl
theorem q482 : (Jvm.Cond.soleField "HyperVane$Mind" "place") ∈ lw_all := lw_g (lw_at lw_m2 189 rfl) rfl
theorem q483 : (Jvm.Cond.lays "HyperVane$Mind" "HyperVane$Mind" "mark" "I") ∈ lw_all := lw_g (lw_at lw_m2 190 rfl) rfl
theorem q484 : (Jvm.Cond.soleField "HyperVane$Mind" "mark") ∈ lw_all := lw_g (lw_at lw_m2 191 rfl) rfl
theorem q485 : (Jvm.Cond.superclass "HyperVane$Mind" "java/lang/Object") ∈ lw_all := lw_g (lw_at lw_m2 192 rfl) rfl
theorem q487 : (Jvm.Cond.methodLink "HyperVane$Mind" (23 : Nat) ({ cls := "java/util/ArrayList", name := "addAll", desc := "(Ljava/util/Collection;)Z" } : Jvm.MethodName)) ∈ lw_all := lw_g (lw_at lw_m2 194 rfl) rfl
theorem q501 : (Jvm.Cond.methodLink "HyperVane$Mind" (27 : Nat) ({ cls := "java/lang/System", name := "arraycopy", desc := "(Ljava/lang/Object;ILjava/lang/Object;II)V" } : Jvm.MethodName)) ∈ lw_all := lw_g (lw_at lw_m2 208 rfl) rfl
theorem q514 : (Jvm.Cond.instanceMethod ({ cls := "HyperVane$Mind", name := "op", desc := "()LHyperVane$Op;" } : Jvm.MethodName)) ∈ lw_all := lw_g (lw_at lw_m2 221 rfl) rfl
theorem q515 : (Jvm.Cond.selects "HyperVane$Mind" ({ cls := "HyperVane$Mind", name := "op", desc := "()LHyperVane$Op;" } : Jvm.MethodName) ({ cls := "HyperVane$Mind", name := "op", desc := "()LHyperVane$Op;" } : Jvm.MethodName)) ∈ lw_all := lw_g (lw_at lw_m2 222 rfl) rfl
theorem q516 : (Jvm.Cond.code ({ cls := "HyperVane$Mind", name := "op", desc := "()LHyperVane$Op;" } : Jvm.MethodName) prog_5_method_3_code (1 : Nat) (Option.some (Jvm.ClassFile.FieldType.object "HyperVane$Op"))) ∈ lw_all := lw_g (lw_at lw_m2 223 rfl) rfl
theorem q517 : (Jvm.Cond.methodLink "HyperVane$Mind" (40 : Nat) ({ cls := "java/util/ArrayList", name := "get", desc := "(I)Ljava/lang/Object;" } : Jvm.MethodName)) ∈ lw_all := lw_g (lw_at lw_m2 224 rfl) rfl
theorem q518 : (Jvm.Cond.classLink "HyperVane$Mind" (44 : Nat) "HyperVane$Op") ∈ lw_all := lw_g (lw_at lw_m2 225 rfl) rfl
theorem q524 : (Jvm.Cond.instanceMethod ({ cls := "HyperVane$Mind", name := "work", desc := "(I)V" } : Jvm.MethodName)) ∈ lw_all := lw_g (lw_at lw_m2 231 rfl) rfl
theorem q525 : (Jvm.Cond.selects "HyperVane$Mind" ({ cls := "HyperVane$Mind", name := "work", desc := "(I)V" } : Jvm.MethodName) ({ cls := "HyperVane$Mind", name := "work", desc := "(I)V" } : Jvm.MethodName)) ∈ lw_all := lw_g (lw_at lw_m2 232 rfl) rfl
theorem q526 : (Jvm.Cond.code ({ cls := "HyperVane$Mind", name := "work", desc := "(I)V" } : Jvm.MethodName) prog_5_method_4_code (3 : Nat) (Option.none : Option Jvm.ClassFile.FieldType)) ∈ lw_all := lw_g (lw_at lw_m2 233 rfl) rfl
theorem q527 : (Jvm.Cond.methodLink "HyperVane$Mind" (46 : Nat) ({ cls := "HyperVane$Mind", name := "op", desc := "()LHyperVane$Op;" } : Jvm.MethodName)) ∈ lw_all := lw_g (lw_at lw_m2 234 rfl) rfl
theorem q528 : (Jvm.Cond.methodLink "HyperVane$Mind" (56 : Nat) ({ cls := "java/util/ArrayList", name := "size", desc := "()I" } : Jvm.MethodName)) ∈ lw_all := lw_g (lw_at lw_m2 235 rfl) rfl
theorem q1020 : (Jvm.Cond.fieldLinkNest "HyperVane$Mind" (50 : Nat) "HyperVane$Op" "kind" "I" "HyperVane") ∈ lw_tbl := lw_at lw_m5 7 rfl
theorem q1024 : (Jvm.Cond.fieldLinkNest "HyperVane$Mind" (53 : Nat) "HyperVane$Op" "a" "I" "HyperVane") ∈ lw_tbl := lw_at lw_m5 11 rfl
theorem q1709 : (Jvm.Cond.castable "HyperVane$Mind" "java/lang/Object") ∈ lw_tbl := lw_at lw_m7 216 rfl
theorem in_X7 : ∀ w ∈ wsX70, w ∈ lw_all := lw_in wsX70 [477, 479, 481, 483] (by decide +kernel) (by decide +kernel)

/-! HyperVane$Op -/
set_option maxRecDepth 100000
def RX9 : String := "HyperVane$Op"
def TX9 : u_T := fun k => match k with
  | 0 => ("HyperVane$Op", "kind", "I", true)
  | _ => ("HyperVane$Op", "a", "I", true)
def tyX9 : Nat → FieldType := fun k => match k with
  | 0 => .int
  | _ => .int
abbrev wsX90 : List Cond := u_ws RX9 TX9 2
theorem nmX9 : ∀ a, a < 2 → ∀ b, b < 2 → a ≠ b → (TX9 a).2.1 ≠ (TX9 b).2.1 := by decide +kernel
theorem tyX9_ok : ∀ k, k < 2 → parseFieldDescriptor (TX9 k).2.2.1 = some (tyX9 k) := by decide +kernel
abbrev cX9_init : ByteArray := prog_6_method_1_code
def yX9_init : MethodName := ⟨RX9, "<init>", "(II)V"⟩
def dkwX9_init_0 : List UInt8 := [42, 183, 0, 1, 42, 27, 181, 0, 7, 42, 28, 181, 0, 13, 177]
abbrev dktX9_init_0 : List UInt8 := dkwX9_init_0 ++ []
theorem dksX9_init_0 : cX9_init.data.toList.drop 0 = dktX9_init_0 := by decide +kernel
theorem dX9_init_0 : decode cX9_init 0 = .ok (.aload_n 0, 1) := dk_42 (dk_at dksX9_init_0 0 rfl rfl)
theorem dX9_init_1 : decode cX9_init 1 = .ok (.invokespecial 1, 3) := dk_183 0 1 (dk_at dksX9_init_0 1 rfl rfl)
theorem dX9_init_4 : decode cX9_init 4 = .ok (.aload_n 0, 1) := dk_42 (dk_at dksX9_init_0 4 rfl rfl)
theorem dX9_init_5 : decode cX9_init 5 = .ok (.iload_n 1, 1) := dk_27 (dk_at dksX9_init_0 5 rfl rfl)
theorem dX9_init_6 : decode cX9_init 6 = .ok (.putfield 7, 3) := dk_181 0 7 (dk_at dksX9_init_0 6 rfl rfl)
theorem dX9_init_9 : decode cX9_init 9 = .ok (.aload_n 0, 1) := dk_42 (dk_at dksX9_init_0 9 rfl rfl)
theorem dX9_init_10 : decode cX9_init 10 = .ok (.iload_n 2, 1) := dk_28 (dk_at dksX9_init_0 10 rfl rfl)
theorem dX9_init_11 : decode cX9_init 11 = .ok (.putfield 13, 3) := dk_181 0 13 (dk_at dksX9_init_0 11 rfl rfl)
theorem dX9_init_14 : decode cX9_init 14 = .ok (.return_, 1) := dk_177 (dk_at dksX9_init_0 14 rfl rfl)
theorem q79 : (Jvm.Cond.initialized "HyperVane$Op") ∈ lw_all := lw_g (lw_at lw_m1 26 rfl) rfl
theorem q264 : (Jvm.Cond.selects "HyperVane$Op" ({ cls := "java/lang/Object", name := "getClass", desc := "()Ljava/lang/Class;" } : Jvm.MethodName) ({ cls := "java/lang/Object", name := "getClass", desc := "()Ljava/lang/Class;" } : Jvm.MethodName)) ∈ lw_all := lw_g (lw_at lw_m1 211 rfl) rfl
theorem q416 : (Jvm.Cond.selects "HyperVane$Op" ({ cls := "java/lang/Object", name := "equals", desc := "(Ljava/lang/Object;)Z" } : Jvm.MethodName) ({ cls := "java/lang/Object", name := "equals", desc := "(Ljava/lang/Object;)Z" } : Jvm.MethodName)) ∈ lw_all := lw_g (lw_at lw_m2 123 rfl) rfl
theorem q1014 : (Jvm.Cond.instantiable "HyperVane$Op" (2 : Nat)) ∈ lw_all := lw_g (lw_at lw_m5 1 rfl) rfl
theorem q1016 : (Jvm.Cond.instanceMethod ({ cls := "HyperVane$Op", name := "<init>", desc := "(II)V" } : Jvm.MethodName)) ∈ lw_all := lw_g (lw_at lw_m5 3 rfl) rfl
theorem q1017 : (Jvm.Cond.code ({ cls := "HyperVane$Op", name := "<init>", desc := "(II)V" } : Jvm.MethodName) prog_6_method_1_code (3 : Nat) (Option.none : Option Jvm.ClassFile.FieldType)) ∈ lw_all := lw_g (lw_at lw_m5 4 rfl) rfl
theorem q1018 : (Jvm.Cond.methodLink "HyperVane$Op" (1 : Nat) ({ cls := "java/lang/Object", name := "<init>", desc := "()V" } : Jvm.MethodName)) ∈ lw_all := lw_g (lw_at lw_m5 5 rfl) rfl
theorem q1019 : (Jvm.Cond.fieldLink "HyperVane$Op" (7 : Nat) "HyperVane$Op" "kind" "I") ∈ lw_all := lw_g (lw_at lw_m5 6 rfl) rfl
theorem q1023 : (Jvm.Cond.fieldLink "HyperVane$Op" (13 : Nat) "HyperVane$Op" "a" "I") ∈ lw_all := lw_g (lw_at lw_m5 10 rfl) rfl
theorem q1026 : (Jvm.Cond.laysFinal "HyperVane$Op" "HyperVane$Op" "kind" "I") ∈ lw_all := lw_g (lw_at lw_m5 13 rfl) rfl
theorem q1027 : (Jvm.Cond.soleField "HyperVane$Op" "kind") ∈ lw_all := lw_g (lw_at lw_m5 14 rfl) rfl
theorem q1028 : (Jvm.Cond.laysFinal "HyperVane$Op" "HyperVane$Op" "a" "I") ∈ lw_all := lw_g (lw_at lw_m5 15 rfl) rfl
theorem q1029 : (Jvm.Cond.soleField "HyperVane$Op" "a") ∈ lw_all := lw_g (lw_at lw_m5 16 rfl) rfl
theorem q1030 : (Jvm.Cond.superclass "HyperVane$Op" "java/lang/Object") ∈ lw_all := lw_g (lw_at lw_m5 17 rfl) rfl
theorem q1713 : (Jvm.Cond.castable "HyperVane$Op" "java/lang/Object") ∈ lw_tbl := lw_at lw_m7 220 rfl
theorem in_X9 : ∀ w ∈ wsX90, w ∈ lw_all := lw_in wsX90 [1026, 1028] (by decide +kernel) (by decide +kernel)

/-! HyperVane$Past -/
set_option maxRecDepth 100000
def RX10 : String := "HyperVane$Past"
def TX10 : u_T := fun k => match k with
  | 0 => ("HyperVane$Past", "mind", "LHyperVane$Mind;", true)
  | 1 => ("HyperVane$Past", "log", "Ljava/util/ArrayList;", true)
  | 2 => ("HyperVane$Past", "given", "Ljava/util/ArrayList;", true)
  | 3 => ("HyperVane$Past", "done", "I", false)
  | _ => ("HyperVane$Past", "isFull", "Z", false)
def tyX10 : Nat → FieldType := fun k => match k with
  | 0 => .object "HyperVane$Mind"
  | 1 => .object "java/util/ArrayList"
  | 2 => .object "java/util/ArrayList"
  | 3 => .int
  | _ => .boolean
abbrev wsX100 : List Cond := u_ws RX10 TX10 5
theorem nmX10 : ∀ a, a < 5 → ∀ b, b < 5 → a ≠ b → (TX10 a).2.1 ≠ (TX10 b).2.1 := by decide +kernel
theorem tyX10_ok : ∀ k, k < 5 → parseFieldDescriptor (TX10 k).2.2.1 = some (tyX10 k) := by decide +kernel
abbrev cX10_replay : ByteArray := prog_7_method_5_code
def yX10_replay : MethodName := ⟨RX10, "replay", "(I)LHyperVane$Mind;"⟩
def dkwX10_replay_5 : List UInt8 := [182, 0, 79, 132, 4, 1, 167, 255, 163, 44, 176]
abbrev dktX10_replay_5 : List UInt8 := dkwX10_replay_5 ++ []
def dkwX10_replay_4 : List UInt8 := [132, 3, 1, 182, 0, 92, 192, 0, 45, 182, 0, 96, 167, 0, 4, 3, 182, 0, 99, 42, 44, 21, 4]
abbrev dktX10_replay_4 : List UInt8 := dkwX10_replay_4 ++ dktX10_replay_5
def dkwX10_replay_3 : List UInt8 := [180, 0, 12, 182, 0, 40, 160, 0, 5, 1, 176, 44, 21, 5, 153, 0, 23, 42, 180, 0, 12, 29]
abbrev dktX10_replay_3 : List UInt8 := dkwX10_replay_3 ++ dktX10_replay_4
def dkwX10_replay_2 : List UInt8 := [182, 0, 83, 180, 0, 87, 8, 160, 0, 7, 4, 167, 0, 4, 3, 54, 5, 21, 5, 153, 0, 16, 29, 42]
abbrev dktX10_replay_2 : List UInt8 := dkwX10_replay_2 ++ dktX10_replay_3
def dkwX10_replay_1 : List UInt8 := [182, 0, 79, 4, 54, 4, 21, 4, 27, 163, 0, 93, 44, 182, 0, 83, 180, 0, 87, 7, 159, 0, 14, 44]
abbrev dktX10_replay_1 : List UInt8 := dkwX10_replay_1 ++ dktX10_replay_2
def dkwX10_replay_0 : List UInt8 := [27, 42, 180, 0, 32, 164, 0, 5, 1, 176, 42, 180, 0, 21, 182, 0, 75, 77, 3, 62, 42, 44, 3]
abbrev dktX10_replay_0 : List UInt8 := dkwX10_replay_0 ++ dktX10_replay_1
theorem dksX10_replay_0 : cX10_replay.data.toList.drop 0 = dktX10_replay_0 := by decide +kernel
theorem dksX10_replay_1 : cX10_replay.data.toList.drop 23 = dktX10_replay_1 := dk_seg dksX10_replay_0 23 rfl rfl
theorem dksX10_replay_2 : cX10_replay.data.toList.drop 47 = dktX10_replay_2 := dk_seg dksX10_replay_1 24 rfl rfl
theorem dksX10_replay_3 : cX10_replay.data.toList.drop 71 = dktX10_replay_3 := dk_seg dksX10_replay_2 24 rfl rfl
theorem dksX10_replay_4 : cX10_replay.data.toList.drop 93 = dktX10_replay_4 := dk_seg dksX10_replay_3 22 rfl rfl
theorem dksX10_replay_5 : cX10_replay.data.toList.drop 116 = dktX10_replay_5 := dk_seg dksX10_replay_4 23 rfl rfl
theorem dX10_replay_0 : decode cX10_replay 0 = .ok (.iload_n 1, 1) := dk_27 (dk_at dksX10_replay_0 0 rfl rfl)
theorem dX10_replay_1 : decode cX10_replay 1 = .ok (.aload_n 0, 1) := dk_42 (dk_at dksX10_replay_0 1 rfl rfl)
theorem dX10_replay_2 : decode cX10_replay 2 = .ok (.getfield 32, 3) := dk_180 0 32 (dk_at dksX10_replay_0 2 rfl rfl)
theorem dX10_replay_5 : decode cX10_replay 5 = .ok (.if_icmp .le 5, 3) := dk_164 0 5 (dk_at dksX10_replay_0 5 rfl rfl)
theorem dX10_replay_8 : decode cX10_replay 8 = .ok (.aconst_null, 1) := dk_1 (dk_at dksX10_replay_0 8 rfl rfl)
theorem dX10_replay_9 : decode cX10_replay 9 = .ok (.areturn, 1) := dk_176 (dk_at dksX10_replay_0 9 rfl rfl)
theorem dX10_replay_10 : decode cX10_replay 10 = .ok (.aload_n 0, 1) := dk_42 (dk_at dksX10_replay_0 10 rfl rfl)
theorem dX10_replay_11 : decode cX10_replay 11 = .ok (.getfield 21, 3) := dk_180 0 21 (dk_at dksX10_replay_0 11 rfl rfl)
theorem dX10_replay_14 : decode cX10_replay 14 = .ok (.invokevirtual 75, 3) := dk_182 0 75 (dk_at dksX10_replay_0 14 rfl rfl)
theorem dX10_replay_17 : decode cX10_replay 17 = .ok (.astore_n 2, 1) := dk_77 (dk_at dksX10_replay_0 17 rfl rfl)
theorem dX10_replay_18 : decode cX10_replay 18 = .ok (.iconst 0, 1) := dk_3 (dk_at dksX10_replay_0 18 rfl rfl)
theorem dX10_replay_19 : decode cX10_replay 19 = .ok (.istore_n 3, 1) := dk_62 (dk_at dksX10_replay_0 19 rfl rfl)
theorem dX10_replay_20 : decode cX10_replay 20 = .ok (.aload_n 0, 1) := dk_42 (dk_at dksX10_replay_0 20 rfl rfl)
theorem dX10_replay_21 : decode cX10_replay 21 = .ok (.aload_n 2, 1) := dk_44 (dk_at dksX10_replay_0 21 rfl rfl)
theorem dX10_replay_22 : decode cX10_replay 22 = .ok (.iconst 0, 1) := dk_3 (dk_at dksX10_replay_0 22 rfl rfl)
theorem dX10_replay_23 : decode cX10_replay 23 = .ok (.invokevirtual 79, 3) := dk_182 0 79 (dk_at dksX10_replay_1 0 rfl rfl)
theorem dX10_replay_26 : decode cX10_replay 26 = .ok (.iconst 1, 1) := dk_4 (dk_at dksX10_replay_1 3 rfl rfl)
theorem dX10_replay_27 : decode cX10_replay 27 = .ok (.istore 4, 2) := dk_54 4 (dk_at dksX10_replay_1 4 rfl rfl)
theorem dX10_replay_29 : decode cX10_replay 29 = .ok (.iload 4, 2) := dk_21 4 (dk_at dksX10_replay_1 6 rfl rfl)
theorem dX10_replay_31 : decode cX10_replay 31 = .ok (.iload_n 1, 1) := dk_27 (dk_at dksX10_replay_1 8 rfl rfl)
theorem dX10_replay_32 : decode cX10_replay 32 = .ok (.if_icmp .gt 93, 3) := dk_163 0 93 (dk_at dksX10_replay_1 9 rfl rfl)
theorem dX10_replay_35 : decode cX10_replay 35 = .ok (.aload_n 2, 1) := dk_44 (dk_at dksX10_replay_1 12 rfl rfl)
theorem dX10_replay_36 : decode cX10_replay 36 = .ok (.invokevirtual 83, 3) := dk_182 0 83 (dk_at dksX10_replay_1 13 rfl rfl)
theorem dX10_replay_39 : decode cX10_replay 39 = .ok (.getfield 87, 3) := dk_180 0 87 (dk_at dksX10_replay_1 16 rfl rfl)
theorem dX10_replay_42 : decode cX10_replay 42 = .ok (.iconst 4, 1) := dk_7 (dk_at dksX10_replay_1 19 rfl rfl)
theorem dX10_replay_43 : decode cX10_replay 43 = .ok (.if_icmp .eq 14, 3) := dk_159 0 14 (dk_at dksX10_replay_1 20 rfl rfl)
theorem dX10_replay_46 : decode cX10_replay 46 = .ok (.aload_n 2, 1) := dk_44 (dk_at dksX10_replay_1 23 rfl rfl)
theorem dX10_replay_47 : decode cX10_replay 47 = .ok (.invokevirtual 83, 3) := dk_182 0 83 (dk_at dksX10_replay_2 0 rfl rfl)
theorem dX10_replay_50 : decode cX10_replay 50 = .ok (.getfield 87, 3) := dk_180 0 87 (dk_at dksX10_replay_2 3 rfl rfl)
theorem dX10_replay_53 : decode cX10_replay 53 = .ok (.iconst 5, 1) := dk_8 (dk_at dksX10_replay_2 6 rfl rfl)
theorem dX10_replay_54 : decode cX10_replay 54 = .ok (.if_icmp .ne 7, 3) := dk_160 0 7 (dk_at dksX10_replay_2 7 rfl rfl)
theorem dX10_replay_57 : decode cX10_replay 57 = .ok (.iconst 1, 1) := dk_4 (dk_at dksX10_replay_2 10 rfl rfl)
theorem dX10_replay_58 : decode cX10_replay 58 = .ok (.goto 4, 3) := dk_167 0 4 (dk_at dksX10_replay_2 11 rfl rfl)
theorem dX10_replay_61 : decode cX10_replay 61 = .ok (.iconst 0, 1) := dk_3 (dk_at dksX10_replay_2 14 rfl rfl)
theorem dX10_replay_62 : decode cX10_replay 62 = .ok (.istore 5, 2) := dk_54 5 (dk_at dksX10_replay_2 15 rfl rfl)
theorem dX10_replay_64 : decode cX10_replay 64 = .ok (.iload 5, 2) := dk_21 5 (dk_at dksX10_replay_2 17 rfl rfl)
theorem dX10_replay_66 : decode cX10_replay 66 = .ok (.ifCond .eq 16, 3) := dk_153 0 16 (dk_at dksX10_replay_2 19 rfl rfl)
theorem dX10_replay_69 : decode cX10_replay 69 = .ok (.iload_n 3, 1) := dk_29 (dk_at dksX10_replay_2 22 rfl rfl)
theorem dX10_replay_70 : decode cX10_replay 70 = .ok (.aload_n 0, 1) := dk_42 (dk_at dksX10_replay_2 23 rfl rfl)
theorem dX10_replay_71 : decode cX10_replay 71 = .ok (.getfield 12, 3) := dk_180 0 12 (dk_at dksX10_replay_3 0 rfl rfl)
theorem dX10_replay_74 : decode cX10_replay 74 = .ok (.invokevirtual 40, 3) := dk_182 0 40 (dk_at dksX10_replay_3 3 rfl rfl)
theorem dX10_replay_77 : decode cX10_replay 77 = .ok (.if_icmp .ne 5, 3) := dk_160 0 5 (dk_at dksX10_replay_3 6 rfl rfl)
theorem dX10_replay_80 : decode cX10_replay 80 = .ok (.aconst_null, 1) := dk_1 (dk_at dksX10_replay_3 9 rfl rfl)
theorem dX10_replay_81 : decode cX10_replay 81 = .ok (.areturn, 1) := dk_176 (dk_at dksX10_replay_3 10 rfl rfl)
theorem dX10_replay_82 : decode cX10_replay 82 = .ok (.aload_n 2, 1) := dk_44 (dk_at dksX10_replay_3 11 rfl rfl)
theorem dX10_replay_83 : decode cX10_replay 83 = .ok (.iload 5, 2) := dk_21 5 (dk_at dksX10_replay_3 12 rfl rfl)
theorem dX10_replay_85 : decode cX10_replay 85 = .ok (.ifCond .eq 23, 3) := dk_153 0 23 (dk_at dksX10_replay_3 14 rfl rfl)
theorem dX10_replay_88 : decode cX10_replay 88 = .ok (.aload_n 0, 1) := dk_42 (dk_at dksX10_replay_3 17 rfl rfl)
theorem dX10_replay_89 : decode cX10_replay 89 = .ok (.getfield 12, 3) := dk_180 0 12 (dk_at dksX10_replay_3 18 rfl rfl)
theorem dX10_replay_92 : decode cX10_replay 92 = .ok (.iload_n 3, 1) := dk_29 (dk_at dksX10_replay_3 21 rfl rfl)
theorem dX10_replay_93 : decode cX10_replay 93 = .ok (.iinc 3 1, 3) := dk_132 3 1 (dk_at dksX10_replay_4 0 rfl rfl)
theorem dX10_replay_96 : decode cX10_replay 96 = .ok (.invokevirtual 92, 3) := dk_182 0 92 (dk_at dksX10_replay_4 3 rfl rfl)
theorem dX10_replay_99 : decode cX10_replay 99 = .ok (.checkcast 45, 3) := dk_192 0 45 (dk_at dksX10_replay_4 6 rfl rfl)
theorem dX10_replay_102 : decode cX10_replay 102 = .ok (.invokevirtual 96, 3) := dk_182 0 96 (dk_at dksX10_replay_4 9 rfl rfl)
theorem dX10_replay_105 : decode cX10_replay 105 = .ok (.goto 4, 3) := dk_167 0 4 (dk_at dksX10_replay_4 12 rfl rfl)
theorem dX10_replay_108 : decode cX10_replay 108 = .ok (.iconst 0, 1) := dk_3 (dk_at dksX10_replay_4 15 rfl rfl)
theorem dX10_replay_109 : decode cX10_replay 109 = .ok (.invokevirtual 99, 3) := dk_182 0 99 (dk_at dksX10_replay_4 16 rfl rfl)
theorem dX10_replay_112 : decode cX10_replay 112 = .ok (.aload_n 0, 1) := dk_42 (dk_at dksX10_replay_4 19 rfl rfl)
theorem dX10_replay_113 : decode cX10_replay 113 = .ok (.aload_n 2, 1) := dk_44 (dk_at dksX10_replay_4 20 rfl rfl)
theorem dX10_replay_114 : decode cX10_replay 114 = .ok (.iload 4, 2) := dk_21 4 (dk_at dksX10_replay_4 21 rfl rfl)
theorem dX10_replay_116 : decode cX10_replay 116 = .ok (.invokevirtual 79, 3) := dk_182 0 79 (dk_at dksX10_replay_5 0 rfl rfl)
theorem dX10_replay_119 : decode cX10_replay 119 = .ok (.iinc 4 1, 3) := dk_132 4 1 (dk_at dksX10_replay_5 3 rfl rfl)
theorem dX10_replay_122 : decode cX10_replay 122 = .ok (.goto (-93), 3) := dk_167 255 163 (dk_at dksX10_replay_5 6 rfl rfl)
theorem dX10_replay_125 : decode cX10_replay 125 = .ok (.aload_n 2, 1) := dk_44 (dk_at dksX10_replay_5 9 rfl rfl)
theorem dX10_replay_126 : decode cX10_replay 126 = .ok (.areturn, 1) := dk_176 (dk_at dksX10_replay_5 10 rfl rfl)
abbrev cX10_giveUp : ByteArray := prog_7_method_4_code
def yX10_giveUp : MethodName := ⟨RX10, "giveUp", "(LHyperVane$Mind;I)V"⟩
def dkwX10_giveUp_2 : List UInt8 := [167, 255, 218, 177]
abbrev dktX10_giveUp_2 : List UInt8 := dkwX10_giveUp_2 ++ []
def dkwX10_giveUp_1 : List UInt8 := [192, 0, 68, 58, 4, 25, 4, 3, 46, 28, 160, 0, 13, 43, 180, 0, 70, 25, 4, 4, 46, 3, 79]
abbrev dktX10_giveUp_1 : List UInt8 := dkwX10_giveUp_1 ++ dktX10_giveUp_2
def dkwX10_giveUp_0 : List UInt8 := [42, 180, 0, 18, 182, 0, 54, 78, 45, 185, 0, 58, 1, 0, 153, 0, 35, 45, 185, 0, 64, 1, 0]
abbrev dktX10_giveUp_0 : List UInt8 := dkwX10_giveUp_0 ++ dktX10_giveUp_1
theorem dksX10_giveUp_0 : cX10_giveUp.data.toList.drop 0 = dktX10_giveUp_0 := by decide +kernel
theorem dksX10_giveUp_1 : cX10_giveUp.data.toList.drop 23 = dktX10_giveUp_1 := dk_seg dksX10_giveUp_0 23 rfl rfl
theorem dksX10_giveUp_2 : cX10_giveUp.data.toList.drop 46 = dktX10_giveUp_2 := dk_seg dksX10_giveUp_1 23 rfl rfl
theorem dX10_giveUp_0 : decode cX10_giveUp 0 = .ok (.aload_n 0, 1) := dk_42 (dk_at dksX10_giveUp_0 0 rfl rfl)
theorem dX10_giveUp_1 : decode cX10_giveUp 1 = .ok (.getfield 18, 3) := dk_180 0 18 (dk_at dksX10_giveUp_0 1 rfl rfl)
theorem dX10_giveUp_4 : decode cX10_giveUp 4 = .ok (.invokevirtual 54, 3) := dk_182 0 54 (dk_at dksX10_giveUp_0 4 rfl rfl)
theorem dX10_giveUp_7 : decode cX10_giveUp 7 = .ok (.astore_n 3, 1) := dk_78 (dk_at dksX10_giveUp_0 7 rfl rfl)
theorem dX10_giveUp_8 : decode cX10_giveUp 8 = .ok (.aload_n 3, 1) := dk_45 (dk_at dksX10_giveUp_0 8 rfl rfl)
theorem dX10_giveUp_9 : decode cX10_giveUp 9 = .ok (.invokeinterface 58 1, 5) := by decide +kernel
theorem dX10_giveUp_14 : decode cX10_giveUp 14 = .ok (.ifCond .eq 35, 3) := dk_153 0 35 (dk_at dksX10_giveUp_0 14 rfl rfl)
theorem dX10_giveUp_17 : decode cX10_giveUp 17 = .ok (.aload_n 3, 1) := dk_45 (dk_at dksX10_giveUp_0 17 rfl rfl)
theorem dX10_giveUp_18 : decode cX10_giveUp 18 = .ok (.invokeinterface 64 1, 5) := by decide +kernel
theorem dX10_giveUp_23 : decode cX10_giveUp 23 = .ok (.checkcast 68, 3) := dk_192 0 68 (dk_at dksX10_giveUp_1 0 rfl rfl)
theorem dX10_giveUp_26 : decode cX10_giveUp 26 = .ok (.astore 4, 2) := dk_58 4 (dk_at dksX10_giveUp_1 3 rfl rfl)
theorem dX10_giveUp_28 : decode cX10_giveUp 28 = .ok (.aload 4, 2) := dk_25 4 (dk_at dksX10_giveUp_1 5 rfl rfl)
theorem dX10_giveUp_30 : decode cX10_giveUp 30 = .ok (.iconst 0, 1) := dk_3 (dk_at dksX10_giveUp_1 7 rfl rfl)
theorem dX10_giveUp_31 : decode cX10_giveUp 31 = .ok (.iaload, 1) := dk_46 (dk_at dksX10_giveUp_1 8 rfl rfl)
theorem dX10_giveUp_32 : decode cX10_giveUp 32 = .ok (.iload_n 2, 1) := dk_28 (dk_at dksX10_giveUp_1 9 rfl rfl)
theorem dX10_giveUp_33 : decode cX10_giveUp 33 = .ok (.if_icmp .ne 13, 3) := dk_160 0 13 (dk_at dksX10_giveUp_1 10 rfl rfl)
theorem dX10_giveUp_36 : decode cX10_giveUp 36 = .ok (.aload_n 1, 1) := dk_43 (dk_at dksX10_giveUp_1 13 rfl rfl)
theorem dX10_giveUp_37 : decode cX10_giveUp 37 = .ok (.getfield 70, 3) := dk_180 0 70 (dk_at dksX10_giveUp_1 14 rfl rfl)
theorem dX10_giveUp_40 : decode cX10_giveUp 40 = .ok (.aload 4, 2) := dk_25 4 (dk_at dksX10_giveUp_1 17 rfl rfl)
theorem dX10_giveUp_42 : decode cX10_giveUp 42 = .ok (.iconst 1, 1) := dk_4 (dk_at dksX10_giveUp_1 19 rfl rfl)
theorem dX10_giveUp_43 : decode cX10_giveUp 43 = .ok (.iaload, 1) := dk_46 (dk_at dksX10_giveUp_1 20 rfl rfl)
theorem dX10_giveUp_44 : decode cX10_giveUp 44 = .ok (.iconst 0, 1) := dk_3 (dk_at dksX10_giveUp_1 21 rfl rfl)
theorem dX10_giveUp_45 : decode cX10_giveUp 45 = .ok (.iastore, 1) := dk_79 (dk_at dksX10_giveUp_1 22 rfl rfl)
theorem dX10_giveUp_46 : decode cX10_giveUp 46 = .ok (.goto (-38), 3) := dk_167 255 218 (dk_at dksX10_giveUp_2 0 rfl rfl)
theorem dX10_giveUp_49 : decode cX10_giveUp 49 = .ok (.return_, 1) := dk_177 (dk_at dksX10_giveUp_2 3 rfl rfl)
abbrev cX10_copy : ByteArray := prog_7_method_2_code
def yX10_copy : MethodName := ⟨RX10, "copy", "()LHyperVane$Past;"⟩
def dkwX10_copy_2 : List UInt8 := [180, 0, 36, 181, 0, 36, 43, 176]
abbrev dktX10_copy_2 : List UInt8 := dkwX10_copy_2 ++ []
def dkwX10_copy_1 : List UInt8 := [43, 180, 0, 18, 42, 180, 0, 18, 182, 0, 28, 87, 43, 42, 180, 0, 32, 181, 0, 32, 43, 42]
abbrev dktX10_copy_1 : List UInt8 := dkwX10_copy_1 ++ dktX10_copy_2
def dkwX10_copy_0 : List UInt8 := [187, 0, 13, 89, 42, 180, 0, 21, 183, 0, 25, 76, 43, 180, 0, 12, 42, 180, 0, 12, 182, 0, 28, 87]
abbrev dktX10_copy_0 : List UInt8 := dkwX10_copy_0 ++ dktX10_copy_1
theorem dksX10_copy_0 : cX10_copy.data.toList.drop 0 = dktX10_copy_0 := by decide +kernel
theorem dksX10_copy_1 : cX10_copy.data.toList.drop 24 = dktX10_copy_1 := dk_seg dksX10_copy_0 24 rfl rfl
theorem dksX10_copy_2 : cX10_copy.data.toList.drop 46 = dktX10_copy_2 := dk_seg dksX10_copy_1 22 rfl rfl
theorem dX10_copy_0 : decode cX10_copy 0 = .ok (.new 13, 3) := dk_187 0 13 (dk_at dksX10_copy_0 0 rfl rfl)
theorem dX10_copy_3 : decode cX10_copy 3 = .ok (.dup, 1) := dk_89 (dk_at dksX10_copy_0 3 rfl rfl)
theorem dX10_copy_4 : decode cX10_copy 4 = .ok (.aload_n 0, 1) := dk_42 (dk_at dksX10_copy_0 4 rfl rfl)
theorem dX10_copy_5 : decode cX10_copy 5 = .ok (.getfield 21, 3) := dk_180 0 21 (dk_at dksX10_copy_0 5 rfl rfl)
theorem dX10_copy_8 : decode cX10_copy 8 = .ok (.invokespecial 25, 3) := dk_183 0 25 (dk_at dksX10_copy_0 8 rfl rfl)
theorem dX10_copy_11 : decode cX10_copy 11 = .ok (.astore_n 1, 1) := dk_76 (dk_at dksX10_copy_0 11 rfl rfl)
theorem dX10_copy_12 : decode cX10_copy 12 = .ok (.aload_n 1, 1) := dk_43 (dk_at dksX10_copy_0 12 rfl rfl)
theorem dX10_copy_13 : decode cX10_copy 13 = .ok (.getfield 12, 3) := dk_180 0 12 (dk_at dksX10_copy_0 13 rfl rfl)
theorem dX10_copy_16 : decode cX10_copy 16 = .ok (.aload_n 0, 1) := dk_42 (dk_at dksX10_copy_0 16 rfl rfl)
theorem dX10_copy_17 : decode cX10_copy 17 = .ok (.getfield 12, 3) := dk_180 0 12 (dk_at dksX10_copy_0 17 rfl rfl)
theorem dX10_copy_20 : decode cX10_copy 20 = .ok (.invokevirtual 28, 3) := dk_182 0 28 (dk_at dksX10_copy_0 20 rfl rfl)
theorem dX10_copy_23 : decode cX10_copy 23 = .ok (.pop, 1) := dk_87 (dk_at dksX10_copy_0 23 rfl rfl)
theorem dX10_copy_24 : decode cX10_copy 24 = .ok (.aload_n 1, 1) := dk_43 (dk_at dksX10_copy_1 0 rfl rfl)
theorem dX10_copy_25 : decode cX10_copy 25 = .ok (.getfield 18, 3) := dk_180 0 18 (dk_at dksX10_copy_1 1 rfl rfl)
theorem dX10_copy_28 : decode cX10_copy 28 = .ok (.aload_n 0, 1) := dk_42 (dk_at dksX10_copy_1 4 rfl rfl)
theorem dX10_copy_29 : decode cX10_copy 29 = .ok (.getfield 18, 3) := dk_180 0 18 (dk_at dksX10_copy_1 5 rfl rfl)
theorem dX10_copy_32 : decode cX10_copy 32 = .ok (.invokevirtual 28, 3) := dk_182 0 28 (dk_at dksX10_copy_1 8 rfl rfl)
theorem dX10_copy_35 : decode cX10_copy 35 = .ok (.pop, 1) := dk_87 (dk_at dksX10_copy_1 11 rfl rfl)
theorem dX10_copy_36 : decode cX10_copy 36 = .ok (.aload_n 1, 1) := dk_43 (dk_at dksX10_copy_1 12 rfl rfl)
theorem dX10_copy_37 : decode cX10_copy 37 = .ok (.aload_n 0, 1) := dk_42 (dk_at dksX10_copy_1 13 rfl rfl)
theorem dX10_copy_38 : decode cX10_copy 38 = .ok (.getfield 32, 3) := dk_180 0 32 (dk_at dksX10_copy_1 14 rfl rfl)
theorem dX10_copy_41 : decode cX10_copy 41 = .ok (.putfield 32, 3) := dk_181 0 32 (dk_at dksX10_copy_1 17 rfl rfl)
theorem dX10_copy_44 : decode cX10_copy 44 = .ok (.aload_n 1, 1) := dk_43 (dk_at dksX10_copy_1 20 rfl rfl)
theorem dX10_copy_45 : decode cX10_copy 45 = .ok (.aload_n 0, 1) := dk_42 (dk_at dksX10_copy_1 21 rfl rfl)
theorem dX10_copy_46 : decode cX10_copy 46 = .ok (.getfield 36, 3) := dk_180 0 36 (dk_at dksX10_copy_2 0 rfl rfl)
theorem dX10_copy_49 : decode cX10_copy 49 = .ok (.putfield 36, 3) := dk_181 0 36 (dk_at dksX10_copy_2 3 rfl rfl)
theorem dX10_copy_52 : decode cX10_copy 52 = .ok (.aload_n 1, 1) := dk_43 (dk_at dksX10_copy_2 6 rfl rfl)
theorem dX10_copy_53 : decode cX10_copy 53 = .ok (.areturn, 1) := dk_176 (dk_at dksX10_copy_2 7 rfl rfl)
abbrev cX10_init : ByteArray := prog_7_method_1_code
def yX10_init : MethodName := ⟨RX10, "<init>", "(LHyperVane$Mind;)V"⟩
def dkwX10_init_1 : List UInt8 := [181, 0, 18, 42, 43, 181, 0, 21, 177]
abbrev dktX10_init_1 : List UInt8 := dkwX10_init_1 ++ []
def dkwX10_init_0 : List UInt8 := [42, 183, 0, 3, 42, 187, 0, 9, 89, 183, 0, 11, 181, 0, 12, 42, 187, 0, 9, 89, 183, 0, 11]
abbrev dktX10_init_0 : List UInt8 := dkwX10_init_0 ++ dktX10_init_1
theorem dksX10_init_0 : cX10_init.data.toList.drop 0 = dktX10_init_0 := by decide +kernel
theorem dksX10_init_1 : cX10_init.data.toList.drop 23 = dktX10_init_1 := dk_seg dksX10_init_0 23 rfl rfl
theorem dX10_init_0 : decode cX10_init 0 = .ok (.aload_n 0, 1) := dk_42 (dk_at dksX10_init_0 0 rfl rfl)
theorem dX10_init_1 : decode cX10_init 1 = .ok (.invokespecial 3, 3) := dk_183 0 3 (dk_at dksX10_init_0 1 rfl rfl)
theorem dX10_init_4 : decode cX10_init 4 = .ok (.aload_n 0, 1) := dk_42 (dk_at dksX10_init_0 4 rfl rfl)
theorem dX10_init_5 : decode cX10_init 5 = .ok (.new 9, 3) := dk_187 0 9 (dk_at dksX10_init_0 5 rfl rfl)
theorem dX10_init_8 : decode cX10_init 8 = .ok (.dup, 1) := dk_89 (dk_at dksX10_init_0 8 rfl rfl)
theorem dX10_init_9 : decode cX10_init 9 = .ok (.invokespecial 11, 3) := dk_183 0 11 (dk_at dksX10_init_0 9 rfl rfl)
theorem dX10_init_12 : decode cX10_init 12 = .ok (.putfield 12, 3) := dk_181 0 12 (dk_at dksX10_init_0 12 rfl rfl)
theorem dX10_init_15 : decode cX10_init 15 = .ok (.aload_n 0, 1) := dk_42 (dk_at dksX10_init_0 15 rfl rfl)
theorem dX10_init_16 : decode cX10_init 16 = .ok (.new 9, 3) := dk_187 0 9 (dk_at dksX10_init_0 16 rfl rfl)
theorem dX10_init_19 : decode cX10_init 19 = .ok (.dup, 1) := dk_89 (dk_at dksX10_init_0 19 rfl rfl)
theorem dX10_init_20 : decode cX10_init 20 = .ok (.invokespecial 11, 3) := dk_183 0 11 (dk_at dksX10_init_0 20 rfl rfl)
theorem dX10_init_23 : decode cX10_init 23 = .ok (.putfield 18, 3) := dk_181 0 18 (dk_at dksX10_init_1 0 rfl rfl)
theorem dX10_init_26 : decode cX10_init 26 = .ok (.aload_n 0, 1) := dk_42 (dk_at dksX10_init_1 3 rfl rfl)
theorem dX10_init_27 : decode cX10_init 27 = .ok (.aload_n 1, 1) := dk_43 (dk_at dksX10_init_1 4 rfl rfl)
theorem dX10_init_28 : decode cX10_init 28 = .ok (.putfield 21, 3) := dk_181 0 21 (dk_at dksX10_init_1 5 rfl rfl)
theorem dX10_init_31 : decode cX10_init 31 = .ok (.return_, 1) := dk_177 (dk_at dksX10_init_1 8 rfl rfl)
abbrev cX10_add : ByteArray := prog_7_method_3_code
def yX10_add : MethodName := ⟨RX10, "add", "(I)V"⟩
def dkwX10_add_1 : List UInt8 := [154, 0, 15, 42, 180, 0, 12, 27, 184, 0, 44, 182, 0, 50, 87, 177]
abbrev dktX10_add_1 : List UInt8 := dkwX10_add_1 ++ []
def dkwX10_add_0 : List UInt8 := [42, 180, 0, 12, 182, 0, 40, 16, 60, 160, 0, 11, 42, 4, 181, 0, 36, 167, 0, 22, 42, 180, 0, 36]
abbrev dktX10_add_0 : List UInt8 := dkwX10_add_0 ++ dktX10_add_1
theorem dksX10_add_0 : cX10_add.data.toList.drop 0 = dktX10_add_0 := by decide +kernel
theorem dksX10_add_1 : cX10_add.data.toList.drop 24 = dktX10_add_1 := dk_seg dksX10_add_0 24 rfl rfl
theorem dX10_add_0 : decode cX10_add 0 = .ok (.aload_n 0, 1) := dk_42 (dk_at dksX10_add_0 0 rfl rfl)
theorem dX10_add_1 : decode cX10_add 1 = .ok (.getfield 12, 3) := dk_180 0 12 (dk_at dksX10_add_0 1 rfl rfl)
theorem dX10_add_4 : decode cX10_add 4 = .ok (.invokevirtual 40, 3) := dk_182 0 40 (dk_at dksX10_add_0 4 rfl rfl)
theorem dX10_add_7 : decode cX10_add 7 = .ok (.bipush 60, 2) := dk_16 60 (dk_at dksX10_add_0 7 rfl rfl)
theorem dX10_add_9 : decode cX10_add 9 = .ok (.if_icmp .ne 11, 3) := dk_160 0 11 (dk_at dksX10_add_0 9 rfl rfl)
theorem dX10_add_12 : decode cX10_add 12 = .ok (.aload_n 0, 1) := dk_42 (dk_at dksX10_add_0 12 rfl rfl)
theorem dX10_add_13 : decode cX10_add 13 = .ok (.iconst 1, 1) := dk_4 (dk_at dksX10_add_0 13 rfl rfl)
theorem dX10_add_14 : decode cX10_add 14 = .ok (.putfield 36, 3) := dk_181 0 36 (dk_at dksX10_add_0 14 rfl rfl)
theorem dX10_add_17 : decode cX10_add 17 = .ok (.goto 22, 3) := dk_167 0 22 (dk_at dksX10_add_0 17 rfl rfl)
theorem dX10_add_20 : decode cX10_add 20 = .ok (.aload_n 0, 1) := dk_42 (dk_at dksX10_add_0 20 rfl rfl)
theorem dX10_add_21 : decode cX10_add 21 = .ok (.getfield 36, 3) := dk_180 0 36 (dk_at dksX10_add_0 21 rfl rfl)
theorem dX10_add_24 : decode cX10_add 24 = .ok (.ifCond .ne 15, 3) := dk_154 0 15 (dk_at dksX10_add_1 0 rfl rfl)
theorem dX10_add_27 : decode cX10_add 27 = .ok (.aload_n 0, 1) := dk_42 (dk_at dksX10_add_1 3 rfl rfl)
theorem dX10_add_28 : decode cX10_add 28 = .ok (.getfield 12, 3) := dk_180 0 12 (dk_at dksX10_add_1 4 rfl rfl)
theorem dX10_add_31 : decode cX10_add 31 = .ok (.iload_n 1, 1) := dk_27 (dk_at dksX10_add_1 7 rfl rfl)
theorem dX10_add_32 : decode cX10_add 32 = .ok (.invokestatic 44, 3) := dk_184 0 44 (dk_at dksX10_add_1 8 rfl rfl)
theorem dX10_add_35 : decode cX10_add 35 = .ok (.invokevirtual 50, 3) := dk_182 0 50 (dk_at dksX10_add_1 11 rfl rfl)
theorem dX10_add_38 : decode cX10_add 38 = .ok (.pop, 1) := dk_87 (dk_at dksX10_add_1 14 rfl rfl)
theorem dX10_add_39 : decode cX10_add 39 = .ok (.return_, 1) := dk_177 (dk_at dksX10_add_1 15 rfl rfl)
theorem q83 : (Jvm.Cond.initialized "HyperVane$Past") ∈ lw_all := lw_g (lw_at lw_m1 30 rfl) rfl
theorem q265 : (Jvm.Cond.selects "HyperVane$Past" ({ cls := "java/lang/Object", name := "getClass", desc := "()Ljava/lang/Class;" } : Jvm.MethodName) ({ cls := "java/lang/Object", name := "getClass", desc := "()Ljava/lang/Class;" } : Jvm.MethodName)) ∈ lw_all := lw_g (lw_at lw_m1 212 rfl) rfl
theorem q417 : (Jvm.Cond.selects "HyperVane$Past" ({ cls := "java/lang/Object", name := "equals", desc := "(Ljava/lang/Object;)Z" } : Jvm.MethodName) ({ cls := "java/lang/Object", name := "equals", desc := "(Ljava/lang/Object;)Z" } : Jvm.MethodName)) ∈ lw_all := lw_g (lw_at lw_m2 124 rfl) rfl
theorem q452 : (Jvm.Cond.instanceMethod ({ cls := "HyperVane$Past", name := "replay", desc := "(I)LHyperVane$Mind;" } : Jvm.MethodName)) ∈ lw_all := lw_g (lw_at lw_m2 159 rfl) rfl
theorem q453 : (Jvm.Cond.selects "HyperVane$Past" ({ cls := "HyperVane$Past", name := "replay", desc := "(I)LHyperVane$Mind;" } : Jvm.MethodName) ({ cls := "HyperVane$Past", name := "replay", desc := "(I)LHyperVane$Mind;" } : Jvm.MethodName)) ∈ lw_all := lw_g (lw_at lw_m2 160 rfl) rfl
theorem q454 : (Jvm.Cond.code ({ cls := "HyperVane$Past", name := "replay", desc := "(I)LHyperVane$Mind;" } : Jvm.MethodName) prog_7_method_5_code (6 : Nat) (Option.some (Jvm.ClassFile.FieldType.object "HyperVane$Mind"))) ∈ lw_all := lw_g (lw_at lw_m2 161 rfl) rfl
theorem q455 : (Jvm.Cond.methodLink "HyperVane$Past" (75 : Nat) ({ cls := "HyperVane$Mind", name := "copy", desc := "()LHyperVane$Mind;" } : Jvm.MethodName)) ∈ lw_all := lw_g (lw_at lw_m2 162 rfl) rfl
theorem q470 : (Jvm.Cond.fieldLinkNest "HyperVane$Past" (70 : Nat) "HyperVane$Mind" "values" "[I" "HyperVane") ∈ lw_tbl := lw_at lw_m2 177 rfl
theorem q502 : (Jvm.Cond.methodLink "HyperVane$Past" (79 : Nat) ({ cls := "HyperVane$Past", name := "giveUp", desc := "(LHyperVane$Mind;I)V" } : Jvm.MethodName)) ∈ lw_all := lw_g (lw_at lw_m2 209 rfl) rfl
theorem q503 : (Jvm.Cond.privateMethod ({ cls := "HyperVane$Past", name := "giveUp", desc := "(LHyperVane$Mind;I)V" } : Jvm.MethodName)) ∈ lw_tbl := lw_at lw_m2 210 rfl
theorem q504 : (Jvm.Cond.instanceMethod ({ cls := "HyperVane$Past", name := "giveUp", desc := "(LHyperVane$Mind;I)V" } : Jvm.MethodName)) ∈ lw_all := lw_g (lw_at lw_m2 211 rfl) rfl
theorem q505 : (Jvm.Cond.instantiable "HyperVane$Past" (5 : Nat)) ∈ lw_all := lw_g (lw_at lw_m2 212 rfl) rfl
theorem q506 : (Jvm.Cond.code ({ cls := "HyperVane$Past", name := "giveUp", desc := "(LHyperVane$Mind;I)V" } : Jvm.MethodName) prog_7_method_4_code (5 : Nat) (Option.none : Option Jvm.ClassFile.FieldType)) ∈ lw_all := lw_g (lw_at lw_m2 213 rfl) rfl
theorem q507 : (Jvm.Cond.methodLink "HyperVane$Past" (54 : Nat) ({ cls := "java/util/ArrayList", name := "iterator", desc := "()Ljava/util/Iterator;" } : Jvm.MethodName)) ∈ lw_all := lw_g (lw_at lw_m2 214 rfl) rfl
theorem q508 : (Jvm.Cond.interfaceEntry "HyperVane$Past" (58 : Nat)) ∈ lw_tbl := lw_at lw_m2 215 rfl
theorem q509 : (Jvm.Cond.methodLink "HyperVane$Past" (58 : Nat) ({ cls := "java/util/Iterator", name := "hasNext", desc := "()Z" } : Jvm.MethodName)) ∈ lw_all := lw_g (lw_at lw_m2 216 rfl) rfl
theorem q510 : (Jvm.Cond.interfaceEntry "HyperVane$Past" (64 : Nat)) ∈ lw_tbl := lw_at lw_m2 217 rfl
theorem q511 : (Jvm.Cond.methodLink "HyperVane$Past" (64 : Nat) ({ cls := "java/util/Iterator", name := "next", desc := "()Ljava/lang/Object;" } : Jvm.MethodName)) ∈ lw_all := lw_g (lw_at lw_m2 218 rfl) rfl
theorem q512 : (Jvm.Cond.classLink "HyperVane$Past" (68 : Nat) "[I") ∈ lw_all := lw_g (lw_at lw_m2 219 rfl) rfl
theorem q513 : (Jvm.Cond.methodLink "HyperVane$Past" (83 : Nat) ({ cls := "HyperVane$Mind", name := "op", desc := "()LHyperVane$Op;" } : Jvm.MethodName)) ∈ lw_all := lw_g (lw_at lw_m2 220 rfl) rfl
theorem q519 : (Jvm.Cond.methodLink "HyperVane$Past" (40 : Nat) ({ cls := "java/util/ArrayList", name := "size", desc := "()I" } : Jvm.MethodName)) ∈ lw_all := lw_g (lw_at lw_m2 226 rfl) rfl
theorem q520 : (Jvm.Cond.methodLink "HyperVane$Past" (92 : Nat) ({ cls := "java/util/ArrayList", name := "get", desc := "(I)Ljava/lang/Object;" } : Jvm.MethodName)) ∈ lw_all := lw_g (lw_at lw_m2 227 rfl) rfl
theorem q521 : (Jvm.Cond.classLink "HyperVane$Past" (45 : Nat) "java/lang/Integer") ∈ lw_all := lw_g (lw_at lw_m2 228 rfl) rfl
theorem q522 : (Jvm.Cond.methodLink "HyperVane$Past" (96 : Nat) ({ cls := "java/lang/Integer", name := "intValue", desc := "()I" } : Jvm.MethodName)) ∈ lw_all := lw_g (lw_at lw_m2 229 rfl) rfl
theorem q523 : (Jvm.Cond.methodLink "HyperVane$Past" (99 : Nat) ({ cls := "HyperVane$Mind", name := "work", desc := "(I)V" } : Jvm.MethodName)) ∈ lw_all := lw_g (lw_at lw_m2 230 rfl) rfl
theorem q670 : (Jvm.Cond.instanceMethod ({ cls := "HyperVane$Past", name := "copy", desc := "()LHyperVane$Past;" } : Jvm.MethodName)) ∈ lw_all := lw_g (lw_at lw_m3 137 rfl) rfl
theorem q671 : (Jvm.Cond.selects "HyperVane$Past" ({ cls := "HyperVane$Past", name := "copy", desc := "()LHyperVane$Past;" } : Jvm.MethodName) ({ cls := "HyperVane$Past", name := "copy", desc := "()LHyperVane$Past;" } : Jvm.MethodName)) ∈ lw_all := lw_g (lw_at lw_m3 138 rfl) rfl
theorem q672 : (Jvm.Cond.code ({ cls := "HyperVane$Past", name := "copy", desc := "()LHyperVane$Past;" } : Jvm.MethodName) prog_7_method_2_code (2 : Nat) (Option.some (Jvm.ClassFile.FieldType.object "HyperVane$Past"))) ∈ lw_all := lw_g (lw_at lw_m3 139 rfl) rfl
theorem q673 : (Jvm.Cond.classLink "HyperVane$Past" (13 : Nat) "HyperVane$Past") ∈ lw_all := lw_g (lw_at lw_m3 140 rfl) rfl
theorem q674 : (Jvm.Cond.methodLink "HyperVane$Past" (25 : Nat) ({ cls := "HyperVane$Past", name := "<init>", desc := "(LHyperVane$Mind;)V" } : Jvm.MethodName)) ∈ lw_all := lw_g (lw_at lw_m3 141 rfl) rfl
theorem q675 : (Jvm.Cond.instanceMethod ({ cls := "HyperVane$Past", name := "<init>", desc := "(LHyperVane$Mind;)V" } : Jvm.MethodName)) ∈ lw_all := lw_g (lw_at lw_m3 142 rfl) rfl
theorem q676 : (Jvm.Cond.code ({ cls := "HyperVane$Past", name := "<init>", desc := "(LHyperVane$Mind;)V" } : Jvm.MethodName) prog_7_method_1_code (2 : Nat) (Option.none : Option Jvm.ClassFile.FieldType)) ∈ lw_all := lw_g (lw_at lw_m3 143 rfl) rfl
theorem q677 : (Jvm.Cond.methodLink "HyperVane$Past" (3 : Nat) ({ cls := "java/lang/Object", name := "<init>", desc := "()V" } : Jvm.MethodName)) ∈ lw_all := lw_g (lw_at lw_m3 144 rfl) rfl
theorem q678 : (Jvm.Cond.classLink "HyperVane$Past" (9 : Nat) "java/util/ArrayList") ∈ lw_all := lw_g (lw_at lw_m3 145 rfl) rfl
theorem q679 : (Jvm.Cond.methodLink "HyperVane$Past" (11 : Nat) ({ cls := "java/util/ArrayList", name := "<init>", desc := "()V" } : Jvm.MethodName)) ∈ lw_all := lw_g (lw_at lw_m3 146 rfl) rfl
theorem q680 : (Jvm.Cond.fieldLink "HyperVane$Past" (21 : Nat) "HyperVane$Past" "mind" "LHyperVane$Mind;") ∈ lw_all := lw_g (lw_at lw_m3 147 rfl) rfl
theorem q681 : (Jvm.Cond.fieldLink "HyperVane$Past" (12 : Nat) "HyperVane$Past" "log" "Ljava/util/ArrayList;") ∈ lw_all := lw_g (lw_at lw_m3 148 rfl) rfl
theorem q683 : (Jvm.Cond.fieldLink "HyperVane$Past" (18 : Nat) "HyperVane$Past" "given" "Ljava/util/ArrayList;") ∈ lw_all := lw_g (lw_at lw_m3 150 rfl) rfl
theorem q685 : (Jvm.Cond.fieldLink "HyperVane$Past" (32 : Nat) "HyperVane$Past" "done" "I") ∈ lw_all := lw_g (lw_at lw_m3 152 rfl) rfl
theorem q687 : (Jvm.Cond.fieldLink "HyperVane$Past" (36 : Nat) "HyperVane$Past" "isFull" "Z") ∈ lw_all := lw_g (lw_at lw_m3 154 rfl) rfl
theorem q688 : (Jvm.Cond.laysFinal "HyperVane$Past" "HyperVane$Past" "mind" "LHyperVane$Mind;") ∈ lw_all := lw_g (lw_at lw_m3 155 rfl) rfl
theorem q689 : (Jvm.Cond.soleField "HyperVane$Past" "mind") ∈ lw_all := lw_g (lw_at lw_m3 156 rfl) rfl
theorem q690 : (Jvm.Cond.laysFinal "HyperVane$Past" "HyperVane$Past" "log" "Ljava/util/ArrayList;") ∈ lw_all := lw_g (lw_at lw_m3 157 rfl) rfl
theorem q691 : (Jvm.Cond.soleField "HyperVane$Past" "log") ∈ lw_all := lw_g (lw_at lw_m3 158 rfl) rfl
theorem q692 : (Jvm.Cond.laysFinal "HyperVane$Past" "HyperVane$Past" "given" "Ljava/util/ArrayList;") ∈ lw_all := lw_g (lw_at lw_m3 159 rfl) rfl
theorem q693 : (Jvm.Cond.soleField "HyperVane$Past" "given") ∈ lw_all := lw_g (lw_at lw_m3 160 rfl) rfl
theorem q694 : (Jvm.Cond.lays "HyperVane$Past" "HyperVane$Past" "done" "I") ∈ lw_all := lw_g (lw_at lw_m3 161 rfl) rfl
theorem q695 : (Jvm.Cond.soleField "HyperVane$Past" "done") ∈ lw_all := lw_g (lw_at lw_m3 162 rfl) rfl
theorem q696 : (Jvm.Cond.lays "HyperVane$Past" "HyperVane$Past" "isFull" "Z") ∈ lw_all := lw_g (lw_at lw_m3 163 rfl) rfl
theorem q697 : (Jvm.Cond.soleField "HyperVane$Past" "isFull") ∈ lw_all := lw_g (lw_at lw_m3 164 rfl) rfl
theorem q698 : (Jvm.Cond.superclass "HyperVane$Past" "java/lang/Object") ∈ lw_all := lw_g (lw_at lw_m3 165 rfl) rfl
theorem q699 : (Jvm.Cond.methodLink "HyperVane$Past" (28 : Nat) ({ cls := "java/util/ArrayList", name := "addAll", desc := "(Ljava/util/Collection;)Z" } : Jvm.MethodName)) ∈ lw_all := lw_g (lw_at lw_m3 166 rfl) rfl
theorem q767 : (Jvm.Cond.instanceMethod ({ cls := "HyperVane$Past", name := "add", desc := "(I)V" } : Jvm.MethodName)) ∈ lw_all := lw_g (lw_at lw_m3 234 rfl) rfl
theorem q768 : (Jvm.Cond.selects "HyperVane$Past" ({ cls := "HyperVane$Past", name := "add", desc := "(I)V" } : Jvm.MethodName) ({ cls := "HyperVane$Past", name := "add", desc := "(I)V" } : Jvm.MethodName)) ∈ lw_all := lw_g (lw_at lw_m3 235 rfl) rfl
theorem q769 : (Jvm.Cond.code ({ cls := "HyperVane$Past", name := "add", desc := "(I)V" } : Jvm.MethodName) prog_7_method_3_code (2 : Nat) (Option.none : Option Jvm.ClassFile.FieldType)) ∈ lw_all := lw_g (lw_at lw_m3 236 rfl) rfl
theorem q770 : (Jvm.Cond.methodLink "HyperVane$Past" (44 : Nat) ({ cls := "java/lang/Integer", name := "valueOf", desc := "(I)Ljava/lang/Integer;" } : Jvm.MethodName)) ∈ lw_all := lw_g (lw_at lw_m3 237 rfl) rfl
theorem q789 : (Jvm.Cond.methodLink "HyperVane$Past" (50 : Nat) ({ cls := "java/util/ArrayList", name := "add", desc := "(Ljava/lang/Object;)Z" } : Jvm.MethodName)) ∈ lw_all := lw_g (lw_at lw_m4 16 rfl) rfl
theorem q1021 : (Jvm.Cond.fieldLinkNest "HyperVane$Past" (87 : Nat) "HyperVane$Op" "kind" "I" "HyperVane") ∈ lw_tbl := lw_at lw_m5 8 rfl
theorem q1715 : (Jvm.Cond.castable "HyperVane$Past" "java/lang/Object") ∈ lw_tbl := lw_at lw_m7 222 rfl
theorem in_X10 : ∀ w ∈ wsX100, w ∈ lw_all := lw_in wsX100 [688, 690, 692, 694, 696] (by decide +kernel) (by decide +kernel)

