/-! HyperVaneModel$World -/
set_option maxRecDepth 100000
def RX5 : String := "HyperVaneModel$World"
def TX5 : u_T := fun k => match k with
  | 0 => ("HyperVaneModel$World", "guests", "Ljava/util/ArrayList;", true)
  | 1 => ("HyperVaneModel$World", "now", "I", false)
  | 2 => ("HyperVaneModel$World", "frames", "I", false)
  | 3 => ("HyperVaneModel$World", "went", "I", false)
  | 4 => ("HyperVaneModel$World", "works", "I", false)
  | 5 => ("HyperVaneModel$World", "worksSince", "I", false)
  | 6 => ("HyperVaneModel$World", "last", "I", false)
  | 7 => ("HyperVaneModel$World", "idle", "I", false)
  | 8 => ("HyperVaneModel$World", "toDisk", "I", false)
  | _ => ("HyperVaneModel$World", "over", "I", false)
def tyX5 : Nat → FieldType := fun k => match k with
  | 0 => .object "java/util/ArrayList"
  | 1 => .int
  | 2 => .int
  | 3 => .int
  | 4 => .int
  | 5 => .int
  | 6 => .int
  | 7 => .int
  | 8 => .int
  | _ => .int
abbrev wsX50 : List Cond := u_ws RX5 TX5 10
theorem nmX5 : ∀ a, a < 10 → ∀ b, b < 10 → a ≠ b → (TX5 a).2.1 ≠ (TX5 b).2.1 := by decide +kernel
theorem tyX5_ok : ∀ k, k < 10 → parseFieldDescriptor (TX5 k).2.2.1 = some (tyX5 k) := by decide +kernel
abbrev cX5_init : ByteArray := prog_11_method_1_code
def yX5_init : MethodName := ⟨RX5, "<init>", "()V"⟩
def dkwX5_init_1 : List UInt8 := [181, 0, 22, 42, 2, 181, 0, 25, 42, 5, 181, 0, 28, 177]
abbrev dktX5_init_1 : List UInt8 := dkwX5_init_1 ++ []
def dkwX5_init_0 : List UInt8 := [42, 183, 0, 3, 42, 187, 0, 9, 89, 183, 0, 11, 181, 0, 12, 42, 7, 181, 0, 18, 42, 2]
abbrev dktX5_init_0 : List UInt8 := dkwX5_init_0 ++ dktX5_init_1
theorem dksX5_init_0 : cX5_init.data.toList.drop 0 = dktX5_init_0 := by decide +kernel
theorem dksX5_init_1 : cX5_init.data.toList.drop 22 = dktX5_init_1 := dk_seg dksX5_init_0 22 rfl rfl
theorem dX5_init_0 : decode cX5_init 0 = .ok (.aload_n 0, 1) := dk_42 (dk_at dksX5_init_0 0 rfl rfl)
theorem dX5_init_1 : decode cX5_init 1 = .ok (.invokespecial 3, 3) := dk_183 0 3 (dk_at dksX5_init_0 1 rfl rfl)
theorem dX5_init_4 : decode cX5_init 4 = .ok (.aload_n 0, 1) := dk_42 (dk_at dksX5_init_0 4 rfl rfl)
theorem dX5_init_5 : decode cX5_init 5 = .ok (.new 9, 3) := dk_187 0 9 (dk_at dksX5_init_0 5 rfl rfl)
theorem dX5_init_8 : decode cX5_init 8 = .ok (.dup, 1) := dk_89 (dk_at dksX5_init_0 8 rfl rfl)
theorem dX5_init_9 : decode cX5_init 9 = .ok (.invokespecial 11, 3) := dk_183 0 11 (dk_at dksX5_init_0 9 rfl rfl)
theorem dX5_init_12 : decode cX5_init 12 = .ok (.putfield 12, 3) := dk_181 0 12 (dk_at dksX5_init_0 12 rfl rfl)
theorem dX5_init_15 : decode cX5_init 15 = .ok (.aload_n 0, 1) := dk_42 (dk_at dksX5_init_0 15 rfl rfl)
theorem dX5_init_16 : decode cX5_init 16 = .ok (.iconst 4, 1) := dk_7 (dk_at dksX5_init_0 16 rfl rfl)
theorem dX5_init_17 : decode cX5_init 17 = .ok (.putfield 18, 3) := dk_181 0 18 (dk_at dksX5_init_0 17 rfl rfl)
theorem dX5_init_20 : decode cX5_init 20 = .ok (.aload_n 0, 1) := dk_42 (dk_at dksX5_init_0 20 rfl rfl)
theorem dX5_init_21 : decode cX5_init 21 = .ok (.iconst (-1), 1) := dk_2 (dk_at dksX5_init_0 21 rfl rfl)
theorem dX5_init_22 : decode cX5_init 22 = .ok (.putfield 22, 3) := dk_181 0 22 (dk_at dksX5_init_1 0 rfl rfl)
theorem dX5_init_25 : decode cX5_init 25 = .ok (.aload_n 0, 1) := dk_42 (dk_at dksX5_init_1 3 rfl rfl)
theorem dX5_init_26 : decode cX5_init 26 = .ok (.iconst (-1), 1) := dk_2 (dk_at dksX5_init_1 4 rfl rfl)
theorem dX5_init_27 : decode cX5_init 27 = .ok (.putfield 25, 3) := dk_181 0 25 (dk_at dksX5_init_1 5 rfl rfl)
theorem dX5_init_30 : decode cX5_init 30 = .ok (.aload_n 0, 1) := dk_42 (dk_at dksX5_init_1 8 rfl rfl)
theorem dX5_init_31 : decode cX5_init 31 = .ok (.iconst 2, 1) := dk_5 (dk_at dksX5_init_1 9 rfl rfl)
theorem dX5_init_32 : decode cX5_init 32 = .ok (.putfield 28, 3) := dk_181 0 28 (dk_at dksX5_init_1 10 rfl rfl)
theorem dX5_init_35 : decode cX5_init 35 = .ok (.return_, 1) := dk_177 (dk_at dksX5_init_1 13 rfl rfl)
abbrev cX5_pause : ByteArray := prog_11_method_15_code
def yX5_pause : MethodName := ⟨RX5, "pause", "(LHyperVaneModel$Guest;)V"⟩
def dkwX5_pause_0 : List UInt8 := [43, 180, 0, 95, 6, 160, 0, 4, 177, 43, 43, 180, 0, 95, 181, 0, 210, 43, 6, 181, 0, 95, 177]
abbrev dktX5_pause_0 : List UInt8 := dkwX5_pause_0 ++ []
theorem dksX5_pause_0 : cX5_pause.data.toList.drop 0 = dktX5_pause_0 := by decide +kernel
theorem dX5_pause_0 : decode cX5_pause 0 = .ok (.aload_n 1, 1) := dk_43 (dk_at dksX5_pause_0 0 rfl rfl)
theorem dX5_pause_1 : decode cX5_pause 1 = .ok (.getfield 95, 3) := dk_180 0 95 (dk_at dksX5_pause_0 1 rfl rfl)
theorem dX5_pause_4 : decode cX5_pause 4 = .ok (.iconst 3, 1) := dk_6 (dk_at dksX5_pause_0 4 rfl rfl)
theorem dX5_pause_5 : decode cX5_pause 5 = .ok (.if_icmp .ne 4, 3) := dk_160 0 4 (dk_at dksX5_pause_0 5 rfl rfl)
theorem dX5_pause_8 : decode cX5_pause 8 = .ok (.return_, 1) := dk_177 (dk_at dksX5_pause_0 8 rfl rfl)
theorem dX5_pause_9 : decode cX5_pause 9 = .ok (.aload_n 1, 1) := dk_43 (dk_at dksX5_pause_0 9 rfl rfl)
theorem dX5_pause_10 : decode cX5_pause 10 = .ok (.aload_n 1, 1) := dk_43 (dk_at dksX5_pause_0 10 rfl rfl)
theorem dX5_pause_11 : decode cX5_pause 11 = .ok (.getfield 95, 3) := dk_180 0 95 (dk_at dksX5_pause_0 11 rfl rfl)
theorem dX5_pause_14 : decode cX5_pause 14 = .ok (.putfield 210, 3) := dk_181 0 210 (dk_at dksX5_pause_0 14 rfl rfl)
theorem dX5_pause_17 : decode cX5_pause 17 = .ok (.aload_n 1, 1) := dk_43 (dk_at dksX5_pause_0 17 rfl rfl)
theorem dX5_pause_18 : decode cX5_pause 18 = .ok (.iconst 3, 1) := dk_6 (dk_at dksX5_pause_0 18 rfl rfl)
theorem dX5_pause_19 : decode cX5_pause 19 = .ok (.putfield 95, 3) := dk_181 0 95 (dk_at dksX5_pause_0 19 rfl rfl)
theorem dX5_pause_22 : decode cX5_pause 22 = .ok (.return_, 1) := dk_177 (dk_at dksX5_pause_0 22 rfl rfl)
abbrev cX5_out : ByteArray := prog_11_method_5_code
def yX5_out : MethodName := ⟨RX5, "out", "(I)Z"⟩
def dkwX5_out_1 : List UInt8 := [192, 0, 46, 180, 0, 82, 28, 16, 8, 112, 4, 79, 42, 89, 180, 0, 65, 4, 96, 181, 0, 65, 4, 172]
abbrev dktX5_out_1 : List UInt8 := dkwX5_out_1 ++ []
def dkwX5_out_0 : List UInt8 := [42, 27, 182, 0, 88, 61, 28, 2, 160, 0, 5, 3, 172, 42, 180, 0, 12, 28, 16, 8, 108, 182, 0, 78]
abbrev dktX5_out_0 : List UInt8 := dkwX5_out_0 ++ dktX5_out_1
theorem dksX5_out_0 : cX5_out.data.toList.drop 0 = dktX5_out_0 := by decide +kernel
theorem dksX5_out_1 : cX5_out.data.toList.drop 24 = dktX5_out_1 := dk_seg dksX5_out_0 24 rfl rfl
theorem dX5_out_0 : decode cX5_out 0 = .ok (.aload_n 0, 1) := dk_42 (dk_at dksX5_out_0 0 rfl rfl)
theorem dX5_out_1 : decode cX5_out 1 = .ok (.iload_n 1, 1) := dk_27 (dk_at dksX5_out_0 1 rfl rfl)
theorem dX5_out_2 : decode cX5_out 2 = .ok (.invokevirtual 88, 3) := dk_182 0 88 (dk_at dksX5_out_0 2 rfl rfl)
theorem dX5_out_5 : decode cX5_out 5 = .ok (.istore_n 2, 1) := dk_61 (dk_at dksX5_out_0 5 rfl rfl)
theorem dX5_out_6 : decode cX5_out 6 = .ok (.iload_n 2, 1) := dk_28 (dk_at dksX5_out_0 6 rfl rfl)
theorem dX5_out_7 : decode cX5_out 7 = .ok (.iconst (-1), 1) := dk_2 (dk_at dksX5_out_0 7 rfl rfl)
theorem dX5_out_8 : decode cX5_out 8 = .ok (.if_icmp .ne 5, 3) := dk_160 0 5 (dk_at dksX5_out_0 8 rfl rfl)
theorem dX5_out_11 : decode cX5_out 11 = .ok (.iconst 0, 1) := dk_3 (dk_at dksX5_out_0 11 rfl rfl)
theorem dX5_out_12 : decode cX5_out 12 = .ok (.ireturn, 1) := dk_172 (dk_at dksX5_out_0 12 rfl rfl)
theorem dX5_out_13 : decode cX5_out 13 = .ok (.aload_n 0, 1) := dk_42 (dk_at dksX5_out_0 13 rfl rfl)
theorem dX5_out_14 : decode cX5_out 14 = .ok (.getfield 12, 3) := dk_180 0 12 (dk_at dksX5_out_0 14 rfl rfl)
theorem dX5_out_17 : decode cX5_out 17 = .ok (.iload_n 2, 1) := dk_28 (dk_at dksX5_out_0 17 rfl rfl)
theorem dX5_out_18 : decode cX5_out 18 = .ok (.bipush 8, 2) := dk_16 8 (dk_at dksX5_out_0 18 rfl rfl)
theorem dX5_out_20 : decode cX5_out 20 = .ok (.idiv, 1) := dk_108 (dk_at dksX5_out_0 20 rfl rfl)
theorem dX5_out_21 : decode cX5_out 21 = .ok (.invokevirtual 78, 3) := dk_182 0 78 (dk_at dksX5_out_0 21 rfl rfl)
theorem dX5_out_24 : decode cX5_out 24 = .ok (.checkcast 46, 3) := dk_192 0 46 (dk_at dksX5_out_1 0 rfl rfl)
theorem dX5_out_27 : decode cX5_out 27 = .ok (.getfield 82, 3) := dk_180 0 82 (dk_at dksX5_out_1 3 rfl rfl)
theorem dX5_out_30 : decode cX5_out 30 = .ok (.iload_n 2, 1) := dk_28 (dk_at dksX5_out_1 6 rfl rfl)
theorem dX5_out_31 : decode cX5_out 31 = .ok (.bipush 8, 2) := dk_16 8 (dk_at dksX5_out_1 7 rfl rfl)
theorem dX5_out_33 : decode cX5_out 33 = .ok (.irem, 1) := dk_112 (dk_at dksX5_out_1 9 rfl rfl)
theorem dX5_out_34 : decode cX5_out 34 = .ok (.iconst 1, 1) := dk_4 (dk_at dksX5_out_1 10 rfl rfl)
theorem dX5_out_35 : decode cX5_out 35 = .ok (.iastore, 1) := dk_79 (dk_at dksX5_out_1 11 rfl rfl)
theorem dX5_out_36 : decode cX5_out 36 = .ok (.aload_n 0, 1) := dk_42 (dk_at dksX5_out_1 12 rfl rfl)
theorem dX5_out_37 : decode cX5_out 37 = .ok (.dup, 1) := dk_89 (dk_at dksX5_out_1 13 rfl rfl)
theorem dX5_out_38 : decode cX5_out 38 = .ok (.getfield 65, 3) := dk_180 0 65 (dk_at dksX5_out_1 14 rfl rfl)
theorem dX5_out_41 : decode cX5_out 41 = .ok (.iconst 1, 1) := dk_4 (dk_at dksX5_out_1 17 rfl rfl)
theorem dX5_out_42 : decode cX5_out 42 = .ok (.iadd, 1) := dk_96 (dk_at dksX5_out_1 18 rfl rfl)
theorem dX5_out_43 : decode cX5_out 43 = .ok (.putfield 65, 3) := dk_181 0 65 (dk_at dksX5_out_1 19 rfl rfl)
theorem dX5_out_46 : decode cX5_out 46 = .ok (.iconst 1, 1) := dk_4 (dk_at dksX5_out_1 22 rfl rfl)
theorem dX5_out_47 : decode cX5_out 47 = .ok (.ireturn, 1) := dk_172 (dk_at dksX5_out_1 23 rfl rfl)
abbrev cX5_in : ByteArray := prog_11_method_4_code
def yX5_in : MethodName := ⟨RX5, "in", "(I)I"⟩
def dkwX5_in_3 : List UInt8 := [132, 3, 1, 167, 255, 201, 132, 2, 1, 167, 255, 182, 2, 172]
abbrev dktX5_in_3 : List UInt8 := dkwX5_in_3 ++ []
def dkwX5_in_2 : List UInt8 := [182, 0, 78, 192, 0, 46, 180, 0, 86, 29, 46, 27, 160, 0, 10, 16, 8, 28, 104, 29, 96, 172]
abbrev dktX5_in_2 : List UInt8 := dkwX5_in_2 ++ dktX5_in_3
def dkwX5_in_1 : List UInt8 := [180, 0, 12, 28, 182, 0, 78, 192, 0, 46, 180, 0, 82, 29, 46, 154, 0, 30, 42, 180, 0, 12, 28]
abbrev dktX5_in_1 : List UInt8 := dkwX5_in_1 ++ dktX5_in_2
def dkwX5_in_0 : List UInt8 := [3, 61, 28, 42, 180, 0, 12, 182, 0, 74, 162, 0, 69, 3, 62, 29, 16, 6, 162, 0, 55, 42]
abbrev dktX5_in_0 : List UInt8 := dkwX5_in_0 ++ dktX5_in_1
theorem dksX5_in_0 : cX5_in.data.toList.drop 0 = dktX5_in_0 := by decide +kernel
theorem dksX5_in_1 : cX5_in.data.toList.drop 22 = dktX5_in_1 := dk_seg dksX5_in_0 22 rfl rfl
theorem dksX5_in_2 : cX5_in.data.toList.drop 45 = dktX5_in_2 := dk_seg dksX5_in_1 23 rfl rfl
theorem dksX5_in_3 : cX5_in.data.toList.drop 67 = dktX5_in_3 := dk_seg dksX5_in_2 22 rfl rfl
theorem dX5_in_0 : decode cX5_in 0 = .ok (.iconst 0, 1) := dk_3 (dk_at dksX5_in_0 0 rfl rfl)
theorem dX5_in_1 : decode cX5_in 1 = .ok (.istore_n 2, 1) := dk_61 (dk_at dksX5_in_0 1 rfl rfl)
theorem dX5_in_2 : decode cX5_in 2 = .ok (.iload_n 2, 1) := dk_28 (dk_at dksX5_in_0 2 rfl rfl)
theorem dX5_in_3 : decode cX5_in 3 = .ok (.aload_n 0, 1) := dk_42 (dk_at dksX5_in_0 3 rfl rfl)
theorem dX5_in_4 : decode cX5_in 4 = .ok (.getfield 12, 3) := dk_180 0 12 (dk_at dksX5_in_0 4 rfl rfl)
theorem dX5_in_7 : decode cX5_in 7 = .ok (.invokevirtual 74, 3) := dk_182 0 74 (dk_at dksX5_in_0 7 rfl rfl)
theorem dX5_in_10 : decode cX5_in 10 = .ok (.if_icmp .ge 69, 3) := dk_162 0 69 (dk_at dksX5_in_0 10 rfl rfl)
theorem dX5_in_13 : decode cX5_in 13 = .ok (.iconst 0, 1) := dk_3 (dk_at dksX5_in_0 13 rfl rfl)
theorem dX5_in_14 : decode cX5_in 14 = .ok (.istore_n 3, 1) := dk_62 (dk_at dksX5_in_0 14 rfl rfl)
theorem dX5_in_15 : decode cX5_in 15 = .ok (.iload_n 3, 1) := dk_29 (dk_at dksX5_in_0 15 rfl rfl)
theorem dX5_in_16 : decode cX5_in 16 = .ok (.bipush 6, 2) := dk_16 6 (dk_at dksX5_in_0 16 rfl rfl)
theorem dX5_in_18 : decode cX5_in 18 = .ok (.if_icmp .ge 55, 3) := dk_162 0 55 (dk_at dksX5_in_0 18 rfl rfl)
theorem dX5_in_21 : decode cX5_in 21 = .ok (.aload_n 0, 1) := dk_42 (dk_at dksX5_in_0 21 rfl rfl)
theorem dX5_in_22 : decode cX5_in 22 = .ok (.getfield 12, 3) := dk_180 0 12 (dk_at dksX5_in_1 0 rfl rfl)
theorem dX5_in_25 : decode cX5_in 25 = .ok (.iload_n 2, 1) := dk_28 (dk_at dksX5_in_1 3 rfl rfl)
theorem dX5_in_26 : decode cX5_in 26 = .ok (.invokevirtual 78, 3) := dk_182 0 78 (dk_at dksX5_in_1 4 rfl rfl)
theorem dX5_in_29 : decode cX5_in 29 = .ok (.checkcast 46, 3) := dk_192 0 46 (dk_at dksX5_in_1 7 rfl rfl)
theorem dX5_in_32 : decode cX5_in 32 = .ok (.getfield 82, 3) := dk_180 0 82 (dk_at dksX5_in_1 10 rfl rfl)
theorem dX5_in_35 : decode cX5_in 35 = .ok (.iload_n 3, 1) := dk_29 (dk_at dksX5_in_1 13 rfl rfl)
theorem dX5_in_36 : decode cX5_in 36 = .ok (.iaload, 1) := dk_46 (dk_at dksX5_in_1 14 rfl rfl)
theorem dX5_in_37 : decode cX5_in 37 = .ok (.ifCond .ne 30, 3) := dk_154 0 30 (dk_at dksX5_in_1 15 rfl rfl)
theorem dX5_in_40 : decode cX5_in 40 = .ok (.aload_n 0, 1) := dk_42 (dk_at dksX5_in_1 18 rfl rfl)
theorem dX5_in_41 : decode cX5_in 41 = .ok (.getfield 12, 3) := dk_180 0 12 (dk_at dksX5_in_1 19 rfl rfl)
theorem dX5_in_44 : decode cX5_in 44 = .ok (.iload_n 2, 1) := dk_28 (dk_at dksX5_in_1 22 rfl rfl)
theorem dX5_in_45 : decode cX5_in 45 = .ok (.invokevirtual 78, 3) := dk_182 0 78 (dk_at dksX5_in_2 0 rfl rfl)
theorem dX5_in_48 : decode cX5_in 48 = .ok (.checkcast 46, 3) := dk_192 0 46 (dk_at dksX5_in_2 3 rfl rfl)
theorem dX5_in_51 : decode cX5_in 51 = .ok (.getfield 86, 3) := dk_180 0 86 (dk_at dksX5_in_2 6 rfl rfl)
theorem dX5_in_54 : decode cX5_in 54 = .ok (.iload_n 3, 1) := dk_29 (dk_at dksX5_in_2 9 rfl rfl)
theorem dX5_in_55 : decode cX5_in 55 = .ok (.iaload, 1) := dk_46 (dk_at dksX5_in_2 10 rfl rfl)
theorem dX5_in_56 : decode cX5_in 56 = .ok (.iload_n 1, 1) := dk_27 (dk_at dksX5_in_2 11 rfl rfl)
theorem dX5_in_57 : decode cX5_in 57 = .ok (.if_icmp .ne 10, 3) := dk_160 0 10 (dk_at dksX5_in_2 12 rfl rfl)
theorem dX5_in_60 : decode cX5_in 60 = .ok (.bipush 8, 2) := dk_16 8 (dk_at dksX5_in_2 15 rfl rfl)
theorem dX5_in_62 : decode cX5_in 62 = .ok (.iload_n 2, 1) := dk_28 (dk_at dksX5_in_2 17 rfl rfl)
theorem dX5_in_63 : decode cX5_in 63 = .ok (.imul, 1) := dk_104 (dk_at dksX5_in_2 18 rfl rfl)
theorem dX5_in_64 : decode cX5_in 64 = .ok (.iload_n 3, 1) := dk_29 (dk_at dksX5_in_2 19 rfl rfl)
theorem dX5_in_65 : decode cX5_in 65 = .ok (.iadd, 1) := dk_96 (dk_at dksX5_in_2 20 rfl rfl)
theorem dX5_in_66 : decode cX5_in 66 = .ok (.ireturn, 1) := dk_172 (dk_at dksX5_in_2 21 rfl rfl)
theorem dX5_in_67 : decode cX5_in 67 = .ok (.iinc 3 1, 3) := dk_132 3 1 (dk_at dksX5_in_3 0 rfl rfl)
theorem dX5_in_70 : decode cX5_in 70 = .ok (.goto (-55), 3) := dk_167 255 201 (dk_at dksX5_in_3 3 rfl rfl)
theorem dX5_in_73 : decode cX5_in 73 = .ok (.iinc 2 1, 3) := dk_132 2 1 (dk_at dksX5_in_3 6 rfl rfl)
theorem dX5_in_76 : decode cX5_in 76 = .ok (.goto (-74), 3) := dk_167 255 182 (dk_at dksX5_in_3 9 rfl rfl)
theorem dX5_in_79 : decode cX5_in 79 = .ok (.iconst (-1), 1) := dk_2 (dk_at dksX5_in_3 12 rfl rfl)
theorem dX5_in_80 : decode cX5_in 80 = .ok (.ireturn, 1) := dk_172 (dk_at dksX5_in_3 13 rfl rfl)
abbrev cX5_begin : ByteArray := prog_11_method_16_code
def yX5_begin : MethodName := ⟨RX5, "begin", "(II)I"⟩
def dkwX5_begin_4 : List UInt8 := [184, 0, 190, 172]
abbrev dktX5_begin_4 : List UInt8 := dkwX5_begin_4 ++ []
def dkwX5_begin_3 : List UInt8 := [4, 21, 4, 120, 167, 0, 4, 3, 128, 181, 0, 181, 132, 4, 1, 167, 255, 208, 45, 180, 0, 181]
abbrev dktX5_begin_3 : List UInt8 := dkwX5_begin_3 ++ dktX5_begin_4
def dkwX5_begin_2 : List UInt8 := [180, 0, 181, 45, 180, 0, 82, 21, 4, 46, 153, 0, 14, 45, 180, 0, 82, 21, 4, 46, 4, 160, 0, 10]
abbrev dktX5_begin_2 : List UInt8 := dkwX5_begin_2 ++ dktX5_begin_3
def dkwX5_begin_1 : List UInt8 := [180, 0, 56, 181, 0, 198, 45, 3, 181, 0, 181, 3, 54, 4, 21, 4, 16, 6, 162, 0, 47, 45, 89]
abbrev dktX5_begin_1 : List UInt8 := dkwX5_begin_1 ++ dktX5_begin_2
def dkwX5_begin_0 : List UInt8 := [42, 180, 0, 12, 27, 182, 0, 78, 192, 0, 46, 78, 45, 4, 181, 0, 138, 45, 28, 181, 0, 195, 45, 42]
abbrev dktX5_begin_0 : List UInt8 := dkwX5_begin_0 ++ dktX5_begin_1
theorem dksX5_begin_0 : cX5_begin.data.toList.drop 0 = dktX5_begin_0 := by decide +kernel
theorem dksX5_begin_1 : cX5_begin.data.toList.drop 24 = dktX5_begin_1 := dk_seg dksX5_begin_0 24 rfl rfl
theorem dksX5_begin_2 : cX5_begin.data.toList.drop 47 = dktX5_begin_2 := dk_seg dksX5_begin_1 23 rfl rfl
theorem dksX5_begin_3 : cX5_begin.data.toList.drop 71 = dktX5_begin_3 := dk_seg dksX5_begin_2 24 rfl rfl
theorem dksX5_begin_4 : cX5_begin.data.toList.drop 93 = dktX5_begin_4 := dk_seg dksX5_begin_3 22 rfl rfl
theorem dX5_begin_0 : decode cX5_begin 0 = .ok (.aload_n 0, 1) := dk_42 (dk_at dksX5_begin_0 0 rfl rfl)
theorem dX5_begin_1 : decode cX5_begin 1 = .ok (.getfield 12, 3) := dk_180 0 12 (dk_at dksX5_begin_0 1 rfl rfl)
theorem dX5_begin_4 : decode cX5_begin 4 = .ok (.iload_n 1, 1) := dk_27 (dk_at dksX5_begin_0 4 rfl rfl)
theorem dX5_begin_5 : decode cX5_begin 5 = .ok (.invokevirtual 78, 3) := dk_182 0 78 (dk_at dksX5_begin_0 5 rfl rfl)
theorem dX5_begin_8 : decode cX5_begin 8 = .ok (.checkcast 46, 3) := dk_192 0 46 (dk_at dksX5_begin_0 8 rfl rfl)
theorem dX5_begin_11 : decode cX5_begin 11 = .ok (.astore_n 3, 1) := dk_78 (dk_at dksX5_begin_0 11 rfl rfl)
theorem dX5_begin_12 : decode cX5_begin 12 = .ok (.aload_n 3, 1) := dk_45 (dk_at dksX5_begin_0 12 rfl rfl)
theorem dX5_begin_13 : decode cX5_begin 13 = .ok (.iconst 1, 1) := dk_4 (dk_at dksX5_begin_0 13 rfl rfl)
theorem dX5_begin_14 : decode cX5_begin 14 = .ok (.putfield 138, 3) := dk_181 0 138 (dk_at dksX5_begin_0 14 rfl rfl)
theorem dX5_begin_17 : decode cX5_begin 17 = .ok (.aload_n 3, 1) := dk_45 (dk_at dksX5_begin_0 17 rfl rfl)
theorem dX5_begin_18 : decode cX5_begin 18 = .ok (.iload_n 2, 1) := dk_28 (dk_at dksX5_begin_0 18 rfl rfl)
theorem dX5_begin_19 : decode cX5_begin 19 = .ok (.putfield 195, 3) := dk_181 0 195 (dk_at dksX5_begin_0 19 rfl rfl)
theorem dX5_begin_22 : decode cX5_begin 22 = .ok (.aload_n 3, 1) := dk_45 (dk_at dksX5_begin_0 22 rfl rfl)
theorem dX5_begin_23 : decode cX5_begin 23 = .ok (.aload_n 0, 1) := dk_42 (dk_at dksX5_begin_0 23 rfl rfl)
theorem dX5_begin_24 : decode cX5_begin 24 = .ok (.getfield 56, 3) := dk_180 0 56 (dk_at dksX5_begin_1 0 rfl rfl)
theorem dX5_begin_27 : decode cX5_begin 27 = .ok (.putfield 198, 3) := dk_181 0 198 (dk_at dksX5_begin_1 3 rfl rfl)
theorem dX5_begin_30 : decode cX5_begin 30 = .ok (.aload_n 3, 1) := dk_45 (dk_at dksX5_begin_1 6 rfl rfl)
theorem dX5_begin_31 : decode cX5_begin 31 = .ok (.iconst 0, 1) := dk_3 (dk_at dksX5_begin_1 7 rfl rfl)
theorem dX5_begin_32 : decode cX5_begin 32 = .ok (.putfield 181, 3) := dk_181 0 181 (dk_at dksX5_begin_1 8 rfl rfl)
theorem dX5_begin_35 : decode cX5_begin 35 = .ok (.iconst 0, 1) := dk_3 (dk_at dksX5_begin_1 11 rfl rfl)
theorem dX5_begin_36 : decode cX5_begin 36 = .ok (.istore 4, 2) := dk_54 4 (dk_at dksX5_begin_1 12 rfl rfl)
theorem dX5_begin_38 : decode cX5_begin 38 = .ok (.iload 4, 2) := dk_21 4 (dk_at dksX5_begin_1 14 rfl rfl)
theorem dX5_begin_40 : decode cX5_begin 40 = .ok (.bipush 6, 2) := dk_16 6 (dk_at dksX5_begin_1 16 rfl rfl)
theorem dX5_begin_42 : decode cX5_begin 42 = .ok (.if_icmp .ge 47, 3) := dk_162 0 47 (dk_at dksX5_begin_1 18 rfl rfl)
theorem dX5_begin_45 : decode cX5_begin 45 = .ok (.aload_n 3, 1) := dk_45 (dk_at dksX5_begin_1 21 rfl rfl)
theorem dX5_begin_46 : decode cX5_begin 46 = .ok (.dup, 1) := dk_89 (dk_at dksX5_begin_1 22 rfl rfl)
theorem dX5_begin_47 : decode cX5_begin 47 = .ok (.getfield 181, 3) := dk_180 0 181 (dk_at dksX5_begin_2 0 rfl rfl)
theorem dX5_begin_50 : decode cX5_begin 50 = .ok (.aload_n 3, 1) := dk_45 (dk_at dksX5_begin_2 3 rfl rfl)
theorem dX5_begin_51 : decode cX5_begin 51 = .ok (.getfield 82, 3) := dk_180 0 82 (dk_at dksX5_begin_2 4 rfl rfl)
theorem dX5_begin_54 : decode cX5_begin 54 = .ok (.iload 4, 2) := dk_21 4 (dk_at dksX5_begin_2 7 rfl rfl)
theorem dX5_begin_56 : decode cX5_begin 56 = .ok (.iaload, 1) := dk_46 (dk_at dksX5_begin_2 9 rfl rfl)
theorem dX5_begin_57 : decode cX5_begin 57 = .ok (.ifCond .eq 14, 3) := dk_153 0 14 (dk_at dksX5_begin_2 10 rfl rfl)
theorem dX5_begin_60 : decode cX5_begin 60 = .ok (.aload_n 3, 1) := dk_45 (dk_at dksX5_begin_2 13 rfl rfl)
theorem dX5_begin_61 : decode cX5_begin 61 = .ok (.getfield 82, 3) := dk_180 0 82 (dk_at dksX5_begin_2 14 rfl rfl)
theorem dX5_begin_64 : decode cX5_begin 64 = .ok (.iload 4, 2) := dk_21 4 (dk_at dksX5_begin_2 17 rfl rfl)
theorem dX5_begin_66 : decode cX5_begin 66 = .ok (.iaload, 1) := dk_46 (dk_at dksX5_begin_2 19 rfl rfl)
theorem dX5_begin_67 : decode cX5_begin 67 = .ok (.iconst 1, 1) := dk_4 (dk_at dksX5_begin_2 20 rfl rfl)
theorem dX5_begin_68 : decode cX5_begin 68 = .ok (.if_icmp .ne 10, 3) := dk_160 0 10 (dk_at dksX5_begin_2 21 rfl rfl)
theorem dX5_begin_71 : decode cX5_begin 71 = .ok (.iconst 1, 1) := dk_4 (dk_at dksX5_begin_3 0 rfl rfl)
theorem dX5_begin_72 : decode cX5_begin 72 = .ok (.iload 4, 2) := dk_21 4 (dk_at dksX5_begin_3 1 rfl rfl)
theorem dX5_begin_74 : decode cX5_begin 74 = .ok (.ishl, 1) := dk_120 (dk_at dksX5_begin_3 3 rfl rfl)
theorem dX5_begin_75 : decode cX5_begin 75 = .ok (.goto 4, 3) := dk_167 0 4 (dk_at dksX5_begin_3 4 rfl rfl)
theorem dX5_begin_78 : decode cX5_begin 78 = .ok (.iconst 0, 1) := dk_3 (dk_at dksX5_begin_3 7 rfl rfl)
theorem dX5_begin_79 : decode cX5_begin 79 = .ok (.ior, 1) := dk_128 (dk_at dksX5_begin_3 8 rfl rfl)
theorem dX5_begin_80 : decode cX5_begin 80 = .ok (.putfield 181, 3) := dk_181 0 181 (dk_at dksX5_begin_3 9 rfl rfl)
theorem dX5_begin_83 : decode cX5_begin 83 = .ok (.iinc 4 1, 3) := dk_132 4 1 (dk_at dksX5_begin_3 12 rfl rfl)
theorem dX5_begin_86 : decode cX5_begin 86 = .ok (.goto (-48), 3) := dk_167 255 208 (dk_at dksX5_begin_3 15 rfl rfl)
theorem dX5_begin_89 : decode cX5_begin 89 = .ok (.aload_n 3, 1) := dk_45 (dk_at dksX5_begin_3 18 rfl rfl)
theorem dX5_begin_90 : decode cX5_begin 90 = .ok (.getfield 181, 3) := dk_180 0 181 (dk_at dksX5_begin_3 19 rfl rfl)
theorem dX5_begin_93 : decode cX5_begin 93 = .ok (.invokestatic 190, 3) := dk_184 0 190 (dk_at dksX5_begin_4 0 rfl rfl)
theorem dX5_begin_96 : decode cX5_begin 96 = .ok (.ireturn, 1) := dk_172 (dk_at dksX5_begin_4 3 rfl rfl)
abbrev cX5_done : ByteArray := prog_11_method_3_code
def yX5_done : MethodName := ⟨RX5, "done", "()I"⟩
def dkwX5_done_1 : List UInt8 := [185, 0, 42, 1, 0, 192, 0, 46, 78, 27, 45, 180, 0, 71, 96, 60, 167, 255, 230, 27, 172]
abbrev dktX5_done_1 : List UInt8 := dkwX5_done_1 ++ []
def dkwX5_done_0 : List UInt8 := [3, 60, 42, 180, 0, 12, 182, 0, 32, 77, 44, 185, 0, 36, 1, 0, 153, 0, 23, 44]
abbrev dktX5_done_0 : List UInt8 := dkwX5_done_0 ++ dktX5_done_1
theorem dksX5_done_0 : cX5_done.data.toList.drop 0 = dktX5_done_0 := by decide +kernel
theorem dksX5_done_1 : cX5_done.data.toList.drop 20 = dktX5_done_1 := dk_seg dksX5_done_0 20 rfl rfl
theorem dX5_done_0 : decode cX5_done 0 = .ok (.iconst 0, 1) := dk_3 (dk_at dksX5_done_0 0 rfl rfl)
theorem dX5_done_1 : decode cX5_done 1 = .ok (.istore_n 1, 1) := dk_60 (dk_at dksX5_done_0 1 rfl rfl)
theorem dX5_done_2 : decode cX5_done 2 = .ok (.aload_n 0, 1) := dk_42 (dk_at dksX5_done_0 2 rfl rfl)
theorem dX5_done_3 : decode cX5_done 3 = .ok (.getfield 12, 3) := dk_180 0 12 (dk_at dksX5_done_0 3 rfl rfl)
theorem dX5_done_6 : decode cX5_done 6 = .ok (.invokevirtual 32, 3) := dk_182 0 32 (dk_at dksX5_done_0 6 rfl rfl)
theorem dX5_done_9 : decode cX5_done 9 = .ok (.astore_n 2, 1) := dk_77 (dk_at dksX5_done_0 9 rfl rfl)
theorem dX5_done_10 : decode cX5_done 10 = .ok (.aload_n 2, 1) := dk_44 (dk_at dksX5_done_0 10 rfl rfl)
theorem dX5_done_11 : decode cX5_done 11 = .ok (.invokeinterface 36 1, 5) := by decide +kernel
theorem dX5_done_16 : decode cX5_done 16 = .ok (.ifCond .eq 23, 3) := dk_153 0 23 (dk_at dksX5_done_0 16 rfl rfl)
theorem dX5_done_19 : decode cX5_done 19 = .ok (.aload_n 2, 1) := dk_44 (dk_at dksX5_done_0 19 rfl rfl)
theorem dX5_done_20 : decode cX5_done 20 = .ok (.invokeinterface 42 1, 5) := by decide +kernel
theorem dX5_done_25 : decode cX5_done 25 = .ok (.checkcast 46, 3) := dk_192 0 46 (dk_at dksX5_done_1 5 rfl rfl)
theorem dX5_done_28 : decode cX5_done 28 = .ok (.astore_n 3, 1) := dk_78 (dk_at dksX5_done_1 8 rfl rfl)
theorem dX5_done_29 : decode cX5_done 29 = .ok (.iload_n 1, 1) := dk_27 (dk_at dksX5_done_1 9 rfl rfl)
theorem dX5_done_30 : decode cX5_done 30 = .ok (.aload_n 3, 1) := dk_45 (dk_at dksX5_done_1 10 rfl rfl)
theorem dX5_done_31 : decode cX5_done 31 = .ok (.getfield 71, 3) := dk_180 0 71 (dk_at dksX5_done_1 11 rfl rfl)
theorem dX5_done_34 : decode cX5_done 34 = .ok (.iadd, 1) := dk_96 (dk_at dksX5_done_1 14 rfl rfl)
theorem dX5_done_35 : decode cX5_done 35 = .ok (.istore_n 1, 1) := dk_60 (dk_at dksX5_done_1 15 rfl rfl)
theorem dX5_done_36 : decode cX5_done 36 = .ok (.goto (-26), 3) := dk_167 255 230 (dk_at dksX5_done_1 16 rfl rfl)
theorem dX5_done_39 : decode cX5_done 39 = .ok (.iload_n 1, 1) := dk_27 (dk_at dksX5_done_1 19 rfl rfl)
theorem dX5_done_40 : decode cX5_done 40 = .ok (.ireturn, 1) := dk_172 (dk_at dksX5_done_1 20 rfl rfl)
abbrev cX5_tick : ByteArray := prog_11_method_7_code
def yX5_tick : MethodName := ⟨RX5, "tick", "()V"⟩
def dkwX5_tick_15 : List UInt8 := [27, 182, 0, 142, 132, 1, 1, 167, 255, 220, 177]
abbrev dktX5_tick_15 : List UInt8 := dkwX5_tick_15 ++ []
def dkwX5_tick_14 : List UInt8 := [182, 0, 74, 162, 0, 31, 42, 180, 0, 12, 27, 182, 0, 78, 192, 0, 46, 180, 0, 138, 153, 0, 8, 42]
abbrev dktX5_tick_14 : List UInt8 := dkwX5_tick_14 ++ dktX5_tick_15
def dkwX5_tick_13 : List UInt8 := [180, 0, 127, 182, 0, 78, 192, 0, 130, 182, 0, 131, 42, 182, 0, 135, 3, 60, 27, 42, 180, 0, 12]
abbrev dktX5_tick_13 : List UInt8 := dkwX5_tick_13 ++ dktX5_tick_14
def dkwX5_tick_12 : List UInt8 := [182, 0, 78, 192, 0, 46, 76, 43, 89, 180, 0, 110, 4, 100, 181, 0, 110, 42, 43, 43, 180, 0, 124, 43]
abbrev dktX5_tick_12 : List UInt8 := dkwX5_tick_12 ++ dktX5_tick_13
def dkwX5_tick_11 : List UInt8 := [167, 0, 4, 3, 96, 181, 0, 121, 132, 1, 1, 167, 255, 193, 42, 180, 0, 12, 42, 180, 0, 22]
abbrev dktX5_tick_11 : List UInt8 := dkwX5_tick_11 ++ dktX5_tick_12
def dkwX5_tick_10 : List UInt8 := [180, 0, 22, 159, 0, 24, 42, 180, 0, 12, 27, 182, 0, 78, 192, 0, 46, 180, 0, 95, 154, 0, 7, 4]
abbrev dktX5_tick_10 : List UInt8 := dkwX5_tick_10 ++ dktX5_tick_11
def dkwX5_tick_9 : List UInt8 := [182, 0, 74, 162, 0, 58, 42, 180, 0, 12, 27, 182, 0, 78, 192, 0, 46, 89, 180, 0, 121, 27, 42]
abbrev dktX5_tick_9 : List UInt8 := dkwX5_tick_9 ++ dktX5_tick_10
def dkwX5_tick_8 : List UInt8 := [160, 0, 16, 42, 89, 180, 0, 62, 4, 96, 181, 0, 62, 167, 0, 115, 3, 60, 27, 42, 180, 0, 12]
abbrev dktX5_tick_8 : List UInt8 := dkwX5_tick_8 ++ dktX5_tick_9
def dkwX5_tick_7 : List UInt8 := [184, 0, 113, 181, 0, 110, 167, 255, 204, 42, 42, 182, 0, 119, 181, 0, 22, 42, 180, 0, 22, 2]
abbrev dktX5_tick_7 : List UInt8 := dkwX5_tick_7 ++ dktX5_tick_8
def dkwX5_tick_6 : List UInt8 := [159, 0, 28, 44, 16, 8, 44, 180, 0, 107, 104, 44, 180, 0, 110, 7, 44, 180, 0, 107, 104, 96]
abbrev dktX5_tick_6 : List UInt8 := dkwX5_tick_6 ++ dktX5_tick_7
def dkwX5_tick_5 : List UInt8 := [185, 0, 36, 1, 0, 153, 0, 49, 43, 185, 0, 42, 1, 0, 192, 0, 46, 77, 44, 180, 0, 95, 7]
abbrev dktX5_tick_5 : List UInt8 := dkwX5_tick_5 ++ dktX5_tick_6
def dkwX5_tick_4 : List UInt8 := [182, 0, 104, 157, 0, 74, 42, 182, 0, 104, 2, 159, 0, 66, 42, 180, 0, 12, 182, 0, 32, 76, 43]
abbrev dktX5_tick_4 : List UInt8 := dkwX5_tick_4 ++ dktX5_tick_5
def dkwX5_tick_3 : List UInt8 := [160, 0, 19, 44, 180, 0, 101, 42, 180, 0, 56, 163, 0, 8, 44, 3, 181, 0, 95, 167, 255, 187, 42]
abbrev dktX5_tick_3 : List UInt8 := dkwX5_tick_3 ++ dktX5_tick_4
def dkwX5_tick_2 : List UInt8 := [180, 0, 95, 7, 159, 0, 13, 44, 89, 180, 0, 98, 4, 96, 181, 0, 98, 44, 180, 0, 95, 5]
abbrev dktX5_tick_2 : List UInt8 := dkwX5_tick_2 ++ dktX5_tick_3
def dkwX5_tick_1 : List UInt8 := [153, 0, 66, 43, 185, 0, 42, 1, 0, 192, 0, 46, 77, 44, 180, 0, 95, 6, 159, 0, 21, 44]
abbrev dktX5_tick_1 : List UInt8 := dkwX5_tick_1 ++ dktX5_tick_2
def dkwX5_tick_0 : List UInt8 := [42, 89, 180, 0, 56, 4, 96, 181, 0, 56, 42, 180, 0, 12, 182, 0, 32, 76, 43, 185, 0, 36, 1, 0]
abbrev dktX5_tick_0 : List UInt8 := dkwX5_tick_0 ++ dktX5_tick_1
theorem dksX5_tick_0 : cX5_tick.data.toList.drop 0 = dktX5_tick_0 := by decide +kernel
theorem dksX5_tick_1 : cX5_tick.data.toList.drop 24 = dktX5_tick_1 := dk_seg dksX5_tick_0 24 rfl rfl
theorem dksX5_tick_2 : cX5_tick.data.toList.drop 46 = dktX5_tick_2 := dk_seg dksX5_tick_1 22 rfl rfl
theorem dksX5_tick_3 : cX5_tick.data.toList.drop 68 = dktX5_tick_3 := dk_seg dksX5_tick_2 22 rfl rfl
theorem dksX5_tick_4 : cX5_tick.data.toList.drop 91 = dktX5_tick_4 := dk_seg dksX5_tick_3 23 rfl rfl
theorem dksX5_tick_5 : cX5_tick.data.toList.drop 114 = dktX5_tick_5 := dk_seg dksX5_tick_4 23 rfl rfl
theorem dksX5_tick_6 : cX5_tick.data.toList.drop 137 = dktX5_tick_6 := dk_seg dksX5_tick_5 23 rfl rfl
theorem dksX5_tick_7 : cX5_tick.data.toList.drop 159 = dktX5_tick_7 := dk_seg dksX5_tick_6 22 rfl rfl
theorem dksX5_tick_8 : cX5_tick.data.toList.drop 181 = dktX5_tick_8 := dk_seg dksX5_tick_7 22 rfl rfl
theorem dksX5_tick_9 : cX5_tick.data.toList.drop 204 = dktX5_tick_9 := dk_seg dksX5_tick_8 23 rfl rfl
theorem dksX5_tick_10 : cX5_tick.data.toList.drop 227 = dktX5_tick_10 := dk_seg dksX5_tick_9 23 rfl rfl
theorem dksX5_tick_11 : cX5_tick.data.toList.drop 251 = dktX5_tick_11 := dk_seg dksX5_tick_10 24 rfl rfl
theorem dksX5_tick_12 : cX5_tick.data.toList.drop 273 = dktX5_tick_12 := dk_seg dksX5_tick_11 22 rfl rfl
theorem dksX5_tick_13 : cX5_tick.data.toList.drop 297 = dktX5_tick_13 := dk_seg dksX5_tick_12 24 rfl rfl
theorem dksX5_tick_14 : cX5_tick.data.toList.drop 320 = dktX5_tick_14 := dk_seg dksX5_tick_13 23 rfl rfl
theorem dksX5_tick_15 : cX5_tick.data.toList.drop 344 = dktX5_tick_15 := dk_seg dksX5_tick_14 24 rfl rfl
theorem dX5_tick_0 : decode cX5_tick 0 = .ok (.aload_n 0, 1) := dk_42 (dk_at dksX5_tick_0 0 rfl rfl)
theorem dX5_tick_1 : decode cX5_tick 1 = .ok (.dup, 1) := dk_89 (dk_at dksX5_tick_0 1 rfl rfl)
theorem dX5_tick_2 : decode cX5_tick 2 = .ok (.getfield 56, 3) := dk_180 0 56 (dk_at dksX5_tick_0 2 rfl rfl)
theorem dX5_tick_5 : decode cX5_tick 5 = .ok (.iconst 1, 1) := dk_4 (dk_at dksX5_tick_0 5 rfl rfl)
theorem dX5_tick_6 : decode cX5_tick 6 = .ok (.iadd, 1) := dk_96 (dk_at dksX5_tick_0 6 rfl rfl)
theorem dX5_tick_7 : decode cX5_tick 7 = .ok (.putfield 56, 3) := dk_181 0 56 (dk_at dksX5_tick_0 7 rfl rfl)
theorem dX5_tick_10 : decode cX5_tick 10 = .ok (.aload_n 0, 1) := dk_42 (dk_at dksX5_tick_0 10 rfl rfl)
theorem dX5_tick_11 : decode cX5_tick 11 = .ok (.getfield 12, 3) := dk_180 0 12 (dk_at dksX5_tick_0 11 rfl rfl)
theorem dX5_tick_14 : decode cX5_tick 14 = .ok (.invokevirtual 32, 3) := dk_182 0 32 (dk_at dksX5_tick_0 14 rfl rfl)
theorem dX5_tick_17 : decode cX5_tick 17 = .ok (.astore_n 1, 1) := dk_76 (dk_at dksX5_tick_0 17 rfl rfl)
theorem dX5_tick_18 : decode cX5_tick 18 = .ok (.aload_n 1, 1) := dk_43 (dk_at dksX5_tick_0 18 rfl rfl)
theorem dX5_tick_19 : decode cX5_tick 19 = .ok (.invokeinterface 36 1, 5) := by decide +kernel
theorem dX5_tick_24 : decode cX5_tick 24 = .ok (.ifCond .eq 66, 3) := dk_153 0 66 (dk_at dksX5_tick_1 0 rfl rfl)
theorem dX5_tick_27 : decode cX5_tick 27 = .ok (.aload_n 1, 1) := dk_43 (dk_at dksX5_tick_1 3 rfl rfl)
theorem dX5_tick_28 : decode cX5_tick 28 = .ok (.invokeinterface 42 1, 5) := by decide +kernel
theorem dX5_tick_33 : decode cX5_tick 33 = .ok (.checkcast 46, 3) := dk_192 0 46 (dk_at dksX5_tick_1 9 rfl rfl)
theorem dX5_tick_36 : decode cX5_tick 36 = .ok (.astore_n 2, 1) := dk_77 (dk_at dksX5_tick_1 12 rfl rfl)
theorem dX5_tick_37 : decode cX5_tick 37 = .ok (.aload_n 2, 1) := dk_44 (dk_at dksX5_tick_1 13 rfl rfl)
theorem dX5_tick_38 : decode cX5_tick 38 = .ok (.getfield 95, 3) := dk_180 0 95 (dk_at dksX5_tick_1 14 rfl rfl)
theorem dX5_tick_41 : decode cX5_tick 41 = .ok (.iconst 3, 1) := dk_6 (dk_at dksX5_tick_1 17 rfl rfl)
theorem dX5_tick_42 : decode cX5_tick 42 = .ok (.if_icmp .eq 21, 3) := dk_159 0 21 (dk_at dksX5_tick_1 18 rfl rfl)
theorem dX5_tick_45 : decode cX5_tick 45 = .ok (.aload_n 2, 1) := dk_44 (dk_at dksX5_tick_1 21 rfl rfl)
theorem dX5_tick_46 : decode cX5_tick 46 = .ok (.getfield 95, 3) := dk_180 0 95 (dk_at dksX5_tick_2 0 rfl rfl)
theorem dX5_tick_49 : decode cX5_tick 49 = .ok (.iconst 4, 1) := dk_7 (dk_at dksX5_tick_2 3 rfl rfl)
theorem dX5_tick_50 : decode cX5_tick 50 = .ok (.if_icmp .eq 13, 3) := dk_159 0 13 (dk_at dksX5_tick_2 4 rfl rfl)
theorem dX5_tick_53 : decode cX5_tick 53 = .ok (.aload_n 2, 1) := dk_44 (dk_at dksX5_tick_2 7 rfl rfl)
theorem dX5_tick_54 : decode cX5_tick 54 = .ok (.dup, 1) := dk_89 (dk_at dksX5_tick_2 8 rfl rfl)
theorem dX5_tick_55 : decode cX5_tick 55 = .ok (.getfield 98, 3) := dk_180 0 98 (dk_at dksX5_tick_2 9 rfl rfl)
theorem dX5_tick_58 : decode cX5_tick 58 = .ok (.iconst 1, 1) := dk_4 (dk_at dksX5_tick_2 12 rfl rfl)
theorem dX5_tick_59 : decode cX5_tick 59 = .ok (.iadd, 1) := dk_96 (dk_at dksX5_tick_2 13 rfl rfl)
theorem dX5_tick_60 : decode cX5_tick 60 = .ok (.putfield 98, 3) := dk_181 0 98 (dk_at dksX5_tick_2 14 rfl rfl)
theorem dX5_tick_63 : decode cX5_tick 63 = .ok (.aload_n 2, 1) := dk_44 (dk_at dksX5_tick_2 17 rfl rfl)
theorem dX5_tick_64 : decode cX5_tick 64 = .ok (.getfield 95, 3) := dk_180 0 95 (dk_at dksX5_tick_2 18 rfl rfl)
theorem dX5_tick_67 : decode cX5_tick 67 = .ok (.iconst 2, 1) := dk_5 (dk_at dksX5_tick_2 21 rfl rfl)
theorem dX5_tick_68 : decode cX5_tick 68 = .ok (.if_icmp .ne 19, 3) := dk_160 0 19 (dk_at dksX5_tick_3 0 rfl rfl)
theorem dX5_tick_71 : decode cX5_tick 71 = .ok (.aload_n 2, 1) := dk_44 (dk_at dksX5_tick_3 3 rfl rfl)
theorem dX5_tick_72 : decode cX5_tick 72 = .ok (.getfield 101, 3) := dk_180 0 101 (dk_at dksX5_tick_3 4 rfl rfl)
theorem dX5_tick_75 : decode cX5_tick 75 = .ok (.aload_n 0, 1) := dk_42 (dk_at dksX5_tick_3 7 rfl rfl)
theorem dX5_tick_76 : decode cX5_tick 76 = .ok (.getfield 56, 3) := dk_180 0 56 (dk_at dksX5_tick_3 8 rfl rfl)
theorem dX5_tick_79 : decode cX5_tick 79 = .ok (.if_icmp .gt 8, 3) := dk_163 0 8 (dk_at dksX5_tick_3 11 rfl rfl)
theorem dX5_tick_82 : decode cX5_tick 82 = .ok (.aload_n 2, 1) := dk_44 (dk_at dksX5_tick_3 14 rfl rfl)
theorem dX5_tick_83 : decode cX5_tick 83 = .ok (.iconst 0, 1) := dk_3 (dk_at dksX5_tick_3 15 rfl rfl)
theorem dX5_tick_84 : decode cX5_tick 84 = .ok (.putfield 95, 3) := dk_181 0 95 (dk_at dksX5_tick_3 16 rfl rfl)
theorem dX5_tick_87 : decode cX5_tick 87 = .ok (.goto (-69), 3) := dk_167 255 187 (dk_at dksX5_tick_3 19 rfl rfl)
theorem dX5_tick_90 : decode cX5_tick 90 = .ok (.aload_n 0, 1) := dk_42 (dk_at dksX5_tick_3 22 rfl rfl)
theorem dX5_tick_91 : decode cX5_tick 91 = .ok (.invokevirtual 104, 3) := dk_182 0 104 (dk_at dksX5_tick_4 0 rfl rfl)
theorem dX5_tick_94 : decode cX5_tick 94 = .ok (.ifCond .gt 74, 3) := dk_157 0 74 (dk_at dksX5_tick_4 3 rfl rfl)
theorem dX5_tick_97 : decode cX5_tick 97 = .ok (.aload_n 0, 1) := dk_42 (dk_at dksX5_tick_4 6 rfl rfl)
theorem dX5_tick_98 : decode cX5_tick 98 = .ok (.invokevirtual 104, 3) := dk_182 0 104 (dk_at dksX5_tick_4 7 rfl rfl)
theorem dX5_tick_101 : decode cX5_tick 101 = .ok (.iconst (-1), 1) := dk_2 (dk_at dksX5_tick_4 10 rfl rfl)
theorem dX5_tick_102 : decode cX5_tick 102 = .ok (.if_icmp .eq 66, 3) := dk_159 0 66 (dk_at dksX5_tick_4 11 rfl rfl)
theorem dX5_tick_105 : decode cX5_tick 105 = .ok (.aload_n 0, 1) := dk_42 (dk_at dksX5_tick_4 14 rfl rfl)
theorem dX5_tick_106 : decode cX5_tick 106 = .ok (.getfield 12, 3) := dk_180 0 12 (dk_at dksX5_tick_4 15 rfl rfl)
theorem dX5_tick_109 : decode cX5_tick 109 = .ok (.invokevirtual 32, 3) := dk_182 0 32 (dk_at dksX5_tick_4 18 rfl rfl)
theorem dX5_tick_112 : decode cX5_tick 112 = .ok (.astore_n 1, 1) := dk_76 (dk_at dksX5_tick_4 21 rfl rfl)
theorem dX5_tick_113 : decode cX5_tick 113 = .ok (.aload_n 1, 1) := dk_43 (dk_at dksX5_tick_4 22 rfl rfl)
theorem dX5_tick_114 : decode cX5_tick 114 = .ok (.invokeinterface 36 1, 5) := by decide +kernel
theorem dX5_tick_119 : decode cX5_tick 119 = .ok (.ifCond .eq 49, 3) := dk_153 0 49 (dk_at dksX5_tick_5 5 rfl rfl)
theorem dX5_tick_122 : decode cX5_tick 122 = .ok (.aload_n 1, 1) := dk_43 (dk_at dksX5_tick_5 8 rfl rfl)
theorem dX5_tick_123 : decode cX5_tick 123 = .ok (.invokeinterface 42 1, 5) := by decide +kernel
theorem dX5_tick_128 : decode cX5_tick 128 = .ok (.checkcast 46, 3) := dk_192 0 46 (dk_at dksX5_tick_5 14 rfl rfl)
theorem dX5_tick_131 : decode cX5_tick 131 = .ok (.astore_n 2, 1) := dk_77 (dk_at dksX5_tick_5 17 rfl rfl)
theorem dX5_tick_132 : decode cX5_tick 132 = .ok (.aload_n 2, 1) := dk_44 (dk_at dksX5_tick_5 18 rfl rfl)
theorem dX5_tick_133 : decode cX5_tick 133 = .ok (.getfield 95, 3) := dk_180 0 95 (dk_at dksX5_tick_5 19 rfl rfl)
theorem dX5_tick_136 : decode cX5_tick 136 = .ok (.iconst 4, 1) := dk_7 (dk_at dksX5_tick_5 22 rfl rfl)
theorem dX5_tick_137 : decode cX5_tick 137 = .ok (.if_icmp .eq 28, 3) := dk_159 0 28 (dk_at dksX5_tick_6 0 rfl rfl)
theorem dX5_tick_140 : decode cX5_tick 140 = .ok (.aload_n 2, 1) := dk_44 (dk_at dksX5_tick_6 3 rfl rfl)
theorem dX5_tick_141 : decode cX5_tick 141 = .ok (.bipush 8, 2) := dk_16 8 (dk_at dksX5_tick_6 4 rfl rfl)
theorem dX5_tick_143 : decode cX5_tick 143 = .ok (.aload_n 2, 1) := dk_44 (dk_at dksX5_tick_6 6 rfl rfl)
theorem dX5_tick_144 : decode cX5_tick 144 = .ok (.getfield 107, 3) := dk_180 0 107 (dk_at dksX5_tick_6 7 rfl rfl)
theorem dX5_tick_147 : decode cX5_tick 147 = .ok (.imul, 1) := dk_104 (dk_at dksX5_tick_6 10 rfl rfl)
theorem dX5_tick_148 : decode cX5_tick 148 = .ok (.aload_n 2, 1) := dk_44 (dk_at dksX5_tick_6 11 rfl rfl)
theorem dX5_tick_149 : decode cX5_tick 149 = .ok (.getfield 110, 3) := dk_180 0 110 (dk_at dksX5_tick_6 12 rfl rfl)
theorem dX5_tick_152 : decode cX5_tick 152 = .ok (.iconst 4, 1) := dk_7 (dk_at dksX5_tick_6 15 rfl rfl)
theorem dX5_tick_153 : decode cX5_tick 153 = .ok (.aload_n 2, 1) := dk_44 (dk_at dksX5_tick_6 16 rfl rfl)
theorem dX5_tick_154 : decode cX5_tick 154 = .ok (.getfield 107, 3) := dk_180 0 107 (dk_at dksX5_tick_6 17 rfl rfl)
theorem dX5_tick_157 : decode cX5_tick 157 = .ok (.imul, 1) := dk_104 (dk_at dksX5_tick_6 20 rfl rfl)
theorem dX5_tick_158 : decode cX5_tick 158 = .ok (.iadd, 1) := dk_96 (dk_at dksX5_tick_6 21 rfl rfl)
theorem dX5_tick_159 : decode cX5_tick 159 = .ok (.invokestatic 113, 3) := dk_184 0 113 (dk_at dksX5_tick_7 0 rfl rfl)
theorem dX5_tick_162 : decode cX5_tick 162 = .ok (.putfield 110, 3) := dk_181 0 110 (dk_at dksX5_tick_7 3 rfl rfl)
theorem dX5_tick_165 : decode cX5_tick 165 = .ok (.goto (-52), 3) := dk_167 255 204 (dk_at dksX5_tick_7 6 rfl rfl)
theorem dX5_tick_168 : decode cX5_tick 168 = .ok (.aload_n 0, 1) := dk_42 (dk_at dksX5_tick_7 9 rfl rfl)
theorem dX5_tick_169 : decode cX5_tick 169 = .ok (.aload_n 0, 1) := dk_42 (dk_at dksX5_tick_7 10 rfl rfl)
theorem dX5_tick_170 : decode cX5_tick 170 = .ok (.invokevirtual 119, 3) := dk_182 0 119 (dk_at dksX5_tick_7 11 rfl rfl)
theorem dX5_tick_173 : decode cX5_tick 173 = .ok (.putfield 22, 3) := dk_181 0 22 (dk_at dksX5_tick_7 14 rfl rfl)
theorem dX5_tick_176 : decode cX5_tick 176 = .ok (.aload_n 0, 1) := dk_42 (dk_at dksX5_tick_7 17 rfl rfl)
theorem dX5_tick_177 : decode cX5_tick 177 = .ok (.getfield 22, 3) := dk_180 0 22 (dk_at dksX5_tick_7 18 rfl rfl)
theorem dX5_tick_180 : decode cX5_tick 180 = .ok (.iconst (-1), 1) := dk_2 (dk_at dksX5_tick_7 21 rfl rfl)
theorem dX5_tick_181 : decode cX5_tick 181 = .ok (.if_icmp .ne 16, 3) := dk_160 0 16 (dk_at dksX5_tick_8 0 rfl rfl)
theorem dX5_tick_184 : decode cX5_tick 184 = .ok (.aload_n 0, 1) := dk_42 (dk_at dksX5_tick_8 3 rfl rfl)
theorem dX5_tick_185 : decode cX5_tick 185 = .ok (.dup, 1) := dk_89 (dk_at dksX5_tick_8 4 rfl rfl)
theorem dX5_tick_186 : decode cX5_tick 186 = .ok (.getfield 62, 3) := dk_180 0 62 (dk_at dksX5_tick_8 5 rfl rfl)
theorem dX5_tick_189 : decode cX5_tick 189 = .ok (.iconst 1, 1) := dk_4 (dk_at dksX5_tick_8 8 rfl rfl)
theorem dX5_tick_190 : decode cX5_tick 190 = .ok (.iadd, 1) := dk_96 (dk_at dksX5_tick_8 9 rfl rfl)
theorem dX5_tick_191 : decode cX5_tick 191 = .ok (.putfield 62, 3) := dk_181 0 62 (dk_at dksX5_tick_8 10 rfl rfl)
theorem dX5_tick_194 : decode cX5_tick 194 = .ok (.goto 115, 3) := dk_167 0 115 (dk_at dksX5_tick_8 13 rfl rfl)
theorem dX5_tick_197 : decode cX5_tick 197 = .ok (.iconst 0, 1) := dk_3 (dk_at dksX5_tick_8 16 rfl rfl)
theorem dX5_tick_198 : decode cX5_tick 198 = .ok (.istore_n 1, 1) := dk_60 (dk_at dksX5_tick_8 17 rfl rfl)
theorem dX5_tick_199 : decode cX5_tick 199 = .ok (.iload_n 1, 1) := dk_27 (dk_at dksX5_tick_8 18 rfl rfl)
theorem dX5_tick_200 : decode cX5_tick 200 = .ok (.aload_n 0, 1) := dk_42 (dk_at dksX5_tick_8 19 rfl rfl)
theorem dX5_tick_201 : decode cX5_tick 201 = .ok (.getfield 12, 3) := dk_180 0 12 (dk_at dksX5_tick_8 20 rfl rfl)
theorem dX5_tick_204 : decode cX5_tick 204 = .ok (.invokevirtual 74, 3) := dk_182 0 74 (dk_at dksX5_tick_9 0 rfl rfl)
theorem dX5_tick_207 : decode cX5_tick 207 = .ok (.if_icmp .ge 58, 3) := dk_162 0 58 (dk_at dksX5_tick_9 3 rfl rfl)
theorem dX5_tick_210 : decode cX5_tick 210 = .ok (.aload_n 0, 1) := dk_42 (dk_at dksX5_tick_9 6 rfl rfl)
theorem dX5_tick_211 : decode cX5_tick 211 = .ok (.getfield 12, 3) := dk_180 0 12 (dk_at dksX5_tick_9 7 rfl rfl)
theorem dX5_tick_214 : decode cX5_tick 214 = .ok (.iload_n 1, 1) := dk_27 (dk_at dksX5_tick_9 10 rfl rfl)
theorem dX5_tick_215 : decode cX5_tick 215 = .ok (.invokevirtual 78, 3) := dk_182 0 78 (dk_at dksX5_tick_9 11 rfl rfl)
theorem dX5_tick_218 : decode cX5_tick 218 = .ok (.checkcast 46, 3) := dk_192 0 46 (dk_at dksX5_tick_9 14 rfl rfl)
theorem dX5_tick_221 : decode cX5_tick 221 = .ok (.dup, 1) := dk_89 (dk_at dksX5_tick_9 17 rfl rfl)
theorem dX5_tick_222 : decode cX5_tick 222 = .ok (.getfield 121, 3) := dk_180 0 121 (dk_at dksX5_tick_9 18 rfl rfl)
theorem dX5_tick_225 : decode cX5_tick 225 = .ok (.iload_n 1, 1) := dk_27 (dk_at dksX5_tick_9 21 rfl rfl)
theorem dX5_tick_226 : decode cX5_tick 226 = .ok (.aload_n 0, 1) := dk_42 (dk_at dksX5_tick_9 22 rfl rfl)
theorem dX5_tick_227 : decode cX5_tick 227 = .ok (.getfield 22, 3) := dk_180 0 22 (dk_at dksX5_tick_10 0 rfl rfl)
theorem dX5_tick_230 : decode cX5_tick 230 = .ok (.if_icmp .eq 24, 3) := dk_159 0 24 (dk_at dksX5_tick_10 3 rfl rfl)
theorem dX5_tick_233 : decode cX5_tick 233 = .ok (.aload_n 0, 1) := dk_42 (dk_at dksX5_tick_10 6 rfl rfl)
theorem dX5_tick_234 : decode cX5_tick 234 = .ok (.getfield 12, 3) := dk_180 0 12 (dk_at dksX5_tick_10 7 rfl rfl)
theorem dX5_tick_237 : decode cX5_tick 237 = .ok (.iload_n 1, 1) := dk_27 (dk_at dksX5_tick_10 10 rfl rfl)
theorem dX5_tick_238 : decode cX5_tick 238 = .ok (.invokevirtual 78, 3) := dk_182 0 78 (dk_at dksX5_tick_10 11 rfl rfl)
theorem dX5_tick_241 : decode cX5_tick 241 = .ok (.checkcast 46, 3) := dk_192 0 46 (dk_at dksX5_tick_10 14 rfl rfl)
theorem dX5_tick_244 : decode cX5_tick 244 = .ok (.getfield 95, 3) := dk_180 0 95 (dk_at dksX5_tick_10 17 rfl rfl)
theorem dX5_tick_247 : decode cX5_tick 247 = .ok (.ifCond .ne 7, 3) := dk_154 0 7 (dk_at dksX5_tick_10 20 rfl rfl)
theorem dX5_tick_250 : decode cX5_tick 250 = .ok (.iconst 1, 1) := dk_4 (dk_at dksX5_tick_10 23 rfl rfl)
theorem dX5_tick_251 : decode cX5_tick 251 = .ok (.goto 4, 3) := dk_167 0 4 (dk_at dksX5_tick_11 0 rfl rfl)
theorem dX5_tick_254 : decode cX5_tick 254 = .ok (.iconst 0, 1) := dk_3 (dk_at dksX5_tick_11 3 rfl rfl)
theorem dX5_tick_255 : decode cX5_tick 255 = .ok (.iadd, 1) := dk_96 (dk_at dksX5_tick_11 4 rfl rfl)
theorem dX5_tick_256 : decode cX5_tick 256 = .ok (.putfield 121, 3) := dk_181 0 121 (dk_at dksX5_tick_11 5 rfl rfl)
theorem dX5_tick_259 : decode cX5_tick 259 = .ok (.iinc 1 1, 3) := dk_132 1 1 (dk_at dksX5_tick_11 8 rfl rfl)
theorem dX5_tick_262 : decode cX5_tick 262 = .ok (.goto (-63), 3) := dk_167 255 193 (dk_at dksX5_tick_11 11 rfl rfl)
theorem dX5_tick_265 : decode cX5_tick 265 = .ok (.aload_n 0, 1) := dk_42 (dk_at dksX5_tick_11 14 rfl rfl)
theorem dX5_tick_266 : decode cX5_tick 266 = .ok (.getfield 12, 3) := dk_180 0 12 (dk_at dksX5_tick_11 15 rfl rfl)
theorem dX5_tick_269 : decode cX5_tick 269 = .ok (.aload_n 0, 1) := dk_42 (dk_at dksX5_tick_11 18 rfl rfl)
theorem dX5_tick_270 : decode cX5_tick 270 = .ok (.getfield 22, 3) := dk_180 0 22 (dk_at dksX5_tick_11 19 rfl rfl)
theorem dX5_tick_273 : decode cX5_tick 273 = .ok (.invokevirtual 78, 3) := dk_182 0 78 (dk_at dksX5_tick_12 0 rfl rfl)
theorem dX5_tick_276 : decode cX5_tick 276 = .ok (.checkcast 46, 3) := dk_192 0 46 (dk_at dksX5_tick_12 3 rfl rfl)
theorem dX5_tick_279 : decode cX5_tick 279 = .ok (.astore_n 1, 1) := dk_76 (dk_at dksX5_tick_12 6 rfl rfl)
theorem dX5_tick_280 : decode cX5_tick 280 = .ok (.aload_n 1, 1) := dk_43 (dk_at dksX5_tick_12 7 rfl rfl)
theorem dX5_tick_281 : decode cX5_tick 281 = .ok (.dup, 1) := dk_89 (dk_at dksX5_tick_12 8 rfl rfl)
theorem dX5_tick_282 : decode cX5_tick 282 = .ok (.getfield 110, 3) := dk_180 0 110 (dk_at dksX5_tick_12 9 rfl rfl)
theorem dX5_tick_285 : decode cX5_tick 285 = .ok (.iconst 1, 1) := dk_4 (dk_at dksX5_tick_12 12 rfl rfl)
theorem dX5_tick_286 : decode cX5_tick 286 = .ok (.isub, 1) := dk_100 (dk_at dksX5_tick_12 13 rfl rfl)
theorem dX5_tick_287 : decode cX5_tick 287 = .ok (.putfield 110, 3) := dk_181 0 110 (dk_at dksX5_tick_12 14 rfl rfl)
theorem dX5_tick_290 : decode cX5_tick 290 = .ok (.aload_n 0, 1) := dk_42 (dk_at dksX5_tick_12 17 rfl rfl)
theorem dX5_tick_291 : decode cX5_tick 291 = .ok (.aload_n 1, 1) := dk_43 (dk_at dksX5_tick_12 18 rfl rfl)
theorem dX5_tick_292 : decode cX5_tick 292 = .ok (.aload_n 1, 1) := dk_43 (dk_at dksX5_tick_12 19 rfl rfl)
theorem dX5_tick_293 : decode cX5_tick 293 = .ok (.getfield 124, 3) := dk_180 0 124 (dk_at dksX5_tick_12 20 rfl rfl)
theorem dX5_tick_296 : decode cX5_tick 296 = .ok (.aload_n 1, 1) := dk_43 (dk_at dksX5_tick_12 23 rfl rfl)
theorem dX5_tick_297 : decode cX5_tick 297 = .ok (.getfield 127, 3) := dk_180 0 127 (dk_at dksX5_tick_13 0 rfl rfl)
theorem dX5_tick_300 : decode cX5_tick 300 = .ok (.invokevirtual 78, 3) := dk_182 0 78 (dk_at dksX5_tick_13 3 rfl rfl)
theorem dX5_tick_303 : decode cX5_tick 303 = .ok (.checkcast 130, 3) := dk_192 0 130 (dk_at dksX5_tick_13 6 rfl rfl)
theorem dX5_tick_306 : decode cX5_tick 306 = .ok (.invokevirtual 131, 3) := dk_182 0 131 (dk_at dksX5_tick_13 9 rfl rfl)
theorem dX5_tick_309 : decode cX5_tick 309 = .ok (.aload_n 0, 1) := dk_42 (dk_at dksX5_tick_13 12 rfl rfl)
theorem dX5_tick_310 : decode cX5_tick 310 = .ok (.invokevirtual 135, 3) := dk_182 0 135 (dk_at dksX5_tick_13 13 rfl rfl)
theorem dX5_tick_313 : decode cX5_tick 313 = .ok (.iconst 0, 1) := dk_3 (dk_at dksX5_tick_13 16 rfl rfl)
theorem dX5_tick_314 : decode cX5_tick 314 = .ok (.istore_n 1, 1) := dk_60 (dk_at dksX5_tick_13 17 rfl rfl)
theorem dX5_tick_315 : decode cX5_tick 315 = .ok (.iload_n 1, 1) := dk_27 (dk_at dksX5_tick_13 18 rfl rfl)
theorem dX5_tick_316 : decode cX5_tick 316 = .ok (.aload_n 0, 1) := dk_42 (dk_at dksX5_tick_13 19 rfl rfl)
theorem dX5_tick_317 : decode cX5_tick 317 = .ok (.getfield 12, 3) := dk_180 0 12 (dk_at dksX5_tick_13 20 rfl rfl)
theorem dX5_tick_320 : decode cX5_tick 320 = .ok (.invokevirtual 74, 3) := dk_182 0 74 (dk_at dksX5_tick_14 0 rfl rfl)
theorem dX5_tick_323 : decode cX5_tick 323 = .ok (.if_icmp .ge 31, 3) := dk_162 0 31 (dk_at dksX5_tick_14 3 rfl rfl)
theorem dX5_tick_326 : decode cX5_tick 326 = .ok (.aload_n 0, 1) := dk_42 (dk_at dksX5_tick_14 6 rfl rfl)
theorem dX5_tick_327 : decode cX5_tick 327 = .ok (.getfield 12, 3) := dk_180 0 12 (dk_at dksX5_tick_14 7 rfl rfl)
theorem dX5_tick_330 : decode cX5_tick 330 = .ok (.iload_n 1, 1) := dk_27 (dk_at dksX5_tick_14 10 rfl rfl)
theorem dX5_tick_331 : decode cX5_tick 331 = .ok (.invokevirtual 78, 3) := dk_182 0 78 (dk_at dksX5_tick_14 11 rfl rfl)
theorem dX5_tick_334 : decode cX5_tick 334 = .ok (.checkcast 46, 3) := dk_192 0 46 (dk_at dksX5_tick_14 14 rfl rfl)
theorem dX5_tick_337 : decode cX5_tick 337 = .ok (.getfield 138, 3) := dk_180 0 138 (dk_at dksX5_tick_14 17 rfl rfl)
theorem dX5_tick_340 : decode cX5_tick 340 = .ok (.ifCond .eq 8, 3) := dk_153 0 8 (dk_at dksX5_tick_14 20 rfl rfl)
theorem dX5_tick_343 : decode cX5_tick 343 = .ok (.aload_n 0, 1) := dk_42 (dk_at dksX5_tick_14 23 rfl rfl)
theorem dX5_tick_344 : decode cX5_tick 344 = .ok (.iload_n 1, 1) := dk_27 (dk_at dksX5_tick_15 0 rfl rfl)
theorem dX5_tick_345 : decode cX5_tick 345 = .ok (.invokevirtual 142, 3) := dk_182 0 142 (dk_at dksX5_tick_15 1 rfl rfl)
theorem dX5_tick_348 : decode cX5_tick 348 = .ok (.iinc 1 1, 3) := dk_132 1 1 (dk_at dksX5_tick_15 4 rfl rfl)
theorem dX5_tick_351 : decode cX5_tick 351 = .ok (.goto (-36), 3) := dk_167 255 220 (dk_at dksX5_tick_15 7 rfl rfl)
theorem dX5_tick_354 : decode cX5_tick 354 = .ok (.return_, 1) := dk_177 (dk_at dksX5_tick_15 10 rfl rfl)
abbrev cX5_mostOf : ByteArray := prog_11_method_8_code
def yX5_mostOf : MethodName := ⟨RX5, "mostOf", "()I"⟩
def dkwX5_mostOf_2 : List UInt8 := [60, 167, 255, 221, 27, 172]
abbrev dktX5_mostOf_2 : List UInt8 := dkwX5_mostOf_2 ++ []
def dkwX5_mostOf_1 : List UInt8 := [185, 0, 42, 1, 0, 192, 0, 46, 78, 45, 180, 0, 95, 154, 0, 12, 27, 45, 180, 0, 110, 184, 0, 146]
abbrev dktX5_mostOf_1 : List UInt8 := dkwX5_mostOf_1 ++ dktX5_mostOf_2
def dkwX5_mostOf_0 : List UInt8 := [2, 60, 42, 180, 0, 12, 182, 0, 32, 77, 44, 185, 0, 36, 1, 0, 153, 0, 32, 44]
abbrev dktX5_mostOf_0 : List UInt8 := dkwX5_mostOf_0 ++ dktX5_mostOf_1
theorem dksX5_mostOf_0 : cX5_mostOf.data.toList.drop 0 = dktX5_mostOf_0 := by decide +kernel
theorem dksX5_mostOf_1 : cX5_mostOf.data.toList.drop 20 = dktX5_mostOf_1 := dk_seg dksX5_mostOf_0 20 rfl rfl
theorem dksX5_mostOf_2 : cX5_mostOf.data.toList.drop 44 = dktX5_mostOf_2 := dk_seg dksX5_mostOf_1 24 rfl rfl
theorem dX5_mostOf_0 : decode cX5_mostOf 0 = .ok (.iconst (-1), 1) := dk_2 (dk_at dksX5_mostOf_0 0 rfl rfl)
theorem dX5_mostOf_1 : decode cX5_mostOf 1 = .ok (.istore_n 1, 1) := dk_60 (dk_at dksX5_mostOf_0 1 rfl rfl)
theorem dX5_mostOf_2 : decode cX5_mostOf 2 = .ok (.aload_n 0, 1) := dk_42 (dk_at dksX5_mostOf_0 2 rfl rfl)
theorem dX5_mostOf_3 : decode cX5_mostOf 3 = .ok (.getfield 12, 3) := dk_180 0 12 (dk_at dksX5_mostOf_0 3 rfl rfl)
theorem dX5_mostOf_6 : decode cX5_mostOf 6 = .ok (.invokevirtual 32, 3) := dk_182 0 32 (dk_at dksX5_mostOf_0 6 rfl rfl)
theorem dX5_mostOf_9 : decode cX5_mostOf 9 = .ok (.astore_n 2, 1) := dk_77 (dk_at dksX5_mostOf_0 9 rfl rfl)
theorem dX5_mostOf_10 : decode cX5_mostOf 10 = .ok (.aload_n 2, 1) := dk_44 (dk_at dksX5_mostOf_0 10 rfl rfl)
theorem dX5_mostOf_11 : decode cX5_mostOf 11 = .ok (.invokeinterface 36 1, 5) := by decide +kernel
theorem dX5_mostOf_16 : decode cX5_mostOf 16 = .ok (.ifCond .eq 32, 3) := dk_153 0 32 (dk_at dksX5_mostOf_0 16 rfl rfl)
theorem dX5_mostOf_19 : decode cX5_mostOf 19 = .ok (.aload_n 2, 1) := dk_44 (dk_at dksX5_mostOf_0 19 rfl rfl)
theorem dX5_mostOf_20 : decode cX5_mostOf 20 = .ok (.invokeinterface 42 1, 5) := by decide +kernel
theorem dX5_mostOf_25 : decode cX5_mostOf 25 = .ok (.checkcast 46, 3) := dk_192 0 46 (dk_at dksX5_mostOf_1 5 rfl rfl)
theorem dX5_mostOf_28 : decode cX5_mostOf 28 = .ok (.astore_n 3, 1) := dk_78 (dk_at dksX5_mostOf_1 8 rfl rfl)
theorem dX5_mostOf_29 : decode cX5_mostOf 29 = .ok (.aload_n 3, 1) := dk_45 (dk_at dksX5_mostOf_1 9 rfl rfl)
theorem dX5_mostOf_30 : decode cX5_mostOf 30 = .ok (.getfield 95, 3) := dk_180 0 95 (dk_at dksX5_mostOf_1 10 rfl rfl)
theorem dX5_mostOf_33 : decode cX5_mostOf 33 = .ok (.ifCond .ne 12, 3) := dk_154 0 12 (dk_at dksX5_mostOf_1 13 rfl rfl)
theorem dX5_mostOf_36 : decode cX5_mostOf 36 = .ok (.iload_n 1, 1) := dk_27 (dk_at dksX5_mostOf_1 16 rfl rfl)
theorem dX5_mostOf_37 : decode cX5_mostOf 37 = .ok (.aload_n 3, 1) := dk_45 (dk_at dksX5_mostOf_1 17 rfl rfl)
theorem dX5_mostOf_38 : decode cX5_mostOf 38 = .ok (.getfield 110, 3) := dk_180 0 110 (dk_at dksX5_mostOf_1 18 rfl rfl)
theorem dX5_mostOf_41 : decode cX5_mostOf 41 = .ok (.invokestatic 146, 3) := dk_184 0 146 (dk_at dksX5_mostOf_1 21 rfl rfl)
theorem dX5_mostOf_44 : decode cX5_mostOf 44 = .ok (.istore_n 1, 1) := dk_60 (dk_at dksX5_mostOf_2 0 rfl rfl)
theorem dX5_mostOf_45 : decode cX5_mostOf 45 = .ok (.goto (-35), 3) := dk_167 255 221 (dk_at dksX5_mostOf_2 1 rfl rfl)
theorem dX5_mostOf_48 : decode cX5_mostOf 48 = .ok (.iload_n 1, 1) := dk_27 (dk_at dksX5_mostOf_2 4 rfl rfl)
theorem dX5_mostOf_49 : decode cX5_mostOf 49 = .ok (.ireturn, 1) := dk_172 (dk_at dksX5_mostOf_2 5 rfl rfl)
abbrev cX5_next : ByteArray := prog_11_method_9_code
def yX5_next : MethodName := ⟨RX5, "next", "()I"⟩
def dkwX5_next_2 : List UInt8 := [180, 0, 110, 27, 160, 0, 5, 28, 172, 132, 2, 1, 167, 255, 205, 2, 172]
abbrev dktX5_next_2 : List UInt8 := dkwX5_next_2 ++ []
def dkwX5_next_1 : List UInt8 := [182, 0, 78, 192, 0, 46, 180, 0, 95, 154, 0, 23, 42, 180, 0, 12, 28, 182, 0, 78, 192, 0, 46]
abbrev dktX5_next_1 : List UInt8 := dkwX5_next_1 ++ dktX5_next_2
def dkwX5_next_0 : List UInt8 := [42, 182, 0, 104, 60, 3, 61, 28, 42, 180, 0, 12, 182, 0, 74, 162, 0, 46, 42, 180, 0, 12, 28]
abbrev dktX5_next_0 : List UInt8 := dkwX5_next_0 ++ dktX5_next_1
theorem dksX5_next_0 : cX5_next.data.toList.drop 0 = dktX5_next_0 := by decide +kernel
theorem dksX5_next_1 : cX5_next.data.toList.drop 23 = dktX5_next_1 := dk_seg dksX5_next_0 23 rfl rfl
theorem dksX5_next_2 : cX5_next.data.toList.drop 46 = dktX5_next_2 := dk_seg dksX5_next_1 23 rfl rfl
theorem dX5_next_0 : decode cX5_next 0 = .ok (.aload_n 0, 1) := dk_42 (dk_at dksX5_next_0 0 rfl rfl)
theorem dX5_next_1 : decode cX5_next 1 = .ok (.invokevirtual 104, 3) := dk_182 0 104 (dk_at dksX5_next_0 1 rfl rfl)
theorem dX5_next_4 : decode cX5_next 4 = .ok (.istore_n 1, 1) := dk_60 (dk_at dksX5_next_0 4 rfl rfl)
theorem dX5_next_5 : decode cX5_next 5 = .ok (.iconst 0, 1) := dk_3 (dk_at dksX5_next_0 5 rfl rfl)
theorem dX5_next_6 : decode cX5_next 6 = .ok (.istore_n 2, 1) := dk_61 (dk_at dksX5_next_0 6 rfl rfl)
theorem dX5_next_7 : decode cX5_next 7 = .ok (.iload_n 2, 1) := dk_28 (dk_at dksX5_next_0 7 rfl rfl)
theorem dX5_next_8 : decode cX5_next 8 = .ok (.aload_n 0, 1) := dk_42 (dk_at dksX5_next_0 8 rfl rfl)
theorem dX5_next_9 : decode cX5_next 9 = .ok (.getfield 12, 3) := dk_180 0 12 (dk_at dksX5_next_0 9 rfl rfl)
theorem dX5_next_12 : decode cX5_next 12 = .ok (.invokevirtual 74, 3) := dk_182 0 74 (dk_at dksX5_next_0 12 rfl rfl)
theorem dX5_next_15 : decode cX5_next 15 = .ok (.if_icmp .ge 46, 3) := dk_162 0 46 (dk_at dksX5_next_0 15 rfl rfl)
theorem dX5_next_18 : decode cX5_next 18 = .ok (.aload_n 0, 1) := dk_42 (dk_at dksX5_next_0 18 rfl rfl)
theorem dX5_next_19 : decode cX5_next 19 = .ok (.getfield 12, 3) := dk_180 0 12 (dk_at dksX5_next_0 19 rfl rfl)
theorem dX5_next_22 : decode cX5_next 22 = .ok (.iload_n 2, 1) := dk_28 (dk_at dksX5_next_0 22 rfl rfl)
theorem dX5_next_23 : decode cX5_next 23 = .ok (.invokevirtual 78, 3) := dk_182 0 78 (dk_at dksX5_next_1 0 rfl rfl)
theorem dX5_next_26 : decode cX5_next 26 = .ok (.checkcast 46, 3) := dk_192 0 46 (dk_at dksX5_next_1 3 rfl rfl)
theorem dX5_next_29 : decode cX5_next 29 = .ok (.getfield 95, 3) := dk_180 0 95 (dk_at dksX5_next_1 6 rfl rfl)
theorem dX5_next_32 : decode cX5_next 32 = .ok (.ifCond .ne 23, 3) := dk_154 0 23 (dk_at dksX5_next_1 9 rfl rfl)
theorem dX5_next_35 : decode cX5_next 35 = .ok (.aload_n 0, 1) := dk_42 (dk_at dksX5_next_1 12 rfl rfl)
theorem dX5_next_36 : decode cX5_next 36 = .ok (.getfield 12, 3) := dk_180 0 12 (dk_at dksX5_next_1 13 rfl rfl)
theorem dX5_next_39 : decode cX5_next 39 = .ok (.iload_n 2, 1) := dk_28 (dk_at dksX5_next_1 16 rfl rfl)
theorem dX5_next_40 : decode cX5_next 40 = .ok (.invokevirtual 78, 3) := dk_182 0 78 (dk_at dksX5_next_1 17 rfl rfl)
theorem dX5_next_43 : decode cX5_next 43 = .ok (.checkcast 46, 3) := dk_192 0 46 (dk_at dksX5_next_1 20 rfl rfl)
theorem dX5_next_46 : decode cX5_next 46 = .ok (.getfield 110, 3) := dk_180 0 110 (dk_at dksX5_next_2 0 rfl rfl)
theorem dX5_next_49 : decode cX5_next 49 = .ok (.iload_n 1, 1) := dk_27 (dk_at dksX5_next_2 3 rfl rfl)
theorem dX5_next_50 : decode cX5_next 50 = .ok (.if_icmp .ne 5, 3) := dk_160 0 5 (dk_at dksX5_next_2 4 rfl rfl)
theorem dX5_next_53 : decode cX5_next 53 = .ok (.iload_n 2, 1) := dk_28 (dk_at dksX5_next_2 7 rfl rfl)
theorem dX5_next_54 : decode cX5_next 54 = .ok (.ireturn, 1) := dk_172 (dk_at dksX5_next_2 8 rfl rfl)
theorem dX5_next_55 : decode cX5_next 55 = .ok (.iinc 2 1, 3) := dk_132 2 1 (dk_at dksX5_next_2 9 rfl rfl)
theorem dX5_next_58 : decode cX5_next 58 = .ok (.goto (-51), 3) := dk_167 255 205 (dk_at dksX5_next_2 12 rfl rfl)
theorem dX5_next_61 : decode cX5_next 61 = .ok (.iconst (-1), 1) := dk_2 (dk_at dksX5_next_2 15 rfl rfl)
theorem dX5_next_62 : decode cX5_next 62 = .ok (.ireturn, 1) := dk_172 (dk_at dksX5_next_2 16 rfl rfl)
abbrev cX5_does : ByteArray := prog_11_method_10_code
def yX5_does : MethodName := ⟨RX5, "does", "(LHyperVaneModel$Guest;[I)V"⟩
def dkwX5_does_6 : List UInt8 := [43, 180, 0, 110, 184, 0, 113, 181, 0, 110, 167, 0, 3, 43, 182, 0, 168, 177]
abbrev dktX5_does_6 : List UInt8 := dkwX5_does_6 ++ []
def dkwX5_does_5 : List UInt8 := [43, 180, 0, 98, 17, 3, 232, 112, 181, 0, 165, 43, 43, 180, 0, 165, 182, 0, 162, 167, 0, 18, 43, 3]
abbrev dktX5_does_5 : List UInt8 := dkwX5_does_5 ++ dktX5_does_6
def dkwX5_does_4 : List UInt8 := [180, 0, 165, 43, 180, 0, 156, 96, 17, 3, 232, 112, 181, 0, 165, 43, 3, 181, 0, 156, 167, 0, 41, 43]
abbrev dktX5_does_4 : List UInt8 := dkwX5_does_4 ++ dktX5_does_5
def dkwX5_does_3 : List UInt8 := [5, 92, 46, 4, 96, 79, 43, 4, 181, 0, 95, 177, 43, 43, 180, 0, 156, 182, 0, 162, 43, 43]
abbrev dktX5_does_3 : List UInt8 := dkwX5_does_3 ++ dktX5_does_4
def dkwX5_does_2 : List UInt8 := [42, 43, 44, 182, 0, 149, 177, 42, 43, 182, 0, 152, 177, 43, 180, 0, 156, 154, 0, 19, 43, 180, 0, 159]
abbrev dktX5_does_2 : List UInt8 := dkwX5_does_2 ++ dktX5_does_3
def dkwX5_does_1 : List UInt8 := [170, 0, 0, 0, 144, 0, 0, 0, 1, 0, 0, 0, 6, 0, 0, 0, 37, 0, 0, 0, 37, 0, 0, 0, 44, 0, 0, 0, 50, 0, 0, 0, 106, 0, 0, 0, 129]
abbrev dktX5_does_1 : List UInt8 := dkwX5_does_1 ++ dktX5_does_2
def dkwX5_does_0 : List UInt8 := [44, 3, 46]
abbrev dktX5_does_0 : List UInt8 := dkwX5_does_0 ++ dktX5_does_1
theorem dksX5_does_0 : cX5_does.data.toList.drop 0 = dktX5_does_0 := by decide +kernel
theorem dksX5_does_1 : cX5_does.data.toList.drop 3 = dktX5_does_1 := dk_seg dksX5_does_0 3 rfl rfl
theorem dksX5_does_2 : cX5_does.data.toList.drop 40 = dktX5_does_2 := dk_seg dksX5_does_1 37 rfl rfl
theorem dksX5_does_3 : cX5_does.data.toList.drop 64 = dktX5_does_3 := dk_seg dksX5_does_2 24 rfl rfl
theorem dksX5_does_4 : cX5_does.data.toList.drop 86 = dktX5_does_4 := dk_seg dksX5_does_3 22 rfl rfl
theorem dksX5_does_5 : cX5_does.data.toList.drop 110 = dktX5_does_5 := dk_seg dksX5_does_4 24 rfl rfl
theorem dksX5_does_6 : cX5_does.data.toList.drop 134 = dktX5_does_6 := dk_seg dksX5_does_5 24 rfl rfl
theorem dX5_does_0 : decode cX5_does 0 = .ok (.aload_n 2, 1) := dk_44 (dk_at dksX5_does_0 0 rfl rfl)
theorem dX5_does_1 : decode cX5_does 1 = .ok (.iconst 0, 1) := dk_3 (dk_at dksX5_does_0 1 rfl rfl)
theorem dX5_does_2 : decode cX5_does 2 = .ok (.iaload, 1) := dk_46 (dk_at dksX5_does_0 2 rfl rfl)
theorem dX5_does_3 : decode cX5_does 3 = .ok (.tableswitch 144 1 6 #[37, 37, 44, 50, 106, 129], 37) := by decide +kernel
theorem dX5_does_40 : decode cX5_does 40 = .ok (.aload_n 0, 1) := dk_42 (dk_at dksX5_does_2 0 rfl rfl)
theorem dX5_does_41 : decode cX5_does 41 = .ok (.aload_n 1, 1) := dk_43 (dk_at dksX5_does_2 1 rfl rfl)
theorem dX5_does_42 : decode cX5_does 42 = .ok (.aload_n 2, 1) := dk_44 (dk_at dksX5_does_2 2 rfl rfl)
theorem dX5_does_43 : decode cX5_does 43 = .ok (.invokevirtual 149, 3) := dk_182 0 149 (dk_at dksX5_does_2 3 rfl rfl)
theorem dX5_does_46 : decode cX5_does 46 = .ok (.return_, 1) := dk_177 (dk_at dksX5_does_2 6 rfl rfl)
theorem dX5_does_47 : decode cX5_does 47 = .ok (.aload_n 0, 1) := dk_42 (dk_at dksX5_does_2 7 rfl rfl)
theorem dX5_does_48 : decode cX5_does 48 = .ok (.aload_n 1, 1) := dk_43 (dk_at dksX5_does_2 8 rfl rfl)
theorem dX5_does_49 : decode cX5_does 49 = .ok (.invokevirtual 152, 3) := dk_182 0 152 (dk_at dksX5_does_2 9 rfl rfl)
theorem dX5_does_52 : decode cX5_does 52 = .ok (.return_, 1) := dk_177 (dk_at dksX5_does_2 12 rfl rfl)
theorem dX5_does_53 : decode cX5_does 53 = .ok (.aload_n 1, 1) := dk_43 (dk_at dksX5_does_2 13 rfl rfl)
theorem dX5_does_54 : decode cX5_does 54 = .ok (.getfield 156, 3) := dk_180 0 156 (dk_at dksX5_does_2 14 rfl rfl)
theorem dX5_does_57 : decode cX5_does 57 = .ok (.ifCond .ne 19, 3) := dk_154 0 19 (dk_at dksX5_does_2 17 rfl rfl)
theorem dX5_does_60 : decode cX5_does 60 = .ok (.aload_n 1, 1) := dk_43 (dk_at dksX5_does_2 20 rfl rfl)
theorem dX5_does_61 : decode cX5_does 61 = .ok (.getfield 159, 3) := dk_180 0 159 (dk_at dksX5_does_2 21 rfl rfl)
theorem dX5_does_64 : decode cX5_does 64 = .ok (.iconst 2, 1) := dk_5 (dk_at dksX5_does_3 0 rfl rfl)
theorem dX5_does_65 : decode cX5_does 65 = .ok (.dup2, 1) := dk_92 (dk_at dksX5_does_3 1 rfl rfl)
theorem dX5_does_66 : decode cX5_does 66 = .ok (.iaload, 1) := dk_46 (dk_at dksX5_does_3 2 rfl rfl)
theorem dX5_does_67 : decode cX5_does 67 = .ok (.iconst 1, 1) := dk_4 (dk_at dksX5_does_3 3 rfl rfl)
theorem dX5_does_68 : decode cX5_does 68 = .ok (.iadd, 1) := dk_96 (dk_at dksX5_does_3 4 rfl rfl)
theorem dX5_does_69 : decode cX5_does 69 = .ok (.iastore, 1) := dk_79 (dk_at dksX5_does_3 5 rfl rfl)
theorem dX5_does_70 : decode cX5_does 70 = .ok (.aload_n 1, 1) := dk_43 (dk_at dksX5_does_3 6 rfl rfl)
theorem dX5_does_71 : decode cX5_does 71 = .ok (.iconst 1, 1) := dk_4 (dk_at dksX5_does_3 7 rfl rfl)
theorem dX5_does_72 : decode cX5_does 72 = .ok (.putfield 95, 3) := dk_181 0 95 (dk_at dksX5_does_3 8 rfl rfl)
theorem dX5_does_75 : decode cX5_does 75 = .ok (.return_, 1) := dk_177 (dk_at dksX5_does_3 11 rfl rfl)
theorem dX5_does_76 : decode cX5_does 76 = .ok (.aload_n 1, 1) := dk_43 (dk_at dksX5_does_3 12 rfl rfl)
theorem dX5_does_77 : decode cX5_does 77 = .ok (.aload_n 1, 1) := dk_43 (dk_at dksX5_does_3 13 rfl rfl)
theorem dX5_does_78 : decode cX5_does 78 = .ok (.getfield 156, 3) := dk_180 0 156 (dk_at dksX5_does_3 14 rfl rfl)
theorem dX5_does_81 : decode cX5_does 81 = .ok (.invokevirtual 162, 3) := dk_182 0 162 (dk_at dksX5_does_3 17 rfl rfl)
theorem dX5_does_84 : decode cX5_does 84 = .ok (.aload_n 1, 1) := dk_43 (dk_at dksX5_does_3 20 rfl rfl)
theorem dX5_does_85 : decode cX5_does 85 = .ok (.aload_n 1, 1) := dk_43 (dk_at dksX5_does_3 21 rfl rfl)
theorem dX5_does_86 : decode cX5_does 86 = .ok (.getfield 165, 3) := dk_180 0 165 (dk_at dksX5_does_4 0 rfl rfl)
theorem dX5_does_89 : decode cX5_does 89 = .ok (.aload_n 1, 1) := dk_43 (dk_at dksX5_does_4 3 rfl rfl)
theorem dX5_does_90 : decode cX5_does 90 = .ok (.getfield 156, 3) := dk_180 0 156 (dk_at dksX5_does_4 4 rfl rfl)
theorem dX5_does_93 : decode cX5_does 93 = .ok (.iadd, 1) := dk_96 (dk_at dksX5_does_4 7 rfl rfl)
theorem dX5_does_94 : decode cX5_does 94 = .ok (.sipush 1000, 3) := dk_17 3 232 (dk_at dksX5_does_4 8 rfl rfl)
theorem dX5_does_97 : decode cX5_does 97 = .ok (.irem, 1) := dk_112 (dk_at dksX5_does_4 11 rfl rfl)
theorem dX5_does_98 : decode cX5_does 98 = .ok (.putfield 165, 3) := dk_181 0 165 (dk_at dksX5_does_4 12 rfl rfl)
theorem dX5_does_101 : decode cX5_does 101 = .ok (.aload_n 1, 1) := dk_43 (dk_at dksX5_does_4 15 rfl rfl)
theorem dX5_does_102 : decode cX5_does 102 = .ok (.iconst 0, 1) := dk_3 (dk_at dksX5_does_4 16 rfl rfl)
theorem dX5_does_103 : decode cX5_does 103 = .ok (.putfield 156, 3) := dk_181 0 156 (dk_at dksX5_does_4 17 rfl rfl)
theorem dX5_does_106 : decode cX5_does 106 = .ok (.goto 41, 3) := dk_167 0 41 (dk_at dksX5_does_4 20 rfl rfl)
theorem dX5_does_109 : decode cX5_does 109 = .ok (.aload_n 1, 1) := dk_43 (dk_at dksX5_does_4 23 rfl rfl)
theorem dX5_does_110 : decode cX5_does 110 = .ok (.aload_n 1, 1) := dk_43 (dk_at dksX5_does_5 0 rfl rfl)
theorem dX5_does_111 : decode cX5_does 111 = .ok (.getfield 98, 3) := dk_180 0 98 (dk_at dksX5_does_5 1 rfl rfl)
theorem dX5_does_114 : decode cX5_does 114 = .ok (.sipush 1000, 3) := dk_17 3 232 (dk_at dksX5_does_5 4 rfl rfl)
theorem dX5_does_117 : decode cX5_does 117 = .ok (.irem, 1) := dk_112 (dk_at dksX5_does_5 7 rfl rfl)
theorem dX5_does_118 : decode cX5_does 118 = .ok (.putfield 165, 3) := dk_181 0 165 (dk_at dksX5_does_5 8 rfl rfl)
theorem dX5_does_121 : decode cX5_does 121 = .ok (.aload_n 1, 1) := dk_43 (dk_at dksX5_does_5 11 rfl rfl)
theorem dX5_does_122 : decode cX5_does 122 = .ok (.aload_n 1, 1) := dk_43 (dk_at dksX5_does_5 12 rfl rfl)
theorem dX5_does_123 : decode cX5_does 123 = .ok (.getfield 165, 3) := dk_180 0 165 (dk_at dksX5_does_5 13 rfl rfl)
theorem dX5_does_126 : decode cX5_does 126 = .ok (.invokevirtual 162, 3) := dk_182 0 162 (dk_at dksX5_does_5 16 rfl rfl)
theorem dX5_does_129 : decode cX5_does 129 = .ok (.goto 18, 3) := dk_167 0 18 (dk_at dksX5_does_5 19 rfl rfl)
theorem dX5_does_132 : decode cX5_does 132 = .ok (.aload_n 1, 1) := dk_43 (dk_at dksX5_does_5 22 rfl rfl)
theorem dX5_does_133 : decode cX5_does 133 = .ok (.iconst 0, 1) := dk_3 (dk_at dksX5_does_5 23 rfl rfl)
theorem dX5_does_134 : decode cX5_does 134 = .ok (.aload_n 1, 1) := dk_43 (dk_at dksX5_does_6 0 rfl rfl)
theorem dX5_does_135 : decode cX5_does 135 = .ok (.getfield 110, 3) := dk_180 0 110 (dk_at dksX5_does_6 1 rfl rfl)
theorem dX5_does_138 : decode cX5_does 138 = .ok (.invokestatic 113, 3) := dk_184 0 113 (dk_at dksX5_does_6 4 rfl rfl)
theorem dX5_does_141 : decode cX5_does 141 = .ok (.putfield 110, 3) := dk_181 0 110 (dk_at dksX5_does_6 7 rfl rfl)
theorem dX5_does_144 : decode cX5_does 144 = .ok (.goto 3, 3) := dk_167 0 3 (dk_at dksX5_does_6 10 rfl rfl)
theorem dX5_does_147 : decode cX5_does 147 = .ok (.aload_n 1, 1) := dk_43 (dk_at dksX5_does_6 13 rfl rfl)
theorem dX5_does_148 : decode cX5_does 148 = .ok (.invokevirtual 168, 3) := dk_182 0 168 (dk_at dksX5_does_6 14 rfl rfl)
theorem dX5_does_151 : decode cX5_does 151 = .ok (.return_, 1) := dk_177 (dk_at dksX5_does_6 17 rfl rfl)
abbrev cX5_touch : ByteArray := prog_11_method_11_code
def yX5_touch : MethodName := ⟨RX5, "touch", "(LHyperVaneModel$Guest;[I)V"⟩
def dkwX5_touch_9 : List UInt8 := [43, 182, 0, 168, 177]
abbrev dktX5_touch_9 : List UInt8 := dkwX5_touch_9 ++ []
def dkwX5_touch_8 : List UInt8 := [17, 3, 232, 112, 79, 43, 180, 0, 138, 153, 0, 15, 43, 89, 180, 0, 181, 4, 29, 120, 128, 181, 0, 181]
abbrev dktX5_touch_8 : List UInt8 := dkwX5_touch_8 ++ dktX5_touch_9
def dkwX5_touch_7 : List UInt8 := [167, 0, 47, 43, 180, 0, 178, 29, 6, 43, 180, 0, 178, 29, 46, 104, 43, 180, 0, 165, 96, 4, 96]
abbrev dktX5_touch_7 : List UInt8 := dkwX5_touch_7 ++ dktX5_touch_8
def dkwX5_touch_6 : List UInt8 := [160, 0, 27, 43, 43, 180, 0, 165, 43, 180, 0, 178, 29, 46, 96, 4, 96, 17, 3, 232, 112, 181, 0, 165]
abbrev dktX5_touch_6 : List UInt8 := dkwX5_touch_6 ++ dktX5_touch_7
def dkwX5_touch_5 : List UInt8 := [180, 0, 56, 5, 96, 181, 0, 101, 177, 43, 180, 0, 92, 29, 42, 180, 0, 56, 79, 44, 3, 46, 4]
abbrev dktX5_touch_5 : List UInt8 := dkwX5_touch_5 ++ dktX5_touch_6
def dkwX5_touch_4 : List UInt8 := [43, 180, 0, 92, 29, 42, 180, 0, 56, 79, 21, 4, 154, 0, 4, 177, 43, 5, 181, 0, 95, 43, 42]
abbrev dktX5_touch_4 : List UInt8 := dkwX5_touch_4 ++ dktX5_touch_5
def dkwX5_touch_3 : List UInt8 := [54, 5, 42, 21, 5, 182, 0, 174, 87, 43, 180, 0, 82, 29, 3, 79, 43, 180, 0, 86, 29, 21, 5, 79]
abbrev dktX5_touch_3 : List UInt8 := dkwX5_touch_3 ++ dktX5_touch_4
def dkwX5_touch_2 : List UInt8 := [4, 96, 79, 43, 180, 0, 82, 29, 46, 4, 160, 0, 7, 4, 167, 0, 4, 3, 54, 4, 42, 182, 0, 171]
abbrev dktX5_touch_2 : List UInt8 := dkwX5_touch_2 ++ dktX5_touch_3
def dkwX5_touch_1 : List UInt8 := [43, 180, 0, 82, 29, 6, 79, 177, 43, 180, 0, 82, 29, 46, 153, 0, 90, 43, 180, 0, 159, 3, 92, 46]
abbrev dktX5_touch_1 : List UInt8 := dkwX5_touch_1 ++ dktX5_touch_2
def dkwX5_touch_0 : List UInt8 := [44, 4, 46, 62, 43, 180, 0, 82, 29, 46, 5, 160, 0, 21, 43, 180, 0, 159, 6, 92, 46, 4, 96, 79]
abbrev dktX5_touch_0 : List UInt8 := dkwX5_touch_0 ++ dktX5_touch_1
theorem dksX5_touch_0 : cX5_touch.data.toList.drop 0 = dktX5_touch_0 := by decide +kernel
theorem dksX5_touch_1 : cX5_touch.data.toList.drop 24 = dktX5_touch_1 := dk_seg dksX5_touch_0 24 rfl rfl
theorem dksX5_touch_2 : cX5_touch.data.toList.drop 48 = dktX5_touch_2 := dk_seg dksX5_touch_1 24 rfl rfl
theorem dksX5_touch_3 : cX5_touch.data.toList.drop 72 = dktX5_touch_3 := dk_seg dksX5_touch_2 24 rfl rfl
theorem dksX5_touch_4 : cX5_touch.data.toList.drop 96 = dktX5_touch_4 := dk_seg dksX5_touch_3 24 rfl rfl
theorem dksX5_touch_5 : cX5_touch.data.toList.drop 119 = dktX5_touch_5 := dk_seg dksX5_touch_4 23 rfl rfl
theorem dksX5_touch_6 : cX5_touch.data.toList.drop 142 = dktX5_touch_6 := dk_seg dksX5_touch_5 23 rfl rfl
theorem dksX5_touch_7 : cX5_touch.data.toList.drop 166 = dktX5_touch_7 := dk_seg dksX5_touch_6 24 rfl rfl
theorem dksX5_touch_8 : cX5_touch.data.toList.drop 189 = dktX5_touch_8 := dk_seg dksX5_touch_7 23 rfl rfl
theorem dksX5_touch_9 : cX5_touch.data.toList.drop 213 = dktX5_touch_9 := dk_seg dksX5_touch_8 24 rfl rfl
theorem dX5_touch_0 : decode cX5_touch 0 = .ok (.aload_n 2, 1) := dk_44 (dk_at dksX5_touch_0 0 rfl rfl)
theorem dX5_touch_1 : decode cX5_touch 1 = .ok (.iconst 1, 1) := dk_4 (dk_at dksX5_touch_0 1 rfl rfl)
theorem dX5_touch_2 : decode cX5_touch 2 = .ok (.iaload, 1) := dk_46 (dk_at dksX5_touch_0 2 rfl rfl)
theorem dX5_touch_3 : decode cX5_touch 3 = .ok (.istore_n 3, 1) := dk_62 (dk_at dksX5_touch_0 3 rfl rfl)
theorem dX5_touch_4 : decode cX5_touch 4 = .ok (.aload_n 1, 1) := dk_43 (dk_at dksX5_touch_0 4 rfl rfl)
theorem dX5_touch_5 : decode cX5_touch 5 = .ok (.getfield 82, 3) := dk_180 0 82 (dk_at dksX5_touch_0 5 rfl rfl)
theorem dX5_touch_8 : decode cX5_touch 8 = .ok (.iload_n 3, 1) := dk_29 (dk_at dksX5_touch_0 8 rfl rfl)
theorem dX5_touch_9 : decode cX5_touch 9 = .ok (.iaload, 1) := dk_46 (dk_at dksX5_touch_0 9 rfl rfl)
theorem dX5_touch_10 : decode cX5_touch 10 = .ok (.iconst 2, 1) := dk_5 (dk_at dksX5_touch_0 10 rfl rfl)
theorem dX5_touch_11 : decode cX5_touch 11 = .ok (.if_icmp .ne 21, 3) := dk_160 0 21 (dk_at dksX5_touch_0 11 rfl rfl)
theorem dX5_touch_14 : decode cX5_touch 14 = .ok (.aload_n 1, 1) := dk_43 (dk_at dksX5_touch_0 14 rfl rfl)
theorem dX5_touch_15 : decode cX5_touch 15 = .ok (.getfield 159, 3) := dk_180 0 159 (dk_at dksX5_touch_0 15 rfl rfl)
theorem dX5_touch_18 : decode cX5_touch 18 = .ok (.iconst 3, 1) := dk_6 (dk_at dksX5_touch_0 18 rfl rfl)
theorem dX5_touch_19 : decode cX5_touch 19 = .ok (.dup2, 1) := dk_92 (dk_at dksX5_touch_0 19 rfl rfl)
theorem dX5_touch_20 : decode cX5_touch 20 = .ok (.iaload, 1) := dk_46 (dk_at dksX5_touch_0 20 rfl rfl)
theorem dX5_touch_21 : decode cX5_touch 21 = .ok (.iconst 1, 1) := dk_4 (dk_at dksX5_touch_0 21 rfl rfl)
theorem dX5_touch_22 : decode cX5_touch 22 = .ok (.iadd, 1) := dk_96 (dk_at dksX5_touch_0 22 rfl rfl)
theorem dX5_touch_23 : decode cX5_touch 23 = .ok (.iastore, 1) := dk_79 (dk_at dksX5_touch_0 23 rfl rfl)
theorem dX5_touch_24 : decode cX5_touch 24 = .ok (.aload_n 1, 1) := dk_43 (dk_at dksX5_touch_1 0 rfl rfl)
theorem dX5_touch_25 : decode cX5_touch 25 = .ok (.getfield 82, 3) := dk_180 0 82 (dk_at dksX5_touch_1 1 rfl rfl)
theorem dX5_touch_28 : decode cX5_touch 28 = .ok (.iload_n 3, 1) := dk_29 (dk_at dksX5_touch_1 4 rfl rfl)
theorem dX5_touch_29 : decode cX5_touch 29 = .ok (.iconst 3, 1) := dk_6 (dk_at dksX5_touch_1 5 rfl rfl)
theorem dX5_touch_30 : decode cX5_touch 30 = .ok (.iastore, 1) := dk_79 (dk_at dksX5_touch_1 6 rfl rfl)
theorem dX5_touch_31 : decode cX5_touch 31 = .ok (.return_, 1) := dk_177 (dk_at dksX5_touch_1 7 rfl rfl)
theorem dX5_touch_32 : decode cX5_touch 32 = .ok (.aload_n 1, 1) := dk_43 (dk_at dksX5_touch_1 8 rfl rfl)
theorem dX5_touch_33 : decode cX5_touch 33 = .ok (.getfield 82, 3) := dk_180 0 82 (dk_at dksX5_touch_1 9 rfl rfl)
theorem dX5_touch_36 : decode cX5_touch 36 = .ok (.iload_n 3, 1) := dk_29 (dk_at dksX5_touch_1 12 rfl rfl)
theorem dX5_touch_37 : decode cX5_touch 37 = .ok (.iaload, 1) := dk_46 (dk_at dksX5_touch_1 13 rfl rfl)
theorem dX5_touch_38 : decode cX5_touch 38 = .ok (.ifCond .eq 90, 3) := dk_153 0 90 (dk_at dksX5_touch_1 14 rfl rfl)
theorem dX5_touch_41 : decode cX5_touch 41 = .ok (.aload_n 1, 1) := dk_43 (dk_at dksX5_touch_1 17 rfl rfl)
theorem dX5_touch_42 : decode cX5_touch 42 = .ok (.getfield 159, 3) := dk_180 0 159 (dk_at dksX5_touch_1 18 rfl rfl)
theorem dX5_touch_45 : decode cX5_touch 45 = .ok (.iconst 0, 1) := dk_3 (dk_at dksX5_touch_1 21 rfl rfl)
theorem dX5_touch_46 : decode cX5_touch 46 = .ok (.dup2, 1) := dk_92 (dk_at dksX5_touch_1 22 rfl rfl)
theorem dX5_touch_47 : decode cX5_touch 47 = .ok (.iaload, 1) := dk_46 (dk_at dksX5_touch_1 23 rfl rfl)
theorem dX5_touch_48 : decode cX5_touch 48 = .ok (.iconst 1, 1) := dk_4 (dk_at dksX5_touch_2 0 rfl rfl)
theorem dX5_touch_49 : decode cX5_touch 49 = .ok (.iadd, 1) := dk_96 (dk_at dksX5_touch_2 1 rfl rfl)
theorem dX5_touch_50 : decode cX5_touch 50 = .ok (.iastore, 1) := dk_79 (dk_at dksX5_touch_2 2 rfl rfl)
theorem dX5_touch_51 : decode cX5_touch 51 = .ok (.aload_n 1, 1) := dk_43 (dk_at dksX5_touch_2 3 rfl rfl)
theorem dX5_touch_52 : decode cX5_touch 52 = .ok (.getfield 82, 3) := dk_180 0 82 (dk_at dksX5_touch_2 4 rfl rfl)
theorem dX5_touch_55 : decode cX5_touch 55 = .ok (.iload_n 3, 1) := dk_29 (dk_at dksX5_touch_2 7 rfl rfl)
theorem dX5_touch_56 : decode cX5_touch 56 = .ok (.iaload, 1) := dk_46 (dk_at dksX5_touch_2 8 rfl rfl)
theorem dX5_touch_57 : decode cX5_touch 57 = .ok (.iconst 1, 1) := dk_4 (dk_at dksX5_touch_2 9 rfl rfl)
theorem dX5_touch_58 : decode cX5_touch 58 = .ok (.if_icmp .ne 7, 3) := dk_160 0 7 (dk_at dksX5_touch_2 10 rfl rfl)
theorem dX5_touch_61 : decode cX5_touch 61 = .ok (.iconst 1, 1) := dk_4 (dk_at dksX5_touch_2 13 rfl rfl)
theorem dX5_touch_62 : decode cX5_touch 62 = .ok (.goto 4, 3) := dk_167 0 4 (dk_at dksX5_touch_2 14 rfl rfl)
theorem dX5_touch_65 : decode cX5_touch 65 = .ok (.iconst 0, 1) := dk_3 (dk_at dksX5_touch_2 17 rfl rfl)
theorem dX5_touch_66 : decode cX5_touch 66 = .ok (.istore 4, 2) := dk_54 4 (dk_at dksX5_touch_2 18 rfl rfl)
theorem dX5_touch_68 : decode cX5_touch 68 = .ok (.aload_n 0, 1) := dk_42 (dk_at dksX5_touch_2 20 rfl rfl)
theorem dX5_touch_69 : decode cX5_touch 69 = .ok (.invokevirtual 171, 3) := dk_182 0 171 (dk_at dksX5_touch_2 21 rfl rfl)
theorem dX5_touch_72 : decode cX5_touch 72 = .ok (.istore 5, 2) := dk_54 5 (dk_at dksX5_touch_3 0 rfl rfl)
theorem dX5_touch_74 : decode cX5_touch 74 = .ok (.aload_n 0, 1) := dk_42 (dk_at dksX5_touch_3 2 rfl rfl)
theorem dX5_touch_75 : decode cX5_touch 75 = .ok (.iload 5, 2) := dk_21 5 (dk_at dksX5_touch_3 3 rfl rfl)
theorem dX5_touch_77 : decode cX5_touch 77 = .ok (.invokevirtual 174, 3) := dk_182 0 174 (dk_at dksX5_touch_3 5 rfl rfl)
theorem dX5_touch_80 : decode cX5_touch 80 = .ok (.pop, 1) := dk_87 (dk_at dksX5_touch_3 8 rfl rfl)
theorem dX5_touch_81 : decode cX5_touch 81 = .ok (.aload_n 1, 1) := dk_43 (dk_at dksX5_touch_3 9 rfl rfl)
theorem dX5_touch_82 : decode cX5_touch 82 = .ok (.getfield 82, 3) := dk_180 0 82 (dk_at dksX5_touch_3 10 rfl rfl)
theorem dX5_touch_85 : decode cX5_touch 85 = .ok (.iload_n 3, 1) := dk_29 (dk_at dksX5_touch_3 13 rfl rfl)
theorem dX5_touch_86 : decode cX5_touch 86 = .ok (.iconst 0, 1) := dk_3 (dk_at dksX5_touch_3 14 rfl rfl)
theorem dX5_touch_87 : decode cX5_touch 87 = .ok (.iastore, 1) := dk_79 (dk_at dksX5_touch_3 15 rfl rfl)
theorem dX5_touch_88 : decode cX5_touch 88 = .ok (.aload_n 1, 1) := dk_43 (dk_at dksX5_touch_3 16 rfl rfl)
theorem dX5_touch_89 : decode cX5_touch 89 = .ok (.getfield 86, 3) := dk_180 0 86 (dk_at dksX5_touch_3 17 rfl rfl)
theorem dX5_touch_92 : decode cX5_touch 92 = .ok (.iload_n 3, 1) := dk_29 (dk_at dksX5_touch_3 20 rfl rfl)
theorem dX5_touch_93 : decode cX5_touch 93 = .ok (.iload 5, 2) := dk_21 5 (dk_at dksX5_touch_3 21 rfl rfl)
theorem dX5_touch_95 : decode cX5_touch 95 = .ok (.iastore, 1) := dk_79 (dk_at dksX5_touch_3 23 rfl rfl)
theorem dX5_touch_96 : decode cX5_touch 96 = .ok (.aload_n 1, 1) := dk_43 (dk_at dksX5_touch_4 0 rfl rfl)
theorem dX5_touch_97 : decode cX5_touch 97 = .ok (.getfield 92, 3) := dk_180 0 92 (dk_at dksX5_touch_4 1 rfl rfl)
theorem dX5_touch_100 : decode cX5_touch 100 = .ok (.iload_n 3, 1) := dk_29 (dk_at dksX5_touch_4 4 rfl rfl)
theorem dX5_touch_101 : decode cX5_touch 101 = .ok (.aload_n 0, 1) := dk_42 (dk_at dksX5_touch_4 5 rfl rfl)
theorem dX5_touch_102 : decode cX5_touch 102 = .ok (.getfield 56, 3) := dk_180 0 56 (dk_at dksX5_touch_4 6 rfl rfl)
theorem dX5_touch_105 : decode cX5_touch 105 = .ok (.iastore, 1) := dk_79 (dk_at dksX5_touch_4 9 rfl rfl)
theorem dX5_touch_106 : decode cX5_touch 106 = .ok (.iload 4, 2) := dk_21 4 (dk_at dksX5_touch_4 10 rfl rfl)
theorem dX5_touch_108 : decode cX5_touch 108 = .ok (.ifCond .ne 4, 3) := dk_154 0 4 (dk_at dksX5_touch_4 12 rfl rfl)
theorem dX5_touch_111 : decode cX5_touch 111 = .ok (.return_, 1) := dk_177 (dk_at dksX5_touch_4 15 rfl rfl)
theorem dX5_touch_112 : decode cX5_touch 112 = .ok (.aload_n 1, 1) := dk_43 (dk_at dksX5_touch_4 16 rfl rfl)
theorem dX5_touch_113 : decode cX5_touch 113 = .ok (.iconst 2, 1) := dk_5 (dk_at dksX5_touch_4 17 rfl rfl)
theorem dX5_touch_114 : decode cX5_touch 114 = .ok (.putfield 95, 3) := dk_181 0 95 (dk_at dksX5_touch_4 18 rfl rfl)
theorem dX5_touch_117 : decode cX5_touch 117 = .ok (.aload_n 1, 1) := dk_43 (dk_at dksX5_touch_4 21 rfl rfl)
theorem dX5_touch_118 : decode cX5_touch 118 = .ok (.aload_n 0, 1) := dk_42 (dk_at dksX5_touch_4 22 rfl rfl)
theorem dX5_touch_119 : decode cX5_touch 119 = .ok (.getfield 56, 3) := dk_180 0 56 (dk_at dksX5_touch_5 0 rfl rfl)
theorem dX5_touch_122 : decode cX5_touch 122 = .ok (.iconst 2, 1) := dk_5 (dk_at dksX5_touch_5 3 rfl rfl)
theorem dX5_touch_123 : decode cX5_touch 123 = .ok (.iadd, 1) := dk_96 (dk_at dksX5_touch_5 4 rfl rfl)
theorem dX5_touch_124 : decode cX5_touch 124 = .ok (.putfield 101, 3) := dk_181 0 101 (dk_at dksX5_touch_5 5 rfl rfl)
theorem dX5_touch_127 : decode cX5_touch 127 = .ok (.return_, 1) := dk_177 (dk_at dksX5_touch_5 8 rfl rfl)
theorem dX5_touch_128 : decode cX5_touch 128 = .ok (.aload_n 1, 1) := dk_43 (dk_at dksX5_touch_5 9 rfl rfl)
theorem dX5_touch_129 : decode cX5_touch 129 = .ok (.getfield 92, 3) := dk_180 0 92 (dk_at dksX5_touch_5 10 rfl rfl)
theorem dX5_touch_132 : decode cX5_touch 132 = .ok (.iload_n 3, 1) := dk_29 (dk_at dksX5_touch_5 13 rfl rfl)
theorem dX5_touch_133 : decode cX5_touch 133 = .ok (.aload_n 0, 1) := dk_42 (dk_at dksX5_touch_5 14 rfl rfl)
theorem dX5_touch_134 : decode cX5_touch 134 = .ok (.getfield 56, 3) := dk_180 0 56 (dk_at dksX5_touch_5 15 rfl rfl)
theorem dX5_touch_137 : decode cX5_touch 137 = .ok (.iastore, 1) := dk_79 (dk_at dksX5_touch_5 18 rfl rfl)
theorem dX5_touch_138 : decode cX5_touch 138 = .ok (.aload_n 2, 1) := dk_44 (dk_at dksX5_touch_5 19 rfl rfl)
theorem dX5_touch_139 : decode cX5_touch 139 = .ok (.iconst 0, 1) := dk_3 (dk_at dksX5_touch_5 20 rfl rfl)
theorem dX5_touch_140 : decode cX5_touch 140 = .ok (.iaload, 1) := dk_46 (dk_at dksX5_touch_5 21 rfl rfl)
theorem dX5_touch_141 : decode cX5_touch 141 = .ok (.iconst 1, 1) := dk_4 (dk_at dksX5_touch_5 22 rfl rfl)
theorem dX5_touch_142 : decode cX5_touch 142 = .ok (.if_icmp .ne 27, 3) := dk_160 0 27 (dk_at dksX5_touch_6 0 rfl rfl)
theorem dX5_touch_145 : decode cX5_touch 145 = .ok (.aload_n 1, 1) := dk_43 (dk_at dksX5_touch_6 3 rfl rfl)
theorem dX5_touch_146 : decode cX5_touch 146 = .ok (.aload_n 1, 1) := dk_43 (dk_at dksX5_touch_6 4 rfl rfl)
theorem dX5_touch_147 : decode cX5_touch 147 = .ok (.getfield 165, 3) := dk_180 0 165 (dk_at dksX5_touch_6 5 rfl rfl)
theorem dX5_touch_150 : decode cX5_touch 150 = .ok (.aload_n 1, 1) := dk_43 (dk_at dksX5_touch_6 8 rfl rfl)
theorem dX5_touch_151 : decode cX5_touch 151 = .ok (.getfield 178, 3) := dk_180 0 178 (dk_at dksX5_touch_6 9 rfl rfl)
theorem dX5_touch_154 : decode cX5_touch 154 = .ok (.iload_n 3, 1) := dk_29 (dk_at dksX5_touch_6 12 rfl rfl)
theorem dX5_touch_155 : decode cX5_touch 155 = .ok (.iaload, 1) := dk_46 (dk_at dksX5_touch_6 13 rfl rfl)
theorem dX5_touch_156 : decode cX5_touch 156 = .ok (.iadd, 1) := dk_96 (dk_at dksX5_touch_6 14 rfl rfl)
theorem dX5_touch_157 : decode cX5_touch 157 = .ok (.iconst 1, 1) := dk_4 (dk_at dksX5_touch_6 15 rfl rfl)
theorem dX5_touch_158 : decode cX5_touch 158 = .ok (.iadd, 1) := dk_96 (dk_at dksX5_touch_6 16 rfl rfl)
theorem dX5_touch_159 : decode cX5_touch 159 = .ok (.sipush 1000, 3) := dk_17 3 232 (dk_at dksX5_touch_6 17 rfl rfl)
theorem dX5_touch_162 : decode cX5_touch 162 = .ok (.irem, 1) := dk_112 (dk_at dksX5_touch_6 20 rfl rfl)
theorem dX5_touch_163 : decode cX5_touch 163 = .ok (.putfield 165, 3) := dk_181 0 165 (dk_at dksX5_touch_6 21 rfl rfl)
theorem dX5_touch_166 : decode cX5_touch 166 = .ok (.goto 47, 3) := dk_167 0 47 (dk_at dksX5_touch_7 0 rfl rfl)
theorem dX5_touch_169 : decode cX5_touch 169 = .ok (.aload_n 1, 1) := dk_43 (dk_at dksX5_touch_7 3 rfl rfl)
theorem dX5_touch_170 : decode cX5_touch 170 = .ok (.getfield 178, 3) := dk_180 0 178 (dk_at dksX5_touch_7 4 rfl rfl)
theorem dX5_touch_173 : decode cX5_touch 173 = .ok (.iload_n 3, 1) := dk_29 (dk_at dksX5_touch_7 7 rfl rfl)
theorem dX5_touch_174 : decode cX5_touch 174 = .ok (.iconst 3, 1) := dk_6 (dk_at dksX5_touch_7 8 rfl rfl)
theorem dX5_touch_175 : decode cX5_touch 175 = .ok (.aload_n 1, 1) := dk_43 (dk_at dksX5_touch_7 9 rfl rfl)
theorem dX5_touch_176 : decode cX5_touch 176 = .ok (.getfield 178, 3) := dk_180 0 178 (dk_at dksX5_touch_7 10 rfl rfl)
theorem dX5_touch_179 : decode cX5_touch 179 = .ok (.iload_n 3, 1) := dk_29 (dk_at dksX5_touch_7 13 rfl rfl)
theorem dX5_touch_180 : decode cX5_touch 180 = .ok (.iaload, 1) := dk_46 (dk_at dksX5_touch_7 14 rfl rfl)
theorem dX5_touch_181 : decode cX5_touch 181 = .ok (.imul, 1) := dk_104 (dk_at dksX5_touch_7 15 rfl rfl)
theorem dX5_touch_182 : decode cX5_touch 182 = .ok (.aload_n 1, 1) := dk_43 (dk_at dksX5_touch_7 16 rfl rfl)
theorem dX5_touch_183 : decode cX5_touch 183 = .ok (.getfield 165, 3) := dk_180 0 165 (dk_at dksX5_touch_7 17 rfl rfl)
theorem dX5_touch_186 : decode cX5_touch 186 = .ok (.iadd, 1) := dk_96 (dk_at dksX5_touch_7 20 rfl rfl)
theorem dX5_touch_187 : decode cX5_touch 187 = .ok (.iconst 1, 1) := dk_4 (dk_at dksX5_touch_7 21 rfl rfl)
theorem dX5_touch_188 : decode cX5_touch 188 = .ok (.iadd, 1) := dk_96 (dk_at dksX5_touch_7 22 rfl rfl)
theorem dX5_touch_189 : decode cX5_touch 189 = .ok (.sipush 1000, 3) := dk_17 3 232 (dk_at dksX5_touch_8 0 rfl rfl)
theorem dX5_touch_192 : decode cX5_touch 192 = .ok (.irem, 1) := dk_112 (dk_at dksX5_touch_8 3 rfl rfl)
theorem dX5_touch_193 : decode cX5_touch 193 = .ok (.iastore, 1) := dk_79 (dk_at dksX5_touch_8 4 rfl rfl)
theorem dX5_touch_194 : decode cX5_touch 194 = .ok (.aload_n 1, 1) := dk_43 (dk_at dksX5_touch_8 5 rfl rfl)
theorem dX5_touch_195 : decode cX5_touch 195 = .ok (.getfield 138, 3) := dk_180 0 138 (dk_at dksX5_touch_8 6 rfl rfl)
theorem dX5_touch_198 : decode cX5_touch 198 = .ok (.ifCond .eq 15, 3) := dk_153 0 15 (dk_at dksX5_touch_8 9 rfl rfl)
theorem dX5_touch_201 : decode cX5_touch 201 = .ok (.aload_n 1, 1) := dk_43 (dk_at dksX5_touch_8 12 rfl rfl)
theorem dX5_touch_202 : decode cX5_touch 202 = .ok (.dup, 1) := dk_89 (dk_at dksX5_touch_8 13 rfl rfl)
theorem dX5_touch_203 : decode cX5_touch 203 = .ok (.getfield 181, 3) := dk_180 0 181 (dk_at dksX5_touch_8 14 rfl rfl)
theorem dX5_touch_206 : decode cX5_touch 206 = .ok (.iconst 1, 1) := dk_4 (dk_at dksX5_touch_8 17 rfl rfl)
theorem dX5_touch_207 : decode cX5_touch 207 = .ok (.iload_n 3, 1) := dk_29 (dk_at dksX5_touch_8 18 rfl rfl)
theorem dX5_touch_208 : decode cX5_touch 208 = .ok (.ishl, 1) := dk_120 (dk_at dksX5_touch_8 19 rfl rfl)
theorem dX5_touch_209 : decode cX5_touch 209 = .ok (.ior, 1) := dk_128 (dk_at dksX5_touch_8 20 rfl rfl)
theorem dX5_touch_210 : decode cX5_touch 210 = .ok (.putfield 181, 3) := dk_181 0 181 (dk_at dksX5_touch_8 21 rfl rfl)
theorem dX5_touch_213 : decode cX5_touch 213 = .ok (.aload_n 1, 1) := dk_43 (dk_at dksX5_touch_9 0 rfl rfl)
theorem dX5_touch_214 : decode cX5_touch 214 = .ok (.invokevirtual 168, 3) := dk_182 0 168 (dk_at dksX5_touch_9 1 rfl rfl)
theorem dX5_touch_217 : decode cX5_touch 217 = .ok (.return_, 1) := dk_177 (dk_at dksX5_touch_9 4 rfl rfl)
abbrev cX5_frame : ByteArray := prog_11_method_6_code
def yX5_frame : MethodName := ⟨RX5, "frame", "()I"⟩
def dkwX5_frame_3 : List UInt8 := [21, 5, 61, 132, 3, 1, 167, 255, 185, 27, 172]
abbrev dktX5_frame_3 : List UInt8 := dkwX5_frame_3 ++ []
def dkwX5_frame_2 : List UInt8 := [21, 4, 16, 8, 112, 46, 54, 5, 27, 2, 159, 0, 12, 21, 5, 28, 161, 0, 6, 167, 0, 8, 29, 60]
abbrev dktX5_frame_2 : List UInt8 := dkwX5_frame_2 ++ dktX5_frame_3
def dkwX5_frame_1 : List UInt8 := [160, 0, 5, 29, 172, 42, 180, 0, 12, 21, 4, 16, 8, 108, 182, 0, 78, 192, 0, 46, 180, 0, 92]
abbrev dktX5_frame_1 : List UInt8 := dkwX5_frame_1 ++ dktX5_frame_2
def dkwX5_frame_0 : List UInt8 := [2, 60, 3, 61, 3, 62, 29, 42, 180, 0, 18, 162, 0, 69, 42, 29, 182, 0, 88, 54, 4, 21, 4, 2]
abbrev dktX5_frame_0 : List UInt8 := dkwX5_frame_0 ++ dktX5_frame_1
theorem dksX5_frame_0 : cX5_frame.data.toList.drop 0 = dktX5_frame_0 := by decide +kernel
theorem dksX5_frame_1 : cX5_frame.data.toList.drop 24 = dktX5_frame_1 := dk_seg dksX5_frame_0 24 rfl rfl
theorem dksX5_frame_2 : cX5_frame.data.toList.drop 47 = dktX5_frame_2 := dk_seg dksX5_frame_1 23 rfl rfl
theorem dksX5_frame_3 : cX5_frame.data.toList.drop 71 = dktX5_frame_3 := dk_seg dksX5_frame_2 24 rfl rfl
theorem dX5_frame_0 : decode cX5_frame 0 = .ok (.iconst (-1), 1) := dk_2 (dk_at dksX5_frame_0 0 rfl rfl)
theorem dX5_frame_1 : decode cX5_frame 1 = .ok (.istore_n 1, 1) := dk_60 (dk_at dksX5_frame_0 1 rfl rfl)
theorem dX5_frame_2 : decode cX5_frame 2 = .ok (.iconst 0, 1) := dk_3 (dk_at dksX5_frame_0 2 rfl rfl)
theorem dX5_frame_3 : decode cX5_frame 3 = .ok (.istore_n 2, 1) := dk_61 (dk_at dksX5_frame_0 3 rfl rfl)
theorem dX5_frame_4 : decode cX5_frame 4 = .ok (.iconst 0, 1) := dk_3 (dk_at dksX5_frame_0 4 rfl rfl)
theorem dX5_frame_5 : decode cX5_frame 5 = .ok (.istore_n 3, 1) := dk_62 (dk_at dksX5_frame_0 5 rfl rfl)
theorem dX5_frame_6 : decode cX5_frame 6 = .ok (.iload_n 3, 1) := dk_29 (dk_at dksX5_frame_0 6 rfl rfl)
theorem dX5_frame_7 : decode cX5_frame 7 = .ok (.aload_n 0, 1) := dk_42 (dk_at dksX5_frame_0 7 rfl rfl)
theorem dX5_frame_8 : decode cX5_frame 8 = .ok (.getfield 18, 3) := dk_180 0 18 (dk_at dksX5_frame_0 8 rfl rfl)
theorem dX5_frame_11 : decode cX5_frame 11 = .ok (.if_icmp .ge 69, 3) := dk_162 0 69 (dk_at dksX5_frame_0 11 rfl rfl)
theorem dX5_frame_14 : decode cX5_frame 14 = .ok (.aload_n 0, 1) := dk_42 (dk_at dksX5_frame_0 14 rfl rfl)
theorem dX5_frame_15 : decode cX5_frame 15 = .ok (.iload_n 3, 1) := dk_29 (dk_at dksX5_frame_0 15 rfl rfl)
theorem dX5_frame_16 : decode cX5_frame 16 = .ok (.invokevirtual 88, 3) := dk_182 0 88 (dk_at dksX5_frame_0 16 rfl rfl)
theorem dX5_frame_19 : decode cX5_frame 19 = .ok (.istore 4, 2) := dk_54 4 (dk_at dksX5_frame_0 19 rfl rfl)
theorem dX5_frame_21 : decode cX5_frame 21 = .ok (.iload 4, 2) := dk_21 4 (dk_at dksX5_frame_0 21 rfl rfl)
theorem dX5_frame_23 : decode cX5_frame 23 = .ok (.iconst (-1), 1) := dk_2 (dk_at dksX5_frame_0 23 rfl rfl)
theorem dX5_frame_24 : decode cX5_frame 24 = .ok (.if_icmp .ne 5, 3) := dk_160 0 5 (dk_at dksX5_frame_1 0 rfl rfl)
theorem dX5_frame_27 : decode cX5_frame 27 = .ok (.iload_n 3, 1) := dk_29 (dk_at dksX5_frame_1 3 rfl rfl)
theorem dX5_frame_28 : decode cX5_frame 28 = .ok (.ireturn, 1) := dk_172 (dk_at dksX5_frame_1 4 rfl rfl)
theorem dX5_frame_29 : decode cX5_frame 29 = .ok (.aload_n 0, 1) := dk_42 (dk_at dksX5_frame_1 5 rfl rfl)
theorem dX5_frame_30 : decode cX5_frame 30 = .ok (.getfield 12, 3) := dk_180 0 12 (dk_at dksX5_frame_1 6 rfl rfl)
theorem dX5_frame_33 : decode cX5_frame 33 = .ok (.iload 4, 2) := dk_21 4 (dk_at dksX5_frame_1 9 rfl rfl)
theorem dX5_frame_35 : decode cX5_frame 35 = .ok (.bipush 8, 2) := dk_16 8 (dk_at dksX5_frame_1 11 rfl rfl)
theorem dX5_frame_37 : decode cX5_frame 37 = .ok (.idiv, 1) := dk_108 (dk_at dksX5_frame_1 13 rfl rfl)
theorem dX5_frame_38 : decode cX5_frame 38 = .ok (.invokevirtual 78, 3) := dk_182 0 78 (dk_at dksX5_frame_1 14 rfl rfl)
theorem dX5_frame_41 : decode cX5_frame 41 = .ok (.checkcast 46, 3) := dk_192 0 46 (dk_at dksX5_frame_1 17 rfl rfl)
theorem dX5_frame_44 : decode cX5_frame 44 = .ok (.getfield 92, 3) := dk_180 0 92 (dk_at dksX5_frame_1 20 rfl rfl)
theorem dX5_frame_47 : decode cX5_frame 47 = .ok (.iload 4, 2) := dk_21 4 (dk_at dksX5_frame_2 0 rfl rfl)
theorem dX5_frame_49 : decode cX5_frame 49 = .ok (.bipush 8, 2) := dk_16 8 (dk_at dksX5_frame_2 2 rfl rfl)
theorem dX5_frame_51 : decode cX5_frame 51 = .ok (.irem, 1) := dk_112 (dk_at dksX5_frame_2 4 rfl rfl)
theorem dX5_frame_52 : decode cX5_frame 52 = .ok (.iaload, 1) := dk_46 (dk_at dksX5_frame_2 5 rfl rfl)
theorem dX5_frame_53 : decode cX5_frame 53 = .ok (.istore 5, 2) := dk_54 5 (dk_at dksX5_frame_2 6 rfl rfl)
theorem dX5_frame_55 : decode cX5_frame 55 = .ok (.iload_n 1, 1) := dk_27 (dk_at dksX5_frame_2 8 rfl rfl)
theorem dX5_frame_56 : decode cX5_frame 56 = .ok (.iconst (-1), 1) := dk_2 (dk_at dksX5_frame_2 9 rfl rfl)
theorem dX5_frame_57 : decode cX5_frame 57 = .ok (.if_icmp .eq 12, 3) := dk_159 0 12 (dk_at dksX5_frame_2 10 rfl rfl)
theorem dX5_frame_60 : decode cX5_frame 60 = .ok (.iload 5, 2) := dk_21 5 (dk_at dksX5_frame_2 13 rfl rfl)
theorem dX5_frame_62 : decode cX5_frame 62 = .ok (.iload_n 2, 1) := dk_28 (dk_at dksX5_frame_2 15 rfl rfl)
theorem dX5_frame_63 : decode cX5_frame 63 = .ok (.if_icmp .lt 6, 3) := dk_161 0 6 (dk_at dksX5_frame_2 16 rfl rfl)
theorem dX5_frame_66 : decode cX5_frame 66 = .ok (.goto 8, 3) := dk_167 0 8 (dk_at dksX5_frame_2 19 rfl rfl)
theorem dX5_frame_69 : decode cX5_frame 69 = .ok (.iload_n 3, 1) := dk_29 (dk_at dksX5_frame_2 22 rfl rfl)
theorem dX5_frame_70 : decode cX5_frame 70 = .ok (.istore_n 1, 1) := dk_60 (dk_at dksX5_frame_2 23 rfl rfl)
theorem dX5_frame_71 : decode cX5_frame 71 = .ok (.iload 5, 2) := dk_21 5 (dk_at dksX5_frame_3 0 rfl rfl)
theorem dX5_frame_73 : decode cX5_frame 73 = .ok (.istore_n 2, 1) := dk_61 (dk_at dksX5_frame_3 2 rfl rfl)
theorem dX5_frame_74 : decode cX5_frame 74 = .ok (.iinc 3 1, 3) := dk_132 3 1 (dk_at dksX5_frame_3 3 rfl rfl)
theorem dX5_frame_77 : decode cX5_frame 77 = .ok (.goto (-71), 3) := dk_167 255 185 (dk_at dksX5_frame_3 6 rfl rfl)
theorem dX5_frame_80 : decode cX5_frame 80 = .ok (.iload_n 1, 1) := dk_27 (dk_at dksX5_frame_3 9 rfl rfl)
theorem dX5_frame_81 : decode cX5_frame 81 = .ok (.ireturn, 1) := dk_172 (dk_at dksX5_frame_3 10 rfl rfl)
abbrev cX5_send : ByteArray := prog_11_method_12_code
def yX5_send : MethodName := ⟨RX5, "send", "(LHyperVaneModel$Guest;)V"⟩
def dkwX5_send_3 : List UInt8 := [43, 89, 180, 0, 184, 4, 96, 181, 0, 184, 43, 182, 0, 168, 177]
abbrev dktX5_send_3 : List UInt8 := dkwX5_send_3 ++ []
def dkwX5_send_2 : List UInt8 := [180, 0, 12, 42, 180, 0, 25, 182, 0, 78, 43, 165, 0, 13, 43, 180, 0, 159, 4, 92, 46, 4, 96, 79]
abbrev dktX5_send_2 : List UInt8 := dkwX5_send_2 ++ dktX5_send_3
def dkwX5_send_1 : List UInt8 := [184, 0, 113, 181, 0, 110, 177, 43, 180, 0, 184, 154, 0, 36, 42, 180, 0, 25, 2, 159, 0, 18, 42]
abbrev dktX5_send_1 : List UInt8 := dkwX5_send_1 ++ dktX5_send_2
def dkwX5_send_0 : List UInt8 := [43, 180, 0, 184, 7, 160, 0, 26, 43, 180, 0, 159, 7, 92, 46, 4, 96, 79, 43, 3, 43, 180, 0, 110]
abbrev dktX5_send_0 : List UInt8 := dkwX5_send_0 ++ dktX5_send_1
theorem dksX5_send_0 : cX5_send.data.toList.drop 0 = dktX5_send_0 := by decide +kernel
theorem dksX5_send_1 : cX5_send.data.toList.drop 24 = dktX5_send_1 := dk_seg dksX5_send_0 24 rfl rfl
theorem dksX5_send_2 : cX5_send.data.toList.drop 47 = dktX5_send_2 := dk_seg dksX5_send_1 23 rfl rfl
theorem dksX5_send_3 : cX5_send.data.toList.drop 71 = dktX5_send_3 := dk_seg dksX5_send_2 24 rfl rfl
theorem dX5_send_0 : decode cX5_send 0 = .ok (.aload_n 1, 1) := dk_43 (dk_at dksX5_send_0 0 rfl rfl)
theorem dX5_send_1 : decode cX5_send 1 = .ok (.getfield 184, 3) := dk_180 0 184 (dk_at dksX5_send_0 1 rfl rfl)
theorem dX5_send_4 : decode cX5_send 4 = .ok (.iconst 4, 1) := dk_7 (dk_at dksX5_send_0 4 rfl rfl)
theorem dX5_send_5 : decode cX5_send 5 = .ok (.if_icmp .ne 26, 3) := dk_160 0 26 (dk_at dksX5_send_0 5 rfl rfl)
theorem dX5_send_8 : decode cX5_send 8 = .ok (.aload_n 1, 1) := dk_43 (dk_at dksX5_send_0 8 rfl rfl)
theorem dX5_send_9 : decode cX5_send 9 = .ok (.getfield 159, 3) := dk_180 0 159 (dk_at dksX5_send_0 9 rfl rfl)
theorem dX5_send_12 : decode cX5_send 12 = .ok (.iconst 4, 1) := dk_7 (dk_at dksX5_send_0 12 rfl rfl)
theorem dX5_send_13 : decode cX5_send 13 = .ok (.dup2, 1) := dk_92 (dk_at dksX5_send_0 13 rfl rfl)
theorem dX5_send_14 : decode cX5_send 14 = .ok (.iaload, 1) := dk_46 (dk_at dksX5_send_0 14 rfl rfl)
theorem dX5_send_15 : decode cX5_send 15 = .ok (.iconst 1, 1) := dk_4 (dk_at dksX5_send_0 15 rfl rfl)
theorem dX5_send_16 : decode cX5_send 16 = .ok (.iadd, 1) := dk_96 (dk_at dksX5_send_0 16 rfl rfl)
theorem dX5_send_17 : decode cX5_send 17 = .ok (.iastore, 1) := dk_79 (dk_at dksX5_send_0 17 rfl rfl)
theorem dX5_send_18 : decode cX5_send 18 = .ok (.aload_n 1, 1) := dk_43 (dk_at dksX5_send_0 18 rfl rfl)
theorem dX5_send_19 : decode cX5_send 19 = .ok (.iconst 0, 1) := dk_3 (dk_at dksX5_send_0 19 rfl rfl)
theorem dX5_send_20 : decode cX5_send 20 = .ok (.aload_n 1, 1) := dk_43 (dk_at dksX5_send_0 20 rfl rfl)
theorem dX5_send_21 : decode cX5_send 21 = .ok (.getfield 110, 3) := dk_180 0 110 (dk_at dksX5_send_0 21 rfl rfl)
theorem dX5_send_24 : decode cX5_send 24 = .ok (.invokestatic 113, 3) := dk_184 0 113 (dk_at dksX5_send_1 0 rfl rfl)
theorem dX5_send_27 : decode cX5_send 27 = .ok (.putfield 110, 3) := dk_181 0 110 (dk_at dksX5_send_1 3 rfl rfl)
theorem dX5_send_30 : decode cX5_send 30 = .ok (.return_, 1) := dk_177 (dk_at dksX5_send_1 6 rfl rfl)
theorem dX5_send_31 : decode cX5_send 31 = .ok (.aload_n 1, 1) := dk_43 (dk_at dksX5_send_1 7 rfl rfl)
theorem dX5_send_32 : decode cX5_send 32 = .ok (.getfield 184, 3) := dk_180 0 184 (dk_at dksX5_send_1 8 rfl rfl)
theorem dX5_send_35 : decode cX5_send 35 = .ok (.ifCond .ne 36, 3) := dk_154 0 36 (dk_at dksX5_send_1 11 rfl rfl)
theorem dX5_send_38 : decode cX5_send 38 = .ok (.aload_n 0, 1) := dk_42 (dk_at dksX5_send_1 14 rfl rfl)
theorem dX5_send_39 : decode cX5_send 39 = .ok (.getfield 25, 3) := dk_180 0 25 (dk_at dksX5_send_1 15 rfl rfl)
theorem dX5_send_42 : decode cX5_send 42 = .ok (.iconst (-1), 1) := dk_2 (dk_at dksX5_send_1 18 rfl rfl)
theorem dX5_send_43 : decode cX5_send 43 = .ok (.if_icmp .eq 18, 3) := dk_159 0 18 (dk_at dksX5_send_1 19 rfl rfl)
theorem dX5_send_46 : decode cX5_send 46 = .ok (.aload_n 0, 1) := dk_42 (dk_at dksX5_send_1 22 rfl rfl)
theorem dX5_send_47 : decode cX5_send 47 = .ok (.getfield 12, 3) := dk_180 0 12 (dk_at dksX5_send_2 0 rfl rfl)
theorem dX5_send_50 : decode cX5_send 50 = .ok (.aload_n 0, 1) := dk_42 (dk_at dksX5_send_2 3 rfl rfl)
theorem dX5_send_51 : decode cX5_send 51 = .ok (.getfield 25, 3) := dk_180 0 25 (dk_at dksX5_send_2 4 rfl rfl)
theorem dX5_send_54 : decode cX5_send 54 = .ok (.invokevirtual 78, 3) := dk_182 0 78 (dk_at dksX5_send_2 7 rfl rfl)
theorem dX5_send_57 : decode cX5_send 57 = .ok (.aload_n 1, 1) := dk_43 (dk_at dksX5_send_2 10 rfl rfl)
theorem dX5_send_58 : decode cX5_send 58 = .ok (.if_acmp .eq 13, 3) := dk_165 0 13 (dk_at dksX5_send_2 11 rfl rfl)
theorem dX5_send_61 : decode cX5_send 61 = .ok (.aload_n 1, 1) := dk_43 (dk_at dksX5_send_2 14 rfl rfl)
theorem dX5_send_62 : decode cX5_send 62 = .ok (.getfield 159, 3) := dk_180 0 159 (dk_at dksX5_send_2 15 rfl rfl)
theorem dX5_send_65 : decode cX5_send 65 = .ok (.iconst 1, 1) := dk_4 (dk_at dksX5_send_2 18 rfl rfl)
theorem dX5_send_66 : decode cX5_send 66 = .ok (.dup2, 1) := dk_92 (dk_at dksX5_send_2 19 rfl rfl)
theorem dX5_send_67 : decode cX5_send 67 = .ok (.iaload, 1) := dk_46 (dk_at dksX5_send_2 20 rfl rfl)
theorem dX5_send_68 : decode cX5_send 68 = .ok (.iconst 1, 1) := dk_4 (dk_at dksX5_send_2 21 rfl rfl)
theorem dX5_send_69 : decode cX5_send 69 = .ok (.iadd, 1) := dk_96 (dk_at dksX5_send_2 22 rfl rfl)
theorem dX5_send_70 : decode cX5_send 70 = .ok (.iastore, 1) := dk_79 (dk_at dksX5_send_2 23 rfl rfl)
theorem dX5_send_71 : decode cX5_send 71 = .ok (.aload_n 1, 1) := dk_43 (dk_at dksX5_send_3 0 rfl rfl)
theorem dX5_send_72 : decode cX5_send 72 = .ok (.dup, 1) := dk_89 (dk_at dksX5_send_3 1 rfl rfl)
theorem dX5_send_73 : decode cX5_send 73 = .ok (.getfield 184, 3) := dk_180 0 184 (dk_at dksX5_send_3 2 rfl rfl)
theorem dX5_send_76 : decode cX5_send 76 = .ok (.iconst 1, 1) := dk_4 (dk_at dksX5_send_3 5 rfl rfl)
theorem dX5_send_77 : decode cX5_send 77 = .ok (.iadd, 1) := dk_96 (dk_at dksX5_send_3 6 rfl rfl)
theorem dX5_send_78 : decode cX5_send 78 = .ok (.putfield 184, 3) := dk_181 0 184 (dk_at dksX5_send_3 7 rfl rfl)
theorem dX5_send_81 : decode cX5_send 81 = .ok (.aload_n 1, 1) := dk_43 (dk_at dksX5_send_3 10 rfl rfl)
theorem dX5_send_82 : decode cX5_send 82 = .ok (.invokevirtual 168, 3) := dk_182 0 168 (dk_at dksX5_send_3 11 rfl rfl)
theorem dX5_send_85 : decode cX5_send 85 = .ok (.return_, 1) := dk_177 (dk_at dksX5_send_3 14 rfl rfl)
abbrev cX5_device : ByteArray := prog_11_method_13_code
def yX5_device : MethodName := ⟨RX5, "device", "()V"⟩
def dkwX5_device_7 : List UInt8 := [181, 0, 28, 132, 1, 1, 167, 255, 162, 177]
abbrev dktX5_device_7 : List UInt8 := dkwX5_device_7 ++ []
def dkwX5_device_6 : List UInt8 := [180, 0, 184, 4, 100, 181, 0, 184, 42, 28, 181, 0, 25, 42, 42, 180, 0, 56, 181, 0, 59, 42, 28]
abbrev dktX5_device_6 : List UInt8 := dkwX5_device_6 ++ dktX5_device_7
def dkwX5_device_5 : List UInt8 := [192, 0, 46, 180, 0, 184, 154, 0, 6, 167, 0, 41, 42, 180, 0, 12, 28, 182, 0, 78, 192, 0, 46, 89]
abbrev dktX5_device_5 : List UInt8 := dkwX5_device_5 ++ dktX5_device_6
def dkwX5_device_4 : List UInt8 := [96, 6, 112, 61, 28, 42, 180, 0, 12, 182, 0, 74, 162, 0, 61, 42, 180, 0, 12, 28, 182, 0, 78]
abbrev dktX5_device_4 : List UInt8 := dkwX5_device_4 ++ dktX5_device_5
def dkwX5_device_3 : List UInt8 := [2, 181, 0, 25, 4, 60, 27, 6, 163, 0, 95, 42, 180, 0, 25, 2, 160, 0, 87, 42, 180, 0, 28, 27]
abbrev dktX5_device_3 : List UInt8 := dkwX5_device_3 ++ dktX5_device_4
def dkwX5_device_2 : List UInt8 := [42, 89, 180, 0, 68, 4, 96, 181, 0, 68, 43, 180, 0, 95, 4, 160, 0, 8, 43, 3, 181, 0, 95, 42]
abbrev dktX5_device_2 : List UInt8 := dkwX5_device_2 ++ dktX5_device_3
def dkwX5_device_1 : List UInt8 := [180, 0, 12, 42, 180, 0, 25, 182, 0, 78, 192, 0, 46, 76, 43, 89, 180, 0, 156, 4, 96, 181, 0, 156]
abbrev dktX5_device_1 : List UInt8 := dkwX5_device_1 ++ dktX5_device_2
def dkwX5_device_0 : List UInt8 := [42, 180, 0, 25, 2, 159, 0, 69, 42, 180, 0, 56, 42, 180, 0, 59, 100, 6, 161, 0, 56, 42]
abbrev dktX5_device_0 : List UInt8 := dkwX5_device_0 ++ dktX5_device_1
theorem dksX5_device_0 : cX5_device.data.toList.drop 0 = dktX5_device_0 := by decide +kernel
theorem dksX5_device_1 : cX5_device.data.toList.drop 22 = dktX5_device_1 := dk_seg dksX5_device_0 22 rfl rfl
theorem dksX5_device_2 : cX5_device.data.toList.drop 46 = dktX5_device_2 := dk_seg dksX5_device_1 24 rfl rfl
theorem dksX5_device_3 : cX5_device.data.toList.drop 70 = dktX5_device_3 := dk_seg dksX5_device_2 24 rfl rfl
theorem dksX5_device_4 : cX5_device.data.toList.drop 94 = dktX5_device_4 := dk_seg dksX5_device_3 24 rfl rfl
theorem dksX5_device_5 : cX5_device.data.toList.drop 117 = dktX5_device_5 := dk_seg dksX5_device_4 23 rfl rfl
theorem dksX5_device_6 : cX5_device.data.toList.drop 141 = dktX5_device_6 := dk_seg dksX5_device_5 24 rfl rfl
theorem dksX5_device_7 : cX5_device.data.toList.drop 164 = dktX5_device_7 := dk_seg dksX5_device_6 23 rfl rfl
theorem dX5_device_0 : decode cX5_device 0 = .ok (.aload_n 0, 1) := dk_42 (dk_at dksX5_device_0 0 rfl rfl)
theorem dX5_device_1 : decode cX5_device 1 = .ok (.getfield 25, 3) := dk_180 0 25 (dk_at dksX5_device_0 1 rfl rfl)
theorem dX5_device_4 : decode cX5_device 4 = .ok (.iconst (-1), 1) := dk_2 (dk_at dksX5_device_0 4 rfl rfl)
theorem dX5_device_5 : decode cX5_device 5 = .ok (.if_icmp .eq 69, 3) := dk_159 0 69 (dk_at dksX5_device_0 5 rfl rfl)
theorem dX5_device_8 : decode cX5_device 8 = .ok (.aload_n 0, 1) := dk_42 (dk_at dksX5_device_0 8 rfl rfl)
theorem dX5_device_9 : decode cX5_device 9 = .ok (.getfield 56, 3) := dk_180 0 56 (dk_at dksX5_device_0 9 rfl rfl)
theorem dX5_device_12 : decode cX5_device 12 = .ok (.aload_n 0, 1) := dk_42 (dk_at dksX5_device_0 12 rfl rfl)
theorem dX5_device_13 : decode cX5_device 13 = .ok (.getfield 59, 3) := dk_180 0 59 (dk_at dksX5_device_0 13 rfl rfl)
theorem dX5_device_16 : decode cX5_device 16 = .ok (.isub, 1) := dk_100 (dk_at dksX5_device_0 16 rfl rfl)
theorem dX5_device_17 : decode cX5_device 17 = .ok (.iconst 3, 1) := dk_6 (dk_at dksX5_device_0 17 rfl rfl)
theorem dX5_device_18 : decode cX5_device 18 = .ok (.if_icmp .lt 56, 3) := dk_161 0 56 (dk_at dksX5_device_0 18 rfl rfl)
theorem dX5_device_21 : decode cX5_device 21 = .ok (.aload_n 0, 1) := dk_42 (dk_at dksX5_device_0 21 rfl rfl)
theorem dX5_device_22 : decode cX5_device 22 = .ok (.getfield 12, 3) := dk_180 0 12 (dk_at dksX5_device_1 0 rfl rfl)
theorem dX5_device_25 : decode cX5_device 25 = .ok (.aload_n 0, 1) := dk_42 (dk_at dksX5_device_1 3 rfl rfl)
theorem dX5_device_26 : decode cX5_device 26 = .ok (.getfield 25, 3) := dk_180 0 25 (dk_at dksX5_device_1 4 rfl rfl)
theorem dX5_device_29 : decode cX5_device 29 = .ok (.invokevirtual 78, 3) := dk_182 0 78 (dk_at dksX5_device_1 7 rfl rfl)
theorem dX5_device_32 : decode cX5_device 32 = .ok (.checkcast 46, 3) := dk_192 0 46 (dk_at dksX5_device_1 10 rfl rfl)
theorem dX5_device_35 : decode cX5_device 35 = .ok (.astore_n 1, 1) := dk_76 (dk_at dksX5_device_1 13 rfl rfl)
theorem dX5_device_36 : decode cX5_device 36 = .ok (.aload_n 1, 1) := dk_43 (dk_at dksX5_device_1 14 rfl rfl)
theorem dX5_device_37 : decode cX5_device 37 = .ok (.dup, 1) := dk_89 (dk_at dksX5_device_1 15 rfl rfl)
theorem dX5_device_38 : decode cX5_device 38 = .ok (.getfield 156, 3) := dk_180 0 156 (dk_at dksX5_device_1 16 rfl rfl)
theorem dX5_device_41 : decode cX5_device 41 = .ok (.iconst 1, 1) := dk_4 (dk_at dksX5_device_1 19 rfl rfl)
theorem dX5_device_42 : decode cX5_device 42 = .ok (.iadd, 1) := dk_96 (dk_at dksX5_device_1 20 rfl rfl)
theorem dX5_device_43 : decode cX5_device 43 = .ok (.putfield 156, 3) := dk_181 0 156 (dk_at dksX5_device_1 21 rfl rfl)
theorem dX5_device_46 : decode cX5_device 46 = .ok (.aload_n 0, 1) := dk_42 (dk_at dksX5_device_2 0 rfl rfl)
theorem dX5_device_47 : decode cX5_device 47 = .ok (.dup, 1) := dk_89 (dk_at dksX5_device_2 1 rfl rfl)
theorem dX5_device_48 : decode cX5_device 48 = .ok (.getfield 68, 3) := dk_180 0 68 (dk_at dksX5_device_2 2 rfl rfl)
theorem dX5_device_51 : decode cX5_device 51 = .ok (.iconst 1, 1) := dk_4 (dk_at dksX5_device_2 5 rfl rfl)
theorem dX5_device_52 : decode cX5_device 52 = .ok (.iadd, 1) := dk_96 (dk_at dksX5_device_2 6 rfl rfl)
theorem dX5_device_53 : decode cX5_device 53 = .ok (.putfield 68, 3) := dk_181 0 68 (dk_at dksX5_device_2 7 rfl rfl)
theorem dX5_device_56 : decode cX5_device 56 = .ok (.aload_n 1, 1) := dk_43 (dk_at dksX5_device_2 10 rfl rfl)
theorem dX5_device_57 : decode cX5_device 57 = .ok (.getfield 95, 3) := dk_180 0 95 (dk_at dksX5_device_2 11 rfl rfl)
theorem dX5_device_60 : decode cX5_device 60 = .ok (.iconst 1, 1) := dk_4 (dk_at dksX5_device_2 14 rfl rfl)
theorem dX5_device_61 : decode cX5_device 61 = .ok (.if_icmp .ne 8, 3) := dk_160 0 8 (dk_at dksX5_device_2 15 rfl rfl)
theorem dX5_device_64 : decode cX5_device 64 = .ok (.aload_n 1, 1) := dk_43 (dk_at dksX5_device_2 18 rfl rfl)
theorem dX5_device_65 : decode cX5_device 65 = .ok (.iconst 0, 1) := dk_3 (dk_at dksX5_device_2 19 rfl rfl)
theorem dX5_device_66 : decode cX5_device 66 = .ok (.putfield 95, 3) := dk_181 0 95 (dk_at dksX5_device_2 20 rfl rfl)
theorem dX5_device_69 : decode cX5_device 69 = .ok (.aload_n 0, 1) := dk_42 (dk_at dksX5_device_2 23 rfl rfl)
theorem dX5_device_70 : decode cX5_device 70 = .ok (.iconst (-1), 1) := dk_2 (dk_at dksX5_device_3 0 rfl rfl)
theorem dX5_device_71 : decode cX5_device 71 = .ok (.putfield 25, 3) := dk_181 0 25 (dk_at dksX5_device_3 1 rfl rfl)
theorem dX5_device_74 : decode cX5_device 74 = .ok (.iconst 1, 1) := dk_4 (dk_at dksX5_device_3 4 rfl rfl)
theorem dX5_device_75 : decode cX5_device 75 = .ok (.istore_n 1, 1) := dk_60 (dk_at dksX5_device_3 5 rfl rfl)
theorem dX5_device_76 : decode cX5_device 76 = .ok (.iload_n 1, 1) := dk_27 (dk_at dksX5_device_3 6 rfl rfl)
theorem dX5_device_77 : decode cX5_device 77 = .ok (.iconst 3, 1) := dk_6 (dk_at dksX5_device_3 7 rfl rfl)
theorem dX5_device_78 : decode cX5_device 78 = .ok (.if_icmp .gt 95, 3) := dk_163 0 95 (dk_at dksX5_device_3 8 rfl rfl)
theorem dX5_device_81 : decode cX5_device 81 = .ok (.aload_n 0, 1) := dk_42 (dk_at dksX5_device_3 11 rfl rfl)
theorem dX5_device_82 : decode cX5_device 82 = .ok (.getfield 25, 3) := dk_180 0 25 (dk_at dksX5_device_3 12 rfl rfl)
theorem dX5_device_85 : decode cX5_device 85 = .ok (.iconst (-1), 1) := dk_2 (dk_at dksX5_device_3 15 rfl rfl)
theorem dX5_device_86 : decode cX5_device 86 = .ok (.if_icmp .ne 87, 3) := dk_160 0 87 (dk_at dksX5_device_3 16 rfl rfl)
theorem dX5_device_89 : decode cX5_device 89 = .ok (.aload_n 0, 1) := dk_42 (dk_at dksX5_device_3 19 rfl rfl)
theorem dX5_device_90 : decode cX5_device 90 = .ok (.getfield 28, 3) := dk_180 0 28 (dk_at dksX5_device_3 20 rfl rfl)
theorem dX5_device_93 : decode cX5_device 93 = .ok (.iload_n 1, 1) := dk_27 (dk_at dksX5_device_3 23 rfl rfl)
theorem dX5_device_94 : decode cX5_device 94 = .ok (.iadd, 1) := dk_96 (dk_at dksX5_device_4 0 rfl rfl)
theorem dX5_device_95 : decode cX5_device 95 = .ok (.iconst 3, 1) := dk_6 (dk_at dksX5_device_4 1 rfl rfl)
theorem dX5_device_96 : decode cX5_device 96 = .ok (.irem, 1) := dk_112 (dk_at dksX5_device_4 2 rfl rfl)
theorem dX5_device_97 : decode cX5_device 97 = .ok (.istore_n 2, 1) := dk_61 (dk_at dksX5_device_4 3 rfl rfl)
theorem dX5_device_98 : decode cX5_device 98 = .ok (.iload_n 2, 1) := dk_28 (dk_at dksX5_device_4 4 rfl rfl)
theorem dX5_device_99 : decode cX5_device 99 = .ok (.aload_n 0, 1) := dk_42 (dk_at dksX5_device_4 5 rfl rfl)
theorem dX5_device_100 : decode cX5_device 100 = .ok (.getfield 12, 3) := dk_180 0 12 (dk_at dksX5_device_4 6 rfl rfl)
theorem dX5_device_103 : decode cX5_device 103 = .ok (.invokevirtual 74, 3) := dk_182 0 74 (dk_at dksX5_device_4 9 rfl rfl)
theorem dX5_device_106 : decode cX5_device 106 = .ok (.if_icmp .ge 61, 3) := dk_162 0 61 (dk_at dksX5_device_4 12 rfl rfl)
theorem dX5_device_109 : decode cX5_device 109 = .ok (.aload_n 0, 1) := dk_42 (dk_at dksX5_device_4 15 rfl rfl)
theorem dX5_device_110 : decode cX5_device 110 = .ok (.getfield 12, 3) := dk_180 0 12 (dk_at dksX5_device_4 16 rfl rfl)
theorem dX5_device_113 : decode cX5_device 113 = .ok (.iload_n 2, 1) := dk_28 (dk_at dksX5_device_4 19 rfl rfl)
theorem dX5_device_114 : decode cX5_device 114 = .ok (.invokevirtual 78, 3) := dk_182 0 78 (dk_at dksX5_device_4 20 rfl rfl)
theorem dX5_device_117 : decode cX5_device 117 = .ok (.checkcast 46, 3) := dk_192 0 46 (dk_at dksX5_device_5 0 rfl rfl)
theorem dX5_device_120 : decode cX5_device 120 = .ok (.getfield 184, 3) := dk_180 0 184 (dk_at dksX5_device_5 3 rfl rfl)
theorem dX5_device_123 : decode cX5_device 123 = .ok (.ifCond .ne 6, 3) := dk_154 0 6 (dk_at dksX5_device_5 6 rfl rfl)
theorem dX5_device_126 : decode cX5_device 126 = .ok (.goto 41, 3) := dk_167 0 41 (dk_at dksX5_device_5 9 rfl rfl)
theorem dX5_device_129 : decode cX5_device 129 = .ok (.aload_n 0, 1) := dk_42 (dk_at dksX5_device_5 12 rfl rfl)
theorem dX5_device_130 : decode cX5_device 130 = .ok (.getfield 12, 3) := dk_180 0 12 (dk_at dksX5_device_5 13 rfl rfl)
theorem dX5_device_133 : decode cX5_device 133 = .ok (.iload_n 2, 1) := dk_28 (dk_at dksX5_device_5 16 rfl rfl)
theorem dX5_device_134 : decode cX5_device 134 = .ok (.invokevirtual 78, 3) := dk_182 0 78 (dk_at dksX5_device_5 17 rfl rfl)
theorem dX5_device_137 : decode cX5_device 137 = .ok (.checkcast 46, 3) := dk_192 0 46 (dk_at dksX5_device_5 20 rfl rfl)
theorem dX5_device_140 : decode cX5_device 140 = .ok (.dup, 1) := dk_89 (dk_at dksX5_device_5 23 rfl rfl)
theorem dX5_device_141 : decode cX5_device 141 = .ok (.getfield 184, 3) := dk_180 0 184 (dk_at dksX5_device_6 0 rfl rfl)
theorem dX5_device_144 : decode cX5_device 144 = .ok (.iconst 1, 1) := dk_4 (dk_at dksX5_device_6 3 rfl rfl)
theorem dX5_device_145 : decode cX5_device 145 = .ok (.isub, 1) := dk_100 (dk_at dksX5_device_6 4 rfl rfl)
theorem dX5_device_146 : decode cX5_device 146 = .ok (.putfield 184, 3) := dk_181 0 184 (dk_at dksX5_device_6 5 rfl rfl)
theorem dX5_device_149 : decode cX5_device 149 = .ok (.aload_n 0, 1) := dk_42 (dk_at dksX5_device_6 8 rfl rfl)
theorem dX5_device_150 : decode cX5_device 150 = .ok (.iload_n 2, 1) := dk_28 (dk_at dksX5_device_6 9 rfl rfl)
theorem dX5_device_151 : decode cX5_device 151 = .ok (.putfield 25, 3) := dk_181 0 25 (dk_at dksX5_device_6 10 rfl rfl)
theorem dX5_device_154 : decode cX5_device 154 = .ok (.aload_n 0, 1) := dk_42 (dk_at dksX5_device_6 13 rfl rfl)
theorem dX5_device_155 : decode cX5_device 155 = .ok (.aload_n 0, 1) := dk_42 (dk_at dksX5_device_6 14 rfl rfl)
theorem dX5_device_156 : decode cX5_device 156 = .ok (.getfield 56, 3) := dk_180 0 56 (dk_at dksX5_device_6 15 rfl rfl)
theorem dX5_device_159 : decode cX5_device 159 = .ok (.putfield 59, 3) := dk_181 0 59 (dk_at dksX5_device_6 18 rfl rfl)
theorem dX5_device_162 : decode cX5_device 162 = .ok (.aload_n 0, 1) := dk_42 (dk_at dksX5_device_6 21 rfl rfl)
theorem dX5_device_163 : decode cX5_device 163 = .ok (.iload_n 2, 1) := dk_28 (dk_at dksX5_device_6 22 rfl rfl)
theorem dX5_device_164 : decode cX5_device 164 = .ok (.putfield 28, 3) := dk_181 0 28 (dk_at dksX5_device_7 0 rfl rfl)
theorem dX5_device_167 : decode cX5_device 167 = .ok (.iinc 1 1, 3) := dk_132 1 1 (dk_at dksX5_device_7 3 rfl rfl)
theorem dX5_device_170 : decode cX5_device 170 = .ok (.goto (-94), 3) := dk_167 255 162 (dk_at dksX5_device_7 6 rfl rfl)
theorem dX5_device_173 : decode cX5_device 173 = .ok (.return_, 1) := dk_177 (dk_at dksX5_device_7 9 rfl rfl)
abbrev cX5_move : ByteArray := prog_11_method_14_code
def yX5_move : MethodName := ⟨RX5, "move", "(I)V"⟩
def dkwX5_move_7 : List UInt8 := [181, 0, 181, 132, 4, 1, 167, 255, 229, 177]
abbrev dktX5_move_7 : List UInt8 := dkwX5_move_7 ++ []
def dkwX5_move_6 : List UInt8 := [3, 54, 4, 21, 4, 44, 180, 0, 195, 162, 0, 24, 44, 89, 180, 0, 181, 44, 180, 0, 181, 4, 100, 126]
abbrev dktX5_move_6 : List UInt8 := dkwX5_move_6 ++ dktX5_move_7
def dkwX5_move_5 : List UInt8 := [44, 182, 0, 201, 44, 4, 181, 0, 204, 44, 89, 180, 0, 207, 4, 96, 181, 0, 207, 44, 29, 181, 0, 187]
abbrev dktX5_move_5 : List UInt8 := dkwX5_move_5 ++ dktX5_move_6
def dkwX5_move_4 : List UInt8 := [167, 0, 4, 3, 62, 29, 154, 0, 17, 42, 180, 0, 56, 44, 180, 0, 198, 100, 16, 12, 161, 0, 28, 42]
abbrev dktX5_move_4 : List UInt8 := dkwX5_move_4 ++ dktX5_move_5
def dkwX5_move_3 : List UInt8 := [160, 0, 8, 42, 2, 181, 0, 25, 177, 44, 180, 0, 181, 184, 0, 190, 44, 180, 0, 195, 163, 0, 7, 4]
abbrev dktX5_move_3 : List UInt8 := dkwX5_move_3 ++ dktX5_move_4
def dkwX5_move_2 : List UInt8 := [5, 159, 0, 10, 44, 180, 0, 82, 29, 6, 79, 132, 3, 1, 167, 255, 230, 42, 180, 0, 25, 27]
abbrev dktX5_move_2 : List UInt8 := dkwX5_move_2 ++ dktX5_move_3
def dkwX5_move_1 : List UInt8 := [44, 3, 181, 0, 138, 44, 3, 181, 0, 184, 3, 62, 29, 16, 6, 162, 0, 26, 44, 180, 0, 82, 29, 46]
abbrev dktX5_move_1 : List UInt8 := dkwX5_move_1 ++ dktX5_move_2
def dkwX5_move_0 : List UInt8 := [42, 180, 0, 12, 27, 182, 0, 78, 192, 0, 46, 77, 44, 180, 0, 187, 153, 0, 63, 44, 7, 181, 0, 95]
abbrev dktX5_move_0 : List UInt8 := dkwX5_move_0 ++ dktX5_move_1
theorem dksX5_move_0 : cX5_move.data.toList.drop 0 = dktX5_move_0 := by decide +kernel
theorem dksX5_move_1 : cX5_move.data.toList.drop 24 = dktX5_move_1 := dk_seg dksX5_move_0 24 rfl rfl
theorem dksX5_move_2 : cX5_move.data.toList.drop 48 = dktX5_move_2 := dk_seg dksX5_move_1 24 rfl rfl
theorem dksX5_move_3 : cX5_move.data.toList.drop 70 = dktX5_move_3 := dk_seg dksX5_move_2 22 rfl rfl
theorem dksX5_move_4 : cX5_move.data.toList.drop 94 = dktX5_move_4 := dk_seg dksX5_move_3 24 rfl rfl
theorem dksX5_move_5 : cX5_move.data.toList.drop 118 = dktX5_move_5 := dk_seg dksX5_move_4 24 rfl rfl
theorem dksX5_move_6 : cX5_move.data.toList.drop 142 = dktX5_move_6 := dk_seg dksX5_move_5 24 rfl rfl
theorem dksX5_move_7 : cX5_move.data.toList.drop 166 = dktX5_move_7 := dk_seg dksX5_move_6 24 rfl rfl
theorem dX5_move_0 : decode cX5_move 0 = .ok (.aload_n 0, 1) := dk_42 (dk_at dksX5_move_0 0 rfl rfl)
theorem dX5_move_1 : decode cX5_move 1 = .ok (.getfield 12, 3) := dk_180 0 12 (dk_at dksX5_move_0 1 rfl rfl)
theorem dX5_move_4 : decode cX5_move 4 = .ok (.iload_n 1, 1) := dk_27 (dk_at dksX5_move_0 4 rfl rfl)
theorem dX5_move_5 : decode cX5_move 5 = .ok (.invokevirtual 78, 3) := dk_182 0 78 (dk_at dksX5_move_0 5 rfl rfl)
theorem dX5_move_8 : decode cX5_move 8 = .ok (.checkcast 46, 3) := dk_192 0 46 (dk_at dksX5_move_0 8 rfl rfl)
theorem dX5_move_11 : decode cX5_move 11 = .ok (.astore_n 2, 1) := dk_77 (dk_at dksX5_move_0 11 rfl rfl)
theorem dX5_move_12 : decode cX5_move 12 = .ok (.aload_n 2, 1) := dk_44 (dk_at dksX5_move_0 12 rfl rfl)
theorem dX5_move_13 : decode cX5_move 13 = .ok (.getfield 187, 3) := dk_180 0 187 (dk_at dksX5_move_0 13 rfl rfl)
theorem dX5_move_16 : decode cX5_move 16 = .ok (.ifCond .eq 63, 3) := dk_153 0 63 (dk_at dksX5_move_0 16 rfl rfl)
theorem dX5_move_19 : decode cX5_move 19 = .ok (.aload_n 2, 1) := dk_44 (dk_at dksX5_move_0 19 rfl rfl)
theorem dX5_move_20 : decode cX5_move 20 = .ok (.iconst 4, 1) := dk_7 (dk_at dksX5_move_0 20 rfl rfl)
theorem dX5_move_21 : decode cX5_move 21 = .ok (.putfield 95, 3) := dk_181 0 95 (dk_at dksX5_move_0 21 rfl rfl)
theorem dX5_move_24 : decode cX5_move 24 = .ok (.aload_n 2, 1) := dk_44 (dk_at dksX5_move_1 0 rfl rfl)
theorem dX5_move_25 : decode cX5_move 25 = .ok (.iconst 0, 1) := dk_3 (dk_at dksX5_move_1 1 rfl rfl)
theorem dX5_move_26 : decode cX5_move 26 = .ok (.putfield 138, 3) := dk_181 0 138 (dk_at dksX5_move_1 2 rfl rfl)
theorem dX5_move_29 : decode cX5_move 29 = .ok (.aload_n 2, 1) := dk_44 (dk_at dksX5_move_1 5 rfl rfl)
theorem dX5_move_30 : decode cX5_move 30 = .ok (.iconst 0, 1) := dk_3 (dk_at dksX5_move_1 6 rfl rfl)
theorem dX5_move_31 : decode cX5_move 31 = .ok (.putfield 184, 3) := dk_181 0 184 (dk_at dksX5_move_1 7 rfl rfl)
theorem dX5_move_34 : decode cX5_move 34 = .ok (.iconst 0, 1) := dk_3 (dk_at dksX5_move_1 10 rfl rfl)
theorem dX5_move_35 : decode cX5_move 35 = .ok (.istore_n 3, 1) := dk_62 (dk_at dksX5_move_1 11 rfl rfl)
theorem dX5_move_36 : decode cX5_move 36 = .ok (.iload_n 3, 1) := dk_29 (dk_at dksX5_move_1 12 rfl rfl)
theorem dX5_move_37 : decode cX5_move 37 = .ok (.bipush 6, 2) := dk_16 6 (dk_at dksX5_move_1 13 rfl rfl)
theorem dX5_move_39 : decode cX5_move 39 = .ok (.if_icmp .ge 26, 3) := dk_162 0 26 (dk_at dksX5_move_1 15 rfl rfl)
theorem dX5_move_42 : decode cX5_move 42 = .ok (.aload_n 2, 1) := dk_44 (dk_at dksX5_move_1 18 rfl rfl)
theorem dX5_move_43 : decode cX5_move 43 = .ok (.getfield 82, 3) := dk_180 0 82 (dk_at dksX5_move_1 19 rfl rfl)
theorem dX5_move_46 : decode cX5_move 46 = .ok (.iload_n 3, 1) := dk_29 (dk_at dksX5_move_1 22 rfl rfl)
theorem dX5_move_47 : decode cX5_move 47 = .ok (.iaload, 1) := dk_46 (dk_at dksX5_move_1 23 rfl rfl)
theorem dX5_move_48 : decode cX5_move 48 = .ok (.iconst 2, 1) := dk_5 (dk_at dksX5_move_2 0 rfl rfl)
theorem dX5_move_49 : decode cX5_move 49 = .ok (.if_icmp .eq 10, 3) := dk_159 0 10 (dk_at dksX5_move_2 1 rfl rfl)
theorem dX5_move_52 : decode cX5_move 52 = .ok (.aload_n 2, 1) := dk_44 (dk_at dksX5_move_2 4 rfl rfl)
theorem dX5_move_53 : decode cX5_move 53 = .ok (.getfield 82, 3) := dk_180 0 82 (dk_at dksX5_move_2 5 rfl rfl)
theorem dX5_move_56 : decode cX5_move 56 = .ok (.iload_n 3, 1) := dk_29 (dk_at dksX5_move_2 8 rfl rfl)
theorem dX5_move_57 : decode cX5_move 57 = .ok (.iconst 3, 1) := dk_6 (dk_at dksX5_move_2 9 rfl rfl)
theorem dX5_move_58 : decode cX5_move 58 = .ok (.iastore, 1) := dk_79 (dk_at dksX5_move_2 10 rfl rfl)
theorem dX5_move_59 : decode cX5_move 59 = .ok (.iinc 3 1, 3) := dk_132 3 1 (dk_at dksX5_move_2 11 rfl rfl)
theorem dX5_move_62 : decode cX5_move 62 = .ok (.goto (-26), 3) := dk_167 255 230 (dk_at dksX5_move_2 14 rfl rfl)
theorem dX5_move_65 : decode cX5_move 65 = .ok (.aload_n 0, 1) := dk_42 (dk_at dksX5_move_2 17 rfl rfl)
theorem dX5_move_66 : decode cX5_move 66 = .ok (.getfield 25, 3) := dk_180 0 25 (dk_at dksX5_move_2 18 rfl rfl)
theorem dX5_move_69 : decode cX5_move 69 = .ok (.iload_n 1, 1) := dk_27 (dk_at dksX5_move_2 21 rfl rfl)
theorem dX5_move_70 : decode cX5_move 70 = .ok (.if_icmp .ne 8, 3) := dk_160 0 8 (dk_at dksX5_move_3 0 rfl rfl)
theorem dX5_move_73 : decode cX5_move 73 = .ok (.aload_n 0, 1) := dk_42 (dk_at dksX5_move_3 3 rfl rfl)
theorem dX5_move_74 : decode cX5_move 74 = .ok (.iconst (-1), 1) := dk_2 (dk_at dksX5_move_3 4 rfl rfl)
theorem dX5_move_75 : decode cX5_move 75 = .ok (.putfield 25, 3) := dk_181 0 25 (dk_at dksX5_move_3 5 rfl rfl)
theorem dX5_move_78 : decode cX5_move 78 = .ok (.return_, 1) := dk_177 (dk_at dksX5_move_3 8 rfl rfl)
theorem dX5_move_79 : decode cX5_move 79 = .ok (.aload_n 2, 1) := dk_44 (dk_at dksX5_move_3 9 rfl rfl)
theorem dX5_move_80 : decode cX5_move 80 = .ok (.getfield 181, 3) := dk_180 0 181 (dk_at dksX5_move_3 10 rfl rfl)
theorem dX5_move_83 : decode cX5_move 83 = .ok (.invokestatic 190, 3) := dk_184 0 190 (dk_at dksX5_move_3 13 rfl rfl)
theorem dX5_move_86 : decode cX5_move 86 = .ok (.aload_n 2, 1) := dk_44 (dk_at dksX5_move_3 16 rfl rfl)
theorem dX5_move_87 : decode cX5_move 87 = .ok (.getfield 195, 3) := dk_180 0 195 (dk_at dksX5_move_3 17 rfl rfl)
theorem dX5_move_90 : decode cX5_move 90 = .ok (.if_icmp .gt 7, 3) := dk_163 0 7 (dk_at dksX5_move_3 20 rfl rfl)
theorem dX5_move_93 : decode cX5_move 93 = .ok (.iconst 1, 1) := dk_4 (dk_at dksX5_move_3 23 rfl rfl)
theorem dX5_move_94 : decode cX5_move 94 = .ok (.goto 4, 3) := dk_167 0 4 (dk_at dksX5_move_4 0 rfl rfl)
theorem dX5_move_97 : decode cX5_move 97 = .ok (.iconst 0, 1) := dk_3 (dk_at dksX5_move_4 3 rfl rfl)
theorem dX5_move_98 : decode cX5_move 98 = .ok (.istore_n 3, 1) := dk_62 (dk_at dksX5_move_4 4 rfl rfl)
theorem dX5_move_99 : decode cX5_move 99 = .ok (.iload_n 3, 1) := dk_29 (dk_at dksX5_move_4 5 rfl rfl)
theorem dX5_move_100 : decode cX5_move 100 = .ok (.ifCond .ne 17, 3) := dk_154 0 17 (dk_at dksX5_move_4 6 rfl rfl)
theorem dX5_move_103 : decode cX5_move 103 = .ok (.aload_n 0, 1) := dk_42 (dk_at dksX5_move_4 9 rfl rfl)
theorem dX5_move_104 : decode cX5_move 104 = .ok (.getfield 56, 3) := dk_180 0 56 (dk_at dksX5_move_4 10 rfl rfl)
theorem dX5_move_107 : decode cX5_move 107 = .ok (.aload_n 2, 1) := dk_44 (dk_at dksX5_move_4 13 rfl rfl)
theorem dX5_move_108 : decode cX5_move 108 = .ok (.getfield 198, 3) := dk_180 0 198 (dk_at dksX5_move_4 14 rfl rfl)
theorem dX5_move_111 : decode cX5_move 111 = .ok (.isub, 1) := dk_100 (dk_at dksX5_move_4 17 rfl rfl)
theorem dX5_move_112 : decode cX5_move 112 = .ok (.bipush 12, 2) := dk_16 12 (dk_at dksX5_move_4 18 rfl rfl)
theorem dX5_move_114 : decode cX5_move 114 = .ok (.if_icmp .lt 28, 3) := dk_161 0 28 (dk_at dksX5_move_4 20 rfl rfl)
theorem dX5_move_117 : decode cX5_move 117 = .ok (.aload_n 0, 1) := dk_42 (dk_at dksX5_move_4 23 rfl rfl)
theorem dX5_move_118 : decode cX5_move 118 = .ok (.aload_n 2, 1) := dk_44 (dk_at dksX5_move_5 0 rfl rfl)
theorem dX5_move_119 : decode cX5_move 119 = .ok (.invokevirtual 201, 3) := dk_182 0 201 (dk_at dksX5_move_5 1 rfl rfl)
theorem dX5_move_122 : decode cX5_move 122 = .ok (.aload_n 2, 1) := dk_44 (dk_at dksX5_move_5 4 rfl rfl)
theorem dX5_move_123 : decode cX5_move 123 = .ok (.iconst 1, 1) := dk_4 (dk_at dksX5_move_5 5 rfl rfl)
theorem dX5_move_124 : decode cX5_move 124 = .ok (.putfield 204, 3) := dk_181 0 204 (dk_at dksX5_move_5 6 rfl rfl)
theorem dX5_move_127 : decode cX5_move 127 = .ok (.aload_n 2, 1) := dk_44 (dk_at dksX5_move_5 9 rfl rfl)
theorem dX5_move_128 : decode cX5_move 128 = .ok (.dup, 1) := dk_89 (dk_at dksX5_move_5 10 rfl rfl)
theorem dX5_move_129 : decode cX5_move 129 = .ok (.getfield 207, 3) := dk_180 0 207 (dk_at dksX5_move_5 11 rfl rfl)
theorem dX5_move_132 : decode cX5_move 132 = .ok (.iconst 1, 1) := dk_4 (dk_at dksX5_move_5 14 rfl rfl)
theorem dX5_move_133 : decode cX5_move 133 = .ok (.iadd, 1) := dk_96 (dk_at dksX5_move_5 15 rfl rfl)
theorem dX5_move_134 : decode cX5_move 134 = .ok (.putfield 207, 3) := dk_181 0 207 (dk_at dksX5_move_5 16 rfl rfl)
theorem dX5_move_137 : decode cX5_move 137 = .ok (.aload_n 2, 1) := dk_44 (dk_at dksX5_move_5 19 rfl rfl)
theorem dX5_move_138 : decode cX5_move 138 = .ok (.iload_n 3, 1) := dk_29 (dk_at dksX5_move_5 20 rfl rfl)
theorem dX5_move_139 : decode cX5_move 139 = .ok (.putfield 187, 3) := dk_181 0 187 (dk_at dksX5_move_5 21 rfl rfl)
theorem dX5_move_142 : decode cX5_move 142 = .ok (.iconst 0, 1) := dk_3 (dk_at dksX5_move_6 0 rfl rfl)
theorem dX5_move_143 : decode cX5_move 143 = .ok (.istore 4, 2) := dk_54 4 (dk_at dksX5_move_6 1 rfl rfl)
theorem dX5_move_145 : decode cX5_move 145 = .ok (.iload 4, 2) := dk_21 4 (dk_at dksX5_move_6 3 rfl rfl)
theorem dX5_move_147 : decode cX5_move 147 = .ok (.aload_n 2, 1) := dk_44 (dk_at dksX5_move_6 5 rfl rfl)
theorem dX5_move_148 : decode cX5_move 148 = .ok (.getfield 195, 3) := dk_180 0 195 (dk_at dksX5_move_6 6 rfl rfl)
theorem dX5_move_151 : decode cX5_move 151 = .ok (.if_icmp .ge 24, 3) := dk_162 0 24 (dk_at dksX5_move_6 9 rfl rfl)
theorem dX5_move_154 : decode cX5_move 154 = .ok (.aload_n 2, 1) := dk_44 (dk_at dksX5_move_6 12 rfl rfl)
theorem dX5_move_155 : decode cX5_move 155 = .ok (.dup, 1) := dk_89 (dk_at dksX5_move_6 13 rfl rfl)
theorem dX5_move_156 : decode cX5_move 156 = .ok (.getfield 181, 3) := dk_180 0 181 (dk_at dksX5_move_6 14 rfl rfl)
theorem dX5_move_159 : decode cX5_move 159 = .ok (.aload_n 2, 1) := dk_44 (dk_at dksX5_move_6 17 rfl rfl)
theorem dX5_move_160 : decode cX5_move 160 = .ok (.getfield 181, 3) := dk_180 0 181 (dk_at dksX5_move_6 18 rfl rfl)
theorem dX5_move_163 : decode cX5_move 163 = .ok (.iconst 1, 1) := dk_4 (dk_at dksX5_move_6 21 rfl rfl)
theorem dX5_move_164 : decode cX5_move 164 = .ok (.isub, 1) := dk_100 (dk_at dksX5_move_6 22 rfl rfl)
theorem dX5_move_165 : decode cX5_move 165 = .ok (.iand, 1) := dk_126 (dk_at dksX5_move_6 23 rfl rfl)
theorem dX5_move_166 : decode cX5_move 166 = .ok (.putfield 181, 3) := dk_181 0 181 (dk_at dksX5_move_7 0 rfl rfl)
theorem dX5_move_169 : decode cX5_move 169 = .ok (.iinc 4 1, 3) := dk_132 4 1 (dk_at dksX5_move_7 3 rfl rfl)
theorem dX5_move_172 : decode cX5_move 172 = .ok (.goto (-27), 3) := dk_167 255 229 (dk_at dksX5_move_7 6 rfl rfl)
theorem dX5_move_175 : decode cX5_move 175 = .ok (.return_, 1) := dk_177 (dk_at dksX5_move_7 9 rfl rfl)
abbrev cX5_copy : ByteArray := prog_11_method_2_code
def yX5_copy : MethodName := ⟨RX5, "copy", "()LHyperVaneModel$World;"⟩
def dkwX5_copy_5 : List UInt8 := [180, 0, 68, 181, 0, 68, 43, 176]
abbrev dktX5_copy_5 : List UInt8 := dkwX5_copy_5 ++ []
def dkwX5_copy_4 : List UInt8 := [180, 0, 28, 181, 0, 28, 43, 42, 180, 0, 62, 181, 0, 62, 43, 42, 180, 0, 65, 181, 0, 65, 43, 42]
abbrev dktX5_copy_4 : List UInt8 := dkwX5_copy_4 ++ dktX5_copy_5
def dkwX5_copy_3 : List UInt8 := [180, 0, 22, 181, 0, 22, 43, 42, 180, 0, 25, 181, 0, 25, 43, 42, 180, 0, 59, 181, 0, 59, 43, 42]
abbrev dktX5_copy_3 : List UInt8 := dkwX5_copy_3 ++ dktX5_copy_4
def dkwX5_copy_2 : List UInt8 := [87, 167, 255, 225, 43, 42, 180, 0, 56, 181, 0, 56, 43, 42, 180, 0, 18, 181, 0, 18, 43, 42]
abbrev dktX5_copy_2 : List UInt8 := dkwX5_copy_2 ++ dktX5_copy_3
def dkwX5_copy_1 : List UInt8 := [153, 0, 28, 44, 185, 0, 42, 1, 0, 192, 0, 46, 78, 43, 180, 0, 12, 45, 182, 0, 48, 182, 0, 52]
abbrev dktX5_copy_1 : List UInt8 := dkwX5_copy_1 ++ dktX5_copy_2
def dkwX5_copy_0 : List UInt8 := [187, 0, 13, 89, 183, 0, 31, 76, 42, 180, 0, 12, 182, 0, 32, 77, 44, 185, 0, 36, 1, 0]
abbrev dktX5_copy_0 : List UInt8 := dkwX5_copy_0 ++ dktX5_copy_1
theorem dksX5_copy_0 : cX5_copy.data.toList.drop 0 = dktX5_copy_0 := by decide +kernel
theorem dksX5_copy_1 : cX5_copy.data.toList.drop 22 = dktX5_copy_1 := dk_seg dksX5_copy_0 22 rfl rfl
theorem dksX5_copy_2 : cX5_copy.data.toList.drop 46 = dktX5_copy_2 := dk_seg dksX5_copy_1 24 rfl rfl
theorem dksX5_copy_3 : cX5_copy.data.toList.drop 68 = dktX5_copy_3 := dk_seg dksX5_copy_2 22 rfl rfl
theorem dksX5_copy_4 : cX5_copy.data.toList.drop 92 = dktX5_copy_4 := dk_seg dksX5_copy_3 24 rfl rfl
theorem dksX5_copy_5 : cX5_copy.data.toList.drop 116 = dktX5_copy_5 := dk_seg dksX5_copy_4 24 rfl rfl
theorem dX5_copy_0 : decode cX5_copy 0 = .ok (.new 13, 3) := dk_187 0 13 (dk_at dksX5_copy_0 0 rfl rfl)
theorem dX5_copy_3 : decode cX5_copy 3 = .ok (.dup, 1) := dk_89 (dk_at dksX5_copy_0 3 rfl rfl)
theorem dX5_copy_4 : decode cX5_copy 4 = .ok (.invokespecial 31, 3) := dk_183 0 31 (dk_at dksX5_copy_0 4 rfl rfl)
theorem dX5_copy_7 : decode cX5_copy 7 = .ok (.astore_n 1, 1) := dk_76 (dk_at dksX5_copy_0 7 rfl rfl)
theorem dX5_copy_8 : decode cX5_copy 8 = .ok (.aload_n 0, 1) := dk_42 (dk_at dksX5_copy_0 8 rfl rfl)
theorem dX5_copy_9 : decode cX5_copy 9 = .ok (.getfield 12, 3) := dk_180 0 12 (dk_at dksX5_copy_0 9 rfl rfl)
theorem dX5_copy_12 : decode cX5_copy 12 = .ok (.invokevirtual 32, 3) := dk_182 0 32 (dk_at dksX5_copy_0 12 rfl rfl)
theorem dX5_copy_15 : decode cX5_copy 15 = .ok (.astore_n 2, 1) := dk_77 (dk_at dksX5_copy_0 15 rfl rfl)
theorem dX5_copy_16 : decode cX5_copy 16 = .ok (.aload_n 2, 1) := dk_44 (dk_at dksX5_copy_0 16 rfl rfl)
theorem dX5_copy_17 : decode cX5_copy 17 = .ok (.invokeinterface 36 1, 5) := by decide +kernel
theorem dX5_copy_22 : decode cX5_copy 22 = .ok (.ifCond .eq 28, 3) := dk_153 0 28 (dk_at dksX5_copy_1 0 rfl rfl)
theorem dX5_copy_25 : decode cX5_copy 25 = .ok (.aload_n 2, 1) := dk_44 (dk_at dksX5_copy_1 3 rfl rfl)
theorem dX5_copy_26 : decode cX5_copy 26 = .ok (.invokeinterface 42 1, 5) := by decide +kernel
theorem dX5_copy_31 : decode cX5_copy 31 = .ok (.checkcast 46, 3) := dk_192 0 46 (dk_at dksX5_copy_1 9 rfl rfl)
theorem dX5_copy_34 : decode cX5_copy 34 = .ok (.astore_n 3, 1) := dk_78 (dk_at dksX5_copy_1 12 rfl rfl)
theorem dX5_copy_35 : decode cX5_copy 35 = .ok (.aload_n 1, 1) := dk_43 (dk_at dksX5_copy_1 13 rfl rfl)
theorem dX5_copy_36 : decode cX5_copy 36 = .ok (.getfield 12, 3) := dk_180 0 12 (dk_at dksX5_copy_1 14 rfl rfl)
theorem dX5_copy_39 : decode cX5_copy 39 = .ok (.aload_n 3, 1) := dk_45 (dk_at dksX5_copy_1 17 rfl rfl)
theorem dX5_copy_40 : decode cX5_copy 40 = .ok (.invokevirtual 48, 3) := dk_182 0 48 (dk_at dksX5_copy_1 18 rfl rfl)
theorem dX5_copy_43 : decode cX5_copy 43 = .ok (.invokevirtual 52, 3) := dk_182 0 52 (dk_at dksX5_copy_1 21 rfl rfl)
theorem dX5_copy_46 : decode cX5_copy 46 = .ok (.pop, 1) := dk_87 (dk_at dksX5_copy_2 0 rfl rfl)
theorem dX5_copy_47 : decode cX5_copy 47 = .ok (.goto (-31), 3) := dk_167 255 225 (dk_at dksX5_copy_2 1 rfl rfl)
theorem dX5_copy_50 : decode cX5_copy 50 = .ok (.aload_n 1, 1) := dk_43 (dk_at dksX5_copy_2 4 rfl rfl)
theorem dX5_copy_51 : decode cX5_copy 51 = .ok (.aload_n 0, 1) := dk_42 (dk_at dksX5_copy_2 5 rfl rfl)
theorem dX5_copy_52 : decode cX5_copy 52 = .ok (.getfield 56, 3) := dk_180 0 56 (dk_at dksX5_copy_2 6 rfl rfl)
theorem dX5_copy_55 : decode cX5_copy 55 = .ok (.putfield 56, 3) := dk_181 0 56 (dk_at dksX5_copy_2 9 rfl rfl)
theorem dX5_copy_58 : decode cX5_copy 58 = .ok (.aload_n 1, 1) := dk_43 (dk_at dksX5_copy_2 12 rfl rfl)
theorem dX5_copy_59 : decode cX5_copy 59 = .ok (.aload_n 0, 1) := dk_42 (dk_at dksX5_copy_2 13 rfl rfl)
theorem dX5_copy_60 : decode cX5_copy 60 = .ok (.getfield 18, 3) := dk_180 0 18 (dk_at dksX5_copy_2 14 rfl rfl)
theorem dX5_copy_63 : decode cX5_copy 63 = .ok (.putfield 18, 3) := dk_181 0 18 (dk_at dksX5_copy_2 17 rfl rfl)
theorem dX5_copy_66 : decode cX5_copy 66 = .ok (.aload_n 1, 1) := dk_43 (dk_at dksX5_copy_2 20 rfl rfl)
theorem dX5_copy_67 : decode cX5_copy 67 = .ok (.aload_n 0, 1) := dk_42 (dk_at dksX5_copy_2 21 rfl rfl)
theorem dX5_copy_68 : decode cX5_copy 68 = .ok (.getfield 22, 3) := dk_180 0 22 (dk_at dksX5_copy_3 0 rfl rfl)
theorem dX5_copy_71 : decode cX5_copy 71 = .ok (.putfield 22, 3) := dk_181 0 22 (dk_at dksX5_copy_3 3 rfl rfl)
theorem dX5_copy_74 : decode cX5_copy 74 = .ok (.aload_n 1, 1) := dk_43 (dk_at dksX5_copy_3 6 rfl rfl)
theorem dX5_copy_75 : decode cX5_copy 75 = .ok (.aload_n 0, 1) := dk_42 (dk_at dksX5_copy_3 7 rfl rfl)
theorem dX5_copy_76 : decode cX5_copy 76 = .ok (.getfield 25, 3) := dk_180 0 25 (dk_at dksX5_copy_3 8 rfl rfl)
theorem dX5_copy_79 : decode cX5_copy 79 = .ok (.putfield 25, 3) := dk_181 0 25 (dk_at dksX5_copy_3 11 rfl rfl)
theorem dX5_copy_82 : decode cX5_copy 82 = .ok (.aload_n 1, 1) := dk_43 (dk_at dksX5_copy_3 14 rfl rfl)
theorem dX5_copy_83 : decode cX5_copy 83 = .ok (.aload_n 0, 1) := dk_42 (dk_at dksX5_copy_3 15 rfl rfl)
theorem dX5_copy_84 : decode cX5_copy 84 = .ok (.getfield 59, 3) := dk_180 0 59 (dk_at dksX5_copy_3 16 rfl rfl)
theorem dX5_copy_87 : decode cX5_copy 87 = .ok (.putfield 59, 3) := dk_181 0 59 (dk_at dksX5_copy_3 19 rfl rfl)
theorem dX5_copy_90 : decode cX5_copy 90 = .ok (.aload_n 1, 1) := dk_43 (dk_at dksX5_copy_3 22 rfl rfl)
theorem dX5_copy_91 : decode cX5_copy 91 = .ok (.aload_n 0, 1) := dk_42 (dk_at dksX5_copy_3 23 rfl rfl)
theorem dX5_copy_92 : decode cX5_copy 92 = .ok (.getfield 28, 3) := dk_180 0 28 (dk_at dksX5_copy_4 0 rfl rfl)
theorem dX5_copy_95 : decode cX5_copy 95 = .ok (.putfield 28, 3) := dk_181 0 28 (dk_at dksX5_copy_4 3 rfl rfl)
theorem dX5_copy_98 : decode cX5_copy 98 = .ok (.aload_n 1, 1) := dk_43 (dk_at dksX5_copy_4 6 rfl rfl)
theorem dX5_copy_99 : decode cX5_copy 99 = .ok (.aload_n 0, 1) := dk_42 (dk_at dksX5_copy_4 7 rfl rfl)
theorem dX5_copy_100 : decode cX5_copy 100 = .ok (.getfield 62, 3) := dk_180 0 62 (dk_at dksX5_copy_4 8 rfl rfl)
theorem dX5_copy_103 : decode cX5_copy 103 = .ok (.putfield 62, 3) := dk_181 0 62 (dk_at dksX5_copy_4 11 rfl rfl)
theorem dX5_copy_106 : decode cX5_copy 106 = .ok (.aload_n 1, 1) := dk_43 (dk_at dksX5_copy_4 14 rfl rfl)
theorem dX5_copy_107 : decode cX5_copy 107 = .ok (.aload_n 0, 1) := dk_42 (dk_at dksX5_copy_4 15 rfl rfl)
theorem dX5_copy_108 : decode cX5_copy 108 = .ok (.getfield 65, 3) := dk_180 0 65 (dk_at dksX5_copy_4 16 rfl rfl)
theorem dX5_copy_111 : decode cX5_copy 111 = .ok (.putfield 65, 3) := dk_181 0 65 (dk_at dksX5_copy_4 19 rfl rfl)
theorem dX5_copy_114 : decode cX5_copy 114 = .ok (.aload_n 1, 1) := dk_43 (dk_at dksX5_copy_4 22 rfl rfl)
theorem dX5_copy_115 : decode cX5_copy 115 = .ok (.aload_n 0, 1) := dk_42 (dk_at dksX5_copy_4 23 rfl rfl)
theorem dX5_copy_116 : decode cX5_copy 116 = .ok (.getfield 68, 3) := dk_180 0 68 (dk_at dksX5_copy_5 0 rfl rfl)
theorem dX5_copy_119 : decode cX5_copy 119 = .ok (.putfield 68, 3) := dk_181 0 68 (dk_at dksX5_copy_5 3 rfl rfl)
theorem dX5_copy_122 : decode cX5_copy 122 = .ok (.aload_n 1, 1) := dk_43 (dk_at dksX5_copy_5 6 rfl rfl)
theorem dX5_copy_123 : decode cX5_copy 123 = .ok (.areturn, 1) := dk_176 (dk_at dksX5_copy_5 7 rfl rfl)
theorem q67 : (Jvm.Cond.initialized "HyperVaneModel$World") ∈ lw_all := lw_g (lw_at lw_m1 14 rfl) rfl
theorem q268 : (Jvm.Cond.selects "HyperVaneModel$World" ({ cls := "java/lang/Object", name := "getClass", desc := "()Ljava/lang/Class;" } : Jvm.MethodName) ({ cls := "java/lang/Object", name := "getClass", desc := "()Ljava/lang/Class;" } : Jvm.MethodName)) ∈ lw_all := lw_g (lw_at lw_m1 215 rfl) rfl
theorem q420 : (Jvm.Cond.selects "HyperVaneModel$World" ({ cls := "java/lang/Object", name := "equals", desc := "(Ljava/lang/Object;)Z" } : Jvm.MethodName) ({ cls := "java/lang/Object", name := "equals", desc := "(Ljava/lang/Object;)Z" } : Jvm.MethodName)) ∈ lw_all := lw_g (lw_at lw_m2 127 rfl) rfl
theorem q1179 : (Jvm.Cond.instantiable "HyperVaneModel$World" (10 : Nat)) ∈ lw_all := lw_g (lw_at lw_m5 166 rfl) rfl
theorem q1181 : (Jvm.Cond.instanceMethod ({ cls := "HyperVaneModel$World", name := "<init>", desc := "()V" } : Jvm.MethodName)) ∈ lw_all := lw_g (lw_at lw_m5 168 rfl) rfl
theorem q1182 : (Jvm.Cond.code ({ cls := "HyperVaneModel$World", name := "<init>", desc := "()V" } : Jvm.MethodName) prog_11_method_1_code (1 : Nat) (Option.none : Option Jvm.ClassFile.FieldType)) ∈ lw_all := lw_g (lw_at lw_m5 169 rfl) rfl
theorem q1183 : (Jvm.Cond.methodLink "HyperVaneModel$World" (3 : Nat) ({ cls := "java/lang/Object", name := "<init>", desc := "()V" } : Jvm.MethodName)) ∈ lw_all := lw_g (lw_at lw_m5 170 rfl) rfl
theorem q1184 : (Jvm.Cond.classLink "HyperVaneModel$World" (9 : Nat) "java/util/ArrayList") ∈ lw_all := lw_g (lw_at lw_m5 171 rfl) rfl
theorem q1185 : (Jvm.Cond.methodLink "HyperVaneModel$World" (11 : Nat) ({ cls := "java/util/ArrayList", name := "<init>", desc := "()V" } : Jvm.MethodName)) ∈ lw_all := lw_g (lw_at lw_m5 172 rfl) rfl
theorem q1186 : (Jvm.Cond.fieldLink "HyperVaneModel$World" (12 : Nat) "HyperVaneModel$World" "guests" "Ljava/util/ArrayList;") ∈ lw_all := lw_g (lw_at lw_m5 173 rfl) rfl
theorem q1188 : (Jvm.Cond.fieldLink "HyperVaneModel$World" (56 : Nat) "HyperVaneModel$World" "now" "I") ∈ lw_all := lw_g (lw_at lw_m5 175 rfl) rfl
theorem q1190 : (Jvm.Cond.fieldLink "HyperVaneModel$World" (18 : Nat) "HyperVaneModel$World" "frames" "I") ∈ lw_all := lw_g (lw_at lw_m5 177 rfl) rfl
theorem q1192 : (Jvm.Cond.fieldLink "HyperVaneModel$World" (22 : Nat) "HyperVaneModel$World" "went" "I") ∈ lw_all := lw_g (lw_at lw_m5 179 rfl) rfl
theorem q1194 : (Jvm.Cond.fieldLink "HyperVaneModel$World" (25 : Nat) "HyperVaneModel$World" "works" "I") ∈ lw_all := lw_g (lw_at lw_m5 181 rfl) rfl
theorem q1196 : (Jvm.Cond.fieldLink "HyperVaneModel$World" (59 : Nat) "HyperVaneModel$World" "worksSince" "I") ∈ lw_all := lw_g (lw_at lw_m5 183 rfl) rfl
theorem q1198 : (Jvm.Cond.fieldLink "HyperVaneModel$World" (28 : Nat) "HyperVaneModel$World" "last" "I") ∈ lw_all := lw_g (lw_at lw_m5 185 rfl) rfl
theorem q1199 : (Jvm.Cond.fieldLink "HyperVaneModel$World" (62 : Nat) "HyperVaneModel$World" "idle" "I") ∈ lw_all := lw_g (lw_at lw_m5 186 rfl) rfl
theorem q1201 : (Jvm.Cond.fieldLink "HyperVaneModel$World" (65 : Nat) "HyperVaneModel$World" "toDisk" "I") ∈ lw_all := lw_g (lw_at lw_m5 188 rfl) rfl
theorem q1203 : (Jvm.Cond.fieldLink "HyperVaneModel$World" (68 : Nat) "HyperVaneModel$World" "over" "I") ∈ lw_all := lw_g (lw_at lw_m5 190 rfl) rfl
theorem q1205 : (Jvm.Cond.laysFinal "HyperVaneModel$World" "HyperVaneModel$World" "guests" "Ljava/util/ArrayList;") ∈ lw_all := lw_g (lw_at lw_m5 192 rfl) rfl
theorem q1206 : (Jvm.Cond.soleField "HyperVaneModel$World" "guests") ∈ lw_all := lw_g (lw_at lw_m5 193 rfl) rfl
theorem q1207 : (Jvm.Cond.lays "HyperVaneModel$World" "HyperVaneModel$World" "now" "I") ∈ lw_all := lw_g (lw_at lw_m5 194 rfl) rfl
theorem q1208 : (Jvm.Cond.soleField "HyperVaneModel$World" "now") ∈ lw_all := lw_g (lw_at lw_m5 195 rfl) rfl
theorem q1209 : (Jvm.Cond.lays "HyperVaneModel$World" "HyperVaneModel$World" "frames" "I") ∈ lw_all := lw_g (lw_at lw_m5 196 rfl) rfl
theorem q1210 : (Jvm.Cond.soleField "HyperVaneModel$World" "frames") ∈ lw_all := lw_g (lw_at lw_m5 197 rfl) rfl
theorem q1211 : (Jvm.Cond.lays "HyperVaneModel$World" "HyperVaneModel$World" "went" "I") ∈ lw_all := lw_g (lw_at lw_m5 198 rfl) rfl
theorem q1212 : (Jvm.Cond.soleField "HyperVaneModel$World" "went") ∈ lw_all := lw_g (lw_at lw_m5 199 rfl) rfl
theorem q1213 : (Jvm.Cond.lays "HyperVaneModel$World" "HyperVaneModel$World" "works" "I") ∈ lw_all := lw_g (lw_at lw_m5 200 rfl) rfl
theorem q1214 : (Jvm.Cond.soleField "HyperVaneModel$World" "works") ∈ lw_all := lw_g (lw_at lw_m5 201 rfl) rfl
theorem q1215 : (Jvm.Cond.lays "HyperVaneModel$World" "HyperVaneModel$World" "worksSince" "I") ∈ lw_all := lw_g (lw_at lw_m5 202 rfl) rfl
theorem q1216 : (Jvm.Cond.soleField "HyperVaneModel$World" "worksSince") ∈ lw_all := lw_g (lw_at lw_m5 203 rfl) rfl
theorem q1217 : (Jvm.Cond.lays "HyperVaneModel$World" "HyperVaneModel$World" "last" "I") ∈ lw_all := lw_g (lw_at lw_m5 204 rfl) rfl
theorem q1218 : (Jvm.Cond.soleField "HyperVaneModel$World" "last") ∈ lw_all := lw_g (lw_at lw_m5 205 rfl) rfl
theorem q1219 : (Jvm.Cond.lays "HyperVaneModel$World" "HyperVaneModel$World" "idle" "I") ∈ lw_all := lw_g (lw_at lw_m5 206 rfl) rfl
theorem q1220 : (Jvm.Cond.soleField "HyperVaneModel$World" "idle") ∈ lw_all := lw_g (lw_at lw_m5 207 rfl) rfl
theorem q1221 : (Jvm.Cond.lays "HyperVaneModel$World" "HyperVaneModel$World" "toDisk" "I") ∈ lw_all := lw_g (lw_at lw_m5 208 rfl) rfl
theorem q1222 : (Jvm.Cond.soleField "HyperVaneModel$World" "toDisk") ∈ lw_all := lw_g (lw_at lw_m5 209 rfl) rfl
theorem q1223 : (Jvm.Cond.lays "HyperVaneModel$World" "HyperVaneModel$World" "over" "I") ∈ lw_all := lw_g (lw_at lw_m5 210 rfl) rfl
theorem q1224 : (Jvm.Cond.soleField "HyperVaneModel$World" "over") ∈ lw_all := lw_g (lw_at lw_m5 211 rfl) rfl
theorem q1225 : (Jvm.Cond.superclass "HyperVaneModel$World" "java/lang/Object") ∈ lw_all := lw_g (lw_at lw_m5 212 rfl) rfl
theorem q1261 : (Jvm.Cond.fieldLinkNest "HyperVaneModel$World" (107 : Nat) "HyperVaneModel$Guest" "weight" "I" "HyperVaneModel") ∈ lw_tbl := lw_at lw_m6 8 rfl
theorem q1264 : (Jvm.Cond.fieldLinkNest "HyperVaneModel$World" (124 : Nat) "HyperVaneModel$Guest" "tape" "Ljava/util/ArrayList;" "HyperVaneModel") ∈ lw_tbl := lw_at lw_m6 11 rfl
theorem q1267 : (Jvm.Cond.fieldLinkNest "HyperVaneModel$World" (127 : Nat) "HyperVaneModel$Guest" "place" "I" "HyperVaneModel") ∈ lw_tbl := lw_at lw_m6 14 rfl
theorem q1270 : (Jvm.Cond.fieldLinkNest "HyperVaneModel$World" (165 : Nat) "HyperVaneModel$Guest" "mark" "I" "HyperVaneModel") ∈ lw_tbl := lw_at lw_m6 17 rfl
theorem q1273 : (Jvm.Cond.fieldLinkNest "HyperVaneModel$World" (98 : Nat) "HyperVaneModel$Guest" "time" "I" "HyperVaneModel") ∈ lw_tbl := lw_at lw_m6 20 rfl
theorem q1276 : (Jvm.Cond.fieldLinkNest "HyperVaneModel$World" (156 : Nat) "HyperVaneModel$Guest" "pending" "I" "HyperVaneModel") ∈ lw_tbl := lw_at lw_m6 23 rfl
theorem q1279 : (Jvm.Cond.fieldLinkNest "HyperVaneModel$World" (95 : Nat) "HyperVaneModel$Guest" "state" "I" "HyperVaneModel") ∈ lw_tbl := lw_at lw_m6 26 rfl
theorem q1283 : (Jvm.Cond.fieldLinkNest "HyperVaneModel$World" (210 : Nat) "HyperVaneModel$Guest" "ahead" "I" "HyperVaneModel") ∈ lw_tbl := lw_at lw_m6 30 rfl
theorem q1285 : (Jvm.Cond.fieldLinkNest "HyperVaneModel$World" (101 : Nat) "HyperVaneModel$Guest" "stuckTill" "I" "HyperVaneModel") ∈ lw_tbl := lw_at lw_m6 32 rfl
theorem q1288 : (Jvm.Cond.fieldLinkNest "HyperVaneModel$World" (110 : Nat) "HyperVaneModel$Guest" "credits" "I" "HyperVaneModel") ∈ lw_tbl := lw_at lw_m6 35 rfl
theorem q1291 : (Jvm.Cond.fieldLinkNest "HyperVaneModel$World" (71 : Nat) "HyperVaneModel$Guest" "done" "I" "HyperVaneModel") ∈ lw_tbl := lw_at lw_m6 38 rfl
theorem q1294 : (Jvm.Cond.fieldLinkNest "HyperVaneModel$World" (121 : Nat) "HyperVaneModel$Guest" "stolen" "I" "HyperVaneModel") ∈ lw_tbl := lw_at lw_m6 41 rfl
theorem q1297 : (Jvm.Cond.fieldLinkNest "HyperVaneModel$World" (184 : Nat) "HyperVaneModel$Guest" "queue" "I" "HyperVaneModel") ∈ lw_tbl := lw_at lw_m6 44 rfl
theorem q1300 : (Jvm.Cond.fieldLinkNest "HyperVaneModel$World" (178 : Nat) "HyperVaneModel$Guest" "values" "[I" "HyperVaneModel") ∈ lw_tbl := lw_at lw_m6 47 rfl
theorem q1303 : (Jvm.Cond.fieldLinkNest "HyperVaneModel$World" (82 : Nat) "HyperVaneModel$Guest" "where" "[I" "HyperVaneModel") ∈ lw_tbl := lw_at lw_m6 50 rfl
theorem q1306 : (Jvm.Cond.fieldLinkNest "HyperVaneModel$World" (86 : Nat) "HyperVaneModel$Guest" "frames" "[I" "HyperVaneModel") ∈ lw_tbl := lw_at lw_m6 53 rfl
theorem q1309 : (Jvm.Cond.fieldLinkNest "HyperVaneModel$World" (92 : Nat) "HyperVaneModel$Guest" "used" "[I" "HyperVaneModel") ∈ lw_tbl := lw_at lw_m6 56 rfl
theorem q1312 : (Jvm.Cond.fieldLinkNest "HyperVaneModel$World" (159 : Nat) "HyperVaneModel$Guest" "exits" "[I" "HyperVaneModel") ∈ lw_tbl := lw_at lw_m6 59 rfl
theorem q1315 : (Jvm.Cond.fieldLinkNest "HyperVaneModel$World" (138 : Nat) "HyperVaneModel$Guest" "isMoved" "Z" "HyperVaneModel") ∈ lw_tbl := lw_at lw_m6 62 rfl
theorem q1318 : (Jvm.Cond.fieldLinkNest "HyperVaneModel$World" (187 : Nat) "HyperVaneModel$Guest" "isOver" "Z" "HyperVaneModel") ∈ lw_tbl := lw_at lw_m6 65 rfl
theorem q1321 : (Jvm.Cond.fieldLinkNest "HyperVaneModel$World" (204 : Nat) "HyperVaneModel$Guest" "isHeld" "Z" "HyperVaneModel") ∈ lw_tbl := lw_at lw_m6 68 rfl
theorem q1323 : (Jvm.Cond.fieldLinkNest "HyperVaneModel$World" (195 : Nat) "HyperVaneModel$Guest" "speed" "I" "HyperVaneModel") ∈ lw_tbl := lw_at lw_m6 70 rfl
theorem q1325 : (Jvm.Cond.fieldLinkNest "HyperVaneModel$World" (181 : Nat) "HyperVaneModel$Guest" "left" "I" "HyperVaneModel") ∈ lw_tbl := lw_at lw_m6 72 rfl
theorem q1328 : (Jvm.Cond.fieldLinkNest "HyperVaneModel$World" (198 : Nat) "HyperVaneModel$Guest" "begun" "I" "HyperVaneModel") ∈ lw_tbl := lw_at lw_m6 75 rfl
theorem q1330 : (Jvm.Cond.fieldLinkNest "HyperVaneModel$World" (207 : Nat) "HyperVaneModel$Guest" "down" "I" "HyperVaneModel") ∈ lw_tbl := lw_at lw_m6 77 rfl
theorem q1433 : (Jvm.Cond.instanceMethod ({ cls := "HyperVaneModel$World", name := "pause", desc := "(LHyperVaneModel$Guest;)V" } : Jvm.MethodName)) ∈ lw_all := lw_g (lw_at lw_m6 180 rfl) rfl
theorem q1434 : (Jvm.Cond.selects "HyperVaneModel$World" ({ cls := "HyperVaneModel$World", name := "pause", desc := "(LHyperVaneModel$Guest;)V" } : Jvm.MethodName) ({ cls := "HyperVaneModel$World", name := "pause", desc := "(LHyperVaneModel$Guest;)V" } : Jvm.MethodName)) ∈ lw_all := lw_g (lw_at lw_m6 181 rfl) rfl
theorem q1435 : (Jvm.Cond.code ({ cls := "HyperVaneModel$World", name := "pause", desc := "(LHyperVaneModel$Guest;)V" } : Jvm.MethodName) prog_11_method_15_code (2 : Nat) (Option.none : Option Jvm.ClassFile.FieldType)) ∈ lw_all := lw_g (lw_at lw_m6 182 rfl) rfl
theorem q1445 : (Jvm.Cond.instanceMethod ({ cls := "HyperVaneModel$World", name := "out", desc := "(I)Z" } : Jvm.MethodName)) ∈ lw_all := lw_g (lw_at lw_m6 192 rfl) rfl
theorem q1446 : (Jvm.Cond.selects "HyperVaneModel$World" ({ cls := "HyperVaneModel$World", name := "out", desc := "(I)Z" } : Jvm.MethodName) ({ cls := "HyperVaneModel$World", name := "out", desc := "(I)Z" } : Jvm.MethodName)) ∈ lw_all := lw_g (lw_at lw_m6 193 rfl) rfl
theorem q1447 : (Jvm.Cond.code ({ cls := "HyperVaneModel$World", name := "out", desc := "(I)Z" } : Jvm.MethodName) prog_11_method_5_code (3 : Nat) (Option.some Jvm.ClassFile.FieldType.boolean)) ∈ lw_all := lw_g (lw_at lw_m6 194 rfl) rfl
theorem q1448 : (Jvm.Cond.methodLink "HyperVaneModel$World" (88 : Nat) ({ cls := "HyperVaneModel$World", name := "in", desc := "(I)I" } : Jvm.MethodName)) ∈ lw_all := lw_g (lw_at lw_m6 195 rfl) rfl
theorem q1449 : (Jvm.Cond.instanceMethod ({ cls := "HyperVaneModel$World", name := "in", desc := "(I)I" } : Jvm.MethodName)) ∈ lw_all := lw_g (lw_at lw_m6 196 rfl) rfl
theorem q1450 : (Jvm.Cond.selects "HyperVaneModel$World" ({ cls := "HyperVaneModel$World", name := "in", desc := "(I)I" } : Jvm.MethodName) ({ cls := "HyperVaneModel$World", name := "in", desc := "(I)I" } : Jvm.MethodName)) ∈ lw_all := lw_g (lw_at lw_m6 197 rfl) rfl
theorem q1451 : (Jvm.Cond.code ({ cls := "HyperVaneModel$World", name := "in", desc := "(I)I" } : Jvm.MethodName) prog_11_method_4_code (4 : Nat) (Option.some Jvm.ClassFile.FieldType.int)) ∈ lw_all := lw_g (lw_at lw_m6 198 rfl) rfl
theorem q1452 : (Jvm.Cond.methodLink "HyperVaneModel$World" (74 : Nat) ({ cls := "java/util/ArrayList", name := "size", desc := "()I" } : Jvm.MethodName)) ∈ lw_all := lw_g (lw_at lw_m6 199 rfl) rfl
theorem q1453 : (Jvm.Cond.methodLink "HyperVaneModel$World" (78 : Nat) ({ cls := "java/util/ArrayList", name := "get", desc := "(I)Ljava/lang/Object;" } : Jvm.MethodName)) ∈ lw_all := lw_g (lw_at lw_m6 200 rfl) rfl
theorem q1454 : (Jvm.Cond.classLink "HyperVaneModel$World" (46 : Nat) "HyperVaneModel$Guest") ∈ lw_all := lw_g (lw_at lw_m6 201 rfl) rfl
theorem q1476 : (Jvm.Cond.instanceMethod ({ cls := "HyperVaneModel$World", name := "begin", desc := "(II)I" } : Jvm.MethodName)) ∈ lw_all := lw_g (lw_at lw_m6 223 rfl) rfl
theorem q1477 : (Jvm.Cond.selects "HyperVaneModel$World" ({ cls := "HyperVaneModel$World", name := "begin", desc := "(II)I" } : Jvm.MethodName) ({ cls := "HyperVaneModel$World", name := "begin", desc := "(II)I" } : Jvm.MethodName)) ∈ lw_all := lw_g (lw_at lw_m6 224 rfl) rfl
theorem q1478 : (Jvm.Cond.code ({ cls := "HyperVaneModel$World", name := "begin", desc := "(II)I" } : Jvm.MethodName) prog_11_method_16_code (5 : Nat) (Option.some Jvm.ClassFile.FieldType.int)) ∈ lw_all := lw_g (lw_at lw_m6 225 rfl) rfl
theorem q1479 : (Jvm.Cond.methodLink "HyperVaneModel$World" (190 : Nat) ({ cls := "java/lang/Integer", name := "bitCount", desc := "(I)I" } : Jvm.MethodName)) ∈ lw_all := lw_g (lw_at lw_m6 226 rfl) rfl
theorem q1500 : (Jvm.Cond.instanceMethod ({ cls := "HyperVaneModel$World", name := "done", desc := "()I" } : Jvm.MethodName)) ∈ lw_all := lw_g (lw_at lw_m7 7 rfl) rfl
theorem q1501 : (Jvm.Cond.selects "HyperVaneModel$World" ({ cls := "HyperVaneModel$World", name := "done", desc := "()I" } : Jvm.MethodName) ({ cls := "HyperVaneModel$World", name := "done", desc := "()I" } : Jvm.MethodName)) ∈ lw_all := lw_g (lw_at lw_m7 8 rfl) rfl
theorem q1502 : (Jvm.Cond.code ({ cls := "HyperVaneModel$World", name := "done", desc := "()I" } : Jvm.MethodName) prog_11_method_3_code (4 : Nat) (Option.some Jvm.ClassFile.FieldType.int)) ∈ lw_all := lw_g (lw_at lw_m7 9 rfl) rfl
theorem q1503 : (Jvm.Cond.methodLink "HyperVaneModel$World" (32 : Nat) ({ cls := "java/util/ArrayList", name := "iterator", desc := "()Ljava/util/Iterator;" } : Jvm.MethodName)) ∈ lw_all := lw_g (lw_at lw_m7 10 rfl) rfl
theorem q1504 : (Jvm.Cond.interfaceEntry "HyperVaneModel$World" (36 : Nat)) ∈ lw_tbl := lw_at lw_m7 11 rfl
theorem q1505 : (Jvm.Cond.methodLink "HyperVaneModel$World" (36 : Nat) ({ cls := "java/util/Iterator", name := "hasNext", desc := "()Z" } : Jvm.MethodName)) ∈ lw_all := lw_g (lw_at lw_m7 12 rfl) rfl
theorem q1506 : (Jvm.Cond.interfaceEntry "HyperVaneModel$World" (42 : Nat)) ∈ lw_tbl := lw_at lw_m7 13 rfl
theorem q1507 : (Jvm.Cond.methodLink "HyperVaneModel$World" (42 : Nat) ({ cls := "java/util/Iterator", name := "next", desc := "()Ljava/lang/Object;" } : Jvm.MethodName)) ∈ lw_all := lw_g (lw_at lw_m7 14 rfl) rfl
theorem q1509 : (Jvm.Cond.instanceMethod ({ cls := "HyperVaneModel$World", name := "tick", desc := "()V" } : Jvm.MethodName)) ∈ lw_all := lw_g (lw_at lw_m7 16 rfl) rfl
theorem q1510 : (Jvm.Cond.selects "HyperVaneModel$World" ({ cls := "HyperVaneModel$World", name := "tick", desc := "()V" } : Jvm.MethodName) ({ cls := "HyperVaneModel$World", name := "tick", desc := "()V" } : Jvm.MethodName)) ∈ lw_all := lw_g (lw_at lw_m7 17 rfl) rfl
theorem q1511 : (Jvm.Cond.code ({ cls := "HyperVaneModel$World", name := "tick", desc := "()V" } : Jvm.MethodName) prog_11_method_7_code (3 : Nat) (Option.none : Option Jvm.ClassFile.FieldType)) ∈ lw_all := lw_g (lw_at lw_m7 18 rfl) rfl
theorem q1512 : (Jvm.Cond.methodLink "HyperVaneModel$World" (104 : Nat) ({ cls := "HyperVaneModel$World", name := "mostOf", desc := "()I" } : Jvm.MethodName)) ∈ lw_all := lw_g (lw_at lw_m7 19 rfl) rfl
theorem q1513 : (Jvm.Cond.privateMethod ({ cls := "HyperVaneModel$World", name := "mostOf", desc := "()I" } : Jvm.MethodName)) ∈ lw_tbl := lw_at lw_m7 20 rfl
theorem q1514 : (Jvm.Cond.instanceMethod ({ cls := "HyperVaneModel$World", name := "mostOf", desc := "()I" } : Jvm.MethodName)) ∈ lw_all := lw_g (lw_at lw_m7 21 rfl) rfl
theorem q1515 : (Jvm.Cond.code ({ cls := "HyperVaneModel$World", name := "mostOf", desc := "()I" } : Jvm.MethodName) prog_11_method_8_code (4 : Nat) (Option.some Jvm.ClassFile.FieldType.int)) ∈ lw_all := lw_g (lw_at lw_m7 22 rfl) rfl
theorem q1516 : (Jvm.Cond.methodLink "HyperVaneModel$World" (146 : Nat) ({ cls := "java/lang/Math", name := "max", desc := "(II)I" } : Jvm.MethodName)) ∈ lw_all := lw_g (lw_at lw_m7 23 rfl) rfl
theorem q1517 : (Jvm.Cond.methodLink "HyperVaneModel$World" (113 : Nat) ({ cls := "java/lang/Math", name := "min", desc := "(II)I" } : Jvm.MethodName)) ∈ lw_all := lw_g (lw_at lw_m7 24 rfl) rfl
theorem q1518 : (Jvm.Cond.methodLink "HyperVaneModel$World" (119 : Nat) ({ cls := "HyperVaneModel$World", name := "next", desc := "()I" } : Jvm.MethodName)) ∈ lw_all := lw_g (lw_at lw_m7 25 rfl) rfl
theorem q1519 : (Jvm.Cond.privateMethod ({ cls := "HyperVaneModel$World", name := "next", desc := "()I" } : Jvm.MethodName)) ∈ lw_tbl := lw_at lw_m7 26 rfl
theorem q1520 : (Jvm.Cond.instanceMethod ({ cls := "HyperVaneModel$World", name := "next", desc := "()I" } : Jvm.MethodName)) ∈ lw_all := lw_g (lw_at lw_m7 27 rfl) rfl
theorem q1521 : (Jvm.Cond.code ({ cls := "HyperVaneModel$World", name := "next", desc := "()I" } : Jvm.MethodName) prog_11_method_9_code (3 : Nat) (Option.some Jvm.ClassFile.FieldType.int)) ∈ lw_all := lw_g (lw_at lw_m7 28 rfl) rfl
theorem q1522 : (Jvm.Cond.classLink "HyperVaneModel$World" (130 : Nat) "[I") ∈ lw_all := lw_g (lw_at lw_m7 29 rfl) rfl
theorem q1523 : (Jvm.Cond.methodLink "HyperVaneModel$World" (131 : Nat) ({ cls := "HyperVaneModel$World", name := "does", desc := "(LHyperVaneModel$Guest;[I)V" } : Jvm.MethodName)) ∈ lw_all := lw_g (lw_at lw_m7 30 rfl) rfl
theorem q1524 : (Jvm.Cond.privateMethod ({ cls := "HyperVaneModel$World", name := "does", desc := "(LHyperVaneModel$Guest;[I)V" } : Jvm.MethodName)) ∈ lw_tbl := lw_at lw_m7 31 rfl
theorem q1525 : (Jvm.Cond.instanceMethod ({ cls := "HyperVaneModel$World", name := "does", desc := "(LHyperVaneModel$Guest;[I)V" } : Jvm.MethodName)) ∈ lw_all := lw_g (lw_at lw_m7 32 rfl) rfl
theorem q1526 : (Jvm.Cond.code ({ cls := "HyperVaneModel$World", name := "does", desc := "(LHyperVaneModel$Guest;[I)V" } : Jvm.MethodName) prog_11_method_10_code (3 : Nat) (Option.none : Option Jvm.ClassFile.FieldType)) ∈ lw_all := lw_g (lw_at lw_m7 33 rfl) rfl
theorem q1527 : (Jvm.Cond.methodLink "HyperVaneModel$World" (149 : Nat) ({ cls := "HyperVaneModel$World", name := "touch", desc := "(LHyperVaneModel$Guest;[I)V" } : Jvm.MethodName)) ∈ lw_all := lw_g (lw_at lw_m7 34 rfl) rfl
theorem q1528 : (Jvm.Cond.privateMethod ({ cls := "HyperVaneModel$World", name := "touch", desc := "(LHyperVaneModel$Guest;[I)V" } : Jvm.MethodName)) ∈ lw_tbl := lw_at lw_m7 35 rfl
theorem q1529 : (Jvm.Cond.instanceMethod ({ cls := "HyperVaneModel$World", name := "touch", desc := "(LHyperVaneModel$Guest;[I)V" } : Jvm.MethodName)) ∈ lw_all := lw_g (lw_at lw_m7 36 rfl) rfl
theorem q1530 : (Jvm.Cond.code ({ cls := "HyperVaneModel$World", name := "touch", desc := "(LHyperVaneModel$Guest;[I)V" } : Jvm.MethodName) prog_11_method_11_code (6 : Nat) (Option.none : Option Jvm.ClassFile.FieldType)) ∈ lw_all := lw_g (lw_at lw_m7 37 rfl) rfl
theorem q1531 : (Jvm.Cond.methodLink "HyperVaneModel$World" (171 : Nat) ({ cls := "HyperVaneModel$World", name := "frame", desc := "()I" } : Jvm.MethodName)) ∈ lw_all := lw_g (lw_at lw_m7 38 rfl) rfl
theorem q1532 : (Jvm.Cond.privateMethod ({ cls := "HyperVaneModel$World", name := "frame", desc := "()I" } : Jvm.MethodName)) ∈ lw_tbl := lw_at lw_m7 39 rfl
theorem q1533 : (Jvm.Cond.instanceMethod ({ cls := "HyperVaneModel$World", name := "frame", desc := "()I" } : Jvm.MethodName)) ∈ lw_all := lw_g (lw_at lw_m7 40 rfl) rfl
theorem q1534 : (Jvm.Cond.code ({ cls := "HyperVaneModel$World", name := "frame", desc := "()I" } : Jvm.MethodName) prog_11_method_6_code (6 : Nat) (Option.some Jvm.ClassFile.FieldType.int)) ∈ lw_all := lw_g (lw_at lw_m7 41 rfl) rfl
theorem q1535 : (Jvm.Cond.methodLink "HyperVaneModel$World" (174 : Nat) ({ cls := "HyperVaneModel$World", name := "out", desc := "(I)Z" } : Jvm.MethodName)) ∈ lw_all := lw_g (lw_at lw_m7 42 rfl) rfl
theorem q1536 : (Jvm.Cond.methodLink "HyperVaneModel$World" (168 : Nat) ({ cls := "HyperVaneModel$Guest", name := "isDone", desc := "()V" } : Jvm.MethodName)) ∈ lw_all := lw_g (lw_at lw_m7 43 rfl) rfl
theorem q1541 : (Jvm.Cond.methodLink "HyperVaneModel$World" (152 : Nat) ({ cls := "HyperVaneModel$World", name := "send", desc := "(LHyperVaneModel$Guest;)V" } : Jvm.MethodName)) ∈ lw_all := lw_g (lw_at lw_m7 48 rfl) rfl
theorem q1542 : (Jvm.Cond.privateMethod ({ cls := "HyperVaneModel$World", name := "send", desc := "(LHyperVaneModel$Guest;)V" } : Jvm.MethodName)) ∈ lw_tbl := lw_at lw_m7 49 rfl
theorem q1543 : (Jvm.Cond.instanceMethod ({ cls := "HyperVaneModel$World", name := "send", desc := "(LHyperVaneModel$Guest;)V" } : Jvm.MethodName)) ∈ lw_all := lw_g (lw_at lw_m7 50 rfl) rfl
theorem q1544 : (Jvm.Cond.code ({ cls := "HyperVaneModel$World", name := "send", desc := "(LHyperVaneModel$Guest;)V" } : Jvm.MethodName) prog_11_method_12_code (2 : Nat) (Option.none : Option Jvm.ClassFile.FieldType)) ∈ lw_all := lw_g (lw_at lw_m7 51 rfl) rfl
theorem q1545 : (Jvm.Cond.methodLinkNest "HyperVaneModel$World" (162 : Nat) ({ cls := "HyperVaneModel$Guest", name := "log", desc := "(I)V" } : Jvm.MethodName) "HyperVaneModel") ∈ lw_tbl := lw_at lw_m7 52 rfl
theorem q1551 : (Jvm.Cond.methodLink "HyperVaneModel$World" (135 : Nat) ({ cls := "HyperVaneModel$World", name := "device", desc := "()V" } : Jvm.MethodName)) ∈ lw_all := lw_g (lw_at lw_m7 58 rfl) rfl
theorem q1552 : (Jvm.Cond.privateMethod ({ cls := "HyperVaneModel$World", name := "device", desc := "()V" } : Jvm.MethodName)) ∈ lw_tbl := lw_at lw_m7 59 rfl
theorem q1553 : (Jvm.Cond.instanceMethod ({ cls := "HyperVaneModel$World", name := "device", desc := "()V" } : Jvm.MethodName)) ∈ lw_all := lw_g (lw_at lw_m7 60 rfl) rfl
theorem q1554 : (Jvm.Cond.code ({ cls := "HyperVaneModel$World", name := "device", desc := "()V" } : Jvm.MethodName) prog_11_method_13_code (3 : Nat) (Option.none : Option Jvm.ClassFile.FieldType)) ∈ lw_all := lw_g (lw_at lw_m7 61 rfl) rfl
theorem q1555 : (Jvm.Cond.methodLink "HyperVaneModel$World" (142 : Nat) ({ cls := "HyperVaneModel$World", name := "move", desc := "(I)V" } : Jvm.MethodName)) ∈ lw_all := lw_g (lw_at lw_m7 62 rfl) rfl
theorem q1556 : (Jvm.Cond.privateMethod ({ cls := "HyperVaneModel$World", name := "move", desc := "(I)V" } : Jvm.MethodName)) ∈ lw_tbl := lw_at lw_m7 63 rfl
theorem q1557 : (Jvm.Cond.instanceMethod ({ cls := "HyperVaneModel$World", name := "move", desc := "(I)V" } : Jvm.MethodName)) ∈ lw_all := lw_g (lw_at lw_m7 64 rfl) rfl
theorem q1558 : (Jvm.Cond.code ({ cls := "HyperVaneModel$World", name := "move", desc := "(I)V" } : Jvm.MethodName) prog_11_method_14_code (5 : Nat) (Option.none : Option Jvm.ClassFile.FieldType)) ∈ lw_all := lw_g (lw_at lw_m7 65 rfl) rfl
theorem q1559 : (Jvm.Cond.methodLink "HyperVaneModel$World" (201 : Nat) ({ cls := "HyperVaneModel$World", name := "pause", desc := "(LHyperVaneModel$Guest;)V" } : Jvm.MethodName)) ∈ lw_all := lw_g (lw_at lw_m7 66 rfl) rfl
theorem q1645 : (Jvm.Cond.instanceMethod ({ cls := "HyperVaneModel$World", name := "copy", desc := "()LHyperVaneModel$World;" } : Jvm.MethodName)) ∈ lw_all := lw_g (lw_at lw_m7 152 rfl) rfl
theorem q1646 : (Jvm.Cond.selects "HyperVaneModel$World" ({ cls := "HyperVaneModel$World", name := "copy", desc := "()LHyperVaneModel$World;" } : Jvm.MethodName) ({ cls := "HyperVaneModel$World", name := "copy", desc := "()LHyperVaneModel$World;" } : Jvm.MethodName)) ∈ lw_all := lw_g (lw_at lw_m7 153 rfl) rfl
theorem q1647 : (Jvm.Cond.code ({ cls := "HyperVaneModel$World", name := "copy", desc := "()LHyperVaneModel$World;" } : Jvm.MethodName) prog_11_method_2_code (4 : Nat) (Option.some (Jvm.ClassFile.FieldType.object "HyperVaneModel$World"))) ∈ lw_all := lw_g (lw_at lw_m7 154 rfl) rfl
theorem q1648 : (Jvm.Cond.classLink "HyperVaneModel$World" (13 : Nat) "HyperVaneModel$World") ∈ lw_all := lw_g (lw_at lw_m7 155 rfl) rfl
theorem q1649 : (Jvm.Cond.methodLink "HyperVaneModel$World" (31 : Nat) ({ cls := "HyperVaneModel$World", name := "<init>", desc := "()V" } : Jvm.MethodName)) ∈ lw_all := lw_g (lw_at lw_m7 156 rfl) rfl
theorem q1650 : (Jvm.Cond.methodLink "HyperVaneModel$World" (48 : Nat) ({ cls := "HyperVaneModel$Guest", name := "copy", desc := "()LHyperVaneModel$Guest;" } : Jvm.MethodName)) ∈ lw_all := lw_g (lw_at lw_m7 157 rfl) rfl
theorem q1672 : (Jvm.Cond.methodLink "HyperVaneModel$World" (52 : Nat) ({ cls := "java/util/ArrayList", name := "add", desc := "(Ljava/lang/Object;)Z" } : Jvm.MethodName)) ∈ lw_all := lw_g (lw_at lw_m7 179 rfl) rfl
theorem q1705 : (Jvm.Cond.castable "HyperVaneModel$World" "java/lang/Object") ∈ lw_tbl := lw_at lw_m7 212 rfl
theorem in_X5 : ∀ w ∈ wsX50, w ∈ lw_all := lw_in wsX50 [1205, 1207, 1209, 1211, 1213, 1215, 1217, 1219, 1221, 1223] (by decide +kernel) (by decide +kernel)

/-! HyperVaneModel$Guest -/
set_option maxRecDepth 100000
def RX8 : String := "HyperVaneModel$Guest"
def TX8 : u_T := fun k => match k with
  | 0 => ("HyperVaneModel$Guest", "weight", "I", false)
  | 1 => ("HyperVaneModel$Guest", "tape", "Ljava/util/ArrayList;", false)
  | 2 => ("HyperVaneModel$Guest", "place", "I", false)
  | 3 => ("HyperVaneModel$Guest", "mark", "I", false)
  | 4 => ("HyperVaneModel$Guest", "time", "I", false)
  | 5 => ("HyperVaneModel$Guest", "pending", "I", false)
  | 6 => ("HyperVaneModel$Guest", "state", "I", false)
  | 7 => ("HyperVaneModel$Guest", "ahead", "I", false)
  | 8 => ("HyperVaneModel$Guest", "stuckTill", "I", false)
  | 9 => ("HyperVaneModel$Guest", "credits", "I", false)
  | 10 => ("HyperVaneModel$Guest", "done", "I", false)
  | 11 => ("HyperVaneModel$Guest", "stolen", "I", false)
  | 12 => ("HyperVaneModel$Guest", "queue", "I", false)
  | 13 => ("HyperVaneModel$Guest", "values", "[I", true)
  | 14 => ("HyperVaneModel$Guest", "where", "[I", true)
  | 15 => ("HyperVaneModel$Guest", "frames", "[I", true)
  | 16 => ("HyperVaneModel$Guest", "used", "[I", true)
  | 17 => ("HyperVaneModel$Guest", "exits", "[I", true)
  | 18 => ("HyperVaneModel$Guest", "isMoved", "Z", false)
  | 19 => ("HyperVaneModel$Guest", "isOver", "Z", false)
  | 20 => ("HyperVaneModel$Guest", "isHeld", "Z", false)
  | 21 => ("HyperVaneModel$Guest", "speed", "I", false)
  | 22 => ("HyperVaneModel$Guest", "left", "I", false)
  | 23 => ("HyperVaneModel$Guest", "begun", "I", false)
  | 24 => ("HyperVaneModel$Guest", "down", "I", false)
  | 25 => ("HyperVaneModel$Guest", "isSnapped", "Z", false)
  | 26 => ("HyperVaneModel$Guest", "snapPlace", "I", false)
  | 27 => ("HyperVaneModel$Guest", "snapMark", "I", false)
  | 28 => ("HyperVaneModel$Guest", "snapValues", "[I", true)
  | 29 => ("HyperVaneModel$Guest", "since", "I", false)
  | 30 => ("HyperVaneModel$Guest", "log", "Ljava/util/ArrayList;", false)
  | _ => ("HyperVaneModel$Guest", "given", "Ljava/util/ArrayList;", false)
def tyX8 : Nat → FieldType := fun k => match k with
  | 0 => .int
  | 1 => .object "java/util/ArrayList"
  | 2 => .int
  | 3 => .int
  | 4 => .int
  | 5 => .int
  | 6 => .int
  | 7 => .int
  | 8 => .int
  | 9 => .int
  | 10 => .int
  | 11 => .int
  | 12 => .int
  | 13 => .array .int
  | 14 => .array .int
  | 15 => .array .int
  | 16 => .array .int
  | 17 => .array .int
  | 18 => .boolean
  | 19 => .boolean
  | 20 => .boolean
  | 21 => .int
  | 22 => .int
  | 23 => .int
  | 24 => .int
  | 25 => .boolean
  | 26 => .int
  | 27 => .int
  | 28 => .array .int
  | 29 => .int
  | 30 => .object "java/util/ArrayList"
  | _ => .object "java/util/ArrayList"
abbrev wsX80 : List Cond := u_ws RX8 TX8 32
set_option maxRecDepth 100000 in
theorem nmX8 : ∀ a, a < 32 → ∀ b, b < 32 → a ≠ b → (TX8 a).2.1 ≠ (TX8 b).2.1 := by decide +kernel
set_option maxRecDepth 100000 in
theorem tyX8_ok : ∀ k, k < 32 → parseFieldDescriptor (TX8 k).2.2.1 = some (tyX8 k) := by decide +kernel
abbrev cX8_init : ByteArray := prog_10_method_1_code
def yX8_init : MethodName := ⟨RX8, "<init>", "()V"⟩
def dkwX8_init_4 : List UInt8 := [89, 183, 0, 11, 181, 0, 41, 42, 187, 0, 9, 89, 183, 0, 11, 181, 0, 44, 177]
abbrev dktX8_init_4 : List UInt8 := dkwX8_init_4 ++ []
def dkwX8_init_3 : List UInt8 := [188, 10, 181, 0, 32, 42, 8, 188, 10, 181, 0, 35, 42, 16, 6, 188, 10, 181, 0, 38, 42, 187, 0, 9]
abbrev dktX8_init_3 : List UInt8 := dkwX8_init_3 ++ dktX8_init_4
def dkwX8_init_2 : List UInt8 := [6, 79, 89, 7, 6, 79, 89, 8, 6, 79, 181, 0, 26, 42, 16, 6, 188, 10, 181, 0, 29, 42, 16, 6]
abbrev dktX8_init_2 : List UInt8 := dkwX8_init_2 ++ dktX8_init_3
def dkwX8_init_1 : List UInt8 := [188, 10, 181, 0, 22, 42, 16, 6, 188, 10, 89, 3, 6, 79, 89, 4, 6, 79, 89, 5, 6, 79, 89, 6]
abbrev dktX8_init_1 : List UInt8 := dkwX8_init_1 ++ dktX8_init_2
def dkwX8_init_0 : List UInt8 := [42, 183, 0, 3, 42, 187, 0, 9, 89, 183, 0, 11, 181, 0, 12, 42, 8, 181, 0, 18, 42, 16, 6]
abbrev dktX8_init_0 : List UInt8 := dkwX8_init_0 ++ dktX8_init_1
theorem dksX8_init_0 : cX8_init.data.toList.drop 0 = dktX8_init_0 := by decide +kernel
theorem dksX8_init_1 : cX8_init.data.toList.drop 23 = dktX8_init_1 := dk_seg dksX8_init_0 23 rfl rfl
theorem dksX8_init_2 : cX8_init.data.toList.drop 47 = dktX8_init_2 := dk_seg dksX8_init_1 24 rfl rfl
theorem dksX8_init_3 : cX8_init.data.toList.drop 71 = dktX8_init_3 := dk_seg dksX8_init_2 24 rfl rfl
theorem dksX8_init_4 : cX8_init.data.toList.drop 95 = dktX8_init_4 := dk_seg dksX8_init_3 24 rfl rfl
theorem dX8_init_0 : decode cX8_init 0 = .ok (.aload_n 0, 1) := dk_42 (dk_at dksX8_init_0 0 rfl rfl)
theorem dX8_init_1 : decode cX8_init 1 = .ok (.invokespecial 3, 3) := dk_183 0 3 (dk_at dksX8_init_0 1 rfl rfl)
theorem dX8_init_4 : decode cX8_init 4 = .ok (.aload_n 0, 1) := dk_42 (dk_at dksX8_init_0 4 rfl rfl)
theorem dX8_init_5 : decode cX8_init 5 = .ok (.new 9, 3) := dk_187 0 9 (dk_at dksX8_init_0 5 rfl rfl)
theorem dX8_init_8 : decode cX8_init 8 = .ok (.dup, 1) := dk_89 (dk_at dksX8_init_0 8 rfl rfl)
theorem dX8_init_9 : decode cX8_init 9 = .ok (.invokespecial 11, 3) := dk_183 0 11 (dk_at dksX8_init_0 9 rfl rfl)
theorem dX8_init_12 : decode cX8_init 12 = .ok (.putfield 12, 3) := dk_181 0 12 (dk_at dksX8_init_0 12 rfl rfl)
theorem dX8_init_15 : decode cX8_init 15 = .ok (.aload_n 0, 1) := dk_42 (dk_at dksX8_init_0 15 rfl rfl)
theorem dX8_init_16 : decode cX8_init 16 = .ok (.iconst 5, 1) := dk_8 (dk_at dksX8_init_0 16 rfl rfl)
theorem dX8_init_17 : decode cX8_init 17 = .ok (.putfield 18, 3) := dk_181 0 18 (dk_at dksX8_init_0 17 rfl rfl)
theorem dX8_init_20 : decode cX8_init 20 = .ok (.aload_n 0, 1) := dk_42 (dk_at dksX8_init_0 20 rfl rfl)
theorem dX8_init_21 : decode cX8_init 21 = .ok (.bipush 6, 2) := dk_16 6 (dk_at dksX8_init_0 21 rfl rfl)
theorem dX8_init_23 : decode cX8_init 23 = .ok (.newarray .int, 2) := dk_188_10 (dk_at dksX8_init_1 0 rfl rfl)
theorem dX8_init_25 : decode cX8_init 25 = .ok (.putfield 22, 3) := dk_181 0 22 (dk_at dksX8_init_1 2 rfl rfl)
theorem dX8_init_28 : decode cX8_init 28 = .ok (.aload_n 0, 1) := dk_42 (dk_at dksX8_init_1 5 rfl rfl)
theorem dX8_init_29 : decode cX8_init 29 = .ok (.bipush 6, 2) := dk_16 6 (dk_at dksX8_init_1 6 rfl rfl)
theorem dX8_init_31 : decode cX8_init 31 = .ok (.newarray .int, 2) := dk_188_10 (dk_at dksX8_init_1 8 rfl rfl)
theorem dX8_init_33 : decode cX8_init 33 = .ok (.dup, 1) := dk_89 (dk_at dksX8_init_1 10 rfl rfl)
theorem dX8_init_34 : decode cX8_init 34 = .ok (.iconst 0, 1) := dk_3 (dk_at dksX8_init_1 11 rfl rfl)
theorem dX8_init_35 : decode cX8_init 35 = .ok (.iconst 3, 1) := dk_6 (dk_at dksX8_init_1 12 rfl rfl)
theorem dX8_init_36 : decode cX8_init 36 = .ok (.iastore, 1) := dk_79 (dk_at dksX8_init_1 13 rfl rfl)
theorem dX8_init_37 : decode cX8_init 37 = .ok (.dup, 1) := dk_89 (dk_at dksX8_init_1 14 rfl rfl)
theorem dX8_init_38 : decode cX8_init 38 = .ok (.iconst 1, 1) := dk_4 (dk_at dksX8_init_1 15 rfl rfl)
theorem dX8_init_39 : decode cX8_init 39 = .ok (.iconst 3, 1) := dk_6 (dk_at dksX8_init_1 16 rfl rfl)
theorem dX8_init_40 : decode cX8_init 40 = .ok (.iastore, 1) := dk_79 (dk_at dksX8_init_1 17 rfl rfl)
theorem dX8_init_41 : decode cX8_init 41 = .ok (.dup, 1) := dk_89 (dk_at dksX8_init_1 18 rfl rfl)
theorem dX8_init_42 : decode cX8_init 42 = .ok (.iconst 2, 1) := dk_5 (dk_at dksX8_init_1 19 rfl rfl)
theorem dX8_init_43 : decode cX8_init 43 = .ok (.iconst 3, 1) := dk_6 (dk_at dksX8_init_1 20 rfl rfl)
theorem dX8_init_44 : decode cX8_init 44 = .ok (.iastore, 1) := dk_79 (dk_at dksX8_init_1 21 rfl rfl)
theorem dX8_init_45 : decode cX8_init 45 = .ok (.dup, 1) := dk_89 (dk_at dksX8_init_1 22 rfl rfl)
theorem dX8_init_46 : decode cX8_init 46 = .ok (.iconst 3, 1) := dk_6 (dk_at dksX8_init_1 23 rfl rfl)
theorem dX8_init_47 : decode cX8_init 47 = .ok (.iconst 3, 1) := dk_6 (dk_at dksX8_init_2 0 rfl rfl)
theorem dX8_init_48 : decode cX8_init 48 = .ok (.iastore, 1) := dk_79 (dk_at dksX8_init_2 1 rfl rfl)
theorem dX8_init_49 : decode cX8_init 49 = .ok (.dup, 1) := dk_89 (dk_at dksX8_init_2 2 rfl rfl)
theorem dX8_init_50 : decode cX8_init 50 = .ok (.iconst 4, 1) := dk_7 (dk_at dksX8_init_2 3 rfl rfl)
theorem dX8_init_51 : decode cX8_init 51 = .ok (.iconst 3, 1) := dk_6 (dk_at dksX8_init_2 4 rfl rfl)
theorem dX8_init_52 : decode cX8_init 52 = .ok (.iastore, 1) := dk_79 (dk_at dksX8_init_2 5 rfl rfl)
theorem dX8_init_53 : decode cX8_init 53 = .ok (.dup, 1) := dk_89 (dk_at dksX8_init_2 6 rfl rfl)
theorem dX8_init_54 : decode cX8_init 54 = .ok (.iconst 5, 1) := dk_8 (dk_at dksX8_init_2 7 rfl rfl)
theorem dX8_init_55 : decode cX8_init 55 = .ok (.iconst 3, 1) := dk_6 (dk_at dksX8_init_2 8 rfl rfl)
theorem dX8_init_56 : decode cX8_init 56 = .ok (.iastore, 1) := dk_79 (dk_at dksX8_init_2 9 rfl rfl)
theorem dX8_init_57 : decode cX8_init 57 = .ok (.putfield 26, 3) := dk_181 0 26 (dk_at dksX8_init_2 10 rfl rfl)
theorem dX8_init_60 : decode cX8_init 60 = .ok (.aload_n 0, 1) := dk_42 (dk_at dksX8_init_2 13 rfl rfl)
theorem dX8_init_61 : decode cX8_init 61 = .ok (.bipush 6, 2) := dk_16 6 (dk_at dksX8_init_2 14 rfl rfl)
theorem dX8_init_63 : decode cX8_init 63 = .ok (.newarray .int, 2) := dk_188_10 (dk_at dksX8_init_2 16 rfl rfl)
theorem dX8_init_65 : decode cX8_init 65 = .ok (.putfield 29, 3) := dk_181 0 29 (dk_at dksX8_init_2 18 rfl rfl)
theorem dX8_init_68 : decode cX8_init 68 = .ok (.aload_n 0, 1) := dk_42 (dk_at dksX8_init_2 21 rfl rfl)
theorem dX8_init_69 : decode cX8_init 69 = .ok (.bipush 6, 2) := dk_16 6 (dk_at dksX8_init_2 22 rfl rfl)
theorem dX8_init_71 : decode cX8_init 71 = .ok (.newarray .int, 2) := dk_188_10 (dk_at dksX8_init_3 0 rfl rfl)
theorem dX8_init_73 : decode cX8_init 73 = .ok (.putfield 32, 3) := dk_181 0 32 (dk_at dksX8_init_3 2 rfl rfl)
theorem dX8_init_76 : decode cX8_init 76 = .ok (.aload_n 0, 1) := dk_42 (dk_at dksX8_init_3 5 rfl rfl)
theorem dX8_init_77 : decode cX8_init 77 = .ok (.iconst 5, 1) := dk_8 (dk_at dksX8_init_3 6 rfl rfl)
theorem dX8_init_78 : decode cX8_init 78 = .ok (.newarray .int, 2) := dk_188_10 (dk_at dksX8_init_3 7 rfl rfl)
theorem dX8_init_80 : decode cX8_init 80 = .ok (.putfield 35, 3) := dk_181 0 35 (dk_at dksX8_init_3 9 rfl rfl)
theorem dX8_init_83 : decode cX8_init 83 = .ok (.aload_n 0, 1) := dk_42 (dk_at dksX8_init_3 12 rfl rfl)
theorem dX8_init_84 : decode cX8_init 84 = .ok (.bipush 6, 2) := dk_16 6 (dk_at dksX8_init_3 13 rfl rfl)
theorem dX8_init_86 : decode cX8_init 86 = .ok (.newarray .int, 2) := dk_188_10 (dk_at dksX8_init_3 15 rfl rfl)
theorem dX8_init_88 : decode cX8_init 88 = .ok (.putfield 38, 3) := dk_181 0 38 (dk_at dksX8_init_3 17 rfl rfl)
theorem dX8_init_91 : decode cX8_init 91 = .ok (.aload_n 0, 1) := dk_42 (dk_at dksX8_init_3 20 rfl rfl)
theorem dX8_init_92 : decode cX8_init 92 = .ok (.new 9, 3) := dk_187 0 9 (dk_at dksX8_init_3 21 rfl rfl)
theorem dX8_init_95 : decode cX8_init 95 = .ok (.dup, 1) := dk_89 (dk_at dksX8_init_4 0 rfl rfl)
theorem dX8_init_96 : decode cX8_init 96 = .ok (.invokespecial 11, 3) := dk_183 0 11 (dk_at dksX8_init_4 1 rfl rfl)
theorem dX8_init_99 : decode cX8_init 99 = .ok (.putfield 41, 3) := dk_181 0 41 (dk_at dksX8_init_4 4 rfl rfl)
theorem dX8_init_102 : decode cX8_init 102 = .ok (.aload_n 0, 1) := dk_42 (dk_at dksX8_init_4 7 rfl rfl)
theorem dX8_init_103 : decode cX8_init 103 = .ok (.new 9, 3) := dk_187 0 9 (dk_at dksX8_init_4 8 rfl rfl)
theorem dX8_init_106 : decode cX8_init 106 = .ok (.dup, 1) := dk_89 (dk_at dksX8_init_4 11 rfl rfl)
theorem dX8_init_107 : decode cX8_init 107 = .ok (.invokespecial 11, 3) := dk_183 0 11 (dk_at dksX8_init_4 12 rfl rfl)
theorem dX8_init_110 : decode cX8_init 110 = .ok (.putfield 44, 3) := dk_181 0 44 (dk_at dksX8_init_4 15 rfl rfl)
theorem dX8_init_113 : decode cX8_init 113 = .ok (.return_, 1) := dk_177 (dk_at dksX8_init_4 18 rfl rfl)
abbrev cX8_many : ByteArray := prog_10_method_3_code
def yX8_many : MethodName := ⟨RX8, "many", "(I)I"⟩
def dkwX8_many_1 : List UInt8 := [167, 0, 4, 3, 96, 61, 132, 3, 1, 167, 255, 229, 28, 172]
abbrev dktX8_many_1 : List UInt8 := dkwX8_many_1 ++ []
def dkwX8_many_0 : List UInt8 := [3, 61, 3, 62, 29, 16, 6, 162, 0, 27, 28, 42, 180, 0, 26, 29, 46, 27, 160, 0, 7, 4]
abbrev dktX8_many_0 : List UInt8 := dkwX8_many_0 ++ dktX8_many_1
theorem dksX8_many_0 : cX8_many.data.toList.drop 0 = dktX8_many_0 := by decide +kernel
theorem dksX8_many_1 : cX8_many.data.toList.drop 22 = dktX8_many_1 := dk_seg dksX8_many_0 22 rfl rfl
theorem dX8_many_0 : decode cX8_many 0 = .ok (.iconst 0, 1) := dk_3 (dk_at dksX8_many_0 0 rfl rfl)
theorem dX8_many_1 : decode cX8_many 1 = .ok (.istore_n 2, 1) := dk_61 (dk_at dksX8_many_0 1 rfl rfl)
theorem dX8_many_2 : decode cX8_many 2 = .ok (.iconst 0, 1) := dk_3 (dk_at dksX8_many_0 2 rfl rfl)
theorem dX8_many_3 : decode cX8_many 3 = .ok (.istore_n 3, 1) := dk_62 (dk_at dksX8_many_0 3 rfl rfl)
theorem dX8_many_4 : decode cX8_many 4 = .ok (.iload_n 3, 1) := dk_29 (dk_at dksX8_many_0 4 rfl rfl)
theorem dX8_many_5 : decode cX8_many 5 = .ok (.bipush 6, 2) := dk_16 6 (dk_at dksX8_many_0 5 rfl rfl)
theorem dX8_many_7 : decode cX8_many 7 = .ok (.if_icmp .ge 27, 3) := dk_162 0 27 (dk_at dksX8_many_0 7 rfl rfl)
theorem dX8_many_10 : decode cX8_many 10 = .ok (.iload_n 2, 1) := dk_28 (dk_at dksX8_many_0 10 rfl rfl)
theorem dX8_many_11 : decode cX8_many 11 = .ok (.aload_n 0, 1) := dk_42 (dk_at dksX8_many_0 11 rfl rfl)
theorem dX8_many_12 : decode cX8_many 12 = .ok (.getfield 26, 3) := dk_180 0 26 (dk_at dksX8_many_0 12 rfl rfl)
theorem dX8_many_15 : decode cX8_many 15 = .ok (.iload_n 3, 1) := dk_29 (dk_at dksX8_many_0 15 rfl rfl)
theorem dX8_many_16 : decode cX8_many 16 = .ok (.iaload, 1) := dk_46 (dk_at dksX8_many_0 16 rfl rfl)
theorem dX8_many_17 : decode cX8_many 17 = .ok (.iload_n 1, 1) := dk_27 (dk_at dksX8_many_0 17 rfl rfl)
theorem dX8_many_18 : decode cX8_many 18 = .ok (.if_icmp .ne 7, 3) := dk_160 0 7 (dk_at dksX8_many_0 18 rfl rfl)
theorem dX8_many_21 : decode cX8_many 21 = .ok (.iconst 1, 1) := dk_4 (dk_at dksX8_many_0 21 rfl rfl)
theorem dX8_many_22 : decode cX8_many 22 = .ok (.goto 4, 3) := dk_167 0 4 (dk_at dksX8_many_1 0 rfl rfl)
theorem dX8_many_25 : decode cX8_many 25 = .ok (.iconst 0, 1) := dk_3 (dk_at dksX8_many_1 3 rfl rfl)
theorem dX8_many_26 : decode cX8_many 26 = .ok (.iadd, 1) := dk_96 (dk_at dksX8_many_1 4 rfl rfl)
theorem dX8_many_27 : decode cX8_many 27 = .ok (.istore_n 2, 1) := dk_61 (dk_at dksX8_many_1 5 rfl rfl)
theorem dX8_many_28 : decode cX8_many 28 = .ok (.iinc 3 1, 3) := dk_132 3 1 (dk_at dksX8_many_1 6 rfl rfl)
theorem dX8_many_31 : decode cX8_many 31 = .ok (.goto (-27), 3) := dk_167 255 229 (dk_at dksX8_many_1 9 rfl rfl)
theorem dX8_many_34 : decode cX8_many 34 = .ok (.iload_n 2, 1) := dk_28 (dk_at dksX8_many_1 12 rfl rfl)
theorem dX8_many_35 : decode cX8_many 35 = .ok (.ireturn, 1) := dk_172 (dk_at dksX8_many_1 13 rfl rfl)
abbrev cX8_isDone : ByteArray := prog_10_method_5_code
def yX8_isDone : MethodName := ⟨RX8, "isDone", "()V"⟩
def dkwX8_isDone_1 : List UInt8 := [180, 0, 54, 4, 96, 42, 180, 0, 12, 182, 0, 125, 112, 181, 0, 54, 177]
abbrev dktX8_isDone_1 : List UInt8 := dkwX8_isDone_1 ++ []
def dkwX8_isDone_0 : List UInt8 := [42, 89, 180, 0, 75, 4, 96, 181, 0, 75, 42, 89, 180, 0, 122, 4, 96, 181, 0, 122, 42, 42]
abbrev dktX8_isDone_0 : List UInt8 := dkwX8_isDone_0 ++ dktX8_isDone_1
theorem dksX8_isDone_0 : cX8_isDone.data.toList.drop 0 = dktX8_isDone_0 := by decide +kernel
theorem dksX8_isDone_1 : cX8_isDone.data.toList.drop 22 = dktX8_isDone_1 := dk_seg dksX8_isDone_0 22 rfl rfl
theorem dX8_isDone_0 : decode cX8_isDone 0 = .ok (.aload_n 0, 1) := dk_42 (dk_at dksX8_isDone_0 0 rfl rfl)
theorem dX8_isDone_1 : decode cX8_isDone 1 = .ok (.dup, 1) := dk_89 (dk_at dksX8_isDone_0 1 rfl rfl)
theorem dX8_isDone_2 : decode cX8_isDone 2 = .ok (.getfield 75, 3) := dk_180 0 75 (dk_at dksX8_isDone_0 2 rfl rfl)
theorem dX8_isDone_5 : decode cX8_isDone 5 = .ok (.iconst 1, 1) := dk_4 (dk_at dksX8_isDone_0 5 rfl rfl)
theorem dX8_isDone_6 : decode cX8_isDone 6 = .ok (.iadd, 1) := dk_96 (dk_at dksX8_isDone_0 6 rfl rfl)
theorem dX8_isDone_7 : decode cX8_isDone 7 = .ok (.putfield 75, 3) := dk_181 0 75 (dk_at dksX8_isDone_0 7 rfl rfl)
theorem dX8_isDone_10 : decode cX8_isDone 10 = .ok (.aload_n 0, 1) := dk_42 (dk_at dksX8_isDone_0 10 rfl rfl)
theorem dX8_isDone_11 : decode cX8_isDone 11 = .ok (.dup, 1) := dk_89 (dk_at dksX8_isDone_0 11 rfl rfl)
theorem dX8_isDone_12 : decode cX8_isDone 12 = .ok (.getfield 122, 3) := dk_180 0 122 (dk_at dksX8_isDone_0 12 rfl rfl)
theorem dX8_isDone_15 : decode cX8_isDone 15 = .ok (.iconst 1, 1) := dk_4 (dk_at dksX8_isDone_0 15 rfl rfl)
theorem dX8_isDone_16 : decode cX8_isDone 16 = .ok (.iadd, 1) := dk_96 (dk_at dksX8_isDone_0 16 rfl rfl)
theorem dX8_isDone_17 : decode cX8_isDone 17 = .ok (.putfield 122, 3) := dk_181 0 122 (dk_at dksX8_isDone_0 17 rfl rfl)
theorem dX8_isDone_20 : decode cX8_isDone 20 = .ok (.aload_n 0, 1) := dk_42 (dk_at dksX8_isDone_0 20 rfl rfl)
theorem dX8_isDone_21 : decode cX8_isDone 21 = .ok (.aload_n 0, 1) := dk_42 (dk_at dksX8_isDone_0 21 rfl rfl)
theorem dX8_isDone_22 : decode cX8_isDone 22 = .ok (.getfield 54, 3) := dk_180 0 54 (dk_at dksX8_isDone_1 0 rfl rfl)
theorem dX8_isDone_25 : decode cX8_isDone 25 = .ok (.iconst 1, 1) := dk_4 (dk_at dksX8_isDone_1 3 rfl rfl)
theorem dX8_isDone_26 : decode cX8_isDone 26 = .ok (.iadd, 1) := dk_96 (dk_at dksX8_isDone_1 4 rfl rfl)
theorem dX8_isDone_27 : decode cX8_isDone 27 = .ok (.aload_n 0, 1) := dk_42 (dk_at dksX8_isDone_1 5 rfl rfl)
theorem dX8_isDone_28 : decode cX8_isDone 28 = .ok (.getfield 12, 3) := dk_180 0 12 (dk_at dksX8_isDone_1 6 rfl rfl)
theorem dX8_isDone_31 : decode cX8_isDone 31 = .ok (.invokevirtual 125, 3) := dk_182 0 125 (dk_at dksX8_isDone_1 9 rfl rfl)
theorem dX8_isDone_34 : decode cX8_isDone 34 = .ok (.irem, 1) := dk_112 (dk_at dksX8_isDone_1 12 rfl rfl)
theorem dX8_isDone_35 : decode cX8_isDone 35 = .ok (.putfield 54, 3) := dk_181 0 54 (dk_at dksX8_isDone_1 13 rfl rfl)
theorem dX8_isDone_38 : decode cX8_isDone 38 = .ok (.return_, 1) := dk_177 (dk_at dksX8_isDone_1 16 rfl rfl)
abbrev cX8_log : ByteArray := prog_10_method_4_code
def yX8_log : MethodName := ⟨RX8, "log", "(I)V"⟩
def dkwX8_log_1 : List UInt8 := [184, 0, 129, 182, 0, 135, 87, 177]
abbrev dktX8_log_1 : List UInt8 := dkwX8_log_1 ++ []
def dkwX8_log_0 : List UInt8 := [42, 180, 0, 113, 153, 0, 27, 42, 180, 0, 41, 182, 0, 125, 16, 60, 162, 0, 15, 42, 180, 0, 41, 27]
abbrev dktX8_log_0 : List UInt8 := dkwX8_log_0 ++ dktX8_log_1
theorem dksX8_log_0 : cX8_log.data.toList.drop 0 = dktX8_log_0 := by decide +kernel
theorem dksX8_log_1 : cX8_log.data.toList.drop 24 = dktX8_log_1 := dk_seg dksX8_log_0 24 rfl rfl
theorem dX8_log_0 : decode cX8_log 0 = .ok (.aload_n 0, 1) := dk_42 (dk_at dksX8_log_0 0 rfl rfl)
theorem dX8_log_1 : decode cX8_log 1 = .ok (.getfield 113, 3) := dk_180 0 113 (dk_at dksX8_log_0 1 rfl rfl)
theorem dX8_log_4 : decode cX8_log 4 = .ok (.ifCond .eq 27, 3) := dk_153 0 27 (dk_at dksX8_log_0 4 rfl rfl)
theorem dX8_log_7 : decode cX8_log 7 = .ok (.aload_n 0, 1) := dk_42 (dk_at dksX8_log_0 7 rfl rfl)
theorem dX8_log_8 : decode cX8_log 8 = .ok (.getfield 41, 3) := dk_180 0 41 (dk_at dksX8_log_0 8 rfl rfl)
theorem dX8_log_11 : decode cX8_log 11 = .ok (.invokevirtual 125, 3) := dk_182 0 125 (dk_at dksX8_log_0 11 rfl rfl)
theorem dX8_log_14 : decode cX8_log 14 = .ok (.bipush 60, 2) := dk_16 60 (dk_at dksX8_log_0 14 rfl rfl)
theorem dX8_log_16 : decode cX8_log 16 = .ok (.if_icmp .ge 15, 3) := dk_162 0 15 (dk_at dksX8_log_0 16 rfl rfl)
theorem dX8_log_19 : decode cX8_log 19 = .ok (.aload_n 0, 1) := dk_42 (dk_at dksX8_log_0 19 rfl rfl)
theorem dX8_log_20 : decode cX8_log 20 = .ok (.getfield 41, 3) := dk_180 0 41 (dk_at dksX8_log_0 20 rfl rfl)
theorem dX8_log_23 : decode cX8_log 23 = .ok (.iload_n 1, 1) := dk_27 (dk_at dksX8_log_0 23 rfl rfl)
theorem dX8_log_24 : decode cX8_log 24 = .ok (.invokestatic 129, 3) := dk_184 0 129 (dk_at dksX8_log_1 0 rfl rfl)
theorem dX8_log_27 : decode cX8_log 27 = .ok (.invokevirtual 135, 3) := dk_182 0 135 (dk_at dksX8_log_1 3 rfl rfl)
theorem dX8_log_30 : decode cX8_log 30 = .ok (.pop, 1) := dk_87 (dk_at dksX8_log_1 6 rfl rfl)
theorem dX8_log_31 : decode cX8_log 31 = .ok (.return_, 1) := dk_177 (dk_at dksX8_log_1 7 rfl rfl)
abbrev cX8_replay : ByteArray := prog_10_method_6_code
def yX8_replay : MethodName := ⟨RX8, "replay", "(II)I"⟩
def dkwX8_replay_13 : List UInt8 := [46, 172]
abbrev dktX8_replay_13 : List UInt8 := dkwX8_replay_13 ++ []
def dkwX8_replay_12 : List UInt8 := [182, 0, 125, 112, 54, 5, 132, 8, 1, 167, 255, 17, 28, 2, 160, 0, 8, 21, 4, 167, 0, 6, 45, 28]
abbrev dktX8_replay_12 : List UInt8 := dkwX8_replay_12 ++ dktX8_replay_13
def dkwX8_replay_11 : List UInt8 := [4, 46, 46, 104, 21, 4, 96, 4, 96, 17, 3, 232, 112, 79, 21, 5, 4, 96, 42, 180, 0, 12]
abbrev dktX8_replay_11 : List UInt8 := dkwX8_replay_11 ++ dktX8_replay_12
def dkwX8_replay_10 : List UInt8 := [96, 17, 3, 232, 112, 54, 4, 25, 9, 3, 46, 5, 160, 0, 26, 45, 25, 9, 4, 46, 6, 45, 25, 9]
abbrev dktX8_replay_10 : List UInt8 := dkwX8_replay_10 ++ dktX8_replay_11
def dkwX8_replay_9 : List UInt8 := [112, 54, 4, 132, 6, 1, 25, 9, 3, 46, 4, 160, 0, 20, 21, 4, 45, 25, 9, 4, 46, 46, 96, 4]
abbrev dktX8_replay_9 : List UInt8 := dkwX8_replay_9 ++ dktX8_replay_10
def dkwX8_replay_8 : List UInt8 := [167, 0, 25, 21, 4, 42, 180, 0, 41, 21, 6, 182, 0, 143, 192, 0, 130, 182, 0, 147, 96, 17, 3, 232]
abbrev dktX8_replay_8 : List UInt8 := dkwX8_replay_8 ++ dktX8_replay_9
def dkwX8_replay_7 : List UInt8 := [172, 25, 9, 3, 46, 8, 160, 0, 21, 42, 180, 0, 41, 21, 6, 182, 0, 143, 192, 0, 130, 182, 0, 147]
abbrev dktX8_replay_7 : List UInt8 := dkwX8_replay_7 ++ dktX8_replay_8
def dkwX8_replay_6 : List UInt8 := [159, 0, 11, 25, 9, 3, 46, 8, 160, 0, 70, 21, 6, 42, 180, 0, 41, 182, 0, 125, 160, 0, 5, 2]
abbrev dktX8_replay_6 : List UInt8 := dkwX8_replay_6 ++ dktX8_replay_7
def dkwX8_replay_5 : List UInt8 := [167, 0, 176, 42, 180, 0, 12, 21, 5, 182, 0, 143, 192, 0, 84, 58, 9, 25, 9, 3, 46, 7]
abbrev dktX8_replay_5 : List UInt8 := dkwX8_replay_5 ++ dktX8_replay_6
def dkwX8_replay_4 : List UInt8 := [182, 0, 143, 192, 0, 84, 4, 46, 3, 79, 132, 7, 1, 167, 255, 205, 21, 8, 27, 160, 0, 6]
abbrev dktX8_replay_4 : List UInt8 := dkwX8_replay_4 ++ dktX8_replay_5
def dkwX8_replay_3 : List UInt8 := [21, 7, 182, 0, 143, 192, 0, 84, 3, 46, 21, 8, 160, 0, 26, 45, 42, 180, 0, 44, 21, 7]
abbrev dktX8_replay_3 : List UInt8 := dkwX8_replay_3 ++ dktX8_replay_4
def dkwX8_replay_2 : List UInt8 := [54, 8, 21, 8, 27, 163, 0, 239, 21, 7, 42, 180, 0, 44, 182, 0, 125, 162, 0, 45, 42, 180, 0, 44]
abbrev dktX8_replay_2 : List UInt8 := dkwX8_replay_2 ++ dktX8_replay_3
def dkwX8_replay_1 : List UInt8 := [192, 0, 84, 78, 42, 180, 0, 119, 54, 4, 42, 180, 0, 116, 54, 5, 3, 54, 6, 3, 54, 7, 3]
abbrev dktX8_replay_1 : List UInt8 := dkwX8_replay_1 ++ dktX8_replay_2
def dkwX8_replay_0 : List UInt8 := [42, 180, 0, 113, 153, 0, 11, 27, 42, 180, 0, 122, 164, 0, 5, 2, 172, 42, 180, 0, 38, 182, 0, 139]
abbrev dktX8_replay_0 : List UInt8 := dkwX8_replay_0 ++ dktX8_replay_1
theorem dksX8_replay_0 : cX8_replay.data.toList.drop 0 = dktX8_replay_0 := by decide +kernel
theorem dksX8_replay_1 : cX8_replay.data.toList.drop 24 = dktX8_replay_1 := dk_seg dksX8_replay_0 24 rfl rfl
theorem dksX8_replay_2 : cX8_replay.data.toList.drop 47 = dktX8_replay_2 := dk_seg dksX8_replay_1 23 rfl rfl
theorem dksX8_replay_3 : cX8_replay.data.toList.drop 71 = dktX8_replay_3 := dk_seg dksX8_replay_2 24 rfl rfl
theorem dksX8_replay_4 : cX8_replay.data.toList.drop 93 = dktX8_replay_4 := dk_seg dksX8_replay_3 22 rfl rfl
theorem dksX8_replay_5 : cX8_replay.data.toList.drop 115 = dktX8_replay_5 := dk_seg dksX8_replay_4 22 rfl rfl
theorem dksX8_replay_6 : cX8_replay.data.toList.drop 137 = dktX8_replay_6 := dk_seg dksX8_replay_5 22 rfl rfl
theorem dksX8_replay_7 : cX8_replay.data.toList.drop 161 = dktX8_replay_7 := dk_seg dksX8_replay_6 24 rfl rfl
theorem dksX8_replay_8 : cX8_replay.data.toList.drop 185 = dktX8_replay_8 := dk_seg dksX8_replay_7 24 rfl rfl
theorem dksX8_replay_9 : cX8_replay.data.toList.drop 209 = dktX8_replay_9 := dk_seg dksX8_replay_8 24 rfl rfl
theorem dksX8_replay_10 : cX8_replay.data.toList.drop 233 = dktX8_replay_10 := dk_seg dksX8_replay_9 24 rfl rfl
theorem dksX8_replay_11 : cX8_replay.data.toList.drop 257 = dktX8_replay_11 := dk_seg dksX8_replay_10 24 rfl rfl
theorem dksX8_replay_12 : cX8_replay.data.toList.drop 279 = dktX8_replay_12 := dk_seg dksX8_replay_11 22 rfl rfl
theorem dksX8_replay_13 : cX8_replay.data.toList.drop 303 = dktX8_replay_13 := dk_seg dksX8_replay_12 24 rfl rfl
theorem dX8_replay_0 : decode cX8_replay 0 = .ok (.aload_n 0, 1) := dk_42 (dk_at dksX8_replay_0 0 rfl rfl)
theorem dX8_replay_1 : decode cX8_replay 1 = .ok (.getfield 113, 3) := dk_180 0 113 (dk_at dksX8_replay_0 1 rfl rfl)
theorem dX8_replay_4 : decode cX8_replay 4 = .ok (.ifCond .eq 11, 3) := dk_153 0 11 (dk_at dksX8_replay_0 4 rfl rfl)
theorem dX8_replay_7 : decode cX8_replay 7 = .ok (.iload_n 1, 1) := dk_27 (dk_at dksX8_replay_0 7 rfl rfl)
theorem dX8_replay_8 : decode cX8_replay 8 = .ok (.aload_n 0, 1) := dk_42 (dk_at dksX8_replay_0 8 rfl rfl)
theorem dX8_replay_9 : decode cX8_replay 9 = .ok (.getfield 122, 3) := dk_180 0 122 (dk_at dksX8_replay_0 9 rfl rfl)
theorem dX8_replay_12 : decode cX8_replay 12 = .ok (.if_icmp .le 5, 3) := dk_164 0 5 (dk_at dksX8_replay_0 12 rfl rfl)
theorem dX8_replay_15 : decode cX8_replay 15 = .ok (.iconst (-1), 1) := dk_2 (dk_at dksX8_replay_0 15 rfl rfl)
theorem dX8_replay_16 : decode cX8_replay 16 = .ok (.ireturn, 1) := dk_172 (dk_at dksX8_replay_0 16 rfl rfl)
theorem dX8_replay_17 : decode cX8_replay 17 = .ok (.aload_n 0, 1) := dk_42 (dk_at dksX8_replay_0 17 rfl rfl)
theorem dX8_replay_18 : decode cX8_replay 18 = .ok (.getfield 38, 3) := dk_180 0 38 (dk_at dksX8_replay_0 18 rfl rfl)
theorem dX8_replay_21 : decode cX8_replay 21 = .ok (.invokevirtual 139, 3) := dk_182 0 139 (dk_at dksX8_replay_0 21 rfl rfl)
theorem dX8_replay_24 : decode cX8_replay 24 = .ok (.checkcast 84, 3) := dk_192 0 84 (dk_at dksX8_replay_1 0 rfl rfl)
theorem dX8_replay_27 : decode cX8_replay 27 = .ok (.astore_n 3, 1) := dk_78 (dk_at dksX8_replay_1 3 rfl rfl)
theorem dX8_replay_28 : decode cX8_replay 28 = .ok (.aload_n 0, 1) := dk_42 (dk_at dksX8_replay_1 4 rfl rfl)
theorem dX8_replay_29 : decode cX8_replay 29 = .ok (.getfield 119, 3) := dk_180 0 119 (dk_at dksX8_replay_1 5 rfl rfl)
theorem dX8_replay_32 : decode cX8_replay 32 = .ok (.istore 4, 2) := dk_54 4 (dk_at dksX8_replay_1 8 rfl rfl)
theorem dX8_replay_34 : decode cX8_replay 34 = .ok (.aload_n 0, 1) := dk_42 (dk_at dksX8_replay_1 10 rfl rfl)
theorem dX8_replay_35 : decode cX8_replay 35 = .ok (.getfield 116, 3) := dk_180 0 116 (dk_at dksX8_replay_1 11 rfl rfl)
theorem dX8_replay_38 : decode cX8_replay 38 = .ok (.istore 5, 2) := dk_54 5 (dk_at dksX8_replay_1 14 rfl rfl)
theorem dX8_replay_40 : decode cX8_replay 40 = .ok (.iconst 0, 1) := dk_3 (dk_at dksX8_replay_1 16 rfl rfl)
theorem dX8_replay_41 : decode cX8_replay 41 = .ok (.istore 6, 2) := dk_54 6 (dk_at dksX8_replay_1 17 rfl rfl)
theorem dX8_replay_43 : decode cX8_replay 43 = .ok (.iconst 0, 1) := dk_3 (dk_at dksX8_replay_1 19 rfl rfl)
theorem dX8_replay_44 : decode cX8_replay 44 = .ok (.istore 7, 2) := dk_54 7 (dk_at dksX8_replay_1 20 rfl rfl)
theorem dX8_replay_46 : decode cX8_replay 46 = .ok (.iconst 0, 1) := dk_3 (dk_at dksX8_replay_1 22 rfl rfl)
theorem dX8_replay_47 : decode cX8_replay 47 = .ok (.istore 8, 2) := dk_54 8 (dk_at dksX8_replay_2 0 rfl rfl)
theorem dX8_replay_49 : decode cX8_replay 49 = .ok (.iload 8, 2) := dk_21 8 (dk_at dksX8_replay_2 2 rfl rfl)
theorem dX8_replay_51 : decode cX8_replay 51 = .ok (.iload_n 1, 1) := dk_27 (dk_at dksX8_replay_2 4 rfl rfl)
theorem dX8_replay_52 : decode cX8_replay 52 = .ok (.if_icmp .gt 239, 3) := dk_163 0 239 (dk_at dksX8_replay_2 5 rfl rfl)
theorem dX8_replay_55 : decode cX8_replay 55 = .ok (.iload 7, 2) := dk_21 7 (dk_at dksX8_replay_2 8 rfl rfl)
theorem dX8_replay_57 : decode cX8_replay 57 = .ok (.aload_n 0, 1) := dk_42 (dk_at dksX8_replay_2 10 rfl rfl)
theorem dX8_replay_58 : decode cX8_replay 58 = .ok (.getfield 44, 3) := dk_180 0 44 (dk_at dksX8_replay_2 11 rfl rfl)
theorem dX8_replay_61 : decode cX8_replay 61 = .ok (.invokevirtual 125, 3) := dk_182 0 125 (dk_at dksX8_replay_2 14 rfl rfl)
theorem dX8_replay_64 : decode cX8_replay 64 = .ok (.if_icmp .ge 45, 3) := dk_162 0 45 (dk_at dksX8_replay_2 17 rfl rfl)
theorem dX8_replay_67 : decode cX8_replay 67 = .ok (.aload_n 0, 1) := dk_42 (dk_at dksX8_replay_2 20 rfl rfl)
theorem dX8_replay_68 : decode cX8_replay 68 = .ok (.getfield 44, 3) := dk_180 0 44 (dk_at dksX8_replay_2 21 rfl rfl)
theorem dX8_replay_71 : decode cX8_replay 71 = .ok (.iload 7, 2) := dk_21 7 (dk_at dksX8_replay_3 0 rfl rfl)
theorem dX8_replay_73 : decode cX8_replay 73 = .ok (.invokevirtual 143, 3) := dk_182 0 143 (dk_at dksX8_replay_3 2 rfl rfl)
theorem dX8_replay_76 : decode cX8_replay 76 = .ok (.checkcast 84, 3) := dk_192 0 84 (dk_at dksX8_replay_3 5 rfl rfl)
theorem dX8_replay_79 : decode cX8_replay 79 = .ok (.iconst 0, 1) := dk_3 (dk_at dksX8_replay_3 8 rfl rfl)
theorem dX8_replay_80 : decode cX8_replay 80 = .ok (.iaload, 1) := dk_46 (dk_at dksX8_replay_3 9 rfl rfl)
theorem dX8_replay_81 : decode cX8_replay 81 = .ok (.iload 8, 2) := dk_21 8 (dk_at dksX8_replay_3 10 rfl rfl)
theorem dX8_replay_83 : decode cX8_replay 83 = .ok (.if_icmp .ne 26, 3) := dk_160 0 26 (dk_at dksX8_replay_3 12 rfl rfl)
theorem dX8_replay_86 : decode cX8_replay 86 = .ok (.aload_n 3, 1) := dk_45 (dk_at dksX8_replay_3 15 rfl rfl)
theorem dX8_replay_87 : decode cX8_replay 87 = .ok (.aload_n 0, 1) := dk_42 (dk_at dksX8_replay_3 16 rfl rfl)
theorem dX8_replay_88 : decode cX8_replay 88 = .ok (.getfield 44, 3) := dk_180 0 44 (dk_at dksX8_replay_3 17 rfl rfl)
theorem dX8_replay_91 : decode cX8_replay 91 = .ok (.iload 7, 2) := dk_21 7 (dk_at dksX8_replay_3 20 rfl rfl)
theorem dX8_replay_93 : decode cX8_replay 93 = .ok (.invokevirtual 143, 3) := dk_182 0 143 (dk_at dksX8_replay_4 0 rfl rfl)
theorem dX8_replay_96 : decode cX8_replay 96 = .ok (.checkcast 84, 3) := dk_192 0 84 (dk_at dksX8_replay_4 3 rfl rfl)
theorem dX8_replay_99 : decode cX8_replay 99 = .ok (.iconst 1, 1) := dk_4 (dk_at dksX8_replay_4 6 rfl rfl)
theorem dX8_replay_100 : decode cX8_replay 100 = .ok (.iaload, 1) := dk_46 (dk_at dksX8_replay_4 7 rfl rfl)
theorem dX8_replay_101 : decode cX8_replay 101 = .ok (.iconst 0, 1) := dk_3 (dk_at dksX8_replay_4 8 rfl rfl)
theorem dX8_replay_102 : decode cX8_replay 102 = .ok (.iastore, 1) := dk_79 (dk_at dksX8_replay_4 9 rfl rfl)
theorem dX8_replay_103 : decode cX8_replay 103 = .ok (.iinc 7 1, 3) := dk_132 7 1 (dk_at dksX8_replay_4 10 rfl rfl)
theorem dX8_replay_106 : decode cX8_replay 106 = .ok (.goto (-51), 3) := dk_167 255 205 (dk_at dksX8_replay_4 13 rfl rfl)
theorem dX8_replay_109 : decode cX8_replay 109 = .ok (.iload 8, 2) := dk_21 8 (dk_at dksX8_replay_4 16 rfl rfl)
theorem dX8_replay_111 : decode cX8_replay 111 = .ok (.iload_n 1, 1) := dk_27 (dk_at dksX8_replay_4 18 rfl rfl)
theorem dX8_replay_112 : decode cX8_replay 112 = .ok (.if_icmp .ne 6, 3) := dk_160 0 6 (dk_at dksX8_replay_4 19 rfl rfl)
theorem dX8_replay_115 : decode cX8_replay 115 = .ok (.goto 176, 3) := dk_167 0 176 (dk_at dksX8_replay_5 0 rfl rfl)
theorem dX8_replay_118 : decode cX8_replay 118 = .ok (.aload_n 0, 1) := dk_42 (dk_at dksX8_replay_5 3 rfl rfl)
theorem dX8_replay_119 : decode cX8_replay 119 = .ok (.getfield 12, 3) := dk_180 0 12 (dk_at dksX8_replay_5 4 rfl rfl)
theorem dX8_replay_122 : decode cX8_replay 122 = .ok (.iload 5, 2) := dk_21 5 (dk_at dksX8_replay_5 7 rfl rfl)
theorem dX8_replay_124 : decode cX8_replay 124 = .ok (.invokevirtual 143, 3) := dk_182 0 143 (dk_at dksX8_replay_5 9 rfl rfl)
theorem dX8_replay_127 : decode cX8_replay 127 = .ok (.checkcast 84, 3) := dk_192 0 84 (dk_at dksX8_replay_5 12 rfl rfl)
theorem dX8_replay_130 : decode cX8_replay 130 = .ok (.astore 9, 2) := dk_58 9 (dk_at dksX8_replay_5 15 rfl rfl)
theorem dX8_replay_132 : decode cX8_replay 132 = .ok (.aload 9, 2) := dk_25 9 (dk_at dksX8_replay_5 17 rfl rfl)
theorem dX8_replay_134 : decode cX8_replay 134 = .ok (.iconst 0, 1) := dk_3 (dk_at dksX8_replay_5 19 rfl rfl)
theorem dX8_replay_135 : decode cX8_replay 135 = .ok (.iaload, 1) := dk_46 (dk_at dksX8_replay_5 20 rfl rfl)
theorem dX8_replay_136 : decode cX8_replay 136 = .ok (.iconst 4, 1) := dk_7 (dk_at dksX8_replay_5 21 rfl rfl)
theorem dX8_replay_137 : decode cX8_replay 137 = .ok (.if_icmp .eq 11, 3) := dk_159 0 11 (dk_at dksX8_replay_6 0 rfl rfl)
theorem dX8_replay_140 : decode cX8_replay 140 = .ok (.aload 9, 2) := dk_25 9 (dk_at dksX8_replay_6 3 rfl rfl)
theorem dX8_replay_142 : decode cX8_replay 142 = .ok (.iconst 0, 1) := dk_3 (dk_at dksX8_replay_6 5 rfl rfl)
theorem dX8_replay_143 : decode cX8_replay 143 = .ok (.iaload, 1) := dk_46 (dk_at dksX8_replay_6 6 rfl rfl)
theorem dX8_replay_144 : decode cX8_replay 144 = .ok (.iconst 5, 1) := dk_8 (dk_at dksX8_replay_6 7 rfl rfl)
theorem dX8_replay_145 : decode cX8_replay 145 = .ok (.if_icmp .ne 70, 3) := dk_160 0 70 (dk_at dksX8_replay_6 8 rfl rfl)
theorem dX8_replay_148 : decode cX8_replay 148 = .ok (.iload 6, 2) := dk_21 6 (dk_at dksX8_replay_6 11 rfl rfl)
theorem dX8_replay_150 : decode cX8_replay 150 = .ok (.aload_n 0, 1) := dk_42 (dk_at dksX8_replay_6 13 rfl rfl)
theorem dX8_replay_151 : decode cX8_replay 151 = .ok (.getfield 41, 3) := dk_180 0 41 (dk_at dksX8_replay_6 14 rfl rfl)
theorem dX8_replay_154 : decode cX8_replay 154 = .ok (.invokevirtual 125, 3) := dk_182 0 125 (dk_at dksX8_replay_6 17 rfl rfl)
theorem dX8_replay_157 : decode cX8_replay 157 = .ok (.if_icmp .ne 5, 3) := dk_160 0 5 (dk_at dksX8_replay_6 20 rfl rfl)
theorem dX8_replay_160 : decode cX8_replay 160 = .ok (.iconst (-1), 1) := dk_2 (dk_at dksX8_replay_6 23 rfl rfl)
theorem dX8_replay_161 : decode cX8_replay 161 = .ok (.ireturn, 1) := dk_172 (dk_at dksX8_replay_7 0 rfl rfl)
theorem dX8_replay_162 : decode cX8_replay 162 = .ok (.aload 9, 2) := dk_25 9 (dk_at dksX8_replay_7 1 rfl rfl)
theorem dX8_replay_164 : decode cX8_replay 164 = .ok (.iconst 0, 1) := dk_3 (dk_at dksX8_replay_7 3 rfl rfl)
theorem dX8_replay_165 : decode cX8_replay 165 = .ok (.iaload, 1) := dk_46 (dk_at dksX8_replay_7 4 rfl rfl)
theorem dX8_replay_166 : decode cX8_replay 166 = .ok (.iconst 5, 1) := dk_8 (dk_at dksX8_replay_7 5 rfl rfl)
theorem dX8_replay_167 : decode cX8_replay 167 = .ok (.if_icmp .ne 21, 3) := dk_160 0 21 (dk_at dksX8_replay_7 6 rfl rfl)
theorem dX8_replay_170 : decode cX8_replay 170 = .ok (.aload_n 0, 1) := dk_42 (dk_at dksX8_replay_7 9 rfl rfl)
theorem dX8_replay_171 : decode cX8_replay 171 = .ok (.getfield 41, 3) := dk_180 0 41 (dk_at dksX8_replay_7 10 rfl rfl)
theorem dX8_replay_174 : decode cX8_replay 174 = .ok (.iload 6, 2) := dk_21 6 (dk_at dksX8_replay_7 13 rfl rfl)
theorem dX8_replay_176 : decode cX8_replay 176 = .ok (.invokevirtual 143, 3) := dk_182 0 143 (dk_at dksX8_replay_7 15 rfl rfl)
theorem dX8_replay_179 : decode cX8_replay 179 = .ok (.checkcast 130, 3) := dk_192 0 130 (dk_at dksX8_replay_7 18 rfl rfl)
theorem dX8_replay_182 : decode cX8_replay 182 = .ok (.invokevirtual 147, 3) := dk_182 0 147 (dk_at dksX8_replay_7 21 rfl rfl)
theorem dX8_replay_185 : decode cX8_replay 185 = .ok (.goto 25, 3) := dk_167 0 25 (dk_at dksX8_replay_8 0 rfl rfl)
theorem dX8_replay_188 : decode cX8_replay 188 = .ok (.iload 4, 2) := dk_21 4 (dk_at dksX8_replay_8 3 rfl rfl)
theorem dX8_replay_190 : decode cX8_replay 190 = .ok (.aload_n 0, 1) := dk_42 (dk_at dksX8_replay_8 5 rfl rfl)
theorem dX8_replay_191 : decode cX8_replay 191 = .ok (.getfield 41, 3) := dk_180 0 41 (dk_at dksX8_replay_8 6 rfl rfl)
theorem dX8_replay_194 : decode cX8_replay 194 = .ok (.iload 6, 2) := dk_21 6 (dk_at dksX8_replay_8 9 rfl rfl)
theorem dX8_replay_196 : decode cX8_replay 196 = .ok (.invokevirtual 143, 3) := dk_182 0 143 (dk_at dksX8_replay_8 11 rfl rfl)
theorem dX8_replay_199 : decode cX8_replay 199 = .ok (.checkcast 130, 3) := dk_192 0 130 (dk_at dksX8_replay_8 14 rfl rfl)
theorem dX8_replay_202 : decode cX8_replay 202 = .ok (.invokevirtual 147, 3) := dk_182 0 147 (dk_at dksX8_replay_8 17 rfl rfl)
theorem dX8_replay_205 : decode cX8_replay 205 = .ok (.iadd, 1) := dk_96 (dk_at dksX8_replay_8 20 rfl rfl)
theorem dX8_replay_206 : decode cX8_replay 206 = .ok (.sipush 1000, 3) := dk_17 3 232 (dk_at dksX8_replay_8 21 rfl rfl)
theorem dX8_replay_209 : decode cX8_replay 209 = .ok (.irem, 1) := dk_112 (dk_at dksX8_replay_9 0 rfl rfl)
theorem dX8_replay_210 : decode cX8_replay 210 = .ok (.istore 4, 2) := dk_54 4 (dk_at dksX8_replay_9 1 rfl rfl)
theorem dX8_replay_212 : decode cX8_replay 212 = .ok (.iinc 6 1, 3) := dk_132 6 1 (dk_at dksX8_replay_9 3 rfl rfl)
theorem dX8_replay_215 : decode cX8_replay 215 = .ok (.aload 9, 2) := dk_25 9 (dk_at dksX8_replay_9 6 rfl rfl)
theorem dX8_replay_217 : decode cX8_replay 217 = .ok (.iconst 0, 1) := dk_3 (dk_at dksX8_replay_9 8 rfl rfl)
theorem dX8_replay_218 : decode cX8_replay 218 = .ok (.iaload, 1) := dk_46 (dk_at dksX8_replay_9 9 rfl rfl)
theorem dX8_replay_219 : decode cX8_replay 219 = .ok (.iconst 1, 1) := dk_4 (dk_at dksX8_replay_9 10 rfl rfl)
theorem dX8_replay_220 : decode cX8_replay 220 = .ok (.if_icmp .ne 20, 3) := dk_160 0 20 (dk_at dksX8_replay_9 11 rfl rfl)
theorem dX8_replay_223 : decode cX8_replay 223 = .ok (.iload 4, 2) := dk_21 4 (dk_at dksX8_replay_9 14 rfl rfl)
theorem dX8_replay_225 : decode cX8_replay 225 = .ok (.aload_n 3, 1) := dk_45 (dk_at dksX8_replay_9 16 rfl rfl)
theorem dX8_replay_226 : decode cX8_replay 226 = .ok (.aload 9, 2) := dk_25 9 (dk_at dksX8_replay_9 17 rfl rfl)
theorem dX8_replay_228 : decode cX8_replay 228 = .ok (.iconst 1, 1) := dk_4 (dk_at dksX8_replay_9 19 rfl rfl)
theorem dX8_replay_229 : decode cX8_replay 229 = .ok (.iaload, 1) := dk_46 (dk_at dksX8_replay_9 20 rfl rfl)
theorem dX8_replay_230 : decode cX8_replay 230 = .ok (.iaload, 1) := dk_46 (dk_at dksX8_replay_9 21 rfl rfl)
theorem dX8_replay_231 : decode cX8_replay 231 = .ok (.iadd, 1) := dk_96 (dk_at dksX8_replay_9 22 rfl rfl)
theorem dX8_replay_232 : decode cX8_replay 232 = .ok (.iconst 1, 1) := dk_4 (dk_at dksX8_replay_9 23 rfl rfl)
theorem dX8_replay_233 : decode cX8_replay 233 = .ok (.iadd, 1) := dk_96 (dk_at dksX8_replay_10 0 rfl rfl)
theorem dX8_replay_234 : decode cX8_replay 234 = .ok (.sipush 1000, 3) := dk_17 3 232 (dk_at dksX8_replay_10 1 rfl rfl)
theorem dX8_replay_237 : decode cX8_replay 237 = .ok (.irem, 1) := dk_112 (dk_at dksX8_replay_10 4 rfl rfl)
theorem dX8_replay_238 : decode cX8_replay 238 = .ok (.istore 4, 2) := dk_54 4 (dk_at dksX8_replay_10 5 rfl rfl)
theorem dX8_replay_240 : decode cX8_replay 240 = .ok (.aload 9, 2) := dk_25 9 (dk_at dksX8_replay_10 7 rfl rfl)
theorem dX8_replay_242 : decode cX8_replay 242 = .ok (.iconst 0, 1) := dk_3 (dk_at dksX8_replay_10 9 rfl rfl)
theorem dX8_replay_243 : decode cX8_replay 243 = .ok (.iaload, 1) := dk_46 (dk_at dksX8_replay_10 10 rfl rfl)
theorem dX8_replay_244 : decode cX8_replay 244 = .ok (.iconst 2, 1) := dk_5 (dk_at dksX8_replay_10 11 rfl rfl)
theorem dX8_replay_245 : decode cX8_replay 245 = .ok (.if_icmp .ne 26, 3) := dk_160 0 26 (dk_at dksX8_replay_10 12 rfl rfl)
theorem dX8_replay_248 : decode cX8_replay 248 = .ok (.aload_n 3, 1) := dk_45 (dk_at dksX8_replay_10 15 rfl rfl)
theorem dX8_replay_249 : decode cX8_replay 249 = .ok (.aload 9, 2) := dk_25 9 (dk_at dksX8_replay_10 16 rfl rfl)
theorem dX8_replay_251 : decode cX8_replay 251 = .ok (.iconst 1, 1) := dk_4 (dk_at dksX8_replay_10 18 rfl rfl)
theorem dX8_replay_252 : decode cX8_replay 252 = .ok (.iaload, 1) := dk_46 (dk_at dksX8_replay_10 19 rfl rfl)
theorem dX8_replay_253 : decode cX8_replay 253 = .ok (.iconst 3, 1) := dk_6 (dk_at dksX8_replay_10 20 rfl rfl)
theorem dX8_replay_254 : decode cX8_replay 254 = .ok (.aload_n 3, 1) := dk_45 (dk_at dksX8_replay_10 21 rfl rfl)
theorem dX8_replay_255 : decode cX8_replay 255 = .ok (.aload 9, 2) := dk_25 9 (dk_at dksX8_replay_10 22 rfl rfl)
theorem dX8_replay_257 : decode cX8_replay 257 = .ok (.iconst 1, 1) := dk_4 (dk_at dksX8_replay_11 0 rfl rfl)
theorem dX8_replay_258 : decode cX8_replay 258 = .ok (.iaload, 1) := dk_46 (dk_at dksX8_replay_11 1 rfl rfl)
theorem dX8_replay_259 : decode cX8_replay 259 = .ok (.iaload, 1) := dk_46 (dk_at dksX8_replay_11 2 rfl rfl)
theorem dX8_replay_260 : decode cX8_replay 260 = .ok (.imul, 1) := dk_104 (dk_at dksX8_replay_11 3 rfl rfl)
theorem dX8_replay_261 : decode cX8_replay 261 = .ok (.iload 4, 2) := dk_21 4 (dk_at dksX8_replay_11 4 rfl rfl)
theorem dX8_replay_263 : decode cX8_replay 263 = .ok (.iadd, 1) := dk_96 (dk_at dksX8_replay_11 6 rfl rfl)
theorem dX8_replay_264 : decode cX8_replay 264 = .ok (.iconst 1, 1) := dk_4 (dk_at dksX8_replay_11 7 rfl rfl)
theorem dX8_replay_265 : decode cX8_replay 265 = .ok (.iadd, 1) := dk_96 (dk_at dksX8_replay_11 8 rfl rfl)
theorem dX8_replay_266 : decode cX8_replay 266 = .ok (.sipush 1000, 3) := dk_17 3 232 (dk_at dksX8_replay_11 9 rfl rfl)
theorem dX8_replay_269 : decode cX8_replay 269 = .ok (.irem, 1) := dk_112 (dk_at dksX8_replay_11 12 rfl rfl)
theorem dX8_replay_270 : decode cX8_replay 270 = .ok (.iastore, 1) := dk_79 (dk_at dksX8_replay_11 13 rfl rfl)
theorem dX8_replay_271 : decode cX8_replay 271 = .ok (.iload 5, 2) := dk_21 5 (dk_at dksX8_replay_11 14 rfl rfl)
theorem dX8_replay_273 : decode cX8_replay 273 = .ok (.iconst 1, 1) := dk_4 (dk_at dksX8_replay_11 16 rfl rfl)
theorem dX8_replay_274 : decode cX8_replay 274 = .ok (.iadd, 1) := dk_96 (dk_at dksX8_replay_11 17 rfl rfl)
theorem dX8_replay_275 : decode cX8_replay 275 = .ok (.aload_n 0, 1) := dk_42 (dk_at dksX8_replay_11 18 rfl rfl)
theorem dX8_replay_276 : decode cX8_replay 276 = .ok (.getfield 12, 3) := dk_180 0 12 (dk_at dksX8_replay_11 19 rfl rfl)
theorem dX8_replay_279 : decode cX8_replay 279 = .ok (.invokevirtual 125, 3) := dk_182 0 125 (dk_at dksX8_replay_12 0 rfl rfl)
theorem dX8_replay_282 : decode cX8_replay 282 = .ok (.irem, 1) := dk_112 (dk_at dksX8_replay_12 3 rfl rfl)
theorem dX8_replay_283 : decode cX8_replay 283 = .ok (.istore 5, 2) := dk_54 5 (dk_at dksX8_replay_12 4 rfl rfl)
theorem dX8_replay_285 : decode cX8_replay 285 = .ok (.iinc 8 1, 3) := dk_132 8 1 (dk_at dksX8_replay_12 6 rfl rfl)
theorem dX8_replay_288 : decode cX8_replay 288 = .ok (.goto (-239), 3) := dk_167 255 17 (dk_at dksX8_replay_12 9 rfl rfl)
theorem dX8_replay_291 : decode cX8_replay 291 = .ok (.iload_n 2, 1) := dk_28 (dk_at dksX8_replay_12 12 rfl rfl)
theorem dX8_replay_292 : decode cX8_replay 292 = .ok (.iconst (-1), 1) := dk_2 (dk_at dksX8_replay_12 13 rfl rfl)
theorem dX8_replay_293 : decode cX8_replay 293 = .ok (.if_icmp .ne 8, 3) := dk_160 0 8 (dk_at dksX8_replay_12 14 rfl rfl)
theorem dX8_replay_296 : decode cX8_replay 296 = .ok (.iload 4, 2) := dk_21 4 (dk_at dksX8_replay_12 17 rfl rfl)
theorem dX8_replay_298 : decode cX8_replay 298 = .ok (.goto 6, 3) := dk_167 0 6 (dk_at dksX8_replay_12 19 rfl rfl)
theorem dX8_replay_301 : decode cX8_replay 301 = .ok (.aload_n 3, 1) := dk_45 (dk_at dksX8_replay_12 22 rfl rfl)
theorem dX8_replay_302 : decode cX8_replay 302 = .ok (.iload_n 2, 1) := dk_28 (dk_at dksX8_replay_12 23 rfl rfl)
theorem dX8_replay_303 : decode cX8_replay 303 = .ok (.iaload, 1) := dk_46 (dk_at dksX8_replay_13 0 rfl rfl)
theorem dX8_replay_304 : decode cX8_replay 304 = .ok (.ireturn, 1) := dk_172 (dk_at dksX8_replay_13 1 rfl rfl)
abbrev cX8_copy : ByteArray := prog_10_method_2_code
def yX8_copy : MethodName := ⟨RX8, "copy", "()LHyperVaneModel$Guest;"⟩
def dkwX8_copy_15 : List UInt8 := [180, 0, 44, 183, 0, 51, 181, 0, 44, 43, 176]
abbrev dktX8_copy_15 : List UInt8 := dkwX8_copy_15 ++ []
def dkwX8_copy_14 : List UInt8 := [181, 0, 122, 43, 187, 0, 9, 89, 42, 180, 0, 41, 183, 0, 51, 181, 0, 41, 43, 187, 0, 9, 89, 42]
abbrev dktX8_copy_14 : List UInt8 := dkwX8_copy_14 ++ dktX8_copy_15
def dkwX8_copy_13 : List UInt8 := [181, 0, 113, 43, 42, 180, 0, 116, 181, 0, 116, 43, 42, 180, 0, 119, 181, 0, 119, 43, 42, 180, 0, 122]
abbrev dktX8_copy_13 : List UInt8 := dkwX8_copy_13 ++ dktX8_copy_14
def dkwX8_copy_12 : List UInt8 := [181, 0, 104, 43, 42, 180, 0, 107, 181, 0, 107, 43, 42, 180, 0, 110, 181, 0, 110, 43, 42, 180, 0, 113]
abbrev dktX8_copy_12 : List UInt8 := dkwX8_copy_12 ++ dktX8_copy_13
def dkwX8_copy_11 : List UInt8 := [181, 0, 95, 43, 42, 180, 0, 98, 181, 0, 98, 43, 42, 180, 0, 101, 181, 0, 101, 43, 42, 180, 0, 104]
abbrev dktX8_copy_11 : List UInt8 := dkwX8_copy_11 ++ dktX8_copy_12
def dkwX8_copy_10 : List UInt8 := [3, 43, 180, 0, 35, 3, 8, 184, 0, 85, 43, 42, 180, 0, 91, 181, 0, 91, 43, 42, 180, 0, 95]
abbrev dktX8_copy_10 : List UInt8 := dkwX8_copy_10 ++ dktX8_copy_11
def dkwX8_copy_9 : List UInt8 := [21, 4, 50, 3, 45, 21, 4, 50, 3, 16, 6, 184, 0, 85, 132, 4, 1, 167, 255, 231, 42, 180, 0, 35]
abbrev dktX8_copy_9 : List UInt8 := dkwX8_copy_9 ++ dktX8_copy_10
def dkwX8_copy_8 : List UInt8 := [180, 0, 32, 83, 89, 7, 43, 180, 0, 38, 83, 78, 3, 54, 4, 21, 4, 44, 190, 162, 0, 24, 44]
abbrev dktX8_copy_8 : List UInt8 := dkwX8_copy_8 ++ dktX8_copy_9
def dkwX8_copy_7 : List UInt8 := [3, 43, 180, 0, 22, 83, 89, 4, 43, 180, 0, 26, 83, 89, 5, 43, 180, 0, 29, 83, 89, 6, 43]
abbrev dktX8_copy_7 : List UInt8 := dkwX8_copy_7 ++ dktX8_copy_8
def dkwX8_copy_6 : List UInt8 := [180, 0, 29, 83, 89, 6, 42, 180, 0, 32, 83, 89, 7, 42, 180, 0, 38, 83, 77, 8, 189, 0, 84, 89]
abbrev dktX8_copy_6 : List UInt8 := dkwX8_copy_6 ++ dktX8_copy_7
def dkwX8_copy_5 : List UInt8 := [181, 0, 81, 8, 189, 0, 84, 89, 3, 42, 180, 0, 22, 83, 89, 4, 42, 180, 0, 26, 83, 89, 5, 42]
abbrev dktX8_copy_5 : List UInt8 := dkwX8_copy_5 ++ dktX8_copy_6
def dkwX8_copy_4 : List UInt8 := [181, 0, 72, 43, 42, 180, 0, 75, 181, 0, 75, 43, 42, 180, 0, 78, 181, 0, 78, 43, 42, 180, 0, 81]
abbrev dktX8_copy_4 : List UInt8 := dkwX8_copy_4 ++ dktX8_copy_5
def dkwX8_copy_3 : List UInt8 := [181, 0, 18, 43, 42, 180, 0, 66, 181, 0, 66, 43, 42, 180, 0, 69, 181, 0, 69, 43, 42, 180, 0, 72]
abbrev dktX8_copy_3 : List UInt8 := dkwX8_copy_3 ++ dktX8_copy_4
def dkwX8_copy_2 : List UInt8 := [181, 0, 57, 43, 42, 180, 0, 60, 181, 0, 60, 43, 42, 180, 0, 63, 181, 0, 63, 43, 42, 180, 0, 18]
abbrev dktX8_copy_2 : List UInt8 := dkwX8_copy_2 ++ dktX8_copy_3
def dkwX8_copy_1 : List UInt8 := [180, 0, 12, 183, 0, 51, 181, 0, 12, 43, 42, 180, 0, 54, 181, 0, 54, 43, 42, 180, 0, 57]
abbrev dktX8_copy_1 : List UInt8 := dkwX8_copy_1 ++ dktX8_copy_2
def dkwX8_copy_0 : List UInt8 := [187, 0, 13, 89, 183, 0, 47, 76, 43, 42, 180, 0, 48, 181, 0, 48, 43, 187, 0, 9, 89, 42]
abbrev dktX8_copy_0 : List UInt8 := dkwX8_copy_0 ++ dktX8_copy_1
theorem dksX8_copy_0 : cX8_copy.data.toList.drop 0 = dktX8_copy_0 := by decide +kernel
theorem dksX8_copy_1 : cX8_copy.data.toList.drop 22 = dktX8_copy_1 := dk_seg dksX8_copy_0 22 rfl rfl
theorem dksX8_copy_2 : cX8_copy.data.toList.drop 44 = dktX8_copy_2 := dk_seg dksX8_copy_1 22 rfl rfl
theorem dksX8_copy_3 : cX8_copy.data.toList.drop 68 = dktX8_copy_3 := dk_seg dksX8_copy_2 24 rfl rfl
theorem dksX8_copy_4 : cX8_copy.data.toList.drop 92 = dktX8_copy_4 := dk_seg dksX8_copy_3 24 rfl rfl
theorem dksX8_copy_5 : cX8_copy.data.toList.drop 116 = dktX8_copy_5 := dk_seg dksX8_copy_4 24 rfl rfl
theorem dksX8_copy_6 : cX8_copy.data.toList.drop 140 = dktX8_copy_6 := dk_seg dksX8_copy_5 24 rfl rfl
theorem dksX8_copy_7 : cX8_copy.data.toList.drop 164 = dktX8_copy_7 := dk_seg dksX8_copy_6 24 rfl rfl
theorem dksX8_copy_8 : cX8_copy.data.toList.drop 187 = dktX8_copy_8 := dk_seg dksX8_copy_7 23 rfl rfl
theorem dksX8_copy_9 : cX8_copy.data.toList.drop 210 = dktX8_copy_9 := dk_seg dksX8_copy_8 23 rfl rfl
theorem dksX8_copy_10 : cX8_copy.data.toList.drop 234 = dktX8_copy_10 := dk_seg dksX8_copy_9 24 rfl rfl
theorem dksX8_copy_11 : cX8_copy.data.toList.drop 257 = dktX8_copy_11 := dk_seg dksX8_copy_10 23 rfl rfl
theorem dksX8_copy_12 : cX8_copy.data.toList.drop 281 = dktX8_copy_12 := dk_seg dksX8_copy_11 24 rfl rfl
theorem dksX8_copy_13 : cX8_copy.data.toList.drop 305 = dktX8_copy_13 := dk_seg dksX8_copy_12 24 rfl rfl
theorem dksX8_copy_14 : cX8_copy.data.toList.drop 329 = dktX8_copy_14 := dk_seg dksX8_copy_13 24 rfl rfl
theorem dksX8_copy_15 : cX8_copy.data.toList.drop 353 = dktX8_copy_15 := dk_seg dksX8_copy_14 24 rfl rfl
theorem dX8_copy_0 : decode cX8_copy 0 = .ok (.new 13, 3) := dk_187 0 13 (dk_at dksX8_copy_0 0 rfl rfl)
theorem dX8_copy_3 : decode cX8_copy 3 = .ok (.dup, 1) := dk_89 (dk_at dksX8_copy_0 3 rfl rfl)
theorem dX8_copy_4 : decode cX8_copy 4 = .ok (.invokespecial 47, 3) := dk_183 0 47 (dk_at dksX8_copy_0 4 rfl rfl)
theorem dX8_copy_7 : decode cX8_copy 7 = .ok (.astore_n 1, 1) := dk_76 (dk_at dksX8_copy_0 7 rfl rfl)
theorem dX8_copy_8 : decode cX8_copy 8 = .ok (.aload_n 1, 1) := dk_43 (dk_at dksX8_copy_0 8 rfl rfl)
theorem dX8_copy_9 : decode cX8_copy 9 = .ok (.aload_n 0, 1) := dk_42 (dk_at dksX8_copy_0 9 rfl rfl)
theorem dX8_copy_10 : decode cX8_copy 10 = .ok (.getfield 48, 3) := dk_180 0 48 (dk_at dksX8_copy_0 10 rfl rfl)
theorem dX8_copy_13 : decode cX8_copy 13 = .ok (.putfield 48, 3) := dk_181 0 48 (dk_at dksX8_copy_0 13 rfl rfl)
theorem dX8_copy_16 : decode cX8_copy 16 = .ok (.aload_n 1, 1) := dk_43 (dk_at dksX8_copy_0 16 rfl rfl)
theorem dX8_copy_17 : decode cX8_copy 17 = .ok (.new 9, 3) := dk_187 0 9 (dk_at dksX8_copy_0 17 rfl rfl)
theorem dX8_copy_20 : decode cX8_copy 20 = .ok (.dup, 1) := dk_89 (dk_at dksX8_copy_0 20 rfl rfl)
theorem dX8_copy_21 : decode cX8_copy 21 = .ok (.aload_n 0, 1) := dk_42 (dk_at dksX8_copy_0 21 rfl rfl)
theorem dX8_copy_22 : decode cX8_copy 22 = .ok (.getfield 12, 3) := dk_180 0 12 (dk_at dksX8_copy_1 0 rfl rfl)
theorem dX8_copy_25 : decode cX8_copy 25 = .ok (.invokespecial 51, 3) := dk_183 0 51 (dk_at dksX8_copy_1 3 rfl rfl)
theorem dX8_copy_28 : decode cX8_copy 28 = .ok (.putfield 12, 3) := dk_181 0 12 (dk_at dksX8_copy_1 6 rfl rfl)
theorem dX8_copy_31 : decode cX8_copy 31 = .ok (.aload_n 1, 1) := dk_43 (dk_at dksX8_copy_1 9 rfl rfl)
theorem dX8_copy_32 : decode cX8_copy 32 = .ok (.aload_n 0, 1) := dk_42 (dk_at dksX8_copy_1 10 rfl rfl)
theorem dX8_copy_33 : decode cX8_copy 33 = .ok (.getfield 54, 3) := dk_180 0 54 (dk_at dksX8_copy_1 11 rfl rfl)
theorem dX8_copy_36 : decode cX8_copy 36 = .ok (.putfield 54, 3) := dk_181 0 54 (dk_at dksX8_copy_1 14 rfl rfl)
theorem dX8_copy_39 : decode cX8_copy 39 = .ok (.aload_n 1, 1) := dk_43 (dk_at dksX8_copy_1 17 rfl rfl)
theorem dX8_copy_40 : decode cX8_copy 40 = .ok (.aload_n 0, 1) := dk_42 (dk_at dksX8_copy_1 18 rfl rfl)
theorem dX8_copy_41 : decode cX8_copy 41 = .ok (.getfield 57, 3) := dk_180 0 57 (dk_at dksX8_copy_1 19 rfl rfl)
theorem dX8_copy_44 : decode cX8_copy 44 = .ok (.putfield 57, 3) := dk_181 0 57 (dk_at dksX8_copy_2 0 rfl rfl)
theorem dX8_copy_47 : decode cX8_copy 47 = .ok (.aload_n 1, 1) := dk_43 (dk_at dksX8_copy_2 3 rfl rfl)
theorem dX8_copy_48 : decode cX8_copy 48 = .ok (.aload_n 0, 1) := dk_42 (dk_at dksX8_copy_2 4 rfl rfl)
theorem dX8_copy_49 : decode cX8_copy 49 = .ok (.getfield 60, 3) := dk_180 0 60 (dk_at dksX8_copy_2 5 rfl rfl)
theorem dX8_copy_52 : decode cX8_copy 52 = .ok (.putfield 60, 3) := dk_181 0 60 (dk_at dksX8_copy_2 8 rfl rfl)
theorem dX8_copy_55 : decode cX8_copy 55 = .ok (.aload_n 1, 1) := dk_43 (dk_at dksX8_copy_2 11 rfl rfl)
theorem dX8_copy_56 : decode cX8_copy 56 = .ok (.aload_n 0, 1) := dk_42 (dk_at dksX8_copy_2 12 rfl rfl)
theorem dX8_copy_57 : decode cX8_copy 57 = .ok (.getfield 63, 3) := dk_180 0 63 (dk_at dksX8_copy_2 13 rfl rfl)
theorem dX8_copy_60 : decode cX8_copy 60 = .ok (.putfield 63, 3) := dk_181 0 63 (dk_at dksX8_copy_2 16 rfl rfl)
theorem dX8_copy_63 : decode cX8_copy 63 = .ok (.aload_n 1, 1) := dk_43 (dk_at dksX8_copy_2 19 rfl rfl)
theorem dX8_copy_64 : decode cX8_copy 64 = .ok (.aload_n 0, 1) := dk_42 (dk_at dksX8_copy_2 20 rfl rfl)
theorem dX8_copy_65 : decode cX8_copy 65 = .ok (.getfield 18, 3) := dk_180 0 18 (dk_at dksX8_copy_2 21 rfl rfl)
theorem dX8_copy_68 : decode cX8_copy 68 = .ok (.putfield 18, 3) := dk_181 0 18 (dk_at dksX8_copy_3 0 rfl rfl)
theorem dX8_copy_71 : decode cX8_copy 71 = .ok (.aload_n 1, 1) := dk_43 (dk_at dksX8_copy_3 3 rfl rfl)
theorem dX8_copy_72 : decode cX8_copy 72 = .ok (.aload_n 0, 1) := dk_42 (dk_at dksX8_copy_3 4 rfl rfl)
theorem dX8_copy_73 : decode cX8_copy 73 = .ok (.getfield 66, 3) := dk_180 0 66 (dk_at dksX8_copy_3 5 rfl rfl)
theorem dX8_copy_76 : decode cX8_copy 76 = .ok (.putfield 66, 3) := dk_181 0 66 (dk_at dksX8_copy_3 8 rfl rfl)
theorem dX8_copy_79 : decode cX8_copy 79 = .ok (.aload_n 1, 1) := dk_43 (dk_at dksX8_copy_3 11 rfl rfl)
theorem dX8_copy_80 : decode cX8_copy 80 = .ok (.aload_n 0, 1) := dk_42 (dk_at dksX8_copy_3 12 rfl rfl)
theorem dX8_copy_81 : decode cX8_copy 81 = .ok (.getfield 69, 3) := dk_180 0 69 (dk_at dksX8_copy_3 13 rfl rfl)
theorem dX8_copy_84 : decode cX8_copy 84 = .ok (.putfield 69, 3) := dk_181 0 69 (dk_at dksX8_copy_3 16 rfl rfl)
theorem dX8_copy_87 : decode cX8_copy 87 = .ok (.aload_n 1, 1) := dk_43 (dk_at dksX8_copy_3 19 rfl rfl)
theorem dX8_copy_88 : decode cX8_copy 88 = .ok (.aload_n 0, 1) := dk_42 (dk_at dksX8_copy_3 20 rfl rfl)
theorem dX8_copy_89 : decode cX8_copy 89 = .ok (.getfield 72, 3) := dk_180 0 72 (dk_at dksX8_copy_3 21 rfl rfl)
theorem dX8_copy_92 : decode cX8_copy 92 = .ok (.putfield 72, 3) := dk_181 0 72 (dk_at dksX8_copy_4 0 rfl rfl)
theorem dX8_copy_95 : decode cX8_copy 95 = .ok (.aload_n 1, 1) := dk_43 (dk_at dksX8_copy_4 3 rfl rfl)
theorem dX8_copy_96 : decode cX8_copy 96 = .ok (.aload_n 0, 1) := dk_42 (dk_at dksX8_copy_4 4 rfl rfl)
theorem dX8_copy_97 : decode cX8_copy 97 = .ok (.getfield 75, 3) := dk_180 0 75 (dk_at dksX8_copy_4 5 rfl rfl)
theorem dX8_copy_100 : decode cX8_copy 100 = .ok (.putfield 75, 3) := dk_181 0 75 (dk_at dksX8_copy_4 8 rfl rfl)
theorem dX8_copy_103 : decode cX8_copy 103 = .ok (.aload_n 1, 1) := dk_43 (dk_at dksX8_copy_4 11 rfl rfl)
theorem dX8_copy_104 : decode cX8_copy 104 = .ok (.aload_n 0, 1) := dk_42 (dk_at dksX8_copy_4 12 rfl rfl)
theorem dX8_copy_105 : decode cX8_copy 105 = .ok (.getfield 78, 3) := dk_180 0 78 (dk_at dksX8_copy_4 13 rfl rfl)
theorem dX8_copy_108 : decode cX8_copy 108 = .ok (.putfield 78, 3) := dk_181 0 78 (dk_at dksX8_copy_4 16 rfl rfl)
theorem dX8_copy_111 : decode cX8_copy 111 = .ok (.aload_n 1, 1) := dk_43 (dk_at dksX8_copy_4 19 rfl rfl)
theorem dX8_copy_112 : decode cX8_copy 112 = .ok (.aload_n 0, 1) := dk_42 (dk_at dksX8_copy_4 20 rfl rfl)
theorem dX8_copy_113 : decode cX8_copy 113 = .ok (.getfield 81, 3) := dk_180 0 81 (dk_at dksX8_copy_4 21 rfl rfl)
theorem dX8_copy_116 : decode cX8_copy 116 = .ok (.putfield 81, 3) := dk_181 0 81 (dk_at dksX8_copy_5 0 rfl rfl)
theorem dX8_copy_119 : decode cX8_copy 119 = .ok (.iconst 5, 1) := dk_8 (dk_at dksX8_copy_5 3 rfl rfl)
theorem dX8_copy_120 : decode cX8_copy 120 = .ok (.anewarray 84, 3) := dk_189 0 84 (dk_at dksX8_copy_5 4 rfl rfl)
theorem dX8_copy_123 : decode cX8_copy 123 = .ok (.dup, 1) := dk_89 (dk_at dksX8_copy_5 7 rfl rfl)
theorem dX8_copy_124 : decode cX8_copy 124 = .ok (.iconst 0, 1) := dk_3 (dk_at dksX8_copy_5 8 rfl rfl)
theorem dX8_copy_125 : decode cX8_copy 125 = .ok (.aload_n 0, 1) := dk_42 (dk_at dksX8_copy_5 9 rfl rfl)
theorem dX8_copy_126 : decode cX8_copy 126 = .ok (.getfield 22, 3) := dk_180 0 22 (dk_at dksX8_copy_5 10 rfl rfl)
theorem dX8_copy_129 : decode cX8_copy 129 = .ok (.aastore, 1) := dk_83 (dk_at dksX8_copy_5 13 rfl rfl)
theorem dX8_copy_130 : decode cX8_copy 130 = .ok (.dup, 1) := dk_89 (dk_at dksX8_copy_5 14 rfl rfl)
theorem dX8_copy_131 : decode cX8_copy 131 = .ok (.iconst 1, 1) := dk_4 (dk_at dksX8_copy_5 15 rfl rfl)
theorem dX8_copy_132 : decode cX8_copy 132 = .ok (.aload_n 0, 1) := dk_42 (dk_at dksX8_copy_5 16 rfl rfl)
theorem dX8_copy_133 : decode cX8_copy 133 = .ok (.getfield 26, 3) := dk_180 0 26 (dk_at dksX8_copy_5 17 rfl rfl)
theorem dX8_copy_136 : decode cX8_copy 136 = .ok (.aastore, 1) := dk_83 (dk_at dksX8_copy_5 20 rfl rfl)
theorem dX8_copy_137 : decode cX8_copy 137 = .ok (.dup, 1) := dk_89 (dk_at dksX8_copy_5 21 rfl rfl)
theorem dX8_copy_138 : decode cX8_copy 138 = .ok (.iconst 2, 1) := dk_5 (dk_at dksX8_copy_5 22 rfl rfl)
theorem dX8_copy_139 : decode cX8_copy 139 = .ok (.aload_n 0, 1) := dk_42 (dk_at dksX8_copy_5 23 rfl rfl)
theorem dX8_copy_140 : decode cX8_copy 140 = .ok (.getfield 29, 3) := dk_180 0 29 (dk_at dksX8_copy_6 0 rfl rfl)
theorem dX8_copy_143 : decode cX8_copy 143 = .ok (.aastore, 1) := dk_83 (dk_at dksX8_copy_6 3 rfl rfl)
theorem dX8_copy_144 : decode cX8_copy 144 = .ok (.dup, 1) := dk_89 (dk_at dksX8_copy_6 4 rfl rfl)
theorem dX8_copy_145 : decode cX8_copy 145 = .ok (.iconst 3, 1) := dk_6 (dk_at dksX8_copy_6 5 rfl rfl)
theorem dX8_copy_146 : decode cX8_copy 146 = .ok (.aload_n 0, 1) := dk_42 (dk_at dksX8_copy_6 6 rfl rfl)
theorem dX8_copy_147 : decode cX8_copy 147 = .ok (.getfield 32, 3) := dk_180 0 32 (dk_at dksX8_copy_6 7 rfl rfl)
theorem dX8_copy_150 : decode cX8_copy 150 = .ok (.aastore, 1) := dk_83 (dk_at dksX8_copy_6 10 rfl rfl)
theorem dX8_copy_151 : decode cX8_copy 151 = .ok (.dup, 1) := dk_89 (dk_at dksX8_copy_6 11 rfl rfl)
theorem dX8_copy_152 : decode cX8_copy 152 = .ok (.iconst 4, 1) := dk_7 (dk_at dksX8_copy_6 12 rfl rfl)
theorem dX8_copy_153 : decode cX8_copy 153 = .ok (.aload_n 0, 1) := dk_42 (dk_at dksX8_copy_6 13 rfl rfl)
theorem dX8_copy_154 : decode cX8_copy 154 = .ok (.getfield 38, 3) := dk_180 0 38 (dk_at dksX8_copy_6 14 rfl rfl)
theorem dX8_copy_157 : decode cX8_copy 157 = .ok (.aastore, 1) := dk_83 (dk_at dksX8_copy_6 17 rfl rfl)
theorem dX8_copy_158 : decode cX8_copy 158 = .ok (.astore_n 2, 1) := dk_77 (dk_at dksX8_copy_6 18 rfl rfl)
theorem dX8_copy_159 : decode cX8_copy 159 = .ok (.iconst 5, 1) := dk_8 (dk_at dksX8_copy_6 19 rfl rfl)
theorem dX8_copy_160 : decode cX8_copy 160 = .ok (.anewarray 84, 3) := dk_189 0 84 (dk_at dksX8_copy_6 20 rfl rfl)
theorem dX8_copy_163 : decode cX8_copy 163 = .ok (.dup, 1) := dk_89 (dk_at dksX8_copy_6 23 rfl rfl)
theorem dX8_copy_164 : decode cX8_copy 164 = .ok (.iconst 0, 1) := dk_3 (dk_at dksX8_copy_7 0 rfl rfl)
theorem dX8_copy_165 : decode cX8_copy 165 = .ok (.aload_n 1, 1) := dk_43 (dk_at dksX8_copy_7 1 rfl rfl)
theorem dX8_copy_166 : decode cX8_copy 166 = .ok (.getfield 22, 3) := dk_180 0 22 (dk_at dksX8_copy_7 2 rfl rfl)
theorem dX8_copy_169 : decode cX8_copy 169 = .ok (.aastore, 1) := dk_83 (dk_at dksX8_copy_7 5 rfl rfl)
theorem dX8_copy_170 : decode cX8_copy 170 = .ok (.dup, 1) := dk_89 (dk_at dksX8_copy_7 6 rfl rfl)
theorem dX8_copy_171 : decode cX8_copy 171 = .ok (.iconst 1, 1) := dk_4 (dk_at dksX8_copy_7 7 rfl rfl)
theorem dX8_copy_172 : decode cX8_copy 172 = .ok (.aload_n 1, 1) := dk_43 (dk_at dksX8_copy_7 8 rfl rfl)
theorem dX8_copy_173 : decode cX8_copy 173 = .ok (.getfield 26, 3) := dk_180 0 26 (dk_at dksX8_copy_7 9 rfl rfl)
theorem dX8_copy_176 : decode cX8_copy 176 = .ok (.aastore, 1) := dk_83 (dk_at dksX8_copy_7 12 rfl rfl)
theorem dX8_copy_177 : decode cX8_copy 177 = .ok (.dup, 1) := dk_89 (dk_at dksX8_copy_7 13 rfl rfl)
theorem dX8_copy_178 : decode cX8_copy 178 = .ok (.iconst 2, 1) := dk_5 (dk_at dksX8_copy_7 14 rfl rfl)
theorem dX8_copy_179 : decode cX8_copy 179 = .ok (.aload_n 1, 1) := dk_43 (dk_at dksX8_copy_7 15 rfl rfl)
theorem dX8_copy_180 : decode cX8_copy 180 = .ok (.getfield 29, 3) := dk_180 0 29 (dk_at dksX8_copy_7 16 rfl rfl)
theorem dX8_copy_183 : decode cX8_copy 183 = .ok (.aastore, 1) := dk_83 (dk_at dksX8_copy_7 19 rfl rfl)
theorem dX8_copy_184 : decode cX8_copy 184 = .ok (.dup, 1) := dk_89 (dk_at dksX8_copy_7 20 rfl rfl)
theorem dX8_copy_185 : decode cX8_copy 185 = .ok (.iconst 3, 1) := dk_6 (dk_at dksX8_copy_7 21 rfl rfl)
theorem dX8_copy_186 : decode cX8_copy 186 = .ok (.aload_n 1, 1) := dk_43 (dk_at dksX8_copy_7 22 rfl rfl)
theorem dX8_copy_187 : decode cX8_copy 187 = .ok (.getfield 32, 3) := dk_180 0 32 (dk_at dksX8_copy_8 0 rfl rfl)
theorem dX8_copy_190 : decode cX8_copy 190 = .ok (.aastore, 1) := dk_83 (dk_at dksX8_copy_8 3 rfl rfl)
theorem dX8_copy_191 : decode cX8_copy 191 = .ok (.dup, 1) := dk_89 (dk_at dksX8_copy_8 4 rfl rfl)
theorem dX8_copy_192 : decode cX8_copy 192 = .ok (.iconst 4, 1) := dk_7 (dk_at dksX8_copy_8 5 rfl rfl)
theorem dX8_copy_193 : decode cX8_copy 193 = .ok (.aload_n 1, 1) := dk_43 (dk_at dksX8_copy_8 6 rfl rfl)
theorem dX8_copy_194 : decode cX8_copy 194 = .ok (.getfield 38, 3) := dk_180 0 38 (dk_at dksX8_copy_8 7 rfl rfl)
theorem dX8_copy_197 : decode cX8_copy 197 = .ok (.aastore, 1) := dk_83 (dk_at dksX8_copy_8 10 rfl rfl)
theorem dX8_copy_198 : decode cX8_copy 198 = .ok (.astore_n 3, 1) := dk_78 (dk_at dksX8_copy_8 11 rfl rfl)
theorem dX8_copy_199 : decode cX8_copy 199 = .ok (.iconst 0, 1) := dk_3 (dk_at dksX8_copy_8 12 rfl rfl)
theorem dX8_copy_200 : decode cX8_copy 200 = .ok (.istore 4, 2) := dk_54 4 (dk_at dksX8_copy_8 13 rfl rfl)
theorem dX8_copy_202 : decode cX8_copy 202 = .ok (.iload 4, 2) := dk_21 4 (dk_at dksX8_copy_8 15 rfl rfl)
theorem dX8_copy_204 : decode cX8_copy 204 = .ok (.aload_n 2, 1) := dk_44 (dk_at dksX8_copy_8 17 rfl rfl)
theorem dX8_copy_205 : decode cX8_copy 205 = .ok (.arraylength, 1) := dk_190 (dk_at dksX8_copy_8 18 rfl rfl)
theorem dX8_copy_206 : decode cX8_copy 206 = .ok (.if_icmp .ge 24, 3) := dk_162 0 24 (dk_at dksX8_copy_8 19 rfl rfl)
theorem dX8_copy_209 : decode cX8_copy 209 = .ok (.aload_n 2, 1) := dk_44 (dk_at dksX8_copy_8 22 rfl rfl)
theorem dX8_copy_210 : decode cX8_copy 210 = .ok (.iload 4, 2) := dk_21 4 (dk_at dksX8_copy_9 0 rfl rfl)
theorem dX8_copy_212 : decode cX8_copy 212 = .ok (.aaload, 1) := dk_50 (dk_at dksX8_copy_9 2 rfl rfl)
theorem dX8_copy_213 : decode cX8_copy 213 = .ok (.iconst 0, 1) := dk_3 (dk_at dksX8_copy_9 3 rfl rfl)
theorem dX8_copy_214 : decode cX8_copy 214 = .ok (.aload_n 3, 1) := dk_45 (dk_at dksX8_copy_9 4 rfl rfl)
theorem dX8_copy_215 : decode cX8_copy 215 = .ok (.iload 4, 2) := dk_21 4 (dk_at dksX8_copy_9 5 rfl rfl)
theorem dX8_copy_217 : decode cX8_copy 217 = .ok (.aaload, 1) := dk_50 (dk_at dksX8_copy_9 7 rfl rfl)
theorem dX8_copy_218 : decode cX8_copy 218 = .ok (.iconst 0, 1) := dk_3 (dk_at dksX8_copy_9 8 rfl rfl)
theorem dX8_copy_219 : decode cX8_copy 219 = .ok (.bipush 6, 2) := dk_16 6 (dk_at dksX8_copy_9 9 rfl rfl)
theorem dX8_copy_221 : decode cX8_copy 221 = .ok (.invokestatic 85, 3) := dk_184 0 85 (dk_at dksX8_copy_9 11 rfl rfl)
theorem dX8_copy_224 : decode cX8_copy 224 = .ok (.iinc 4 1, 3) := dk_132 4 1 (dk_at dksX8_copy_9 14 rfl rfl)
theorem dX8_copy_227 : decode cX8_copy 227 = .ok (.goto (-25), 3) := dk_167 255 231 (dk_at dksX8_copy_9 17 rfl rfl)
theorem dX8_copy_230 : decode cX8_copy 230 = .ok (.aload_n 0, 1) := dk_42 (dk_at dksX8_copy_9 20 rfl rfl)
theorem dX8_copy_231 : decode cX8_copy 231 = .ok (.getfield 35, 3) := dk_180 0 35 (dk_at dksX8_copy_9 21 rfl rfl)
theorem dX8_copy_234 : decode cX8_copy 234 = .ok (.iconst 0, 1) := dk_3 (dk_at dksX8_copy_10 0 rfl rfl)
theorem dX8_copy_235 : decode cX8_copy 235 = .ok (.aload_n 1, 1) := dk_43 (dk_at dksX8_copy_10 1 rfl rfl)
theorem dX8_copy_236 : decode cX8_copy 236 = .ok (.getfield 35, 3) := dk_180 0 35 (dk_at dksX8_copy_10 2 rfl rfl)
theorem dX8_copy_239 : decode cX8_copy 239 = .ok (.iconst 0, 1) := dk_3 (dk_at dksX8_copy_10 5 rfl rfl)
theorem dX8_copy_240 : decode cX8_copy 240 = .ok (.iconst 5, 1) := dk_8 (dk_at dksX8_copy_10 6 rfl rfl)
theorem dX8_copy_241 : decode cX8_copy 241 = .ok (.invokestatic 85, 3) := dk_184 0 85 (dk_at dksX8_copy_10 7 rfl rfl)
theorem dX8_copy_244 : decode cX8_copy 244 = .ok (.aload_n 1, 1) := dk_43 (dk_at dksX8_copy_10 10 rfl rfl)
theorem dX8_copy_245 : decode cX8_copy 245 = .ok (.aload_n 0, 1) := dk_42 (dk_at dksX8_copy_10 11 rfl rfl)
theorem dX8_copy_246 : decode cX8_copy 246 = .ok (.getfield 91, 3) := dk_180 0 91 (dk_at dksX8_copy_10 12 rfl rfl)
theorem dX8_copy_249 : decode cX8_copy 249 = .ok (.putfield 91, 3) := dk_181 0 91 (dk_at dksX8_copy_10 15 rfl rfl)
theorem dX8_copy_252 : decode cX8_copy 252 = .ok (.aload_n 1, 1) := dk_43 (dk_at dksX8_copy_10 18 rfl rfl)
theorem dX8_copy_253 : decode cX8_copy 253 = .ok (.aload_n 0, 1) := dk_42 (dk_at dksX8_copy_10 19 rfl rfl)
theorem dX8_copy_254 : decode cX8_copy 254 = .ok (.getfield 95, 3) := dk_180 0 95 (dk_at dksX8_copy_10 20 rfl rfl)
theorem dX8_copy_257 : decode cX8_copy 257 = .ok (.putfield 95, 3) := dk_181 0 95 (dk_at dksX8_copy_11 0 rfl rfl)
theorem dX8_copy_260 : decode cX8_copy 260 = .ok (.aload_n 1, 1) := dk_43 (dk_at dksX8_copy_11 3 rfl rfl)
theorem dX8_copy_261 : decode cX8_copy 261 = .ok (.aload_n 0, 1) := dk_42 (dk_at dksX8_copy_11 4 rfl rfl)
theorem dX8_copy_262 : decode cX8_copy 262 = .ok (.getfield 98, 3) := dk_180 0 98 (dk_at dksX8_copy_11 5 rfl rfl)
theorem dX8_copy_265 : decode cX8_copy 265 = .ok (.putfield 98, 3) := dk_181 0 98 (dk_at dksX8_copy_11 8 rfl rfl)
theorem dX8_copy_268 : decode cX8_copy 268 = .ok (.aload_n 1, 1) := dk_43 (dk_at dksX8_copy_11 11 rfl rfl)
theorem dX8_copy_269 : decode cX8_copy 269 = .ok (.aload_n 0, 1) := dk_42 (dk_at dksX8_copy_11 12 rfl rfl)
theorem dX8_copy_270 : decode cX8_copy 270 = .ok (.getfield 101, 3) := dk_180 0 101 (dk_at dksX8_copy_11 13 rfl rfl)
theorem dX8_copy_273 : decode cX8_copy 273 = .ok (.putfield 101, 3) := dk_181 0 101 (dk_at dksX8_copy_11 16 rfl rfl)
theorem dX8_copy_276 : decode cX8_copy 276 = .ok (.aload_n 1, 1) := dk_43 (dk_at dksX8_copy_11 19 rfl rfl)
theorem dX8_copy_277 : decode cX8_copy 277 = .ok (.aload_n 0, 1) := dk_42 (dk_at dksX8_copy_11 20 rfl rfl)
theorem dX8_copy_278 : decode cX8_copy 278 = .ok (.getfield 104, 3) := dk_180 0 104 (dk_at dksX8_copy_11 21 rfl rfl)
theorem dX8_copy_281 : decode cX8_copy 281 = .ok (.putfield 104, 3) := dk_181 0 104 (dk_at dksX8_copy_12 0 rfl rfl)
theorem dX8_copy_284 : decode cX8_copy 284 = .ok (.aload_n 1, 1) := dk_43 (dk_at dksX8_copy_12 3 rfl rfl)
theorem dX8_copy_285 : decode cX8_copy 285 = .ok (.aload_n 0, 1) := dk_42 (dk_at dksX8_copy_12 4 rfl rfl)
theorem dX8_copy_286 : decode cX8_copy 286 = .ok (.getfield 107, 3) := dk_180 0 107 (dk_at dksX8_copy_12 5 rfl rfl)
theorem dX8_copy_289 : decode cX8_copy 289 = .ok (.putfield 107, 3) := dk_181 0 107 (dk_at dksX8_copy_12 8 rfl rfl)
theorem dX8_copy_292 : decode cX8_copy 292 = .ok (.aload_n 1, 1) := dk_43 (dk_at dksX8_copy_12 11 rfl rfl)
theorem dX8_copy_293 : decode cX8_copy 293 = .ok (.aload_n 0, 1) := dk_42 (dk_at dksX8_copy_12 12 rfl rfl)
theorem dX8_copy_294 : decode cX8_copy 294 = .ok (.getfield 110, 3) := dk_180 0 110 (dk_at dksX8_copy_12 13 rfl rfl)
theorem dX8_copy_297 : decode cX8_copy 297 = .ok (.putfield 110, 3) := dk_181 0 110 (dk_at dksX8_copy_12 16 rfl rfl)
theorem dX8_copy_300 : decode cX8_copy 300 = .ok (.aload_n 1, 1) := dk_43 (dk_at dksX8_copy_12 19 rfl rfl)
theorem dX8_copy_301 : decode cX8_copy 301 = .ok (.aload_n 0, 1) := dk_42 (dk_at dksX8_copy_12 20 rfl rfl)
theorem dX8_copy_302 : decode cX8_copy 302 = .ok (.getfield 113, 3) := dk_180 0 113 (dk_at dksX8_copy_12 21 rfl rfl)
theorem dX8_copy_305 : decode cX8_copy 305 = .ok (.putfield 113, 3) := dk_181 0 113 (dk_at dksX8_copy_13 0 rfl rfl)
theorem dX8_copy_308 : decode cX8_copy 308 = .ok (.aload_n 1, 1) := dk_43 (dk_at dksX8_copy_13 3 rfl rfl)
theorem dX8_copy_309 : decode cX8_copy 309 = .ok (.aload_n 0, 1) := dk_42 (dk_at dksX8_copy_13 4 rfl rfl)
theorem dX8_copy_310 : decode cX8_copy 310 = .ok (.getfield 116, 3) := dk_180 0 116 (dk_at dksX8_copy_13 5 rfl rfl)
theorem dX8_copy_313 : decode cX8_copy 313 = .ok (.putfield 116, 3) := dk_181 0 116 (dk_at dksX8_copy_13 8 rfl rfl)
theorem dX8_copy_316 : decode cX8_copy 316 = .ok (.aload_n 1, 1) := dk_43 (dk_at dksX8_copy_13 11 rfl rfl)
theorem dX8_copy_317 : decode cX8_copy 317 = .ok (.aload_n 0, 1) := dk_42 (dk_at dksX8_copy_13 12 rfl rfl)
theorem dX8_copy_318 : decode cX8_copy 318 = .ok (.getfield 119, 3) := dk_180 0 119 (dk_at dksX8_copy_13 13 rfl rfl)
theorem dX8_copy_321 : decode cX8_copy 321 = .ok (.putfield 119, 3) := dk_181 0 119 (dk_at dksX8_copy_13 16 rfl rfl)
theorem dX8_copy_324 : decode cX8_copy 324 = .ok (.aload_n 1, 1) := dk_43 (dk_at dksX8_copy_13 19 rfl rfl)
theorem dX8_copy_325 : decode cX8_copy 325 = .ok (.aload_n 0, 1) := dk_42 (dk_at dksX8_copy_13 20 rfl rfl)
theorem dX8_copy_326 : decode cX8_copy 326 = .ok (.getfield 122, 3) := dk_180 0 122 (dk_at dksX8_copy_13 21 rfl rfl)
theorem dX8_copy_329 : decode cX8_copy 329 = .ok (.putfield 122, 3) := dk_181 0 122 (dk_at dksX8_copy_14 0 rfl rfl)
theorem dX8_copy_332 : decode cX8_copy 332 = .ok (.aload_n 1, 1) := dk_43 (dk_at dksX8_copy_14 3 rfl rfl)
theorem dX8_copy_333 : decode cX8_copy 333 = .ok (.new 9, 3) := dk_187 0 9 (dk_at dksX8_copy_14 4 rfl rfl)
theorem dX8_copy_336 : decode cX8_copy 336 = .ok (.dup, 1) := dk_89 (dk_at dksX8_copy_14 7 rfl rfl)
theorem dX8_copy_337 : decode cX8_copy 337 = .ok (.aload_n 0, 1) := dk_42 (dk_at dksX8_copy_14 8 rfl rfl)
theorem dX8_copy_338 : decode cX8_copy 338 = .ok (.getfield 41, 3) := dk_180 0 41 (dk_at dksX8_copy_14 9 rfl rfl)
theorem dX8_copy_341 : decode cX8_copy 341 = .ok (.invokespecial 51, 3) := dk_183 0 51 (dk_at dksX8_copy_14 12 rfl rfl)
theorem dX8_copy_344 : decode cX8_copy 344 = .ok (.putfield 41, 3) := dk_181 0 41 (dk_at dksX8_copy_14 15 rfl rfl)
theorem dX8_copy_347 : decode cX8_copy 347 = .ok (.aload_n 1, 1) := dk_43 (dk_at dksX8_copy_14 18 rfl rfl)
theorem dX8_copy_348 : decode cX8_copy 348 = .ok (.new 9, 3) := dk_187 0 9 (dk_at dksX8_copy_14 19 rfl rfl)
theorem dX8_copy_351 : decode cX8_copy 351 = .ok (.dup, 1) := dk_89 (dk_at dksX8_copy_14 22 rfl rfl)
theorem dX8_copy_352 : decode cX8_copy 352 = .ok (.aload_n 0, 1) := dk_42 (dk_at dksX8_copy_14 23 rfl rfl)
theorem dX8_copy_353 : decode cX8_copy 353 = .ok (.getfield 44, 3) := dk_180 0 44 (dk_at dksX8_copy_15 0 rfl rfl)
theorem dX8_copy_356 : decode cX8_copy 356 = .ok (.invokespecial 51, 3) := dk_183 0 51 (dk_at dksX8_copy_15 3 rfl rfl)
theorem dX8_copy_359 : decode cX8_copy 359 = .ok (.putfield 44, 3) := dk_181 0 44 (dk_at dksX8_copy_15 6 rfl rfl)
theorem dX8_copy_362 : decode cX8_copy 362 = .ok (.aload_n 1, 1) := dk_43 (dk_at dksX8_copy_15 9 rfl rfl)
theorem dX8_copy_363 : decode cX8_copy 363 = .ok (.areturn, 1) := dk_176 (dk_at dksX8_copy_15 10 rfl rfl)
theorem q75 : (Jvm.Cond.initialized "HyperVaneModel$Guest") ∈ lw_all := lw_g (lw_at lw_m1 22 rfl) rfl
theorem q267 : (Jvm.Cond.selects "HyperVaneModel$Guest" ({ cls := "java/lang/Object", name := "getClass", desc := "()Ljava/lang/Class;" } : Jvm.MethodName) ({ cls := "java/lang/Object", name := "getClass", desc := "()Ljava/lang/Class;" } : Jvm.MethodName)) ∈ lw_all := lw_g (lw_at lw_m1 214 rfl) rfl
theorem q419 : (Jvm.Cond.selects "HyperVaneModel$Guest" ({ cls := "java/lang/Object", name := "equals", desc := "(Ljava/lang/Object;)Z" } : Jvm.MethodName) ({ cls := "java/lang/Object", name := "equals", desc := "(Ljava/lang/Object;)Z" } : Jvm.MethodName)) ∈ lw_all := lw_g (lw_at lw_m2 126 rfl) rfl
theorem q1253 : (Jvm.Cond.instantiable "HyperVaneModel$Guest" (32 : Nat)) ∈ lw_all := lw_g (lw_at lw_m6 0 rfl) rfl
theorem q1255 : (Jvm.Cond.instanceMethod ({ cls := "HyperVaneModel$Guest", name := "<init>", desc := "()V" } : Jvm.MethodName)) ∈ lw_all := lw_g (lw_at lw_m6 2 rfl) rfl
theorem q1256 : (Jvm.Cond.code ({ cls := "HyperVaneModel$Guest", name := "<init>", desc := "()V" } : Jvm.MethodName) prog_10_method_1_code (1 : Nat) (Option.none : Option Jvm.ClassFile.FieldType)) ∈ lw_all := lw_g (lw_at lw_m6 3 rfl) rfl
theorem q1257 : (Jvm.Cond.methodLink "HyperVaneModel$Guest" (3 : Nat) ({ cls := "java/lang/Object", name := "<init>", desc := "()V" } : Jvm.MethodName)) ∈ lw_all := lw_g (lw_at lw_m6 4 rfl) rfl
theorem q1258 : (Jvm.Cond.classLink "HyperVaneModel$Guest" (9 : Nat) "java/util/ArrayList") ∈ lw_all := lw_g (lw_at lw_m6 5 rfl) rfl
theorem q1259 : (Jvm.Cond.methodLink "HyperVaneModel$Guest" (11 : Nat) ({ cls := "java/util/ArrayList", name := "<init>", desc := "()V" } : Jvm.MethodName)) ∈ lw_all := lw_g (lw_at lw_m6 6 rfl) rfl
theorem q1260 : (Jvm.Cond.fieldLink "HyperVaneModel$Guest" (48 : Nat) "HyperVaneModel$Guest" "weight" "I") ∈ lw_all := lw_g (lw_at lw_m6 7 rfl) rfl
theorem q1263 : (Jvm.Cond.fieldLink "HyperVaneModel$Guest" (12 : Nat) "HyperVaneModel$Guest" "tape" "Ljava/util/ArrayList;") ∈ lw_all := lw_g (lw_at lw_m6 10 rfl) rfl
theorem q1266 : (Jvm.Cond.fieldLink "HyperVaneModel$Guest" (54 : Nat) "HyperVaneModel$Guest" "place" "I") ∈ lw_all := lw_g (lw_at lw_m6 13 rfl) rfl
theorem q1269 : (Jvm.Cond.fieldLink "HyperVaneModel$Guest" (57 : Nat) "HyperVaneModel$Guest" "mark" "I") ∈ lw_all := lw_g (lw_at lw_m6 16 rfl) rfl
theorem q1272 : (Jvm.Cond.fieldLink "HyperVaneModel$Guest" (60 : Nat) "HyperVaneModel$Guest" "time" "I") ∈ lw_all := lw_g (lw_at lw_m6 19 rfl) rfl
theorem q1275 : (Jvm.Cond.fieldLink "HyperVaneModel$Guest" (63 : Nat) "HyperVaneModel$Guest" "pending" "I") ∈ lw_all := lw_g (lw_at lw_m6 22 rfl) rfl
theorem q1278 : (Jvm.Cond.fieldLink "HyperVaneModel$Guest" (18 : Nat) "HyperVaneModel$Guest" "state" "I") ∈ lw_all := lw_g (lw_at lw_m6 25 rfl) rfl
theorem q1281 : (Jvm.Cond.fieldLink "HyperVaneModel$Guest" (66 : Nat) "HyperVaneModel$Guest" "ahead" "I") ∈ lw_all := lw_g (lw_at lw_m6 28 rfl) rfl
theorem q1284 : (Jvm.Cond.fieldLink "HyperVaneModel$Guest" (69 : Nat) "HyperVaneModel$Guest" "stuckTill" "I") ∈ lw_all := lw_g (lw_at lw_m6 31 rfl) rfl
theorem q1287 : (Jvm.Cond.fieldLink "HyperVaneModel$Guest" (72 : Nat) "HyperVaneModel$Guest" "credits" "I") ∈ lw_all := lw_g (lw_at lw_m6 34 rfl) rfl
theorem q1290 : (Jvm.Cond.fieldLink "HyperVaneModel$Guest" (75 : Nat) "HyperVaneModel$Guest" "done" "I") ∈ lw_all := lw_g (lw_at lw_m6 37 rfl) rfl
theorem q1293 : (Jvm.Cond.fieldLink "HyperVaneModel$Guest" (78 : Nat) "HyperVaneModel$Guest" "stolen" "I") ∈ lw_all := lw_g (lw_at lw_m6 40 rfl) rfl
theorem q1296 : (Jvm.Cond.fieldLink "HyperVaneModel$Guest" (81 : Nat) "HyperVaneModel$Guest" "queue" "I") ∈ lw_all := lw_g (lw_at lw_m6 43 rfl) rfl
theorem q1299 : (Jvm.Cond.fieldLink "HyperVaneModel$Guest" (22 : Nat) "HyperVaneModel$Guest" "values" "[I") ∈ lw_all := lw_g (lw_at lw_m6 46 rfl) rfl
theorem q1302 : (Jvm.Cond.fieldLink "HyperVaneModel$Guest" (26 : Nat) "HyperVaneModel$Guest" "where" "[I") ∈ lw_all := lw_g (lw_at lw_m6 49 rfl) rfl
theorem q1305 : (Jvm.Cond.fieldLink "HyperVaneModel$Guest" (29 : Nat) "HyperVaneModel$Guest" "frames" "[I") ∈ lw_all := lw_g (lw_at lw_m6 52 rfl) rfl
theorem q1308 : (Jvm.Cond.fieldLink "HyperVaneModel$Guest" (32 : Nat) "HyperVaneModel$Guest" "used" "[I") ∈ lw_all := lw_g (lw_at lw_m6 55 rfl) rfl
theorem q1311 : (Jvm.Cond.fieldLink "HyperVaneModel$Guest" (35 : Nat) "HyperVaneModel$Guest" "exits" "[I") ∈ lw_all := lw_g (lw_at lw_m6 58 rfl) rfl
theorem q1314 : (Jvm.Cond.fieldLink "HyperVaneModel$Guest" (91 : Nat) "HyperVaneModel$Guest" "isMoved" "Z") ∈ lw_all := lw_g (lw_at lw_m6 61 rfl) rfl
theorem q1317 : (Jvm.Cond.fieldLink "HyperVaneModel$Guest" (95 : Nat) "HyperVaneModel$Guest" "isOver" "Z") ∈ lw_all := lw_g (lw_at lw_m6 64 rfl) rfl
theorem q1319 : (Jvm.Cond.fieldLink "HyperVaneModel$Guest" (98 : Nat) "HyperVaneModel$Guest" "isHeld" "Z") ∈ lw_all := lw_g (lw_at lw_m6 66 rfl) rfl
theorem q1322 : (Jvm.Cond.fieldLink "HyperVaneModel$Guest" (101 : Nat) "HyperVaneModel$Guest" "speed" "I") ∈ lw_all := lw_g (lw_at lw_m6 69 rfl) rfl
theorem q1324 : (Jvm.Cond.fieldLink "HyperVaneModel$Guest" (104 : Nat) "HyperVaneModel$Guest" "left" "I") ∈ lw_all := lw_g (lw_at lw_m6 71 rfl) rfl
theorem q1327 : (Jvm.Cond.fieldLink "HyperVaneModel$Guest" (107 : Nat) "HyperVaneModel$Guest" "begun" "I") ∈ lw_all := lw_g (lw_at lw_m6 74 rfl) rfl
theorem q1329 : (Jvm.Cond.fieldLink "HyperVaneModel$Guest" (110 : Nat) "HyperVaneModel$Guest" "down" "I") ∈ lw_all := lw_g (lw_at lw_m6 76 rfl) rfl
theorem q1332 : (Jvm.Cond.fieldLink "HyperVaneModel$Guest" (113 : Nat) "HyperVaneModel$Guest" "isSnapped" "Z") ∈ lw_all := lw_g (lw_at lw_m6 79 rfl) rfl
theorem q1334 : (Jvm.Cond.fieldLink "HyperVaneModel$Guest" (116 : Nat) "HyperVaneModel$Guest" "snapPlace" "I") ∈ lw_all := lw_g (lw_at lw_m6 81 rfl) rfl
theorem q1336 : (Jvm.Cond.fieldLink "HyperVaneModel$Guest" (119 : Nat) "HyperVaneModel$Guest" "snapMark" "I") ∈ lw_all := lw_g (lw_at lw_m6 83 rfl) rfl
theorem q1338 : (Jvm.Cond.fieldLink "HyperVaneModel$Guest" (38 : Nat) "HyperVaneModel$Guest" "snapValues" "[I") ∈ lw_all := lw_g (lw_at lw_m6 85 rfl) rfl
theorem q1340 : (Jvm.Cond.fieldLink "HyperVaneModel$Guest" (122 : Nat) "HyperVaneModel$Guest" "since" "I") ∈ lw_all := lw_g (lw_at lw_m6 87 rfl) rfl
theorem q1342 : (Jvm.Cond.fieldLink "HyperVaneModel$Guest" (41 : Nat) "HyperVaneModel$Guest" "log" "Ljava/util/ArrayList;") ∈ lw_all := lw_g (lw_at lw_m6 89 rfl) rfl
theorem q1344 : (Jvm.Cond.fieldLink "HyperVaneModel$Guest" (44 : Nat) "HyperVaneModel$Guest" "given" "Ljava/util/ArrayList;") ∈ lw_all := lw_g (lw_at lw_m6 91 rfl) rfl
theorem q1346 : (Jvm.Cond.lays "HyperVaneModel$Guest" "HyperVaneModel$Guest" "weight" "I") ∈ lw_all := lw_g (lw_at lw_m6 93 rfl) rfl
theorem q1347 : (Jvm.Cond.soleField "HyperVaneModel$Guest" "weight") ∈ lw_all := lw_g (lw_at lw_m6 94 rfl) rfl
theorem q1348 : (Jvm.Cond.lays "HyperVaneModel$Guest" "HyperVaneModel$Guest" "tape" "Ljava/util/ArrayList;") ∈ lw_all := lw_g (lw_at lw_m6 95 rfl) rfl
theorem q1349 : (Jvm.Cond.soleField "HyperVaneModel$Guest" "tape") ∈ lw_all := lw_g (lw_at lw_m6 96 rfl) rfl
theorem q1350 : (Jvm.Cond.lays "HyperVaneModel$Guest" "HyperVaneModel$Guest" "place" "I") ∈ lw_all := lw_g (lw_at lw_m6 97 rfl) rfl
theorem q1351 : (Jvm.Cond.soleField "HyperVaneModel$Guest" "place") ∈ lw_all := lw_g (lw_at lw_m6 98 rfl) rfl
theorem q1352 : (Jvm.Cond.lays "HyperVaneModel$Guest" "HyperVaneModel$Guest" "mark" "I") ∈ lw_all := lw_g (lw_at lw_m6 99 rfl) rfl
theorem q1353 : (Jvm.Cond.soleField "HyperVaneModel$Guest" "mark") ∈ lw_all := lw_g (lw_at lw_m6 100 rfl) rfl
theorem q1354 : (Jvm.Cond.lays "HyperVaneModel$Guest" "HyperVaneModel$Guest" "time" "I") ∈ lw_all := lw_g (lw_at lw_m6 101 rfl) rfl
theorem q1355 : (Jvm.Cond.soleField "HyperVaneModel$Guest" "time") ∈ lw_all := lw_g (lw_at lw_m6 102 rfl) rfl
theorem q1356 : (Jvm.Cond.lays "HyperVaneModel$Guest" "HyperVaneModel$Guest" "pending" "I") ∈ lw_all := lw_g (lw_at lw_m6 103 rfl) rfl
theorem q1357 : (Jvm.Cond.soleField "HyperVaneModel$Guest" "pending") ∈ lw_all := lw_g (lw_at lw_m6 104 rfl) rfl
theorem q1358 : (Jvm.Cond.lays "HyperVaneModel$Guest" "HyperVaneModel$Guest" "state" "I") ∈ lw_all := lw_g (lw_at lw_m6 105 rfl) rfl
theorem q1359 : (Jvm.Cond.soleField "HyperVaneModel$Guest" "state") ∈ lw_all := lw_g (lw_at lw_m6 106 rfl) rfl
theorem q1360 : (Jvm.Cond.lays "HyperVaneModel$Guest" "HyperVaneModel$Guest" "ahead" "I") ∈ lw_all := lw_g (lw_at lw_m6 107 rfl) rfl
theorem q1361 : (Jvm.Cond.soleField "HyperVaneModel$Guest" "ahead") ∈ lw_all := lw_g (lw_at lw_m6 108 rfl) rfl
theorem q1362 : (Jvm.Cond.lays "HyperVaneModel$Guest" "HyperVaneModel$Guest" "stuckTill" "I") ∈ lw_all := lw_g (lw_at lw_m6 109 rfl) rfl
theorem q1363 : (Jvm.Cond.soleField "HyperVaneModel$Guest" "stuckTill") ∈ lw_all := lw_g (lw_at lw_m6 110 rfl) rfl
theorem q1364 : (Jvm.Cond.lays "HyperVaneModel$Guest" "HyperVaneModel$Guest" "credits" "I") ∈ lw_all := lw_g (lw_at lw_m6 111 rfl) rfl
theorem q1365 : (Jvm.Cond.soleField "HyperVaneModel$Guest" "credits") ∈ lw_all := lw_g (lw_at lw_m6 112 rfl) rfl
theorem q1366 : (Jvm.Cond.lays "HyperVaneModel$Guest" "HyperVaneModel$Guest" "done" "I") ∈ lw_all := lw_g (lw_at lw_m6 113 rfl) rfl
theorem q1367 : (Jvm.Cond.soleField "HyperVaneModel$Guest" "done") ∈ lw_all := lw_g (lw_at lw_m6 114 rfl) rfl
theorem q1368 : (Jvm.Cond.lays "HyperVaneModel$Guest" "HyperVaneModel$Guest" "stolen" "I") ∈ lw_all := lw_g (lw_at lw_m6 115 rfl) rfl
theorem q1369 : (Jvm.Cond.soleField "HyperVaneModel$Guest" "stolen") ∈ lw_all := lw_g (lw_at lw_m6 116 rfl) rfl
theorem q1370 : (Jvm.Cond.lays "HyperVaneModel$Guest" "HyperVaneModel$Guest" "queue" "I") ∈ lw_all := lw_g (lw_at lw_m6 117 rfl) rfl
theorem q1371 : (Jvm.Cond.soleField "HyperVaneModel$Guest" "queue") ∈ lw_all := lw_g (lw_at lw_m6 118 rfl) rfl
theorem q1372 : (Jvm.Cond.laysFinal "HyperVaneModel$Guest" "HyperVaneModel$Guest" "values" "[I") ∈ lw_all := lw_g (lw_at lw_m6 119 rfl) rfl
theorem q1373 : (Jvm.Cond.soleField "HyperVaneModel$Guest" "values") ∈ lw_all := lw_g (lw_at lw_m6 120 rfl) rfl
theorem q1374 : (Jvm.Cond.laysFinal "HyperVaneModel$Guest" "HyperVaneModel$Guest" "where" "[I") ∈ lw_all := lw_g (lw_at lw_m6 121 rfl) rfl
theorem q1375 : (Jvm.Cond.soleField "HyperVaneModel$Guest" "where") ∈ lw_all := lw_g (lw_at lw_m6 122 rfl) rfl
theorem q1376 : (Jvm.Cond.laysFinal "HyperVaneModel$Guest" "HyperVaneModel$Guest" "frames" "[I") ∈ lw_all := lw_g (lw_at lw_m6 123 rfl) rfl
theorem q1377 : (Jvm.Cond.soleField "HyperVaneModel$Guest" "frames") ∈ lw_all := lw_g (lw_at lw_m6 124 rfl) rfl
theorem q1378 : (Jvm.Cond.laysFinal "HyperVaneModel$Guest" "HyperVaneModel$Guest" "used" "[I") ∈ lw_all := lw_g (lw_at lw_m6 125 rfl) rfl
theorem q1379 : (Jvm.Cond.soleField "HyperVaneModel$Guest" "used") ∈ lw_all := lw_g (lw_at lw_m6 126 rfl) rfl
theorem q1380 : (Jvm.Cond.laysFinal "HyperVaneModel$Guest" "HyperVaneModel$Guest" "exits" "[I") ∈ lw_all := lw_g (lw_at lw_m6 127 rfl) rfl
theorem q1381 : (Jvm.Cond.soleField "HyperVaneModel$Guest" "exits") ∈ lw_all := lw_g (lw_at lw_m6 128 rfl) rfl
theorem q1382 : (Jvm.Cond.lays "HyperVaneModel$Guest" "HyperVaneModel$Guest" "isMoved" "Z") ∈ lw_all := lw_g (lw_at lw_m6 129 rfl) rfl
theorem q1383 : (Jvm.Cond.soleField "HyperVaneModel$Guest" "isMoved") ∈ lw_all := lw_g (lw_at lw_m6 130 rfl) rfl
theorem q1384 : (Jvm.Cond.lays "HyperVaneModel$Guest" "HyperVaneModel$Guest" "isOver" "Z") ∈ lw_all := lw_g (lw_at lw_m6 131 rfl) rfl
theorem q1385 : (Jvm.Cond.soleField "HyperVaneModel$Guest" "isOver") ∈ lw_all := lw_g (lw_at lw_m6 132 rfl) rfl
theorem q1386 : (Jvm.Cond.lays "HyperVaneModel$Guest" "HyperVaneModel$Guest" "isHeld" "Z") ∈ lw_all := lw_g (lw_at lw_m6 133 rfl) rfl
theorem q1387 : (Jvm.Cond.soleField "HyperVaneModel$Guest" "isHeld") ∈ lw_all := lw_g (lw_at lw_m6 134 rfl) rfl
theorem q1388 : (Jvm.Cond.lays "HyperVaneModel$Guest" "HyperVaneModel$Guest" "speed" "I") ∈ lw_all := lw_g (lw_at lw_m6 135 rfl) rfl
theorem q1389 : (Jvm.Cond.soleField "HyperVaneModel$Guest" "speed") ∈ lw_all := lw_g (lw_at lw_m6 136 rfl) rfl
theorem q1390 : (Jvm.Cond.lays "HyperVaneModel$Guest" "HyperVaneModel$Guest" "left" "I") ∈ lw_all := lw_g (lw_at lw_m6 137 rfl) rfl
theorem q1391 : (Jvm.Cond.soleField "HyperVaneModel$Guest" "left") ∈ lw_all := lw_g (lw_at lw_m6 138 rfl) rfl
theorem q1392 : (Jvm.Cond.lays "HyperVaneModel$Guest" "HyperVaneModel$Guest" "begun" "I") ∈ lw_all := lw_g (lw_at lw_m6 139 rfl) rfl
theorem q1393 : (Jvm.Cond.soleField "HyperVaneModel$Guest" "begun") ∈ lw_all := lw_g (lw_at lw_m6 140 rfl) rfl
theorem q1394 : (Jvm.Cond.lays "HyperVaneModel$Guest" "HyperVaneModel$Guest" "down" "I") ∈ lw_all := lw_g (lw_at lw_m6 141 rfl) rfl
theorem q1395 : (Jvm.Cond.soleField "HyperVaneModel$Guest" "down") ∈ lw_all := lw_g (lw_at lw_m6 142 rfl) rfl
theorem q1396 : (Jvm.Cond.lays "HyperVaneModel$Guest" "HyperVaneModel$Guest" "isSnapped" "Z") ∈ lw_all := lw_g (lw_at lw_m6 143 rfl) rfl
theorem q1397 : (Jvm.Cond.soleField "HyperVaneModel$Guest" "isSnapped") ∈ lw_all := lw_g (lw_at lw_m6 144 rfl) rfl
theorem q1398 : (Jvm.Cond.lays "HyperVaneModel$Guest" "HyperVaneModel$Guest" "snapPlace" "I") ∈ lw_all := lw_g (lw_at lw_m6 145 rfl) rfl
theorem q1399 : (Jvm.Cond.soleField "HyperVaneModel$Guest" "snapPlace") ∈ lw_all := lw_g (lw_at lw_m6 146 rfl) rfl
theorem q1400 : (Jvm.Cond.lays "HyperVaneModel$Guest" "HyperVaneModel$Guest" "snapMark" "I") ∈ lw_all := lw_g (lw_at lw_m6 147 rfl) rfl
theorem q1401 : (Jvm.Cond.soleField "HyperVaneModel$Guest" "snapMark") ∈ lw_all := lw_g (lw_at lw_m6 148 rfl) rfl
theorem q1402 : (Jvm.Cond.laysFinal "HyperVaneModel$Guest" "HyperVaneModel$Guest" "snapValues" "[I") ∈ lw_all := lw_g (lw_at lw_m6 149 rfl) rfl
theorem q1403 : (Jvm.Cond.soleField "HyperVaneModel$Guest" "snapValues") ∈ lw_all := lw_g (lw_at lw_m6 150 rfl) rfl
theorem q1404 : (Jvm.Cond.lays "HyperVaneModel$Guest" "HyperVaneModel$Guest" "since" "I") ∈ lw_all := lw_g (lw_at lw_m6 151 rfl) rfl
theorem q1405 : (Jvm.Cond.soleField "HyperVaneModel$Guest" "since") ∈ lw_all := lw_g (lw_at lw_m6 152 rfl) rfl
theorem q1406 : (Jvm.Cond.lays "HyperVaneModel$Guest" "HyperVaneModel$Guest" "log" "Ljava/util/ArrayList;") ∈ lw_all := lw_g (lw_at lw_m6 153 rfl) rfl
theorem q1407 : (Jvm.Cond.soleField "HyperVaneModel$Guest" "log") ∈ lw_all := lw_g (lw_at lw_m6 154 rfl) rfl
theorem q1408 : (Jvm.Cond.lays "HyperVaneModel$Guest" "HyperVaneModel$Guest" "given" "Ljava/util/ArrayList;") ∈ lw_all := lw_g (lw_at lw_m6 155 rfl) rfl
theorem q1409 : (Jvm.Cond.soleField "HyperVaneModel$Guest" "given") ∈ lw_all := lw_g (lw_at lw_m6 156 rfl) rfl
theorem q1410 : (Jvm.Cond.superclass "HyperVaneModel$Guest" "java/lang/Object") ∈ lw_all := lw_g (lw_at lw_m6 157 rfl) rfl
theorem q1460 : (Jvm.Cond.instanceMethod ({ cls := "HyperVaneModel$Guest", name := "many", desc := "(I)I" } : Jvm.MethodName)) ∈ lw_all := lw_g (lw_at lw_m6 207 rfl) rfl
theorem q1461 : (Jvm.Cond.selects "HyperVaneModel$Guest" ({ cls := "HyperVaneModel$Guest", name := "many", desc := "(I)I" } : Jvm.MethodName) ({ cls := "HyperVaneModel$Guest", name := "many", desc := "(I)I" } : Jvm.MethodName)) ∈ lw_all := lw_g (lw_at lw_m6 208 rfl) rfl
theorem q1462 : (Jvm.Cond.code ({ cls := "HyperVaneModel$Guest", name := "many", desc := "(I)I" } : Jvm.MethodName) prog_10_method_3_code (4 : Nat) (Option.some Jvm.ClassFile.FieldType.int)) ∈ lw_all := lw_g (lw_at lw_m6 209 rfl) rfl
theorem q1537 : (Jvm.Cond.instanceMethod ({ cls := "HyperVaneModel$Guest", name := "isDone", desc := "()V" } : Jvm.MethodName)) ∈ lw_all := lw_g (lw_at lw_m7 44 rfl) rfl
theorem q1538 : (Jvm.Cond.selects "HyperVaneModel$Guest" ({ cls := "HyperVaneModel$Guest", name := "isDone", desc := "()V" } : Jvm.MethodName) ({ cls := "HyperVaneModel$Guest", name := "isDone", desc := "()V" } : Jvm.MethodName)) ∈ lw_all := lw_g (lw_at lw_m7 45 rfl) rfl
theorem q1539 : (Jvm.Cond.code ({ cls := "HyperVaneModel$Guest", name := "isDone", desc := "()V" } : Jvm.MethodName) prog_10_method_5_code (1 : Nat) (Option.none : Option Jvm.ClassFile.FieldType)) ∈ lw_all := lw_g (lw_at lw_m7 46 rfl) rfl
theorem q1540 : (Jvm.Cond.methodLink "HyperVaneModel$Guest" (125 : Nat) ({ cls := "java/util/ArrayList", name := "size", desc := "()I" } : Jvm.MethodName)) ∈ lw_all := lw_g (lw_at lw_m7 47 rfl) rfl
theorem q1546 : (Jvm.Cond.privateMethod ({ cls := "HyperVaneModel$Guest", name := "log", desc := "(I)V" } : Jvm.MethodName)) ∈ lw_tbl := lw_at lw_m7 53 rfl
theorem q1547 : (Jvm.Cond.instanceMethod ({ cls := "HyperVaneModel$Guest", name := "log", desc := "(I)V" } : Jvm.MethodName)) ∈ lw_all := lw_g (lw_at lw_m7 54 rfl) rfl
theorem q1548 : (Jvm.Cond.code ({ cls := "HyperVaneModel$Guest", name := "log", desc := "(I)V" } : Jvm.MethodName) prog_10_method_4_code (2 : Nat) (Option.none : Option Jvm.ClassFile.FieldType)) ∈ lw_all := lw_g (lw_at lw_m7 55 rfl) rfl
theorem q1549 : (Jvm.Cond.methodLink "HyperVaneModel$Guest" (129 : Nat) ({ cls := "java/lang/Integer", name := "valueOf", desc := "(I)Ljava/lang/Integer;" } : Jvm.MethodName)) ∈ lw_all := lw_g (lw_at lw_m7 56 rfl) rfl
theorem q1550 : (Jvm.Cond.methodLink "HyperVaneModel$Guest" (135 : Nat) ({ cls := "java/util/ArrayList", name := "add", desc := "(Ljava/lang/Object;)Z" } : Jvm.MethodName)) ∈ lw_all := lw_g (lw_at lw_m7 57 rfl) rfl
theorem q1625 : (Jvm.Cond.instanceMethod ({ cls := "HyperVaneModel$Guest", name := "replay", desc := "(II)I" } : Jvm.MethodName)) ∈ lw_all := lw_g (lw_at lw_m7 132 rfl) rfl
theorem q1626 : (Jvm.Cond.selects "HyperVaneModel$Guest" ({ cls := "HyperVaneModel$Guest", name := "replay", desc := "(II)I" } : Jvm.MethodName) ({ cls := "HyperVaneModel$Guest", name := "replay", desc := "(II)I" } : Jvm.MethodName)) ∈ lw_all := lw_g (lw_at lw_m7 133 rfl) rfl
theorem q1627 : (Jvm.Cond.code ({ cls := "HyperVaneModel$Guest", name := "replay", desc := "(II)I" } : Jvm.MethodName) prog_10_method_6_code (10 : Nat) (Option.some Jvm.ClassFile.FieldType.int)) ∈ lw_all := lw_g (lw_at lw_m7 134 rfl) rfl
theorem q1628 : (Jvm.Cond.methodLink "HyperVaneModel$Guest" (139 : Nat) ({ cls := "[I", name := "clone", desc := "()Ljava/lang/Object;" } : Jvm.MethodName)) ∈ lw_all := lw_g (lw_at lw_m7 135 rfl) rfl
theorem q1632 : (Jvm.Cond.classLink "HyperVaneModel$Guest" (84 : Nat) "[I") ∈ lw_all := lw_g (lw_at lw_m7 139 rfl) rfl
theorem q1633 : (Jvm.Cond.methodLink "HyperVaneModel$Guest" (143 : Nat) ({ cls := "java/util/ArrayList", name := "get", desc := "(I)Ljava/lang/Object;" } : Jvm.MethodName)) ∈ lw_all := lw_g (lw_at lw_m7 140 rfl) rfl
theorem q1634 : (Jvm.Cond.classLink "HyperVaneModel$Guest" (130 : Nat) "java/lang/Integer") ∈ lw_all := lw_g (lw_at lw_m7 141 rfl) rfl
theorem q1635 : (Jvm.Cond.methodLink "HyperVaneModel$Guest" (147 : Nat) ({ cls := "java/lang/Integer", name := "intValue", desc := "()I" } : Jvm.MethodName)) ∈ lw_all := lw_g (lw_at lw_m7 142 rfl) rfl
theorem q1651 : (Jvm.Cond.instanceMethod ({ cls := "HyperVaneModel$Guest", name := "copy", desc := "()LHyperVaneModel$Guest;" } : Jvm.MethodName)) ∈ lw_all := lw_g (lw_at lw_m7 158 rfl) rfl
theorem q1652 : (Jvm.Cond.selects "HyperVaneModel$Guest" ({ cls := "HyperVaneModel$Guest", name := "copy", desc := "()LHyperVaneModel$Guest;" } : Jvm.MethodName) ({ cls := "HyperVaneModel$Guest", name := "copy", desc := "()LHyperVaneModel$Guest;" } : Jvm.MethodName)) ∈ lw_all := lw_g (lw_at lw_m7 159 rfl) rfl
theorem q1653 : (Jvm.Cond.code ({ cls := "HyperVaneModel$Guest", name := "copy", desc := "()LHyperVaneModel$Guest;" } : Jvm.MethodName) prog_10_method_2_code (5 : Nat) (Option.some (Jvm.ClassFile.FieldType.object "HyperVaneModel$Guest"))) ∈ lw_all := lw_g (lw_at lw_m7 160 rfl) rfl
theorem q1654 : (Jvm.Cond.classLink "HyperVaneModel$Guest" (13 : Nat) "HyperVaneModel$Guest") ∈ lw_all := lw_g (lw_at lw_m7 161 rfl) rfl
theorem q1655 : (Jvm.Cond.methodLink "HyperVaneModel$Guest" (47 : Nat) ({ cls := "HyperVaneModel$Guest", name := "<init>", desc := "()V" } : Jvm.MethodName)) ∈ lw_all := lw_g (lw_at lw_m7 162 rfl) rfl
theorem q1656 : (Jvm.Cond.methodLink "HyperVaneModel$Guest" (51 : Nat) ({ cls := "java/util/ArrayList", name := "<init>", desc := "(Ljava/util/Collection;)V" } : Jvm.MethodName)) ∈ lw_all := lw_g (lw_at lw_m7 163 rfl) rfl
theorem q1671 : (Jvm.Cond.methodLink "HyperVaneModel$Guest" (85 : Nat) ({ cls := "java/lang/System", name := "arraycopy", desc := "(Ljava/lang/Object;ILjava/lang/Object;II)V" } : Jvm.MethodName)) ∈ lw_all := lw_g (lw_at lw_m7 178 rfl) rfl
theorem q1710 : (Jvm.Cond.castable "HyperVaneModel$Guest" "java/lang/Object") ∈ lw_tbl := lw_at lw_m7 217 rfl
theorem in_X8 : ∀ w ∈ wsX80, w ∈ lw_all := lw_in wsX80 [1346, 1348, 1350, 1352, 1354, 1356, 1358, 1360, 1362, 1364, 1366, 1368, 1370, 1372, 1374, 1376, 1378, 1380, 1382, 1384, 1386, 1388, 1390, 1392, 1394, 1396, 1398, 1400, 1402, 1404, 1406, 1408] (by decide +kernel) (by decide +kernel)

