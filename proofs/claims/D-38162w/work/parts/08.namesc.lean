/-! HyperVaneModel -/
set_option maxRecDepth 100000
def RX4 : String := "HyperVaneModel"
def TX4 : u_T := fun k => match k with
  | 0 => ("HyperVaneModel", "thrown", "I", false)
  | 1 => ("HyperVaneModel", "world", "LHyperVaneModel$World;", false)
  | _ => ("HyperVaneModel", "sum", "J", false)
def tyX4 : Nat → FieldType := fun k => match k with
  | 0 => .int
  | 1 => .object "HyperVaneModel$World"
  | _ => .long
abbrev wsX40 : List Cond := u_ws RX4 TX4 3
theorem nmX4 : ∀ a, a < 3 → ∀ b, b < 3 → a ≠ b → (TX4 a).2.1 ≠ (TX4 b).2.1 := by decide +kernel
theorem tyX4_ok : ∀ k, k < 3 → parseFieldDescriptor (TX4 k).2.2.1 = some (tyX4 k) := by decide +kernel
abbrev cX4_init : ByteArray := prog_9_method_1_code
def yX4_init : MethodName := ⟨RX4, "<init>", "()V"⟩
def dkwX4_init_0 : List UInt8 := [42, 183, 0, 1, 42, 187, 0, 7, 89, 183, 0, 9, 181, 0, 10, 177]
abbrev dktX4_init_0 : List UInt8 := dkwX4_init_0 ++ []
theorem dksX4_init_0 : cX4_init.data.toList.drop 0 = dktX4_init_0 := by decide +kernel
theorem dX4_init_0 : decode cX4_init 0 = .ok (.aload_n 0, 1) := dk_42 (dk_at dksX4_init_0 0 rfl rfl)
theorem dX4_init_1 : decode cX4_init 1 = .ok (.invokespecial 1, 3) := dk_183 0 1 (dk_at dksX4_init_0 1 rfl rfl)
theorem dX4_init_4 : decode cX4_init 4 = .ok (.aload_n 0, 1) := dk_42 (dk_at dksX4_init_0 4 rfl rfl)
theorem dX4_init_5 : decode cX4_init 5 = .ok (.new 7, 3) := dk_187 0 7 (dk_at dksX4_init_0 5 rfl rfl)
theorem dX4_init_8 : decode cX4_init 8 = .ok (.dup, 1) := dk_89 (dk_at dksX4_init_0 8 rfl rfl)
theorem dX4_init_9 : decode cX4_init 9 = .ok (.invokespecial 9, 3) := dk_183 0 9 (dk_at dksX4_init_0 9 rfl rfl)
theorem dX4_init_12 : decode cX4_init 12 = .ok (.putfield 10, 3) := dk_181 0 10 (dk_at dksX4_init_0 12 rfl rfl)
theorem dX4_init_15 : decode cX4_init 15 = .ok (.return_, 1) := dk_177 (dk_at dksX4_init_0 15 rfl rfl)
abbrev cX4_thrown : ByteArray := prog_9_method_2_code
def yX4_thrown : MethodName := ⟨RX4, "thrown", "()I"⟩
theorem dX4_thrown_0 : decode cX4_thrown 0 = .ok (.aload_n 0, 1) := by decide +kernel
theorem dX4_thrown_1 : decode cX4_thrown 1 = .ok (.getfield 16, 3) := by decide +kernel
theorem dX4_thrown_4 : decode cX4_thrown 4 = .ok (.ireturn, 1) := by decide +kernel
abbrev cX4_guest : ByteArray := prog_9_method_8_code
def yX4_guest : MethodName := ⟨RX4, "guest", "(I)I"⟩
def dkwX4_guest_3 : List UInt8 := [182, 0, 24, 4, 100, 172]
abbrev dktX4_guest_3 : List UInt8 := dkwX4_guest_3 ++ []
def dkwX4_guest_2 : List UInt8 := [44, 27, 181, 0, 41, 42, 180, 0, 10, 180, 0, 20, 44, 182, 0, 44, 87, 42, 180, 0, 10, 180, 0, 20]
abbrev dktX4_guest_2 : List UInt8 := dkwX4_guest_2 ++ dktX4_guest_3
def dkwX4_guest_1 : List UInt8 := [180, 0, 20, 182, 0, 24, 6, 160, 0, 9, 42, 5, 182, 0, 34, 172, 187, 0, 38, 89, 183, 0, 40, 77]
abbrev dktX4_guest_1 : List UInt8 := dkwX4_guest_1 ++ dktX4_guest_2
def dkwX4_guest_0 : List UInt8 := [42, 3, 181, 0, 16, 27, 4, 7, 184, 0, 30, 154, 0, 9, 42, 4, 182, 0, 34, 172, 42, 180, 0, 10]
abbrev dktX4_guest_0 : List UInt8 := dkwX4_guest_0 ++ dktX4_guest_1
theorem dksX4_guest_0 : cX4_guest.data.toList.drop 0 = dktX4_guest_0 := by decide +kernel
theorem dksX4_guest_1 : cX4_guest.data.toList.drop 24 = dktX4_guest_1 := dk_seg dksX4_guest_0 24 rfl rfl
theorem dksX4_guest_2 : cX4_guest.data.toList.drop 48 = dktX4_guest_2 := dk_seg dksX4_guest_1 24 rfl rfl
theorem dksX4_guest_3 : cX4_guest.data.toList.drop 72 = dktX4_guest_3 := dk_seg dksX4_guest_2 24 rfl rfl
theorem dX4_guest_0 : decode cX4_guest 0 = .ok (.aload_n 0, 1) := dk_42 (dk_at dksX4_guest_0 0 rfl rfl)
theorem dX4_guest_1 : decode cX4_guest 1 = .ok (.iconst 0, 1) := dk_3 (dk_at dksX4_guest_0 1 rfl rfl)
theorem dX4_guest_2 : decode cX4_guest 2 = .ok (.putfield 16, 3) := dk_181 0 16 (dk_at dksX4_guest_0 2 rfl rfl)
theorem dX4_guest_5 : decode cX4_guest 5 = .ok (.iload_n 1, 1) := dk_27 (dk_at dksX4_guest_0 5 rfl rfl)
theorem dX4_guest_6 : decode cX4_guest 6 = .ok (.iconst 1, 1) := dk_4 (dk_at dksX4_guest_0 6 rfl rfl)
theorem dX4_guest_7 : decode cX4_guest 7 = .ok (.iconst 4, 1) := dk_7 (dk_at dksX4_guest_0 7 rfl rfl)
theorem dX4_guest_8 : decode cX4_guest 8 = .ok (.invokestatic 30, 3) := dk_184 0 30 (dk_at dksX4_guest_0 8 rfl rfl)
theorem dX4_guest_11 : decode cX4_guest 11 = .ok (.ifCond .ne 9, 3) := dk_154 0 9 (dk_at dksX4_guest_0 11 rfl rfl)
theorem dX4_guest_14 : decode cX4_guest 14 = .ok (.aload_n 0, 1) := dk_42 (dk_at dksX4_guest_0 14 rfl rfl)
theorem dX4_guest_15 : decode cX4_guest 15 = .ok (.iconst 1, 1) := dk_4 (dk_at dksX4_guest_0 15 rfl rfl)
theorem dX4_guest_16 : decode cX4_guest 16 = .ok (.invokevirtual 34, 3) := dk_182 0 34 (dk_at dksX4_guest_0 16 rfl rfl)
theorem dX4_guest_19 : decode cX4_guest 19 = .ok (.ireturn, 1) := dk_172 (dk_at dksX4_guest_0 19 rfl rfl)
theorem dX4_guest_20 : decode cX4_guest 20 = .ok (.aload_n 0, 1) := dk_42 (dk_at dksX4_guest_0 20 rfl rfl)
theorem dX4_guest_21 : decode cX4_guest 21 = .ok (.getfield 10, 3) := dk_180 0 10 (dk_at dksX4_guest_0 21 rfl rfl)
theorem dX4_guest_24 : decode cX4_guest 24 = .ok (.getfield 20, 3) := dk_180 0 20 (dk_at dksX4_guest_1 0 rfl rfl)
theorem dX4_guest_27 : decode cX4_guest 27 = .ok (.invokevirtual 24, 3) := dk_182 0 24 (dk_at dksX4_guest_1 3 rfl rfl)
theorem dX4_guest_30 : decode cX4_guest 30 = .ok (.iconst 3, 1) := dk_6 (dk_at dksX4_guest_1 6 rfl rfl)
theorem dX4_guest_31 : decode cX4_guest 31 = .ok (.if_icmp .ne 9, 3) := dk_160 0 9 (dk_at dksX4_guest_1 7 rfl rfl)
theorem dX4_guest_34 : decode cX4_guest 34 = .ok (.aload_n 0, 1) := dk_42 (dk_at dksX4_guest_1 10 rfl rfl)
theorem dX4_guest_35 : decode cX4_guest 35 = .ok (.iconst 2, 1) := dk_5 (dk_at dksX4_guest_1 11 rfl rfl)
theorem dX4_guest_36 : decode cX4_guest 36 = .ok (.invokevirtual 34, 3) := dk_182 0 34 (dk_at dksX4_guest_1 12 rfl rfl)
theorem dX4_guest_39 : decode cX4_guest 39 = .ok (.ireturn, 1) := dk_172 (dk_at dksX4_guest_1 15 rfl rfl)
theorem dX4_guest_40 : decode cX4_guest 40 = .ok (.new 38, 3) := dk_187 0 38 (dk_at dksX4_guest_1 16 rfl rfl)
theorem dX4_guest_43 : decode cX4_guest 43 = .ok (.dup, 1) := dk_89 (dk_at dksX4_guest_1 19 rfl rfl)
theorem dX4_guest_44 : decode cX4_guest 44 = .ok (.invokespecial 40, 3) := dk_183 0 40 (dk_at dksX4_guest_1 20 rfl rfl)
theorem dX4_guest_47 : decode cX4_guest 47 = .ok (.astore_n 2, 1) := dk_77 (dk_at dksX4_guest_1 23 rfl rfl)
theorem dX4_guest_48 : decode cX4_guest 48 = .ok (.aload_n 2, 1) := dk_44 (dk_at dksX4_guest_2 0 rfl rfl)
theorem dX4_guest_49 : decode cX4_guest 49 = .ok (.iload_n 1, 1) := dk_27 (dk_at dksX4_guest_2 1 rfl rfl)
theorem dX4_guest_50 : decode cX4_guest 50 = .ok (.putfield 41, 3) := dk_181 0 41 (dk_at dksX4_guest_2 2 rfl rfl)
theorem dX4_guest_53 : decode cX4_guest 53 = .ok (.aload_n 0, 1) := dk_42 (dk_at dksX4_guest_2 5 rfl rfl)
theorem dX4_guest_54 : decode cX4_guest 54 = .ok (.getfield 10, 3) := dk_180 0 10 (dk_at dksX4_guest_2 6 rfl rfl)
theorem dX4_guest_57 : decode cX4_guest 57 = .ok (.getfield 20, 3) := dk_180 0 20 (dk_at dksX4_guest_2 9 rfl rfl)
theorem dX4_guest_60 : decode cX4_guest 60 = .ok (.aload_n 2, 1) := dk_44 (dk_at dksX4_guest_2 12 rfl rfl)
theorem dX4_guest_61 : decode cX4_guest 61 = .ok (.invokevirtual 44, 3) := dk_182 0 44 (dk_at dksX4_guest_2 13 rfl rfl)
theorem dX4_guest_64 : decode cX4_guest 64 = .ok (.pop, 1) := dk_87 (dk_at dksX4_guest_2 16 rfl rfl)
theorem dX4_guest_65 : decode cX4_guest 65 = .ok (.aload_n 0, 1) := dk_42 (dk_at dksX4_guest_2 17 rfl rfl)
theorem dX4_guest_66 : decode cX4_guest 66 = .ok (.getfield 10, 3) := dk_180 0 10 (dk_at dksX4_guest_2 18 rfl rfl)
theorem dX4_guest_69 : decode cX4_guest 69 = .ok (.getfield 20, 3) := dk_180 0 20 (dk_at dksX4_guest_2 21 rfl rfl)
theorem dX4_guest_72 : decode cX4_guest 72 = .ok (.invokevirtual 24, 3) := dk_182 0 24 (dk_at dksX4_guest_3 0 rfl rfl)
theorem dX4_guest_75 : decode cX4_guest 75 = .ok (.iconst 1, 1) := dk_4 (dk_at dksX4_guest_3 3 rfl rfl)
theorem dX4_guest_76 : decode cX4_guest 76 = .ok (.isub, 1) := dk_100 (dk_at dksX4_guest_3 4 rfl rfl)
theorem dX4_guest_77 : decode cX4_guest 77 = .ok (.ireturn, 1) := dk_172 (dk_at dksX4_guest_3 5 rfl rfl)
abbrev cX4_is : ByteArray := prog_9_method_4_code
def yX4_is : MethodName := ⟨RX4, "is", "(III)Z"⟩
def dkwX4_is_0 : List UInt8 := [26, 27, 161, 0, 12, 26, 28, 163, 0, 7, 4, 167, 0, 4, 3, 172]
abbrev dktX4_is_0 : List UInt8 := dkwX4_is_0 ++ []
theorem dksX4_is_0 : cX4_is.data.toList.drop 0 = dktX4_is_0 := by decide +kernel
theorem dX4_is_0 : decode cX4_is 0 = .ok (.iload_n 0, 1) := dk_26 (dk_at dksX4_is_0 0 rfl rfl)
theorem dX4_is_1 : decode cX4_is 1 = .ok (.iload_n 1, 1) := dk_27 (dk_at dksX4_is_0 1 rfl rfl)
theorem dX4_is_2 : decode cX4_is 2 = .ok (.if_icmp .lt 12, 3) := dk_161 0 12 (dk_at dksX4_is_0 2 rfl rfl)
theorem dX4_is_5 : decode cX4_is 5 = .ok (.iload_n 0, 1) := dk_26 (dk_at dksX4_is_0 5 rfl rfl)
theorem dX4_is_6 : decode cX4_is 6 = .ok (.iload_n 2, 1) := dk_28 (dk_at dksX4_is_0 6 rfl rfl)
theorem dX4_is_7 : decode cX4_is 7 = .ok (.if_icmp .gt 7, 3) := dk_163 0 7 (dk_at dksX4_is_0 7 rfl rfl)
theorem dX4_is_10 : decode cX4_is 10 = .ok (.iconst 1, 1) := dk_4 (dk_at dksX4_is_0 10 rfl rfl)
theorem dX4_is_11 : decode cX4_is 11 = .ok (.goto 4, 3) := dk_167 0 4 (dk_at dksX4_is_0 11 rfl rfl)
theorem dX4_is_14 : decode cX4_is 14 = .ok (.iconst 0, 1) := dk_3 (dk_at dksX4_is_0 14 rfl rfl)
theorem dX4_is_15 : decode cX4_is 15 = .ok (.ireturn, 1) := dk_172 (dk_at dksX4_is_0 15 rfl rfl)
abbrev cX4_refuse : ByteArray := prog_9_method_3_code
def yX4_refuse : MethodName := ⟨RX4, "refuse", "(I)I"⟩
def dkwX4_refuse_0 : List UInt8 := [42, 27, 181, 0, 16, 3, 172]
abbrev dktX4_refuse_0 : List UInt8 := dkwX4_refuse_0 ++ []
theorem dksX4_refuse_0 : cX4_refuse.data.toList.drop 0 = dktX4_refuse_0 := by decide +kernel
theorem dX4_refuse_0 : decode cX4_refuse 0 = .ok (.aload_n 0, 1) := dk_42 (dk_at dksX4_refuse_0 0 rfl rfl)
theorem dX4_refuse_1 : decode cX4_refuse 1 = .ok (.iload_n 1, 1) := dk_27 (dk_at dksX4_refuse_0 1 rfl rfl)
theorem dX4_refuse_2 : decode cX4_refuse 2 = .ok (.putfield 16, 3) := dk_181 0 16 (dk_at dksX4_refuse_0 2 rfl rfl)
theorem dX4_refuse_5 : decode cX4_refuse 5 = .ok (.iconst 0, 1) := dk_3 (dk_at dksX4_refuse_0 5 rfl rfl)
theorem dX4_refuse_6 : decode cX4_refuse 6 = .ok (.ireturn, 1) := dk_172 (dk_at dksX4_refuse_0 6 rfl rfl)
abbrev cX4_op : ByteArray := prog_9_method_9_code
def yX4_op : MethodName := ⟨RX4, "op", "(III)I"⟩
def dkwX4_op_7 : List UInt8 := [25, 4, 3, 181, 0, 68, 25, 4, 180, 0, 59, 182, 0, 24, 172]
abbrev dktX4_op_7 : List UInt8 := dkwX4_op_7 ++ []
def dkwX4_op_6 : List UInt8 := [25, 4, 180, 0, 62, 6, 160, 0, 18, 25, 4, 180, 0, 65, 8, 160, 0, 9, 25, 4, 3, 181, 0, 65]
abbrev dktX4_op_6 : List UInt8 := dkwX4_op_6 ++ dktX4_op_7
def dkwX4_op_5 : List UInt8 := [180, 0, 59, 25, 5, 182, 0, 44, 87, 25, 4, 180, 0, 62, 8, 160, 0, 9, 25, 4, 3, 181, 0, 62]
abbrev dktX4_op_5 : List UInt8 := dkwX4_op_5 ++ dktX4_op_6
def dkwX4_op_4 : List UInt8 := [160, 0, 9, 42, 6, 182, 0, 34, 172, 5, 188, 10, 89, 3, 28, 79, 89, 4, 29, 79, 58, 5, 25, 4]
abbrev dktX4_op_4 : List UInt8 := dkwX4_op_4 ++ dktX4_op_5
def dkwX4_op_3 : List UInt8 := [192, 0, 38, 58, 4, 25, 4, 180, 0, 59, 182, 0, 24, 16, 12, 159, 0, 12, 25, 4, 180, 0, 62, 7]
abbrev dktX4_op_3 : List UInt8 := dkwX4_op_3 ++ dktX4_op_4
def dkwX4_op_2 : List UInt8 := [167, 0, 13, 29, 153, 0, 9, 42, 5, 182, 0, 34, 172, 42, 180, 0, 10, 180, 0, 20, 27, 182, 0, 55]
abbrev dktX4_op_2 : List UInt8 := dkwX4_op_2 ++ dktX4_op_3
def dkwX4_op_1 : List UInt8 := [184, 0, 30, 153, 0, 27, 28, 4, 159, 0, 8, 28, 5, 160, 0, 13, 29, 184, 0, 52, 153, 0, 10]
abbrev dktX4_op_1 : List UInt8 := dkwX4_op_1 ++ dktX4_op_2
def dkwX4_op_0 : List UInt8 := [42, 3, 181, 0, 16, 42, 27, 182, 0, 48, 154, 0, 9, 42, 4, 182, 0, 34, 172, 28, 3, 16, 6]
abbrev dktX4_op_0 : List UInt8 := dkwX4_op_0 ++ dktX4_op_1
theorem dksX4_op_0 : cX4_op.data.toList.drop 0 = dktX4_op_0 := by decide +kernel
theorem dksX4_op_1 : cX4_op.data.toList.drop 23 = dktX4_op_1 := dk_seg dksX4_op_0 23 rfl rfl
theorem dksX4_op_2 : cX4_op.data.toList.drop 46 = dktX4_op_2 := dk_seg dksX4_op_1 23 rfl rfl
theorem dksX4_op_3 : cX4_op.data.toList.drop 70 = dktX4_op_3 := dk_seg dksX4_op_2 24 rfl rfl
theorem dksX4_op_4 : cX4_op.data.toList.drop 94 = dktX4_op_4 := dk_seg dksX4_op_3 24 rfl rfl
theorem dksX4_op_5 : cX4_op.data.toList.drop 118 = dktX4_op_5 := dk_seg dksX4_op_4 24 rfl rfl
theorem dksX4_op_6 : cX4_op.data.toList.drop 142 = dktX4_op_6 := dk_seg dksX4_op_5 24 rfl rfl
theorem dksX4_op_7 : cX4_op.data.toList.drop 166 = dktX4_op_7 := dk_seg dksX4_op_6 24 rfl rfl
theorem dX4_op_0 : decode cX4_op 0 = .ok (.aload_n 0, 1) := dk_42 (dk_at dksX4_op_0 0 rfl rfl)
theorem dX4_op_1 : decode cX4_op 1 = .ok (.iconst 0, 1) := dk_3 (dk_at dksX4_op_0 1 rfl rfl)
theorem dX4_op_2 : decode cX4_op 2 = .ok (.putfield 16, 3) := dk_181 0 16 (dk_at dksX4_op_0 2 rfl rfl)
theorem dX4_op_5 : decode cX4_op 5 = .ok (.aload_n 0, 1) := dk_42 (dk_at dksX4_op_0 5 rfl rfl)
theorem dX4_op_6 : decode cX4_op 6 = .ok (.iload_n 1, 1) := dk_27 (dk_at dksX4_op_0 6 rfl rfl)
theorem dX4_op_7 : decode cX4_op 7 = .ok (.invokevirtual 48, 3) := dk_182 0 48 (dk_at dksX4_op_0 7 rfl rfl)
theorem dX4_op_10 : decode cX4_op 10 = .ok (.ifCond .ne 9, 3) := dk_154 0 9 (dk_at dksX4_op_0 10 rfl rfl)
theorem dX4_op_13 : decode cX4_op 13 = .ok (.aload_n 0, 1) := dk_42 (dk_at dksX4_op_0 13 rfl rfl)
theorem dX4_op_14 : decode cX4_op 14 = .ok (.iconst 1, 1) := dk_4 (dk_at dksX4_op_0 14 rfl rfl)
theorem dX4_op_15 : decode cX4_op 15 = .ok (.invokevirtual 34, 3) := dk_182 0 34 (dk_at dksX4_op_0 15 rfl rfl)
theorem dX4_op_18 : decode cX4_op 18 = .ok (.ireturn, 1) := dk_172 (dk_at dksX4_op_0 18 rfl rfl)
theorem dX4_op_19 : decode cX4_op 19 = .ok (.iload_n 2, 1) := dk_28 (dk_at dksX4_op_0 19 rfl rfl)
theorem dX4_op_20 : decode cX4_op 20 = .ok (.iconst 0, 1) := dk_3 (dk_at dksX4_op_0 20 rfl rfl)
theorem dX4_op_21 : decode cX4_op 21 = .ok (.bipush 6, 2) := dk_16 6 (dk_at dksX4_op_0 21 rfl rfl)
theorem dX4_op_23 : decode cX4_op 23 = .ok (.invokestatic 30, 3) := dk_184 0 30 (dk_at dksX4_op_1 0 rfl rfl)
theorem dX4_op_26 : decode cX4_op 26 = .ok (.ifCond .eq 27, 3) := dk_153 0 27 (dk_at dksX4_op_1 3 rfl rfl)
theorem dX4_op_29 : decode cX4_op 29 = .ok (.iload_n 2, 1) := dk_28 (dk_at dksX4_op_1 6 rfl rfl)
theorem dX4_op_30 : decode cX4_op 30 = .ok (.iconst 1, 1) := dk_4 (dk_at dksX4_op_1 7 rfl rfl)
theorem dX4_op_31 : decode cX4_op 31 = .ok (.if_icmp .eq 8, 3) := dk_159 0 8 (dk_at dksX4_op_1 8 rfl rfl)
theorem dX4_op_34 : decode cX4_op 34 = .ok (.iload_n 2, 1) := dk_28 (dk_at dksX4_op_1 11 rfl rfl)
theorem dX4_op_35 : decode cX4_op 35 = .ok (.iconst 2, 1) := dk_5 (dk_at dksX4_op_1 12 rfl rfl)
theorem dX4_op_36 : decode cX4_op 36 = .ok (.if_icmp .ne 13, 3) := dk_160 0 13 (dk_at dksX4_op_1 13 rfl rfl)
theorem dX4_op_39 : decode cX4_op 39 = .ok (.iload_n 3, 1) := dk_29 (dk_at dksX4_op_1 16 rfl rfl)
theorem dX4_op_40 : decode cX4_op 40 = .ok (.invokestatic 52, 3) := dk_184 0 52 (dk_at dksX4_op_1 17 rfl rfl)
theorem dX4_op_43 : decode cX4_op 43 = .ok (.ifCond .eq 10, 3) := dk_153 0 10 (dk_at dksX4_op_1 20 rfl rfl)
theorem dX4_op_46 : decode cX4_op 46 = .ok (.goto 13, 3) := dk_167 0 13 (dk_at dksX4_op_2 0 rfl rfl)
theorem dX4_op_49 : decode cX4_op 49 = .ok (.iload_n 3, 1) := dk_29 (dk_at dksX4_op_2 3 rfl rfl)
theorem dX4_op_50 : decode cX4_op 50 = .ok (.ifCond .eq 9, 3) := dk_153 0 9 (dk_at dksX4_op_2 4 rfl rfl)
theorem dX4_op_53 : decode cX4_op 53 = .ok (.aload_n 0, 1) := dk_42 (dk_at dksX4_op_2 7 rfl rfl)
theorem dX4_op_54 : decode cX4_op 54 = .ok (.iconst 2, 1) := dk_5 (dk_at dksX4_op_2 8 rfl rfl)
theorem dX4_op_55 : decode cX4_op 55 = .ok (.invokevirtual 34, 3) := dk_182 0 34 (dk_at dksX4_op_2 9 rfl rfl)
theorem dX4_op_58 : decode cX4_op 58 = .ok (.ireturn, 1) := dk_172 (dk_at dksX4_op_2 12 rfl rfl)
theorem dX4_op_59 : decode cX4_op 59 = .ok (.aload_n 0, 1) := dk_42 (dk_at dksX4_op_2 13 rfl rfl)
theorem dX4_op_60 : decode cX4_op 60 = .ok (.getfield 10, 3) := dk_180 0 10 (dk_at dksX4_op_2 14 rfl rfl)
theorem dX4_op_63 : decode cX4_op 63 = .ok (.getfield 20, 3) := dk_180 0 20 (dk_at dksX4_op_2 17 rfl rfl)
theorem dX4_op_66 : decode cX4_op 66 = .ok (.iload_n 1, 1) := dk_27 (dk_at dksX4_op_2 20 rfl rfl)
theorem dX4_op_67 : decode cX4_op 67 = .ok (.invokevirtual 55, 3) := dk_182 0 55 (dk_at dksX4_op_2 21 rfl rfl)
theorem dX4_op_70 : decode cX4_op 70 = .ok (.checkcast 38, 3) := dk_192 0 38 (dk_at dksX4_op_3 0 rfl rfl)
theorem dX4_op_73 : decode cX4_op 73 = .ok (.astore 4, 2) := dk_58 4 (dk_at dksX4_op_3 3 rfl rfl)
theorem dX4_op_75 : decode cX4_op 75 = .ok (.aload 4, 2) := dk_25 4 (dk_at dksX4_op_3 5 rfl rfl)
theorem dX4_op_77 : decode cX4_op 77 = .ok (.getfield 59, 3) := dk_180 0 59 (dk_at dksX4_op_3 7 rfl rfl)
theorem dX4_op_80 : decode cX4_op 80 = .ok (.invokevirtual 24, 3) := dk_182 0 24 (dk_at dksX4_op_3 10 rfl rfl)
theorem dX4_op_83 : decode cX4_op 83 = .ok (.bipush 12, 2) := dk_16 12 (dk_at dksX4_op_3 13 rfl rfl)
theorem dX4_op_85 : decode cX4_op 85 = .ok (.if_icmp .eq 12, 3) := dk_159 0 12 (dk_at dksX4_op_3 15 rfl rfl)
theorem dX4_op_88 : decode cX4_op 88 = .ok (.aload 4, 2) := dk_25 4 (dk_at dksX4_op_3 18 rfl rfl)
theorem dX4_op_90 : decode cX4_op 90 = .ok (.getfield 62, 3) := dk_180 0 62 (dk_at dksX4_op_3 20 rfl rfl)
theorem dX4_op_93 : decode cX4_op 93 = .ok (.iconst 4, 1) := dk_7 (dk_at dksX4_op_3 23 rfl rfl)
theorem dX4_op_94 : decode cX4_op 94 = .ok (.if_icmp .ne 9, 3) := dk_160 0 9 (dk_at dksX4_op_4 0 rfl rfl)
theorem dX4_op_97 : decode cX4_op 97 = .ok (.aload_n 0, 1) := dk_42 (dk_at dksX4_op_4 3 rfl rfl)
theorem dX4_op_98 : decode cX4_op 98 = .ok (.iconst 3, 1) := dk_6 (dk_at dksX4_op_4 4 rfl rfl)
theorem dX4_op_99 : decode cX4_op 99 = .ok (.invokevirtual 34, 3) := dk_182 0 34 (dk_at dksX4_op_4 5 rfl rfl)
theorem dX4_op_102 : decode cX4_op 102 = .ok (.ireturn, 1) := dk_172 (dk_at dksX4_op_4 8 rfl rfl)
theorem dX4_op_103 : decode cX4_op 103 = .ok (.iconst 2, 1) := dk_5 (dk_at dksX4_op_4 9 rfl rfl)
theorem dX4_op_104 : decode cX4_op 104 = .ok (.newarray .int, 2) := dk_188_10 (dk_at dksX4_op_4 10 rfl rfl)
theorem dX4_op_106 : decode cX4_op 106 = .ok (.dup, 1) := dk_89 (dk_at dksX4_op_4 12 rfl rfl)
theorem dX4_op_107 : decode cX4_op 107 = .ok (.iconst 0, 1) := dk_3 (dk_at dksX4_op_4 13 rfl rfl)
theorem dX4_op_108 : decode cX4_op 108 = .ok (.iload_n 2, 1) := dk_28 (dk_at dksX4_op_4 14 rfl rfl)
theorem dX4_op_109 : decode cX4_op 109 = .ok (.iastore, 1) := dk_79 (dk_at dksX4_op_4 15 rfl rfl)
theorem dX4_op_110 : decode cX4_op 110 = .ok (.dup, 1) := dk_89 (dk_at dksX4_op_4 16 rfl rfl)
theorem dX4_op_111 : decode cX4_op 111 = .ok (.iconst 1, 1) := dk_4 (dk_at dksX4_op_4 17 rfl rfl)
theorem dX4_op_112 : decode cX4_op 112 = .ok (.iload_n 3, 1) := dk_29 (dk_at dksX4_op_4 18 rfl rfl)
theorem dX4_op_113 : decode cX4_op 113 = .ok (.iastore, 1) := dk_79 (dk_at dksX4_op_4 19 rfl rfl)
theorem dX4_op_114 : decode cX4_op 114 = .ok (.astore 5, 2) := dk_58 5 (dk_at dksX4_op_4 20 rfl rfl)
theorem dX4_op_116 : decode cX4_op 116 = .ok (.aload 4, 2) := dk_25 4 (dk_at dksX4_op_4 22 rfl rfl)
theorem dX4_op_118 : decode cX4_op 118 = .ok (.getfield 59, 3) := dk_180 0 59 (dk_at dksX4_op_5 0 rfl rfl)
theorem dX4_op_121 : decode cX4_op 121 = .ok (.aload 5, 2) := dk_25 5 (dk_at dksX4_op_5 3 rfl rfl)
theorem dX4_op_123 : decode cX4_op 123 = .ok (.invokevirtual 44, 3) := dk_182 0 44 (dk_at dksX4_op_5 5 rfl rfl)
theorem dX4_op_126 : decode cX4_op 126 = .ok (.pop, 1) := dk_87 (dk_at dksX4_op_5 8 rfl rfl)
theorem dX4_op_127 : decode cX4_op 127 = .ok (.aload 4, 2) := dk_25 4 (dk_at dksX4_op_5 9 rfl rfl)
theorem dX4_op_129 : decode cX4_op 129 = .ok (.getfield 62, 3) := dk_180 0 62 (dk_at dksX4_op_5 11 rfl rfl)
theorem dX4_op_132 : decode cX4_op 132 = .ok (.iconst 5, 1) := dk_8 (dk_at dksX4_op_5 14 rfl rfl)
theorem dX4_op_133 : decode cX4_op 133 = .ok (.if_icmp .ne 9, 3) := dk_160 0 9 (dk_at dksX4_op_5 15 rfl rfl)
theorem dX4_op_136 : decode cX4_op 136 = .ok (.aload 4, 2) := dk_25 4 (dk_at dksX4_op_5 18 rfl rfl)
theorem dX4_op_138 : decode cX4_op 138 = .ok (.iconst 0, 1) := dk_3 (dk_at dksX4_op_5 20 rfl rfl)
theorem dX4_op_139 : decode cX4_op 139 = .ok (.putfield 62, 3) := dk_181 0 62 (dk_at dksX4_op_5 21 rfl rfl)
theorem dX4_op_142 : decode cX4_op 142 = .ok (.aload 4, 2) := dk_25 4 (dk_at dksX4_op_6 0 rfl rfl)
theorem dX4_op_144 : decode cX4_op 144 = .ok (.getfield 62, 3) := dk_180 0 62 (dk_at dksX4_op_6 2 rfl rfl)
theorem dX4_op_147 : decode cX4_op 147 = .ok (.iconst 3, 1) := dk_6 (dk_at dksX4_op_6 5 rfl rfl)
theorem dX4_op_148 : decode cX4_op 148 = .ok (.if_icmp .ne 18, 3) := dk_160 0 18 (dk_at dksX4_op_6 6 rfl rfl)
theorem dX4_op_151 : decode cX4_op 151 = .ok (.aload 4, 2) := dk_25 4 (dk_at dksX4_op_6 9 rfl rfl)
theorem dX4_op_153 : decode cX4_op 153 = .ok (.getfield 65, 3) := dk_180 0 65 (dk_at dksX4_op_6 11 rfl rfl)
theorem dX4_op_156 : decode cX4_op 156 = .ok (.iconst 5, 1) := dk_8 (dk_at dksX4_op_6 14 rfl rfl)
theorem dX4_op_157 : decode cX4_op 157 = .ok (.if_icmp .ne 9, 3) := dk_160 0 9 (dk_at dksX4_op_6 15 rfl rfl)
theorem dX4_op_160 : decode cX4_op 160 = .ok (.aload 4, 2) := dk_25 4 (dk_at dksX4_op_6 18 rfl rfl)
theorem dX4_op_162 : decode cX4_op 162 = .ok (.iconst 0, 1) := dk_3 (dk_at dksX4_op_6 20 rfl rfl)
theorem dX4_op_163 : decode cX4_op 163 = .ok (.putfield 65, 3) := dk_181 0 65 (dk_at dksX4_op_6 21 rfl rfl)
theorem dX4_op_166 : decode cX4_op 166 = .ok (.aload 4, 2) := dk_25 4 (dk_at dksX4_op_7 0 rfl rfl)
theorem dX4_op_168 : decode cX4_op 168 = .ok (.iconst 0, 1) := dk_3 (dk_at dksX4_op_7 2 rfl rfl)
theorem dX4_op_169 : decode cX4_op 169 = .ok (.putfield 68, 3) := dk_181 0 68 (dk_at dksX4_op_7 3 rfl rfl)
theorem dX4_op_172 : decode cX4_op 172 = .ok (.aload 4, 2) := dk_25 4 (dk_at dksX4_op_7 6 rfl rfl)
theorem dX4_op_174 : decode cX4_op 174 = .ok (.getfield 59, 3) := dk_180 0 59 (dk_at dksX4_op_7 8 rfl rfl)
theorem dX4_op_177 : decode cX4_op 177 = .ok (.invokevirtual 24, 3) := dk_182 0 24 (dk_at dksX4_op_7 11 rfl rfl)
theorem dX4_op_180 : decode cX4_op 180 = .ok (.ireturn, 1) := dk_172 (dk_at dksX4_op_7 14 rfl rfl)
abbrev cX4_isGuest : ByteArray := prog_9_method_6_code
def yX4_isGuest : MethodName := ⟨RX4, "isGuest", "(I)Z"⟩
def dkwX4_isGuest_0 : List UInt8 := [27, 3, 42, 180, 0, 10, 180, 0, 20, 182, 0, 24, 4, 100, 184, 0, 30, 172]
abbrev dktX4_isGuest_0 : List UInt8 := dkwX4_isGuest_0 ++ []
theorem dksX4_isGuest_0 : cX4_isGuest.data.toList.drop 0 = dktX4_isGuest_0 := by decide +kernel
theorem dX4_isGuest_0 : decode cX4_isGuest 0 = .ok (.iload_n 1, 1) := dk_27 (dk_at dksX4_isGuest_0 0 rfl rfl)
theorem dX4_isGuest_1 : decode cX4_isGuest 1 = .ok (.iconst 0, 1) := dk_3 (dk_at dksX4_isGuest_0 1 rfl rfl)
theorem dX4_isGuest_2 : decode cX4_isGuest 2 = .ok (.aload_n 0, 1) := dk_42 (dk_at dksX4_isGuest_0 2 rfl rfl)
theorem dX4_isGuest_3 : decode cX4_isGuest 3 = .ok (.getfield 10, 3) := dk_180 0 10 (dk_at dksX4_isGuest_0 3 rfl rfl)
theorem dX4_isGuest_6 : decode cX4_isGuest 6 = .ok (.getfield 20, 3) := dk_180 0 20 (dk_at dksX4_isGuest_0 6 rfl rfl)
theorem dX4_isGuest_9 : decode cX4_isGuest 9 = .ok (.invokevirtual 24, 3) := dk_182 0 24 (dk_at dksX4_isGuest_0 9 rfl rfl)
theorem dX4_isGuest_12 : decode cX4_isGuest 12 = .ok (.iconst 1, 1) := dk_4 (dk_at dksX4_isGuest_0 12 rfl rfl)
theorem dX4_isGuest_13 : decode cX4_isGuest 13 = .ok (.isub, 1) := dk_100 (dk_at dksX4_isGuest_0 13 rfl rfl)
theorem dX4_isGuest_14 : decode cX4_isGuest 14 = .ok (.invokestatic 30, 3) := dk_184 0 30 (dk_at dksX4_isGuest_0 14 rfl rfl)
theorem dX4_isGuest_17 : decode cX4_isGuest 17 = .ok (.ireturn, 1) := dk_172 (dk_at dksX4_isGuest_0 17 rfl rfl)
abbrev cX4_isPage : ByteArray := prog_9_method_7_code
def yX4_isPage : MethodName := ⟨RX4, "isPage", "(I)Z"⟩
def dkwX4_isPage_0 : List UInt8 := [26, 3, 8, 184, 0, 30, 172]
abbrev dktX4_isPage_0 : List UInt8 := dkwX4_isPage_0 ++ []
theorem dksX4_isPage_0 : cX4_isPage.data.toList.drop 0 = dktX4_isPage_0 := by decide +kernel
theorem dX4_isPage_0 : decode cX4_isPage 0 = .ok (.iload_n 0, 1) := dk_26 (dk_at dksX4_isPage_0 0 rfl rfl)
theorem dX4_isPage_1 : decode cX4_isPage 1 = .ok (.iconst 0, 1) := dk_3 (dk_at dksX4_isPage_0 1 rfl rfl)
theorem dX4_isPage_2 : decode cX4_isPage 2 = .ok (.iconst 5, 1) := dk_8 (dk_at dksX4_isPage_0 2 rfl rfl)
theorem dX4_isPage_3 : decode cX4_isPage 3 = .ok (.invokestatic 30, 3) := dk_184 0 30 (dk_at dksX4_isPage_0 3 rfl rfl)
theorem dX4_isPage_6 : decode cX4_isPage 6 = .ok (.ireturn, 1) := dk_172 (dk_at dksX4_isPage_0 6 rfl rfl)
abbrev cX4_weight : ByteArray := prog_9_method_10_code
def yX4_weight : MethodName := ⟨RX4, "weight", "(II)I"⟩
def dkwX4_weight_3 : List UInt8 := [181, 0, 41, 29, 172]
abbrev dktX4_weight_3 : List UInt8 := dkwX4_weight_3 ++ []
def dkwX4_weight_2 : List UInt8 := [192, 0, 38, 180, 0, 41, 62, 42, 180, 0, 10, 180, 0, 20, 27, 182, 0, 55, 192, 0, 38, 28]
abbrev dktX4_weight_2 : List UInt8 := dkwX4_weight_2 ++ dktX4_weight_3
def dkwX4_weight_1 : List UInt8 := [184, 0, 30, 154, 0, 9, 42, 5, 182, 0, 34, 172, 42, 180, 0, 10, 180, 0, 20, 27, 182, 0, 55]
abbrev dktX4_weight_1 : List UInt8 := dkwX4_weight_1 ++ dktX4_weight_2
def dkwX4_weight_0 : List UInt8 := [42, 3, 181, 0, 16, 42, 27, 182, 0, 48, 154, 0, 9, 42, 4, 182, 0, 34, 172, 28, 4, 7]
abbrev dktX4_weight_0 : List UInt8 := dkwX4_weight_0 ++ dktX4_weight_1
theorem dksX4_weight_0 : cX4_weight.data.toList.drop 0 = dktX4_weight_0 := by decide +kernel
theorem dksX4_weight_1 : cX4_weight.data.toList.drop 22 = dktX4_weight_1 := dk_seg dksX4_weight_0 22 rfl rfl
theorem dksX4_weight_2 : cX4_weight.data.toList.drop 45 = dktX4_weight_2 := dk_seg dksX4_weight_1 23 rfl rfl
theorem dksX4_weight_3 : cX4_weight.data.toList.drop 67 = dktX4_weight_3 := dk_seg dksX4_weight_2 22 rfl rfl
theorem dX4_weight_0 : decode cX4_weight 0 = .ok (.aload_n 0, 1) := dk_42 (dk_at dksX4_weight_0 0 rfl rfl)
theorem dX4_weight_1 : decode cX4_weight 1 = .ok (.iconst 0, 1) := dk_3 (dk_at dksX4_weight_0 1 rfl rfl)
theorem dX4_weight_2 : decode cX4_weight 2 = .ok (.putfield 16, 3) := dk_181 0 16 (dk_at dksX4_weight_0 2 rfl rfl)
theorem dX4_weight_5 : decode cX4_weight 5 = .ok (.aload_n 0, 1) := dk_42 (dk_at dksX4_weight_0 5 rfl rfl)
theorem dX4_weight_6 : decode cX4_weight 6 = .ok (.iload_n 1, 1) := dk_27 (dk_at dksX4_weight_0 6 rfl rfl)
theorem dX4_weight_7 : decode cX4_weight 7 = .ok (.invokevirtual 48, 3) := dk_182 0 48 (dk_at dksX4_weight_0 7 rfl rfl)
theorem dX4_weight_10 : decode cX4_weight 10 = .ok (.ifCond .ne 9, 3) := dk_154 0 9 (dk_at dksX4_weight_0 10 rfl rfl)
theorem dX4_weight_13 : decode cX4_weight 13 = .ok (.aload_n 0, 1) := dk_42 (dk_at dksX4_weight_0 13 rfl rfl)
theorem dX4_weight_14 : decode cX4_weight 14 = .ok (.iconst 1, 1) := dk_4 (dk_at dksX4_weight_0 14 rfl rfl)
theorem dX4_weight_15 : decode cX4_weight 15 = .ok (.invokevirtual 34, 3) := dk_182 0 34 (dk_at dksX4_weight_0 15 rfl rfl)
theorem dX4_weight_18 : decode cX4_weight 18 = .ok (.ireturn, 1) := dk_172 (dk_at dksX4_weight_0 18 rfl rfl)
theorem dX4_weight_19 : decode cX4_weight 19 = .ok (.iload_n 2, 1) := dk_28 (dk_at dksX4_weight_0 19 rfl rfl)
theorem dX4_weight_20 : decode cX4_weight 20 = .ok (.iconst 1, 1) := dk_4 (dk_at dksX4_weight_0 20 rfl rfl)
theorem dX4_weight_21 : decode cX4_weight 21 = .ok (.iconst 4, 1) := dk_7 (dk_at dksX4_weight_0 21 rfl rfl)
theorem dX4_weight_22 : decode cX4_weight 22 = .ok (.invokestatic 30, 3) := dk_184 0 30 (dk_at dksX4_weight_1 0 rfl rfl)
theorem dX4_weight_25 : decode cX4_weight 25 = .ok (.ifCond .ne 9, 3) := dk_154 0 9 (dk_at dksX4_weight_1 3 rfl rfl)
theorem dX4_weight_28 : decode cX4_weight 28 = .ok (.aload_n 0, 1) := dk_42 (dk_at dksX4_weight_1 6 rfl rfl)
theorem dX4_weight_29 : decode cX4_weight 29 = .ok (.iconst 2, 1) := dk_5 (dk_at dksX4_weight_1 7 rfl rfl)
theorem dX4_weight_30 : decode cX4_weight 30 = .ok (.invokevirtual 34, 3) := dk_182 0 34 (dk_at dksX4_weight_1 8 rfl rfl)
theorem dX4_weight_33 : decode cX4_weight 33 = .ok (.ireturn, 1) := dk_172 (dk_at dksX4_weight_1 11 rfl rfl)
theorem dX4_weight_34 : decode cX4_weight 34 = .ok (.aload_n 0, 1) := dk_42 (dk_at dksX4_weight_1 12 rfl rfl)
theorem dX4_weight_35 : decode cX4_weight 35 = .ok (.getfield 10, 3) := dk_180 0 10 (dk_at dksX4_weight_1 13 rfl rfl)
theorem dX4_weight_38 : decode cX4_weight 38 = .ok (.getfield 20, 3) := dk_180 0 20 (dk_at dksX4_weight_1 16 rfl rfl)
theorem dX4_weight_41 : decode cX4_weight 41 = .ok (.iload_n 1, 1) := dk_27 (dk_at dksX4_weight_1 19 rfl rfl)
theorem dX4_weight_42 : decode cX4_weight 42 = .ok (.invokevirtual 55, 3) := dk_182 0 55 (dk_at dksX4_weight_1 20 rfl rfl)
theorem dX4_weight_45 : decode cX4_weight 45 = .ok (.checkcast 38, 3) := dk_192 0 38 (dk_at dksX4_weight_2 0 rfl rfl)
theorem dX4_weight_48 : decode cX4_weight 48 = .ok (.getfield 41, 3) := dk_180 0 41 (dk_at dksX4_weight_2 3 rfl rfl)
theorem dX4_weight_51 : decode cX4_weight 51 = .ok (.istore_n 3, 1) := dk_62 (dk_at dksX4_weight_2 6 rfl rfl)
theorem dX4_weight_52 : decode cX4_weight 52 = .ok (.aload_n 0, 1) := dk_42 (dk_at dksX4_weight_2 7 rfl rfl)
theorem dX4_weight_53 : decode cX4_weight 53 = .ok (.getfield 10, 3) := dk_180 0 10 (dk_at dksX4_weight_2 8 rfl rfl)
theorem dX4_weight_56 : decode cX4_weight 56 = .ok (.getfield 20, 3) := dk_180 0 20 (dk_at dksX4_weight_2 11 rfl rfl)
theorem dX4_weight_59 : decode cX4_weight 59 = .ok (.iload_n 1, 1) := dk_27 (dk_at dksX4_weight_2 14 rfl rfl)
theorem dX4_weight_60 : decode cX4_weight 60 = .ok (.invokevirtual 55, 3) := dk_182 0 55 (dk_at dksX4_weight_2 15 rfl rfl)
theorem dX4_weight_63 : decode cX4_weight 63 = .ok (.checkcast 38, 3) := dk_192 0 38 (dk_at dksX4_weight_2 18 rfl rfl)
theorem dX4_weight_66 : decode cX4_weight 66 = .ok (.iload_n 2, 1) := dk_28 (dk_at dksX4_weight_2 21 rfl rfl)
theorem dX4_weight_67 : decode cX4_weight 67 = .ok (.putfield 41, 3) := dk_181 0 41 (dk_at dksX4_weight_3 0 rfl rfl)
theorem dX4_weight_70 : decode cX4_weight 70 = .ok (.iload_n 3, 1) := dk_29 (dk_at dksX4_weight_3 3 rfl rfl)
theorem dX4_weight_71 : decode cX4_weight 71 = .ok (.ireturn, 1) := dk_172 (dk_at dksX4_weight_3 4 rfl rfl)
abbrev cX4_pause : ByteArray := prog_9_method_11_code
def yX4_pause : MethodName := ⟨RX4, "pause", "(IZ)Z"⟩
def dkwX4_pause_4 : List UInt8 := [167, 0, 13, 21, 4, 153, 0, 8, 42, 45, 182, 0, 79, 21, 4, 172]
abbrev dktX4_pause_4 : List UInt8 := dkwX4_pause_4 ++ []
def dkwX4_pause_3 : List UInt8 := [153, 0, 10, 42, 5, 181, 0, 16, 3, 172, 28, 153, 0, 14, 42, 180, 0, 10, 45, 182, 0, 75]
abbrev dktX4_pause_3 : List UInt8 := dkwX4_pause_3 ++ dktX4_pause_4
def dkwX4_pause_2 : List UInt8 := [54, 4, 45, 180, 0, 62, 7, 159, 0, 19, 28, 154, 0, 22, 21, 4, 153, 0, 17, 45, 180, 0, 72]
abbrev dktX4_pause_2 : List UInt8 := dkwX4_pause_2 ++ dktX4_pause_3
def dkwX4_pause_1 : List UInt8 := [180, 0, 20, 27, 182, 0, 55, 192, 0, 38, 78, 45, 180, 0, 62, 6, 160, 0, 7, 4, 167, 0, 4, 3]
abbrev dktX4_pause_1 : List UInt8 := dkwX4_pause_1 ++ dktX4_pause_2
def dkwX4_pause_0 : List UInt8 := [42, 3, 181, 0, 16, 42, 27, 182, 0, 48, 154, 0, 10, 42, 4, 181, 0, 16, 3, 172, 42, 180, 0, 10]
abbrev dktX4_pause_0 : List UInt8 := dkwX4_pause_0 ++ dktX4_pause_1
theorem dksX4_pause_0 : cX4_pause.data.toList.drop 0 = dktX4_pause_0 := by decide +kernel
theorem dksX4_pause_1 : cX4_pause.data.toList.drop 24 = dktX4_pause_1 := dk_seg dksX4_pause_0 24 rfl rfl
theorem dksX4_pause_2 : cX4_pause.data.toList.drop 48 = dktX4_pause_2 := dk_seg dksX4_pause_1 24 rfl rfl
theorem dksX4_pause_3 : cX4_pause.data.toList.drop 71 = dktX4_pause_3 := dk_seg dksX4_pause_2 23 rfl rfl
theorem dksX4_pause_4 : cX4_pause.data.toList.drop 93 = dktX4_pause_4 := dk_seg dksX4_pause_3 22 rfl rfl
theorem dX4_pause_0 : decode cX4_pause 0 = .ok (.aload_n 0, 1) := dk_42 (dk_at dksX4_pause_0 0 rfl rfl)
theorem dX4_pause_1 : decode cX4_pause 1 = .ok (.iconst 0, 1) := dk_3 (dk_at dksX4_pause_0 1 rfl rfl)
theorem dX4_pause_2 : decode cX4_pause 2 = .ok (.putfield 16, 3) := dk_181 0 16 (dk_at dksX4_pause_0 2 rfl rfl)
theorem dX4_pause_5 : decode cX4_pause 5 = .ok (.aload_n 0, 1) := dk_42 (dk_at dksX4_pause_0 5 rfl rfl)
theorem dX4_pause_6 : decode cX4_pause 6 = .ok (.iload_n 1, 1) := dk_27 (dk_at dksX4_pause_0 6 rfl rfl)
theorem dX4_pause_7 : decode cX4_pause 7 = .ok (.invokevirtual 48, 3) := dk_182 0 48 (dk_at dksX4_pause_0 7 rfl rfl)
theorem dX4_pause_10 : decode cX4_pause 10 = .ok (.ifCond .ne 10, 3) := dk_154 0 10 (dk_at dksX4_pause_0 10 rfl rfl)
theorem dX4_pause_13 : decode cX4_pause 13 = .ok (.aload_n 0, 1) := dk_42 (dk_at dksX4_pause_0 13 rfl rfl)
theorem dX4_pause_14 : decode cX4_pause 14 = .ok (.iconst 1, 1) := dk_4 (dk_at dksX4_pause_0 14 rfl rfl)
theorem dX4_pause_15 : decode cX4_pause 15 = .ok (.putfield 16, 3) := dk_181 0 16 (dk_at dksX4_pause_0 15 rfl rfl)
theorem dX4_pause_18 : decode cX4_pause 18 = .ok (.iconst 0, 1) := dk_3 (dk_at dksX4_pause_0 18 rfl rfl)
theorem dX4_pause_19 : decode cX4_pause 19 = .ok (.ireturn, 1) := dk_172 (dk_at dksX4_pause_0 19 rfl rfl)
theorem dX4_pause_20 : decode cX4_pause 20 = .ok (.aload_n 0, 1) := dk_42 (dk_at dksX4_pause_0 20 rfl rfl)
theorem dX4_pause_21 : decode cX4_pause 21 = .ok (.getfield 10, 3) := dk_180 0 10 (dk_at dksX4_pause_0 21 rfl rfl)
theorem dX4_pause_24 : decode cX4_pause 24 = .ok (.getfield 20, 3) := dk_180 0 20 (dk_at dksX4_pause_1 0 rfl rfl)
theorem dX4_pause_27 : decode cX4_pause 27 = .ok (.iload_n 1, 1) := dk_27 (dk_at dksX4_pause_1 3 rfl rfl)
theorem dX4_pause_28 : decode cX4_pause 28 = .ok (.invokevirtual 55, 3) := dk_182 0 55 (dk_at dksX4_pause_1 4 rfl rfl)
theorem dX4_pause_31 : decode cX4_pause 31 = .ok (.checkcast 38, 3) := dk_192 0 38 (dk_at dksX4_pause_1 7 rfl rfl)
theorem dX4_pause_34 : decode cX4_pause 34 = .ok (.astore_n 3, 1) := dk_78 (dk_at dksX4_pause_1 10 rfl rfl)
theorem dX4_pause_35 : decode cX4_pause 35 = .ok (.aload_n 3, 1) := dk_45 (dk_at dksX4_pause_1 11 rfl rfl)
theorem dX4_pause_36 : decode cX4_pause 36 = .ok (.getfield 62, 3) := dk_180 0 62 (dk_at dksX4_pause_1 12 rfl rfl)
theorem dX4_pause_39 : decode cX4_pause 39 = .ok (.iconst 3, 1) := dk_6 (dk_at dksX4_pause_1 15 rfl rfl)
theorem dX4_pause_40 : decode cX4_pause 40 = .ok (.if_icmp .ne 7, 3) := dk_160 0 7 (dk_at dksX4_pause_1 16 rfl rfl)
theorem dX4_pause_43 : decode cX4_pause 43 = .ok (.iconst 1, 1) := dk_4 (dk_at dksX4_pause_1 19 rfl rfl)
theorem dX4_pause_44 : decode cX4_pause 44 = .ok (.goto 4, 3) := dk_167 0 4 (dk_at dksX4_pause_1 20 rfl rfl)
theorem dX4_pause_47 : decode cX4_pause 47 = .ok (.iconst 0, 1) := dk_3 (dk_at dksX4_pause_1 23 rfl rfl)
theorem dX4_pause_48 : decode cX4_pause 48 = .ok (.istore 4, 2) := dk_54 4 (dk_at dksX4_pause_2 0 rfl rfl)
theorem dX4_pause_50 : decode cX4_pause 50 = .ok (.aload_n 3, 1) := dk_45 (dk_at dksX4_pause_2 2 rfl rfl)
theorem dX4_pause_51 : decode cX4_pause 51 = .ok (.getfield 62, 3) := dk_180 0 62 (dk_at dksX4_pause_2 3 rfl rfl)
theorem dX4_pause_54 : decode cX4_pause 54 = .ok (.iconst 4, 1) := dk_7 (dk_at dksX4_pause_2 6 rfl rfl)
theorem dX4_pause_55 : decode cX4_pause 55 = .ok (.if_icmp .eq 19, 3) := dk_159 0 19 (dk_at dksX4_pause_2 7 rfl rfl)
theorem dX4_pause_58 : decode cX4_pause 58 = .ok (.iload_n 2, 1) := dk_28 (dk_at dksX4_pause_2 10 rfl rfl)
theorem dX4_pause_59 : decode cX4_pause 59 = .ok (.ifCond .ne 22, 3) := dk_154 0 22 (dk_at dksX4_pause_2 11 rfl rfl)
theorem dX4_pause_62 : decode cX4_pause 62 = .ok (.iload 4, 2) := dk_21 4 (dk_at dksX4_pause_2 14 rfl rfl)
theorem dX4_pause_64 : decode cX4_pause 64 = .ok (.ifCond .eq 17, 3) := dk_153 0 17 (dk_at dksX4_pause_2 16 rfl rfl)
theorem dX4_pause_67 : decode cX4_pause 67 = .ok (.aload_n 3, 1) := dk_45 (dk_at dksX4_pause_2 19 rfl rfl)
theorem dX4_pause_68 : decode cX4_pause 68 = .ok (.getfield 72, 3) := dk_180 0 72 (dk_at dksX4_pause_2 20 rfl rfl)
theorem dX4_pause_71 : decode cX4_pause 71 = .ok (.ifCond .eq 10, 3) := dk_153 0 10 (dk_at dksX4_pause_3 0 rfl rfl)
theorem dX4_pause_74 : decode cX4_pause 74 = .ok (.aload_n 0, 1) := dk_42 (dk_at dksX4_pause_3 3 rfl rfl)
theorem dX4_pause_75 : decode cX4_pause 75 = .ok (.iconst 2, 1) := dk_5 (dk_at dksX4_pause_3 4 rfl rfl)
theorem dX4_pause_76 : decode cX4_pause 76 = .ok (.putfield 16, 3) := dk_181 0 16 (dk_at dksX4_pause_3 5 rfl rfl)
theorem dX4_pause_79 : decode cX4_pause 79 = .ok (.iconst 0, 1) := dk_3 (dk_at dksX4_pause_3 8 rfl rfl)
theorem dX4_pause_80 : decode cX4_pause 80 = .ok (.ireturn, 1) := dk_172 (dk_at dksX4_pause_3 9 rfl rfl)
theorem dX4_pause_81 : decode cX4_pause 81 = .ok (.iload_n 2, 1) := dk_28 (dk_at dksX4_pause_3 10 rfl rfl)
theorem dX4_pause_82 : decode cX4_pause 82 = .ok (.ifCond .eq 14, 3) := dk_153 0 14 (dk_at dksX4_pause_3 11 rfl rfl)
theorem dX4_pause_85 : decode cX4_pause 85 = .ok (.aload_n 0, 1) := dk_42 (dk_at dksX4_pause_3 14 rfl rfl)
theorem dX4_pause_86 : decode cX4_pause 86 = .ok (.getfield 10, 3) := dk_180 0 10 (dk_at dksX4_pause_3 15 rfl rfl)
theorem dX4_pause_89 : decode cX4_pause 89 = .ok (.aload_n 3, 1) := dk_45 (dk_at dksX4_pause_3 18 rfl rfl)
theorem dX4_pause_90 : decode cX4_pause 90 = .ok (.invokevirtual 75, 3) := dk_182 0 75 (dk_at dksX4_pause_3 19 rfl rfl)
theorem dX4_pause_93 : decode cX4_pause 93 = .ok (.goto 13, 3) := dk_167 0 13 (dk_at dksX4_pause_4 0 rfl rfl)
theorem dX4_pause_96 : decode cX4_pause 96 = .ok (.iload 4, 2) := dk_21 4 (dk_at dksX4_pause_4 3 rfl rfl)
theorem dX4_pause_98 : decode cX4_pause 98 = .ok (.ifCond .eq 8, 3) := dk_153 0 8 (dk_at dksX4_pause_4 5 rfl rfl)
theorem dX4_pause_101 : decode cX4_pause 101 = .ok (.aload_n 0, 1) := dk_42 (dk_at dksX4_pause_4 8 rfl rfl)
theorem dX4_pause_102 : decode cX4_pause 102 = .ok (.aload_n 3, 1) := dk_45 (dk_at dksX4_pause_4 9 rfl rfl)
theorem dX4_pause_103 : decode cX4_pause 103 = .ok (.invokevirtual 79, 3) := dk_182 0 79 (dk_at dksX4_pause_4 10 rfl rfl)
theorem dX4_pause_106 : decode cX4_pause 106 = .ok (.iload 4, 2) := dk_21 4 (dk_at dksX4_pause_4 13 rfl rfl)
theorem dX4_pause_108 : decode cX4_pause 108 = .ok (.ireturn, 1) := dk_172 (dk_at dksX4_pause_4 15 rfl rfl)
abbrev cX4_goOn : ByteArray := prog_9_method_12_code
def yX4_goOn : MethodName := ⟨RX4, "goOn", "(LHyperVaneModel$Guest;)V"⟩
def dkwX4_goOn_2 : List UInt8 := [3, 167, 0, 7, 43, 180, 0, 65, 181, 0, 62, 177]
abbrev dktX4_goOn_2 : List UInt8 := dkwX4_goOn_2 ++ []
def dkwX4_goOn_1 : List UInt8 := [180, 0, 85, 42, 180, 0, 10, 180, 0, 88, 163, 0, 7, 4, 167, 0, 4, 3, 61, 43, 28, 153, 0, 7]
abbrev dktX4_goOn_1 : List UInt8 := dkwX4_goOn_1 ++ dktX4_goOn_2
def dkwX4_goOn_0 : List UInt8 := [43, 180, 0, 65, 4, 160, 0, 10, 43, 180, 0, 82, 157, 0, 25, 43, 180, 0, 65, 5, 160, 0, 21, 43]
abbrev dktX4_goOn_0 : List UInt8 := dkwX4_goOn_0 ++ dktX4_goOn_1
theorem dksX4_goOn_0 : cX4_goOn.data.toList.drop 0 = dktX4_goOn_0 := by decide +kernel
theorem dksX4_goOn_1 : cX4_goOn.data.toList.drop 24 = dktX4_goOn_1 := dk_seg dksX4_goOn_0 24 rfl rfl
theorem dksX4_goOn_2 : cX4_goOn.data.toList.drop 48 = dktX4_goOn_2 := dk_seg dksX4_goOn_1 24 rfl rfl
theorem dX4_goOn_0 : decode cX4_goOn 0 = .ok (.aload_n 1, 1) := dk_43 (dk_at dksX4_goOn_0 0 rfl rfl)
theorem dX4_goOn_1 : decode cX4_goOn 1 = .ok (.getfield 65, 3) := dk_180 0 65 (dk_at dksX4_goOn_0 1 rfl rfl)
theorem dX4_goOn_4 : decode cX4_goOn 4 = .ok (.iconst 1, 1) := dk_4 (dk_at dksX4_goOn_0 4 rfl rfl)
theorem dX4_goOn_5 : decode cX4_goOn 5 = .ok (.if_icmp .ne 10, 3) := dk_160 0 10 (dk_at dksX4_goOn_0 5 rfl rfl)
theorem dX4_goOn_8 : decode cX4_goOn 8 = .ok (.aload_n 1, 1) := dk_43 (dk_at dksX4_goOn_0 8 rfl rfl)
theorem dX4_goOn_9 : decode cX4_goOn 9 = .ok (.getfield 82, 3) := dk_180 0 82 (dk_at dksX4_goOn_0 9 rfl rfl)
theorem dX4_goOn_12 : decode cX4_goOn 12 = .ok (.ifCond .gt 25, 3) := dk_157 0 25 (dk_at dksX4_goOn_0 12 rfl rfl)
theorem dX4_goOn_15 : decode cX4_goOn 15 = .ok (.aload_n 1, 1) := dk_43 (dk_at dksX4_goOn_0 15 rfl rfl)
theorem dX4_goOn_16 : decode cX4_goOn 16 = .ok (.getfield 65, 3) := dk_180 0 65 (dk_at dksX4_goOn_0 16 rfl rfl)
theorem dX4_goOn_19 : decode cX4_goOn 19 = .ok (.iconst 2, 1) := dk_5 (dk_at dksX4_goOn_0 19 rfl rfl)
theorem dX4_goOn_20 : decode cX4_goOn 20 = .ok (.if_icmp .ne 21, 3) := dk_160 0 21 (dk_at dksX4_goOn_0 20 rfl rfl)
theorem dX4_goOn_23 : decode cX4_goOn 23 = .ok (.aload_n 1, 1) := dk_43 (dk_at dksX4_goOn_0 23 rfl rfl)
theorem dX4_goOn_24 : decode cX4_goOn 24 = .ok (.getfield 85, 3) := dk_180 0 85 (dk_at dksX4_goOn_1 0 rfl rfl)
theorem dX4_goOn_27 : decode cX4_goOn 27 = .ok (.aload_n 0, 1) := dk_42 (dk_at dksX4_goOn_1 3 rfl rfl)
theorem dX4_goOn_28 : decode cX4_goOn 28 = .ok (.getfield 10, 3) := dk_180 0 10 (dk_at dksX4_goOn_1 4 rfl rfl)
theorem dX4_goOn_31 : decode cX4_goOn 31 = .ok (.getfield 88, 3) := dk_180 0 88 (dk_at dksX4_goOn_1 7 rfl rfl)
theorem dX4_goOn_34 : decode cX4_goOn 34 = .ok (.if_icmp .gt 7, 3) := dk_163 0 7 (dk_at dksX4_goOn_1 10 rfl rfl)
theorem dX4_goOn_37 : decode cX4_goOn 37 = .ok (.iconst 1, 1) := dk_4 (dk_at dksX4_goOn_1 13 rfl rfl)
theorem dX4_goOn_38 : decode cX4_goOn 38 = .ok (.goto 4, 3) := dk_167 0 4 (dk_at dksX4_goOn_1 14 rfl rfl)
theorem dX4_goOn_41 : decode cX4_goOn 41 = .ok (.iconst 0, 1) := dk_3 (dk_at dksX4_goOn_1 17 rfl rfl)
theorem dX4_goOn_42 : decode cX4_goOn 42 = .ok (.istore_n 2, 1) := dk_61 (dk_at dksX4_goOn_1 18 rfl rfl)
theorem dX4_goOn_43 : decode cX4_goOn 43 = .ok (.aload_n 1, 1) := dk_43 (dk_at dksX4_goOn_1 19 rfl rfl)
theorem dX4_goOn_44 : decode cX4_goOn 44 = .ok (.iload_n 2, 1) := dk_28 (dk_at dksX4_goOn_1 20 rfl rfl)
theorem dX4_goOn_45 : decode cX4_goOn 45 = .ok (.ifCond .eq 7, 3) := dk_153 0 7 (dk_at dksX4_goOn_1 21 rfl rfl)
theorem dX4_goOn_48 : decode cX4_goOn 48 = .ok (.iconst 0, 1) := dk_3 (dk_at dksX4_goOn_2 0 rfl rfl)
theorem dX4_goOn_49 : decode cX4_goOn 49 = .ok (.goto 7, 3) := dk_167 0 7 (dk_at dksX4_goOn_2 1 rfl rfl)
theorem dX4_goOn_52 : decode cX4_goOn 52 = .ok (.aload_n 1, 1) := dk_43 (dk_at dksX4_goOn_2 4 rfl rfl)
theorem dX4_goOn_53 : decode cX4_goOn 53 = .ok (.getfield 65, 3) := dk_180 0 65 (dk_at dksX4_goOn_2 5 rfl rfl)
theorem dX4_goOn_56 : decode cX4_goOn 56 = .ok (.putfield 62, 3) := dk_181 0 62 (dk_at dksX4_goOn_2 8 rfl rfl)
theorem dX4_goOn_59 : decode cX4_goOn 59 = .ok (.return_, 1) := dk_177 (dk_at dksX4_goOn_2 11 rfl rfl)
abbrev cX4_frames : ByteArray := prog_9_method_13_code
def yX4_frames : MethodName := ⟨RX4, "frames", "(I)I"⟩
def dkwX4_frames_3 : List UInt8 := [28, 172]
abbrev dktX4_frames_3 : List UInt8 := dkwX4_frames_3 ++ []
def dkwX4_frames_2 : List UInt8 := [153, 0, 7, 4, 167, 0, 4, 3, 96, 61, 132, 3, 255, 167, 255, 229, 42, 180, 0, 10, 27, 181, 0, 91]
abbrev dktX4_frames_2 : List UInt8 := dkwX4_frames_2 ++ dktX4_frames_3
def dkwX4_frames_1 : List UInt8 := [180, 0, 10, 180, 0, 91, 4, 100, 62, 29, 27, 161, 0, 28, 28, 42, 180, 0, 10, 29, 182, 0, 94]
abbrev dktX4_frames_1 : List UInt8 := dkwX4_frames_1 ++ dktX4_frames_2
def dkwX4_frames_0 : List UInt8 := [42, 3, 181, 0, 16, 27, 4, 16, 10, 184, 0, 30, 154, 0, 9, 42, 4, 182, 0, 34, 172, 3, 61, 42]
abbrev dktX4_frames_0 : List UInt8 := dkwX4_frames_0 ++ dktX4_frames_1
theorem dksX4_frames_0 : cX4_frames.data.toList.drop 0 = dktX4_frames_0 := by decide +kernel
theorem dksX4_frames_1 : cX4_frames.data.toList.drop 24 = dktX4_frames_1 := dk_seg dksX4_frames_0 24 rfl rfl
theorem dksX4_frames_2 : cX4_frames.data.toList.drop 47 = dktX4_frames_2 := dk_seg dksX4_frames_1 23 rfl rfl
theorem dksX4_frames_3 : cX4_frames.data.toList.drop 71 = dktX4_frames_3 := dk_seg dksX4_frames_2 24 rfl rfl
theorem dX4_frames_0 : decode cX4_frames 0 = .ok (.aload_n 0, 1) := dk_42 (dk_at dksX4_frames_0 0 rfl rfl)
theorem dX4_frames_1 : decode cX4_frames 1 = .ok (.iconst 0, 1) := dk_3 (dk_at dksX4_frames_0 1 rfl rfl)
theorem dX4_frames_2 : decode cX4_frames 2 = .ok (.putfield 16, 3) := dk_181 0 16 (dk_at dksX4_frames_0 2 rfl rfl)
theorem dX4_frames_5 : decode cX4_frames 5 = .ok (.iload_n 1, 1) := dk_27 (dk_at dksX4_frames_0 5 rfl rfl)
theorem dX4_frames_6 : decode cX4_frames 6 = .ok (.iconst 1, 1) := dk_4 (dk_at dksX4_frames_0 6 rfl rfl)
theorem dX4_frames_7 : decode cX4_frames 7 = .ok (.bipush 10, 2) := dk_16 10 (dk_at dksX4_frames_0 7 rfl rfl)
theorem dX4_frames_9 : decode cX4_frames 9 = .ok (.invokestatic 30, 3) := dk_184 0 30 (dk_at dksX4_frames_0 9 rfl rfl)
theorem dX4_frames_12 : decode cX4_frames 12 = .ok (.ifCond .ne 9, 3) := dk_154 0 9 (dk_at dksX4_frames_0 12 rfl rfl)
theorem dX4_frames_15 : decode cX4_frames 15 = .ok (.aload_n 0, 1) := dk_42 (dk_at dksX4_frames_0 15 rfl rfl)
theorem dX4_frames_16 : decode cX4_frames 16 = .ok (.iconst 1, 1) := dk_4 (dk_at dksX4_frames_0 16 rfl rfl)
theorem dX4_frames_17 : decode cX4_frames 17 = .ok (.invokevirtual 34, 3) := dk_182 0 34 (dk_at dksX4_frames_0 17 rfl rfl)
theorem dX4_frames_20 : decode cX4_frames 20 = .ok (.ireturn, 1) := dk_172 (dk_at dksX4_frames_0 20 rfl rfl)
theorem dX4_frames_21 : decode cX4_frames 21 = .ok (.iconst 0, 1) := dk_3 (dk_at dksX4_frames_0 21 rfl rfl)
theorem dX4_frames_22 : decode cX4_frames 22 = .ok (.istore_n 2, 1) := dk_61 (dk_at dksX4_frames_0 22 rfl rfl)
theorem dX4_frames_23 : decode cX4_frames 23 = .ok (.aload_n 0, 1) := dk_42 (dk_at dksX4_frames_0 23 rfl rfl)
theorem dX4_frames_24 : decode cX4_frames 24 = .ok (.getfield 10, 3) := dk_180 0 10 (dk_at dksX4_frames_1 0 rfl rfl)
theorem dX4_frames_27 : decode cX4_frames 27 = .ok (.getfield 91, 3) := dk_180 0 91 (dk_at dksX4_frames_1 3 rfl rfl)
theorem dX4_frames_30 : decode cX4_frames 30 = .ok (.iconst 1, 1) := dk_4 (dk_at dksX4_frames_1 6 rfl rfl)
theorem dX4_frames_31 : decode cX4_frames 31 = .ok (.isub, 1) := dk_100 (dk_at dksX4_frames_1 7 rfl rfl)
theorem dX4_frames_32 : decode cX4_frames 32 = .ok (.istore_n 3, 1) := dk_62 (dk_at dksX4_frames_1 8 rfl rfl)
theorem dX4_frames_33 : decode cX4_frames 33 = .ok (.iload_n 3, 1) := dk_29 (dk_at dksX4_frames_1 9 rfl rfl)
theorem dX4_frames_34 : decode cX4_frames 34 = .ok (.iload_n 1, 1) := dk_27 (dk_at dksX4_frames_1 10 rfl rfl)
theorem dX4_frames_35 : decode cX4_frames 35 = .ok (.if_icmp .lt 28, 3) := dk_161 0 28 (dk_at dksX4_frames_1 11 rfl rfl)
theorem dX4_frames_38 : decode cX4_frames 38 = .ok (.iload_n 2, 1) := dk_28 (dk_at dksX4_frames_1 14 rfl rfl)
theorem dX4_frames_39 : decode cX4_frames 39 = .ok (.aload_n 0, 1) := dk_42 (dk_at dksX4_frames_1 15 rfl rfl)
theorem dX4_frames_40 : decode cX4_frames 40 = .ok (.getfield 10, 3) := dk_180 0 10 (dk_at dksX4_frames_1 16 rfl rfl)
theorem dX4_frames_43 : decode cX4_frames 43 = .ok (.iload_n 3, 1) := dk_29 (dk_at dksX4_frames_1 19 rfl rfl)
theorem dX4_frames_44 : decode cX4_frames 44 = .ok (.invokevirtual 94, 3) := dk_182 0 94 (dk_at dksX4_frames_1 20 rfl rfl)
theorem dX4_frames_47 : decode cX4_frames 47 = .ok (.ifCond .eq 7, 3) := dk_153 0 7 (dk_at dksX4_frames_2 0 rfl rfl)
theorem dX4_frames_50 : decode cX4_frames 50 = .ok (.iconst 1, 1) := dk_4 (dk_at dksX4_frames_2 3 rfl rfl)
theorem dX4_frames_51 : decode cX4_frames 51 = .ok (.goto 4, 3) := dk_167 0 4 (dk_at dksX4_frames_2 4 rfl rfl)
theorem dX4_frames_54 : decode cX4_frames 54 = .ok (.iconst 0, 1) := dk_3 (dk_at dksX4_frames_2 7 rfl rfl)
theorem dX4_frames_55 : decode cX4_frames 55 = .ok (.iadd, 1) := dk_96 (dk_at dksX4_frames_2 8 rfl rfl)
theorem dX4_frames_56 : decode cX4_frames 56 = .ok (.istore_n 2, 1) := dk_61 (dk_at dksX4_frames_2 9 rfl rfl)
theorem dX4_frames_57 : decode cX4_frames 57 = .ok (.iinc 3 (-1), 3) := dk_132 3 255 (dk_at dksX4_frames_2 10 rfl rfl)
theorem dX4_frames_60 : decode cX4_frames 60 = .ok (.goto (-27), 3) := dk_167 255 229 (dk_at dksX4_frames_2 13 rfl rfl)
theorem dX4_frames_63 : decode cX4_frames 63 = .ok (.aload_n 0, 1) := dk_42 (dk_at dksX4_frames_2 16 rfl rfl)
theorem dX4_frames_64 : decode cX4_frames 64 = .ok (.getfield 10, 3) := dk_180 0 10 (dk_at dksX4_frames_2 17 rfl rfl)
theorem dX4_frames_67 : decode cX4_frames 67 = .ok (.iload_n 1, 1) := dk_27 (dk_at dksX4_frames_2 20 rfl rfl)
theorem dX4_frames_68 : decode cX4_frames 68 = .ok (.putfield 91, 3) := dk_181 0 91 (dk_at dksX4_frames_2 21 rfl rfl)
theorem dX4_frames_71 : decode cX4_frames 71 = .ok (.iload_n 2, 1) := dk_28 (dk_at dksX4_frames_3 0 rfl rfl)
theorem dX4_frames_72 : decode cX4_frames 72 = .ok (.ireturn, 1) := dk_172 (dk_at dksX4_frames_3 1 rfl rfl)
abbrev cX4_giveUp : ByteArray := prog_9_method_14_code
def yX4_giveUp : MethodName := ⟨RX4, "giveUp", "(II)I"⟩
def dkwX4_giveUp_9 : List UInt8 := [167, 255, 125, 21, 4, 172]
abbrev dktX4_giveUp_9 : List UInt8 := dkwX4_giveUp_9 ++ []
def dkwX4_giveUp_8 : List UInt8 := [79, 58, 7, 45, 180, 0, 68, 153, 0, 13, 45, 180, 0, 122, 25, 7, 182, 0, 44, 87, 132, 5, 1]
abbrev dktX4_giveUp_8 : List UInt8 := dkwX4_giveUp_8 ++ dktX4_giveUp_9
def dkwX4_giveUp_7 : List UInt8 := [4, 21, 6, 120, 2, 130, 126, 181, 0, 116, 5, 188, 10, 89, 3, 45, 180, 0, 119, 79, 89, 4, 21, 6]
abbrev dktX4_giveUp_7 : List UInt8 := dkwX4_giveUp_7 ++ dktX4_giveUp_8
def dkwX4_giveUp_6 : List UInt8 := [167, 255, 209, 45, 180, 0, 106, 21, 6, 5, 79, 45, 180, 0, 113, 21, 6, 3, 79, 45, 89, 180, 0, 116]
abbrev dktX4_giveUp_6 : List UInt8 := dkwX4_giveUp_6 ++ dktX4_giveUp_7
def dkwX4_giveUp_5 : List UInt8 := [180, 0, 110, 21, 7, 46, 45, 180, 0, 110, 21, 6, 46, 162, 0, 7, 21, 7, 54, 6, 132, 7, 1]
abbrev dktX4_giveUp_5 : List UInt8 := dkwX4_giveUp_5 ++ dktX4_giveUp_6
def dkwX4_giveUp_4 : List UInt8 := [16, 6, 162, 0, 46, 45, 180, 0, 106, 21, 7, 46, 154, 0, 30, 21, 6, 2, 159, 0, 20, 45]
abbrev dktX4_giveUp_4 : List UInt8 := dkwX4_giveUp_4 ++ dktX4_giveUp_5
def dkwX4_giveUp_3 : List UInt8 := [184, 0, 100, 54, 4, 3, 54, 5, 21, 5, 21, 4, 162, 0, 130, 2, 54, 6, 3, 54, 7, 21, 7]
abbrev dktX4_giveUp_3 : List UInt8 := dkwX4_giveUp_3 ++ dktX4_giveUp_4
def dkwX4_giveUp_2 : List UInt8 := [192, 0, 38, 78, 45, 180, 0, 62, 7, 160, 0, 9, 42, 6, 182, 0, 34, 172, 28, 45, 3, 182, 0, 97]
abbrev dktX4_giveUp_2 : List UInt8 := dkwX4_giveUp_2 ++ dktX4_giveUp_3
def dkwX4_giveUp_1 : List UInt8 := [184, 0, 30, 154, 0, 9, 42, 5, 182, 0, 34, 172, 42, 180, 0, 10, 180, 0, 20, 27, 182, 0, 55]
abbrev dktX4_giveUp_1 : List UInt8 := dkwX4_giveUp_1 ++ dktX4_giveUp_2
def dkwX4_giveUp_0 : List UInt8 := [42, 3, 181, 0, 16, 42, 27, 182, 0, 48, 154, 0, 9, 42, 4, 182, 0, 34, 172, 28, 4, 16, 6]
abbrev dktX4_giveUp_0 : List UInt8 := dkwX4_giveUp_0 ++ dktX4_giveUp_1
theorem dksX4_giveUp_0 : cX4_giveUp.data.toList.drop 0 = dktX4_giveUp_0 := by decide +kernel
theorem dksX4_giveUp_1 : cX4_giveUp.data.toList.drop 23 = dktX4_giveUp_1 := dk_seg dksX4_giveUp_0 23 rfl rfl
theorem dksX4_giveUp_2 : cX4_giveUp.data.toList.drop 46 = dktX4_giveUp_2 := dk_seg dksX4_giveUp_1 23 rfl rfl
theorem dksX4_giveUp_3 : cX4_giveUp.data.toList.drop 70 = dktX4_giveUp_3 := dk_seg dksX4_giveUp_2 24 rfl rfl
theorem dksX4_giveUp_4 : cX4_giveUp.data.toList.drop 93 = dktX4_giveUp_4 := dk_seg dksX4_giveUp_3 23 rfl rfl
theorem dksX4_giveUp_5 : cX4_giveUp.data.toList.drop 115 = dktX4_giveUp_5 := dk_seg dksX4_giveUp_4 22 rfl rfl
theorem dksX4_giveUp_6 : cX4_giveUp.data.toList.drop 138 = dktX4_giveUp_6 := dk_seg dksX4_giveUp_5 23 rfl rfl
theorem dksX4_giveUp_7 : cX4_giveUp.data.toList.drop 162 = dktX4_giveUp_7 := dk_seg dksX4_giveUp_6 24 rfl rfl
theorem dksX4_giveUp_8 : cX4_giveUp.data.toList.drop 186 = dktX4_giveUp_8 := dk_seg dksX4_giveUp_7 24 rfl rfl
theorem dksX4_giveUp_9 : cX4_giveUp.data.toList.drop 209 = dktX4_giveUp_9 := dk_seg dksX4_giveUp_8 23 rfl rfl
theorem dX4_giveUp_0 : decode cX4_giveUp 0 = .ok (.aload_n 0, 1) := dk_42 (dk_at dksX4_giveUp_0 0 rfl rfl)
theorem dX4_giveUp_1 : decode cX4_giveUp 1 = .ok (.iconst 0, 1) := dk_3 (dk_at dksX4_giveUp_0 1 rfl rfl)
theorem dX4_giveUp_2 : decode cX4_giveUp 2 = .ok (.putfield 16, 3) := dk_181 0 16 (dk_at dksX4_giveUp_0 2 rfl rfl)
theorem dX4_giveUp_5 : decode cX4_giveUp 5 = .ok (.aload_n 0, 1) := dk_42 (dk_at dksX4_giveUp_0 5 rfl rfl)
theorem dX4_giveUp_6 : decode cX4_giveUp 6 = .ok (.iload_n 1, 1) := dk_27 (dk_at dksX4_giveUp_0 6 rfl rfl)
theorem dX4_giveUp_7 : decode cX4_giveUp 7 = .ok (.invokevirtual 48, 3) := dk_182 0 48 (dk_at dksX4_giveUp_0 7 rfl rfl)
theorem dX4_giveUp_10 : decode cX4_giveUp 10 = .ok (.ifCond .ne 9, 3) := dk_154 0 9 (dk_at dksX4_giveUp_0 10 rfl rfl)
theorem dX4_giveUp_13 : decode cX4_giveUp 13 = .ok (.aload_n 0, 1) := dk_42 (dk_at dksX4_giveUp_0 13 rfl rfl)
theorem dX4_giveUp_14 : decode cX4_giveUp 14 = .ok (.iconst 1, 1) := dk_4 (dk_at dksX4_giveUp_0 14 rfl rfl)
theorem dX4_giveUp_15 : decode cX4_giveUp 15 = .ok (.invokevirtual 34, 3) := dk_182 0 34 (dk_at dksX4_giveUp_0 15 rfl rfl)
theorem dX4_giveUp_18 : decode cX4_giveUp 18 = .ok (.ireturn, 1) := dk_172 (dk_at dksX4_giveUp_0 18 rfl rfl)
theorem dX4_giveUp_19 : decode cX4_giveUp 19 = .ok (.iload_n 2, 1) := dk_28 (dk_at dksX4_giveUp_0 19 rfl rfl)
theorem dX4_giveUp_20 : decode cX4_giveUp 20 = .ok (.iconst 1, 1) := dk_4 (dk_at dksX4_giveUp_0 20 rfl rfl)
theorem dX4_giveUp_21 : decode cX4_giveUp 21 = .ok (.bipush 6, 2) := dk_16 6 (dk_at dksX4_giveUp_0 21 rfl rfl)
theorem dX4_giveUp_23 : decode cX4_giveUp 23 = .ok (.invokestatic 30, 3) := dk_184 0 30 (dk_at dksX4_giveUp_1 0 rfl rfl)
theorem dX4_giveUp_26 : decode cX4_giveUp 26 = .ok (.ifCond .ne 9, 3) := dk_154 0 9 (dk_at dksX4_giveUp_1 3 rfl rfl)
theorem dX4_giveUp_29 : decode cX4_giveUp 29 = .ok (.aload_n 0, 1) := dk_42 (dk_at dksX4_giveUp_1 6 rfl rfl)
theorem dX4_giveUp_30 : decode cX4_giveUp 30 = .ok (.iconst 2, 1) := dk_5 (dk_at dksX4_giveUp_1 7 rfl rfl)
theorem dX4_giveUp_31 : decode cX4_giveUp 31 = .ok (.invokevirtual 34, 3) := dk_182 0 34 (dk_at dksX4_giveUp_1 8 rfl rfl)
theorem dX4_giveUp_34 : decode cX4_giveUp 34 = .ok (.ireturn, 1) := dk_172 (dk_at dksX4_giveUp_1 11 rfl rfl)
theorem dX4_giveUp_35 : decode cX4_giveUp 35 = .ok (.aload_n 0, 1) := dk_42 (dk_at dksX4_giveUp_1 12 rfl rfl)
theorem dX4_giveUp_36 : decode cX4_giveUp 36 = .ok (.getfield 10, 3) := dk_180 0 10 (dk_at dksX4_giveUp_1 13 rfl rfl)
theorem dX4_giveUp_39 : decode cX4_giveUp 39 = .ok (.getfield 20, 3) := dk_180 0 20 (dk_at dksX4_giveUp_1 16 rfl rfl)
theorem dX4_giveUp_42 : decode cX4_giveUp 42 = .ok (.iload_n 1, 1) := dk_27 (dk_at dksX4_giveUp_1 19 rfl rfl)
theorem dX4_giveUp_43 : decode cX4_giveUp 43 = .ok (.invokevirtual 55, 3) := dk_182 0 55 (dk_at dksX4_giveUp_1 20 rfl rfl)
theorem dX4_giveUp_46 : decode cX4_giveUp 46 = .ok (.checkcast 38, 3) := dk_192 0 38 (dk_at dksX4_giveUp_2 0 rfl rfl)
theorem dX4_giveUp_49 : decode cX4_giveUp 49 = .ok (.astore_n 3, 1) := dk_78 (dk_at dksX4_giveUp_2 3 rfl rfl)
theorem dX4_giveUp_50 : decode cX4_giveUp 50 = .ok (.aload_n 3, 1) := dk_45 (dk_at dksX4_giveUp_2 4 rfl rfl)
theorem dX4_giveUp_51 : decode cX4_giveUp 51 = .ok (.getfield 62, 3) := dk_180 0 62 (dk_at dksX4_giveUp_2 5 rfl rfl)
theorem dX4_giveUp_54 : decode cX4_giveUp 54 = .ok (.iconst 4, 1) := dk_7 (dk_at dksX4_giveUp_2 8 rfl rfl)
theorem dX4_giveUp_55 : decode cX4_giveUp 55 = .ok (.if_icmp .ne 9, 3) := dk_160 0 9 (dk_at dksX4_giveUp_2 9 rfl rfl)
theorem dX4_giveUp_58 : decode cX4_giveUp 58 = .ok (.aload_n 0, 1) := dk_42 (dk_at dksX4_giveUp_2 12 rfl rfl)
theorem dX4_giveUp_59 : decode cX4_giveUp 59 = .ok (.iconst 3, 1) := dk_6 (dk_at dksX4_giveUp_2 13 rfl rfl)
theorem dX4_giveUp_60 : decode cX4_giveUp 60 = .ok (.invokevirtual 34, 3) := dk_182 0 34 (dk_at dksX4_giveUp_2 14 rfl rfl)
theorem dX4_giveUp_63 : decode cX4_giveUp 63 = .ok (.ireturn, 1) := dk_172 (dk_at dksX4_giveUp_2 17 rfl rfl)
theorem dX4_giveUp_64 : decode cX4_giveUp 64 = .ok (.iload_n 2, 1) := dk_28 (dk_at dksX4_giveUp_2 18 rfl rfl)
theorem dX4_giveUp_65 : decode cX4_giveUp 65 = .ok (.aload_n 3, 1) := dk_45 (dk_at dksX4_giveUp_2 19 rfl rfl)
theorem dX4_giveUp_66 : decode cX4_giveUp 66 = .ok (.iconst 0, 1) := dk_3 (dk_at dksX4_giveUp_2 20 rfl rfl)
theorem dX4_giveUp_67 : decode cX4_giveUp 67 = .ok (.invokevirtual 97, 3) := dk_182 0 97 (dk_at dksX4_giveUp_2 21 rfl rfl)
theorem dX4_giveUp_70 : decode cX4_giveUp 70 = .ok (.invokestatic 100, 3) := dk_184 0 100 (dk_at dksX4_giveUp_3 0 rfl rfl)
theorem dX4_giveUp_73 : decode cX4_giveUp 73 = .ok (.istore 4, 2) := dk_54 4 (dk_at dksX4_giveUp_3 3 rfl rfl)
theorem dX4_giveUp_75 : decode cX4_giveUp 75 = .ok (.iconst 0, 1) := dk_3 (dk_at dksX4_giveUp_3 5 rfl rfl)
theorem dX4_giveUp_76 : decode cX4_giveUp 76 = .ok (.istore 5, 2) := dk_54 5 (dk_at dksX4_giveUp_3 6 rfl rfl)
theorem dX4_giveUp_78 : decode cX4_giveUp 78 = .ok (.iload 5, 2) := dk_21 5 (dk_at dksX4_giveUp_3 8 rfl rfl)
theorem dX4_giveUp_80 : decode cX4_giveUp 80 = .ok (.iload 4, 2) := dk_21 4 (dk_at dksX4_giveUp_3 10 rfl rfl)
theorem dX4_giveUp_82 : decode cX4_giveUp 82 = .ok (.if_icmp .ge 130, 3) := dk_162 0 130 (dk_at dksX4_giveUp_3 12 rfl rfl)
theorem dX4_giveUp_85 : decode cX4_giveUp 85 = .ok (.iconst (-1), 1) := dk_2 (dk_at dksX4_giveUp_3 15 rfl rfl)
theorem dX4_giveUp_86 : decode cX4_giveUp 86 = .ok (.istore 6, 2) := dk_54 6 (dk_at dksX4_giveUp_3 16 rfl rfl)
theorem dX4_giveUp_88 : decode cX4_giveUp 88 = .ok (.iconst 0, 1) := dk_3 (dk_at dksX4_giveUp_3 18 rfl rfl)
theorem dX4_giveUp_89 : decode cX4_giveUp 89 = .ok (.istore 7, 2) := dk_54 7 (dk_at dksX4_giveUp_3 19 rfl rfl)
theorem dX4_giveUp_91 : decode cX4_giveUp 91 = .ok (.iload 7, 2) := dk_21 7 (dk_at dksX4_giveUp_3 21 rfl rfl)
theorem dX4_giveUp_93 : decode cX4_giveUp 93 = .ok (.bipush 6, 2) := dk_16 6 (dk_at dksX4_giveUp_4 0 rfl rfl)
theorem dX4_giveUp_95 : decode cX4_giveUp 95 = .ok (.if_icmp .ge 46, 3) := dk_162 0 46 (dk_at dksX4_giveUp_4 2 rfl rfl)
theorem dX4_giveUp_98 : decode cX4_giveUp 98 = .ok (.aload_n 3, 1) := dk_45 (dk_at dksX4_giveUp_4 5 rfl rfl)
theorem dX4_giveUp_99 : decode cX4_giveUp 99 = .ok (.getfield 106, 3) := dk_180 0 106 (dk_at dksX4_giveUp_4 6 rfl rfl)
theorem dX4_giveUp_102 : decode cX4_giveUp 102 = .ok (.iload 7, 2) := dk_21 7 (dk_at dksX4_giveUp_4 9 rfl rfl)
theorem dX4_giveUp_104 : decode cX4_giveUp 104 = .ok (.iaload, 1) := dk_46 (dk_at dksX4_giveUp_4 11 rfl rfl)
theorem dX4_giveUp_105 : decode cX4_giveUp 105 = .ok (.ifCond .ne 30, 3) := dk_154 0 30 (dk_at dksX4_giveUp_4 12 rfl rfl)
theorem dX4_giveUp_108 : decode cX4_giveUp 108 = .ok (.iload 6, 2) := dk_21 6 (dk_at dksX4_giveUp_4 15 rfl rfl)
theorem dX4_giveUp_110 : decode cX4_giveUp 110 = .ok (.iconst (-1), 1) := dk_2 (dk_at dksX4_giveUp_4 17 rfl rfl)
theorem dX4_giveUp_111 : decode cX4_giveUp 111 = .ok (.if_icmp .eq 20, 3) := dk_159 0 20 (dk_at dksX4_giveUp_4 18 rfl rfl)
theorem dX4_giveUp_114 : decode cX4_giveUp 114 = .ok (.aload_n 3, 1) := dk_45 (dk_at dksX4_giveUp_4 21 rfl rfl)
theorem dX4_giveUp_115 : decode cX4_giveUp 115 = .ok (.getfield 110, 3) := dk_180 0 110 (dk_at dksX4_giveUp_5 0 rfl rfl)
theorem dX4_giveUp_118 : decode cX4_giveUp 118 = .ok (.iload 7, 2) := dk_21 7 (dk_at dksX4_giveUp_5 3 rfl rfl)
theorem dX4_giveUp_120 : decode cX4_giveUp 120 = .ok (.iaload, 1) := dk_46 (dk_at dksX4_giveUp_5 5 rfl rfl)
theorem dX4_giveUp_121 : decode cX4_giveUp 121 = .ok (.aload_n 3, 1) := dk_45 (dk_at dksX4_giveUp_5 6 rfl rfl)
theorem dX4_giveUp_122 : decode cX4_giveUp 122 = .ok (.getfield 110, 3) := dk_180 0 110 (dk_at dksX4_giveUp_5 7 rfl rfl)
theorem dX4_giveUp_125 : decode cX4_giveUp 125 = .ok (.iload 6, 2) := dk_21 6 (dk_at dksX4_giveUp_5 10 rfl rfl)
theorem dX4_giveUp_127 : decode cX4_giveUp 127 = .ok (.iaload, 1) := dk_46 (dk_at dksX4_giveUp_5 12 rfl rfl)
theorem dX4_giveUp_128 : decode cX4_giveUp 128 = .ok (.if_icmp .ge 7, 3) := dk_162 0 7 (dk_at dksX4_giveUp_5 13 rfl rfl)
theorem dX4_giveUp_131 : decode cX4_giveUp 131 = .ok (.iload 7, 2) := dk_21 7 (dk_at dksX4_giveUp_5 16 rfl rfl)
theorem dX4_giveUp_133 : decode cX4_giveUp 133 = .ok (.istore 6, 2) := dk_54 6 (dk_at dksX4_giveUp_5 18 rfl rfl)
theorem dX4_giveUp_135 : decode cX4_giveUp 135 = .ok (.iinc 7 1, 3) := dk_132 7 1 (dk_at dksX4_giveUp_5 20 rfl rfl)
theorem dX4_giveUp_138 : decode cX4_giveUp 138 = .ok (.goto (-47), 3) := dk_167 255 209 (dk_at dksX4_giveUp_6 0 rfl rfl)
theorem dX4_giveUp_141 : decode cX4_giveUp 141 = .ok (.aload_n 3, 1) := dk_45 (dk_at dksX4_giveUp_6 3 rfl rfl)
theorem dX4_giveUp_142 : decode cX4_giveUp 142 = .ok (.getfield 106, 3) := dk_180 0 106 (dk_at dksX4_giveUp_6 4 rfl rfl)
theorem dX4_giveUp_145 : decode cX4_giveUp 145 = .ok (.iload 6, 2) := dk_21 6 (dk_at dksX4_giveUp_6 7 rfl rfl)
theorem dX4_giveUp_147 : decode cX4_giveUp 147 = .ok (.iconst 2, 1) := dk_5 (dk_at dksX4_giveUp_6 9 rfl rfl)
theorem dX4_giveUp_148 : decode cX4_giveUp 148 = .ok (.iastore, 1) := dk_79 (dk_at dksX4_giveUp_6 10 rfl rfl)
theorem dX4_giveUp_149 : decode cX4_giveUp 149 = .ok (.aload_n 3, 1) := dk_45 (dk_at dksX4_giveUp_6 11 rfl rfl)
theorem dX4_giveUp_150 : decode cX4_giveUp 150 = .ok (.getfield 113, 3) := dk_180 0 113 (dk_at dksX4_giveUp_6 12 rfl rfl)
theorem dX4_giveUp_153 : decode cX4_giveUp 153 = .ok (.iload 6, 2) := dk_21 6 (dk_at dksX4_giveUp_6 15 rfl rfl)
theorem dX4_giveUp_155 : decode cX4_giveUp 155 = .ok (.iconst 0, 1) := dk_3 (dk_at dksX4_giveUp_6 17 rfl rfl)
theorem dX4_giveUp_156 : decode cX4_giveUp 156 = .ok (.iastore, 1) := dk_79 (dk_at dksX4_giveUp_6 18 rfl rfl)
theorem dX4_giveUp_157 : decode cX4_giveUp 157 = .ok (.aload_n 3, 1) := dk_45 (dk_at dksX4_giveUp_6 19 rfl rfl)
theorem dX4_giveUp_158 : decode cX4_giveUp 158 = .ok (.dup, 1) := dk_89 (dk_at dksX4_giveUp_6 20 rfl rfl)
theorem dX4_giveUp_159 : decode cX4_giveUp 159 = .ok (.getfield 116, 3) := dk_180 0 116 (dk_at dksX4_giveUp_6 21 rfl rfl)
theorem dX4_giveUp_162 : decode cX4_giveUp 162 = .ok (.iconst 1, 1) := dk_4 (dk_at dksX4_giveUp_7 0 rfl rfl)
theorem dX4_giveUp_163 : decode cX4_giveUp 163 = .ok (.iload 6, 2) := dk_21 6 (dk_at dksX4_giveUp_7 1 rfl rfl)
theorem dX4_giveUp_165 : decode cX4_giveUp 165 = .ok (.ishl, 1) := dk_120 (dk_at dksX4_giveUp_7 3 rfl rfl)
theorem dX4_giveUp_166 : decode cX4_giveUp 166 = .ok (.iconst (-1), 1) := dk_2 (dk_at dksX4_giveUp_7 4 rfl rfl)
theorem dX4_giveUp_167 : decode cX4_giveUp 167 = .ok (.ixor, 1) := dk_130 (dk_at dksX4_giveUp_7 5 rfl rfl)
theorem dX4_giveUp_168 : decode cX4_giveUp 168 = .ok (.iand, 1) := dk_126 (dk_at dksX4_giveUp_7 6 rfl rfl)
theorem dX4_giveUp_169 : decode cX4_giveUp 169 = .ok (.putfield 116, 3) := dk_181 0 116 (dk_at dksX4_giveUp_7 7 rfl rfl)
theorem dX4_giveUp_172 : decode cX4_giveUp 172 = .ok (.iconst 2, 1) := dk_5 (dk_at dksX4_giveUp_7 10 rfl rfl)
theorem dX4_giveUp_173 : decode cX4_giveUp 173 = .ok (.newarray .int, 2) := dk_188_10 (dk_at dksX4_giveUp_7 11 rfl rfl)
theorem dX4_giveUp_175 : decode cX4_giveUp 175 = .ok (.dup, 1) := dk_89 (dk_at dksX4_giveUp_7 13 rfl rfl)
theorem dX4_giveUp_176 : decode cX4_giveUp 176 = .ok (.iconst 0, 1) := dk_3 (dk_at dksX4_giveUp_7 14 rfl rfl)
theorem dX4_giveUp_177 : decode cX4_giveUp 177 = .ok (.aload_n 3, 1) := dk_45 (dk_at dksX4_giveUp_7 15 rfl rfl)
theorem dX4_giveUp_178 : decode cX4_giveUp 178 = .ok (.getfield 119, 3) := dk_180 0 119 (dk_at dksX4_giveUp_7 16 rfl rfl)
theorem dX4_giveUp_181 : decode cX4_giveUp 181 = .ok (.iastore, 1) := dk_79 (dk_at dksX4_giveUp_7 19 rfl rfl)
theorem dX4_giveUp_182 : decode cX4_giveUp 182 = .ok (.dup, 1) := dk_89 (dk_at dksX4_giveUp_7 20 rfl rfl)
theorem dX4_giveUp_183 : decode cX4_giveUp 183 = .ok (.iconst 1, 1) := dk_4 (dk_at dksX4_giveUp_7 21 rfl rfl)
theorem dX4_giveUp_184 : decode cX4_giveUp 184 = .ok (.iload 6, 2) := dk_21 6 (dk_at dksX4_giveUp_7 22 rfl rfl)
theorem dX4_giveUp_186 : decode cX4_giveUp 186 = .ok (.iastore, 1) := dk_79 (dk_at dksX4_giveUp_8 0 rfl rfl)
theorem dX4_giveUp_187 : decode cX4_giveUp 187 = .ok (.astore 7, 2) := dk_58 7 (dk_at dksX4_giveUp_8 1 rfl rfl)
theorem dX4_giveUp_189 : decode cX4_giveUp 189 = .ok (.aload_n 3, 1) := dk_45 (dk_at dksX4_giveUp_8 3 rfl rfl)
theorem dX4_giveUp_190 : decode cX4_giveUp 190 = .ok (.getfield 68, 3) := dk_180 0 68 (dk_at dksX4_giveUp_8 4 rfl rfl)
theorem dX4_giveUp_193 : decode cX4_giveUp 193 = .ok (.ifCond .eq 13, 3) := dk_153 0 13 (dk_at dksX4_giveUp_8 7 rfl rfl)
theorem dX4_giveUp_196 : decode cX4_giveUp 196 = .ok (.aload_n 3, 1) := dk_45 (dk_at dksX4_giveUp_8 10 rfl rfl)
theorem dX4_giveUp_197 : decode cX4_giveUp 197 = .ok (.getfield 122, 3) := dk_180 0 122 (dk_at dksX4_giveUp_8 11 rfl rfl)
theorem dX4_giveUp_200 : decode cX4_giveUp 200 = .ok (.aload 7, 2) := dk_25 7 (dk_at dksX4_giveUp_8 14 rfl rfl)
theorem dX4_giveUp_202 : decode cX4_giveUp 202 = .ok (.invokevirtual 44, 3) := dk_182 0 44 (dk_at dksX4_giveUp_8 16 rfl rfl)
theorem dX4_giveUp_205 : decode cX4_giveUp 205 = .ok (.pop, 1) := dk_87 (dk_at dksX4_giveUp_8 19 rfl rfl)
theorem dX4_giveUp_206 : decode cX4_giveUp 206 = .ok (.iinc 5 1, 3) := dk_132 5 1 (dk_at dksX4_giveUp_8 20 rfl rfl)
theorem dX4_giveUp_209 : decode cX4_giveUp 209 = .ok (.goto (-131), 3) := dk_167 255 125 (dk_at dksX4_giveUp_9 0 rfl rfl)
theorem dX4_giveUp_212 : decode cX4_giveUp 212 = .ok (.iload 4, 2) := dk_21 4 (dk_at dksX4_giveUp_9 3 rfl rfl)
theorem dX4_giveUp_214 : decode cX4_giveUp 214 = .ok (.ireturn, 1) := dk_172 (dk_at dksX4_giveUp_9 5 rfl rfl)
abbrev cX4_move : ByteArray := prog_9_method_17_code
def yX4_move : MethodName := ⟨RX4, "move", "(II)I"⟩
def dkwX4_move_2 : List UInt8 := [182, 0, 134, 167, 0, 8, 42, 6, 182, 0, 34, 172]
abbrev dktX4_move_2 : List UInt8 := dkwX4_move_2 ++ []
def dkwX4_move_1 : List UInt8 := [154, 0, 9, 42, 5, 182, 0, 34, 172, 42, 27, 182, 0, 131, 153, 0, 15, 42, 180, 0, 10, 27, 28]
abbrev dktX4_move_1 : List UInt8 := dkwX4_move_1 ++ dktX4_move_2
def dkwX4_move_0 : List UInt8 := [42, 3, 181, 0, 16, 42, 27, 182, 0, 48, 154, 0, 9, 42, 4, 182, 0, 34, 172, 28, 184, 0, 128]
abbrev dktX4_move_0 : List UInt8 := dkwX4_move_0 ++ dktX4_move_1
theorem dksX4_move_0 : cX4_move.data.toList.drop 0 = dktX4_move_0 := by decide +kernel
theorem dksX4_move_1 : cX4_move.data.toList.drop 23 = dktX4_move_1 := dk_seg dksX4_move_0 23 rfl rfl
theorem dksX4_move_2 : cX4_move.data.toList.drop 46 = dktX4_move_2 := dk_seg dksX4_move_1 23 rfl rfl
theorem dX4_move_0 : decode cX4_move 0 = .ok (.aload_n 0, 1) := dk_42 (dk_at dksX4_move_0 0 rfl rfl)
theorem dX4_move_1 : decode cX4_move 1 = .ok (.iconst 0, 1) := dk_3 (dk_at dksX4_move_0 1 rfl rfl)
theorem dX4_move_2 : decode cX4_move 2 = .ok (.putfield 16, 3) := dk_181 0 16 (dk_at dksX4_move_0 2 rfl rfl)
theorem dX4_move_5 : decode cX4_move 5 = .ok (.aload_n 0, 1) := dk_42 (dk_at dksX4_move_0 5 rfl rfl)
theorem dX4_move_6 : decode cX4_move 6 = .ok (.iload_n 1, 1) := dk_27 (dk_at dksX4_move_0 6 rfl rfl)
theorem dX4_move_7 : decode cX4_move 7 = .ok (.invokevirtual 48, 3) := dk_182 0 48 (dk_at dksX4_move_0 7 rfl rfl)
theorem dX4_move_10 : decode cX4_move 10 = .ok (.ifCond .ne 9, 3) := dk_154 0 9 (dk_at dksX4_move_0 10 rfl rfl)
theorem dX4_move_13 : decode cX4_move 13 = .ok (.aload_n 0, 1) := dk_42 (dk_at dksX4_move_0 13 rfl rfl)
theorem dX4_move_14 : decode cX4_move 14 = .ok (.iconst 1, 1) := dk_4 (dk_at dksX4_move_0 14 rfl rfl)
theorem dX4_move_15 : decode cX4_move 15 = .ok (.invokevirtual 34, 3) := dk_182 0 34 (dk_at dksX4_move_0 15 rfl rfl)
theorem dX4_move_18 : decode cX4_move 18 = .ok (.ireturn, 1) := dk_172 (dk_at dksX4_move_0 18 rfl rfl)
theorem dX4_move_19 : decode cX4_move 19 = .ok (.iload_n 2, 1) := dk_28 (dk_at dksX4_move_0 19 rfl rfl)
theorem dX4_move_20 : decode cX4_move 20 = .ok (.invokestatic 128, 3) := dk_184 0 128 (dk_at dksX4_move_0 20 rfl rfl)
theorem dX4_move_23 : decode cX4_move 23 = .ok (.ifCond .ne 9, 3) := dk_154 0 9 (dk_at dksX4_move_1 0 rfl rfl)
theorem dX4_move_26 : decode cX4_move 26 = .ok (.aload_n 0, 1) := dk_42 (dk_at dksX4_move_1 3 rfl rfl)
theorem dX4_move_27 : decode cX4_move 27 = .ok (.iconst 2, 1) := dk_5 (dk_at dksX4_move_1 4 rfl rfl)
theorem dX4_move_28 : decode cX4_move 28 = .ok (.invokevirtual 34, 3) := dk_182 0 34 (dk_at dksX4_move_1 5 rfl rfl)
theorem dX4_move_31 : decode cX4_move 31 = .ok (.ireturn, 1) := dk_172 (dk_at dksX4_move_1 8 rfl rfl)
theorem dX4_move_32 : decode cX4_move 32 = .ok (.aload_n 0, 1) := dk_42 (dk_at dksX4_move_1 9 rfl rfl)
theorem dX4_move_33 : decode cX4_move 33 = .ok (.iload_n 1, 1) := dk_27 (dk_at dksX4_move_1 10 rfl rfl)
theorem dX4_move_34 : decode cX4_move 34 = .ok (.invokevirtual 131, 3) := dk_182 0 131 (dk_at dksX4_move_1 11 rfl rfl)
theorem dX4_move_37 : decode cX4_move 37 = .ok (.ifCond .eq 15, 3) := dk_153 0 15 (dk_at dksX4_move_1 14 rfl rfl)
theorem dX4_move_40 : decode cX4_move 40 = .ok (.aload_n 0, 1) := dk_42 (dk_at dksX4_move_1 17 rfl rfl)
theorem dX4_move_41 : decode cX4_move 41 = .ok (.getfield 10, 3) := dk_180 0 10 (dk_at dksX4_move_1 18 rfl rfl)
theorem dX4_move_44 : decode cX4_move 44 = .ok (.iload_n 1, 1) := dk_27 (dk_at dksX4_move_1 21 rfl rfl)
theorem dX4_move_45 : decode cX4_move 45 = .ok (.iload_n 2, 1) := dk_28 (dk_at dksX4_move_1 22 rfl rfl)
theorem dX4_move_46 : decode cX4_move 46 = .ok (.invokevirtual 134, 3) := dk_182 0 134 (dk_at dksX4_move_2 0 rfl rfl)
theorem dX4_move_49 : decode cX4_move 49 = .ok (.goto 8, 3) := dk_167 0 8 (dk_at dksX4_move_2 3 rfl rfl)
theorem dX4_move_52 : decode cX4_move 52 = .ok (.aload_n 0, 1) := dk_42 (dk_at dksX4_move_2 6 rfl rfl)
theorem dX4_move_53 : decode cX4_move 53 = .ok (.iconst 3, 1) := dk_6 (dk_at dksX4_move_2 7 rfl rfl)
theorem dX4_move_54 : decode cX4_move 54 = .ok (.invokevirtual 34, 3) := dk_182 0 34 (dk_at dksX4_move_2 8 rfl rfl)
theorem dX4_move_57 : decode cX4_move 57 = .ok (.ireturn, 1) := dk_172 (dk_at dksX4_move_2 11 rfl rfl)
abbrev cX4_isSpeed : ByteArray := prog_9_method_15_code
def yX4_isSpeed : MethodName := ⟨RX4, "isSpeed", "(I)Z"⟩
def dkwX4_isSpeed_0 : List UInt8 := [26, 4, 6, 184, 0, 30, 172]
abbrev dktX4_isSpeed_0 : List UInt8 := dkwX4_isSpeed_0 ++ []
theorem dksX4_isSpeed_0 : cX4_isSpeed.data.toList.drop 0 = dktX4_isSpeed_0 := by decide +kernel
theorem dX4_isSpeed_0 : decode cX4_isSpeed 0 = .ok (.iload_n 0, 1) := dk_26 (dk_at dksX4_isSpeed_0 0 rfl rfl)
theorem dX4_isSpeed_1 : decode cX4_isSpeed 1 = .ok (.iconst 1, 1) := dk_4 (dk_at dksX4_isSpeed_0 1 rfl rfl)
theorem dX4_isSpeed_2 : decode cX4_isSpeed 2 = .ok (.iconst 3, 1) := dk_6 (dk_at dksX4_isSpeed_0 2 rfl rfl)
theorem dX4_isSpeed_3 : decode cX4_isSpeed 3 = .ok (.invokestatic 30, 3) := dk_184 0 30 (dk_at dksX4_isSpeed_0 3 rfl rfl)
theorem dX4_isSpeed_6 : decode cX4_isSpeed 6 = .ok (.ireturn, 1) := dk_172 (dk_at dksX4_isSpeed_0 6 rfl rfl)
abbrev cX4_canBeMoved : ByteArray := prog_9_method_16_code
def yX4_canBeMoved : MethodName := ⟨RX4, "canBeMoved", "(I)Z"⟩
def dkwX4_canBeMoved_2 : List UInt8 := [172]
abbrev dktX4_canBeMoved_2 : List UInt8 := dkwX4_canBeMoved_2 ++ []
def dkwX4_canBeMoved_1 : List UInt8 := [180, 0, 10, 180, 0, 20, 27, 182, 0, 55, 192, 0, 38, 180, 0, 125, 154, 0, 7, 4, 167, 0, 4, 3]
abbrev dktX4_canBeMoved_1 : List UInt8 := dkwX4_canBeMoved_1 ++ dktX4_canBeMoved_2
def dkwX4_canBeMoved_0 : List UInt8 := [42, 180, 0, 10, 180, 0, 20, 27, 182, 0, 55, 192, 0, 38, 180, 0, 62, 7, 159, 0, 27, 42]
abbrev dktX4_canBeMoved_0 : List UInt8 := dkwX4_canBeMoved_0 ++ dktX4_canBeMoved_1
theorem dksX4_canBeMoved_0 : cX4_canBeMoved.data.toList.drop 0 = dktX4_canBeMoved_0 := by decide +kernel
theorem dksX4_canBeMoved_1 : cX4_canBeMoved.data.toList.drop 22 = dktX4_canBeMoved_1 := dk_seg dksX4_canBeMoved_0 22 rfl rfl
theorem dksX4_canBeMoved_2 : cX4_canBeMoved.data.toList.drop 46 = dktX4_canBeMoved_2 := dk_seg dksX4_canBeMoved_1 24 rfl rfl
theorem dX4_canBeMoved_0 : decode cX4_canBeMoved 0 = .ok (.aload_n 0, 1) := dk_42 (dk_at dksX4_canBeMoved_0 0 rfl rfl)
theorem dX4_canBeMoved_1 : decode cX4_canBeMoved 1 = .ok (.getfield 10, 3) := dk_180 0 10 (dk_at dksX4_canBeMoved_0 1 rfl rfl)
theorem dX4_canBeMoved_4 : decode cX4_canBeMoved 4 = .ok (.getfield 20, 3) := dk_180 0 20 (dk_at dksX4_canBeMoved_0 4 rfl rfl)
theorem dX4_canBeMoved_7 : decode cX4_canBeMoved 7 = .ok (.iload_n 1, 1) := dk_27 (dk_at dksX4_canBeMoved_0 7 rfl rfl)
theorem dX4_canBeMoved_8 : decode cX4_canBeMoved 8 = .ok (.invokevirtual 55, 3) := dk_182 0 55 (dk_at dksX4_canBeMoved_0 8 rfl rfl)
theorem dX4_canBeMoved_11 : decode cX4_canBeMoved 11 = .ok (.checkcast 38, 3) := dk_192 0 38 (dk_at dksX4_canBeMoved_0 11 rfl rfl)
theorem dX4_canBeMoved_14 : decode cX4_canBeMoved 14 = .ok (.getfield 62, 3) := dk_180 0 62 (dk_at dksX4_canBeMoved_0 14 rfl rfl)
theorem dX4_canBeMoved_17 : decode cX4_canBeMoved 17 = .ok (.iconst 4, 1) := dk_7 (dk_at dksX4_canBeMoved_0 17 rfl rfl)
theorem dX4_canBeMoved_18 : decode cX4_canBeMoved 18 = .ok (.if_icmp .eq 27, 3) := dk_159 0 27 (dk_at dksX4_canBeMoved_0 18 rfl rfl)
theorem dX4_canBeMoved_21 : decode cX4_canBeMoved 21 = .ok (.aload_n 0, 1) := dk_42 (dk_at dksX4_canBeMoved_0 21 rfl rfl)
theorem dX4_canBeMoved_22 : decode cX4_canBeMoved 22 = .ok (.getfield 10, 3) := dk_180 0 10 (dk_at dksX4_canBeMoved_1 0 rfl rfl)
theorem dX4_canBeMoved_25 : decode cX4_canBeMoved 25 = .ok (.getfield 20, 3) := dk_180 0 20 (dk_at dksX4_canBeMoved_1 3 rfl rfl)
theorem dX4_canBeMoved_28 : decode cX4_canBeMoved 28 = .ok (.iload_n 1, 1) := dk_27 (dk_at dksX4_canBeMoved_1 6 rfl rfl)
theorem dX4_canBeMoved_29 : decode cX4_canBeMoved 29 = .ok (.invokevirtual 55, 3) := dk_182 0 55 (dk_at dksX4_canBeMoved_1 7 rfl rfl)
theorem dX4_canBeMoved_32 : decode cX4_canBeMoved 32 = .ok (.checkcast 38, 3) := dk_192 0 38 (dk_at dksX4_canBeMoved_1 10 rfl rfl)
theorem dX4_canBeMoved_35 : decode cX4_canBeMoved 35 = .ok (.getfield 125, 3) := dk_180 0 125 (dk_at dksX4_canBeMoved_1 13 rfl rfl)
theorem dX4_canBeMoved_38 : decode cX4_canBeMoved 38 = .ok (.ifCond .ne 7, 3) := dk_154 0 7 (dk_at dksX4_canBeMoved_1 16 rfl rfl)
theorem dX4_canBeMoved_41 : decode cX4_canBeMoved 41 = .ok (.iconst 1, 1) := dk_4 (dk_at dksX4_canBeMoved_1 19 rfl rfl)
theorem dX4_canBeMoved_42 : decode cX4_canBeMoved 42 = .ok (.goto 4, 3) := dk_167 0 4 (dk_at dksX4_canBeMoved_1 20 rfl rfl)
theorem dX4_canBeMoved_45 : decode cX4_canBeMoved 45 = .ok (.iconst 0, 1) := dk_3 (dk_at dksX4_canBeMoved_1 23 rfl rfl)
theorem dX4_canBeMoved_46 : decode cX4_canBeMoved 46 = .ok (.ireturn, 1) := dk_172 (dk_at dksX4_canBeMoved_2 0 rfl rfl)
abbrev cX4_snap : ByteArray := prog_9_method_18_code
def yX4_snap : MethodName := ⟨RX4, "snap", "(I)I"⟩
def dkwX4_snap_5 : List UInt8 := [181, 0, 137, 44, 187, 0, 25, 89, 183, 0, 161, 181, 0, 122, 29, 172]
abbrev dktX4_snap_5 : List UInt8 := dkwX4_snap_5 ++ []
def dkwX4_snap_4 : List UInt8 := [44, 180, 0, 152, 3, 16, 6, 184, 0, 155, 44, 3, 181, 0, 119, 44, 187, 0, 25, 89, 183, 0, 161]
abbrev dktX4_snap_4 : List UInt8 := dkwX4_snap_4 ++ dktX4_snap_5
def dkwX4_snap_3 : List UInt8 := [181, 0, 68, 44, 44, 180, 0, 140, 181, 0, 143, 44, 44, 180, 0, 146, 181, 0, 149, 44, 180, 0, 113, 3]
abbrev dktX4_snap_3 : List UInt8 := dkwX4_snap_3 ++ dktX4_snap_4
def dkwX4_snap_2 : List UInt8 := [172, 44, 180, 0, 68, 153, 0, 13, 44, 180, 0, 137, 182, 0, 24, 167, 0, 4, 3, 62, 44, 4]
abbrev dktX4_snap_2 : List UInt8 := dkwX4_snap_2 ++ dktX4_snap_3
def dkwX4_snap_1 : List UInt8 := [180, 0, 20, 27, 182, 0, 55, 192, 0, 38, 77, 44, 180, 0, 62, 7, 160, 0, 9, 42, 5, 182, 0, 34]
abbrev dktX4_snap_1 : List UInt8 := dkwX4_snap_1 ++ dktX4_snap_2
def dkwX4_snap_0 : List UInt8 := [42, 3, 181, 0, 16, 42, 27, 182, 0, 48, 154, 0, 9, 42, 4, 182, 0, 34, 172, 42, 180, 0, 10]
abbrev dktX4_snap_0 : List UInt8 := dkwX4_snap_0 ++ dktX4_snap_1
theorem dksX4_snap_0 : cX4_snap.data.toList.drop 0 = dktX4_snap_0 := by decide +kernel
theorem dksX4_snap_1 : cX4_snap.data.toList.drop 23 = dktX4_snap_1 := dk_seg dksX4_snap_0 23 rfl rfl
theorem dksX4_snap_2 : cX4_snap.data.toList.drop 47 = dktX4_snap_2 := dk_seg dksX4_snap_1 24 rfl rfl
theorem dksX4_snap_3 : cX4_snap.data.toList.drop 69 = dktX4_snap_3 := dk_seg dksX4_snap_2 22 rfl rfl
theorem dksX4_snap_4 : cX4_snap.data.toList.drop 93 = dktX4_snap_4 := dk_seg dksX4_snap_3 24 rfl rfl
theorem dksX4_snap_5 : cX4_snap.data.toList.drop 116 = dktX4_snap_5 := dk_seg dksX4_snap_4 23 rfl rfl
theorem dX4_snap_0 : decode cX4_snap 0 = .ok (.aload_n 0, 1) := dk_42 (dk_at dksX4_snap_0 0 rfl rfl)
theorem dX4_snap_1 : decode cX4_snap 1 = .ok (.iconst 0, 1) := dk_3 (dk_at dksX4_snap_0 1 rfl rfl)
theorem dX4_snap_2 : decode cX4_snap 2 = .ok (.putfield 16, 3) := dk_181 0 16 (dk_at dksX4_snap_0 2 rfl rfl)
theorem dX4_snap_5 : decode cX4_snap 5 = .ok (.aload_n 0, 1) := dk_42 (dk_at dksX4_snap_0 5 rfl rfl)
theorem dX4_snap_6 : decode cX4_snap 6 = .ok (.iload_n 1, 1) := dk_27 (dk_at dksX4_snap_0 6 rfl rfl)
theorem dX4_snap_7 : decode cX4_snap 7 = .ok (.invokevirtual 48, 3) := dk_182 0 48 (dk_at dksX4_snap_0 7 rfl rfl)
theorem dX4_snap_10 : decode cX4_snap 10 = .ok (.ifCond .ne 9, 3) := dk_154 0 9 (dk_at dksX4_snap_0 10 rfl rfl)
theorem dX4_snap_13 : decode cX4_snap 13 = .ok (.aload_n 0, 1) := dk_42 (dk_at dksX4_snap_0 13 rfl rfl)
theorem dX4_snap_14 : decode cX4_snap 14 = .ok (.iconst 1, 1) := dk_4 (dk_at dksX4_snap_0 14 rfl rfl)
theorem dX4_snap_15 : decode cX4_snap 15 = .ok (.invokevirtual 34, 3) := dk_182 0 34 (dk_at dksX4_snap_0 15 rfl rfl)
theorem dX4_snap_18 : decode cX4_snap 18 = .ok (.ireturn, 1) := dk_172 (dk_at dksX4_snap_0 18 rfl rfl)
theorem dX4_snap_19 : decode cX4_snap 19 = .ok (.aload_n 0, 1) := dk_42 (dk_at dksX4_snap_0 19 rfl rfl)
theorem dX4_snap_20 : decode cX4_snap 20 = .ok (.getfield 10, 3) := dk_180 0 10 (dk_at dksX4_snap_0 20 rfl rfl)
theorem dX4_snap_23 : decode cX4_snap 23 = .ok (.getfield 20, 3) := dk_180 0 20 (dk_at dksX4_snap_1 0 rfl rfl)
theorem dX4_snap_26 : decode cX4_snap 26 = .ok (.iload_n 1, 1) := dk_27 (dk_at dksX4_snap_1 3 rfl rfl)
theorem dX4_snap_27 : decode cX4_snap 27 = .ok (.invokevirtual 55, 3) := dk_182 0 55 (dk_at dksX4_snap_1 4 rfl rfl)
theorem dX4_snap_30 : decode cX4_snap 30 = .ok (.checkcast 38, 3) := dk_192 0 38 (dk_at dksX4_snap_1 7 rfl rfl)
theorem dX4_snap_33 : decode cX4_snap 33 = .ok (.astore_n 2, 1) := dk_77 (dk_at dksX4_snap_1 10 rfl rfl)
theorem dX4_snap_34 : decode cX4_snap 34 = .ok (.aload_n 2, 1) := dk_44 (dk_at dksX4_snap_1 11 rfl rfl)
theorem dX4_snap_35 : decode cX4_snap 35 = .ok (.getfield 62, 3) := dk_180 0 62 (dk_at dksX4_snap_1 12 rfl rfl)
theorem dX4_snap_38 : decode cX4_snap 38 = .ok (.iconst 4, 1) := dk_7 (dk_at dksX4_snap_1 15 rfl rfl)
theorem dX4_snap_39 : decode cX4_snap 39 = .ok (.if_icmp .ne 9, 3) := dk_160 0 9 (dk_at dksX4_snap_1 16 rfl rfl)
theorem dX4_snap_42 : decode cX4_snap 42 = .ok (.aload_n 0, 1) := dk_42 (dk_at dksX4_snap_1 19 rfl rfl)
theorem dX4_snap_43 : decode cX4_snap 43 = .ok (.iconst 2, 1) := dk_5 (dk_at dksX4_snap_1 20 rfl rfl)
theorem dX4_snap_44 : decode cX4_snap 44 = .ok (.invokevirtual 34, 3) := dk_182 0 34 (dk_at dksX4_snap_1 21 rfl rfl)
theorem dX4_snap_47 : decode cX4_snap 47 = .ok (.ireturn, 1) := dk_172 (dk_at dksX4_snap_2 0 rfl rfl)
theorem dX4_snap_48 : decode cX4_snap 48 = .ok (.aload_n 2, 1) := dk_44 (dk_at dksX4_snap_2 1 rfl rfl)
theorem dX4_snap_49 : decode cX4_snap 49 = .ok (.getfield 68, 3) := dk_180 0 68 (dk_at dksX4_snap_2 2 rfl rfl)
theorem dX4_snap_52 : decode cX4_snap 52 = .ok (.ifCond .eq 13, 3) := dk_153 0 13 (dk_at dksX4_snap_2 5 rfl rfl)
theorem dX4_snap_55 : decode cX4_snap 55 = .ok (.aload_n 2, 1) := dk_44 (dk_at dksX4_snap_2 8 rfl rfl)
theorem dX4_snap_56 : decode cX4_snap 56 = .ok (.getfield 137, 3) := dk_180 0 137 (dk_at dksX4_snap_2 9 rfl rfl)
theorem dX4_snap_59 : decode cX4_snap 59 = .ok (.invokevirtual 24, 3) := dk_182 0 24 (dk_at dksX4_snap_2 12 rfl rfl)
theorem dX4_snap_62 : decode cX4_snap 62 = .ok (.goto 4, 3) := dk_167 0 4 (dk_at dksX4_snap_2 15 rfl rfl)
theorem dX4_snap_65 : decode cX4_snap 65 = .ok (.iconst 0, 1) := dk_3 (dk_at dksX4_snap_2 18 rfl rfl)
theorem dX4_snap_66 : decode cX4_snap 66 = .ok (.istore_n 3, 1) := dk_62 (dk_at dksX4_snap_2 19 rfl rfl)
theorem dX4_snap_67 : decode cX4_snap 67 = .ok (.aload_n 2, 1) := dk_44 (dk_at dksX4_snap_2 20 rfl rfl)
theorem dX4_snap_68 : decode cX4_snap 68 = .ok (.iconst 1, 1) := dk_4 (dk_at dksX4_snap_2 21 rfl rfl)
theorem dX4_snap_69 : decode cX4_snap 69 = .ok (.putfield 68, 3) := dk_181 0 68 (dk_at dksX4_snap_3 0 rfl rfl)
theorem dX4_snap_72 : decode cX4_snap 72 = .ok (.aload_n 2, 1) := dk_44 (dk_at dksX4_snap_3 3 rfl rfl)
theorem dX4_snap_73 : decode cX4_snap 73 = .ok (.aload_n 2, 1) := dk_44 (dk_at dksX4_snap_3 4 rfl rfl)
theorem dX4_snap_74 : decode cX4_snap 74 = .ok (.getfield 140, 3) := dk_180 0 140 (dk_at dksX4_snap_3 5 rfl rfl)
theorem dX4_snap_77 : decode cX4_snap 77 = .ok (.putfield 143, 3) := dk_181 0 143 (dk_at dksX4_snap_3 8 rfl rfl)
theorem dX4_snap_80 : decode cX4_snap 80 = .ok (.aload_n 2, 1) := dk_44 (dk_at dksX4_snap_3 11 rfl rfl)
theorem dX4_snap_81 : decode cX4_snap 81 = .ok (.aload_n 2, 1) := dk_44 (dk_at dksX4_snap_3 12 rfl rfl)
theorem dX4_snap_82 : decode cX4_snap 82 = .ok (.getfield 146, 3) := dk_180 0 146 (dk_at dksX4_snap_3 13 rfl rfl)
theorem dX4_snap_85 : decode cX4_snap 85 = .ok (.putfield 149, 3) := dk_181 0 149 (dk_at dksX4_snap_3 16 rfl rfl)
theorem dX4_snap_88 : decode cX4_snap 88 = .ok (.aload_n 2, 1) := dk_44 (dk_at dksX4_snap_3 19 rfl rfl)
theorem dX4_snap_89 : decode cX4_snap 89 = .ok (.getfield 113, 3) := dk_180 0 113 (dk_at dksX4_snap_3 20 rfl rfl)
theorem dX4_snap_92 : decode cX4_snap 92 = .ok (.iconst 0, 1) := dk_3 (dk_at dksX4_snap_3 23 rfl rfl)
theorem dX4_snap_93 : decode cX4_snap 93 = .ok (.aload_n 2, 1) := dk_44 (dk_at dksX4_snap_4 0 rfl rfl)
theorem dX4_snap_94 : decode cX4_snap 94 = .ok (.getfield 152, 3) := dk_180 0 152 (dk_at dksX4_snap_4 1 rfl rfl)
theorem dX4_snap_97 : decode cX4_snap 97 = .ok (.iconst 0, 1) := dk_3 (dk_at dksX4_snap_4 4 rfl rfl)
theorem dX4_snap_98 : decode cX4_snap 98 = .ok (.bipush 6, 2) := dk_16 6 (dk_at dksX4_snap_4 5 rfl rfl)
theorem dX4_snap_100 : decode cX4_snap 100 = .ok (.invokestatic 155, 3) := dk_184 0 155 (dk_at dksX4_snap_4 7 rfl rfl)
theorem dX4_snap_103 : decode cX4_snap 103 = .ok (.aload_n 2, 1) := dk_44 (dk_at dksX4_snap_4 10 rfl rfl)
theorem dX4_snap_104 : decode cX4_snap 104 = .ok (.iconst 0, 1) := dk_3 (dk_at dksX4_snap_4 11 rfl rfl)
theorem dX4_snap_105 : decode cX4_snap 105 = .ok (.putfield 119, 3) := dk_181 0 119 (dk_at dksX4_snap_4 12 rfl rfl)
theorem dX4_snap_108 : decode cX4_snap 108 = .ok (.aload_n 2, 1) := dk_44 (dk_at dksX4_snap_4 15 rfl rfl)
theorem dX4_snap_109 : decode cX4_snap 109 = .ok (.new 25, 3) := dk_187 0 25 (dk_at dksX4_snap_4 16 rfl rfl)
theorem dX4_snap_112 : decode cX4_snap 112 = .ok (.dup, 1) := dk_89 (dk_at dksX4_snap_4 19 rfl rfl)
theorem dX4_snap_113 : decode cX4_snap 113 = .ok (.invokespecial 161, 3) := dk_183 0 161 (dk_at dksX4_snap_4 20 rfl rfl)
theorem dX4_snap_116 : decode cX4_snap 116 = .ok (.putfield 137, 3) := dk_181 0 137 (dk_at dksX4_snap_5 0 rfl rfl)
theorem dX4_snap_119 : decode cX4_snap 119 = .ok (.aload_n 2, 1) := dk_44 (dk_at dksX4_snap_5 3 rfl rfl)
theorem dX4_snap_120 : decode cX4_snap 120 = .ok (.new 25, 3) := dk_187 0 25 (dk_at dksX4_snap_5 4 rfl rfl)
theorem dX4_snap_123 : decode cX4_snap 123 = .ok (.dup, 1) := dk_89 (dk_at dksX4_snap_5 7 rfl rfl)
theorem dX4_snap_124 : decode cX4_snap 124 = .ok (.invokespecial 161, 3) := dk_183 0 161 (dk_at dksX4_snap_5 8 rfl rfl)
theorem dX4_snap_127 : decode cX4_snap 127 = .ok (.putfield 122, 3) := dk_181 0 122 (dk_at dksX4_snap_5 11 rfl rfl)
theorem dX4_snap_130 : decode cX4_snap 130 = .ok (.iload_n 3, 1) := dk_29 (dk_at dksX4_snap_5 14 rfl rfl)
theorem dX4_snap_131 : decode cX4_snap 131 = .ok (.ireturn, 1) := dk_172 (dk_at dksX4_snap_5 15 rfl rfl)
abbrev cX4_run : ByteArray := prog_9_method_20_code
def yX4_run : MethodName := ⟨RX4, "run", "(I)I"⟩
def dkwX4_run_2 : List UInt8 := [42, 180, 0, 10, 182, 0, 165, 28, 100, 172]
abbrev dktX4_run_2 : List UInt8 := dkwX4_run_2 ++ []
def dkwX4_run_1 : List UInt8 := [182, 0, 165, 61, 3, 62, 29, 27, 162, 0, 16, 42, 180, 0, 10, 182, 0, 168, 132, 3, 1, 167, 255, 241]
abbrev dktX4_run_1 : List UInt8 := dkwX4_run_1 ++ dktX4_run_2
def dkwX4_run_0 : List UInt8 := [42, 3, 181, 0, 16, 27, 184, 0, 162, 154, 0, 9, 42, 4, 182, 0, 34, 172, 42, 180, 0, 10]
abbrev dktX4_run_0 : List UInt8 := dkwX4_run_0 ++ dktX4_run_1
theorem dksX4_run_0 : cX4_run.data.toList.drop 0 = dktX4_run_0 := by decide +kernel
theorem dksX4_run_1 : cX4_run.data.toList.drop 22 = dktX4_run_1 := dk_seg dksX4_run_0 22 rfl rfl
theorem dksX4_run_2 : cX4_run.data.toList.drop 46 = dktX4_run_2 := dk_seg dksX4_run_1 24 rfl rfl
theorem dX4_run_0 : decode cX4_run 0 = .ok (.aload_n 0, 1) := dk_42 (dk_at dksX4_run_0 0 rfl rfl)
theorem dX4_run_1 : decode cX4_run 1 = .ok (.iconst 0, 1) := dk_3 (dk_at dksX4_run_0 1 rfl rfl)
theorem dX4_run_2 : decode cX4_run 2 = .ok (.putfield 16, 3) := dk_181 0 16 (dk_at dksX4_run_0 2 rfl rfl)
theorem dX4_run_5 : decode cX4_run 5 = .ok (.iload_n 1, 1) := dk_27 (dk_at dksX4_run_0 5 rfl rfl)
theorem dX4_run_6 : decode cX4_run 6 = .ok (.invokestatic 162, 3) := dk_184 0 162 (dk_at dksX4_run_0 6 rfl rfl)
theorem dX4_run_9 : decode cX4_run 9 = .ok (.ifCond .ne 9, 3) := dk_154 0 9 (dk_at dksX4_run_0 9 rfl rfl)
theorem dX4_run_12 : decode cX4_run 12 = .ok (.aload_n 0, 1) := dk_42 (dk_at dksX4_run_0 12 rfl rfl)
theorem dX4_run_13 : decode cX4_run 13 = .ok (.iconst 1, 1) := dk_4 (dk_at dksX4_run_0 13 rfl rfl)
theorem dX4_run_14 : decode cX4_run 14 = .ok (.invokevirtual 34, 3) := dk_182 0 34 (dk_at dksX4_run_0 14 rfl rfl)
theorem dX4_run_17 : decode cX4_run 17 = .ok (.ireturn, 1) := dk_172 (dk_at dksX4_run_0 17 rfl rfl)
theorem dX4_run_18 : decode cX4_run 18 = .ok (.aload_n 0, 1) := dk_42 (dk_at dksX4_run_0 18 rfl rfl)
theorem dX4_run_19 : decode cX4_run 19 = .ok (.getfield 10, 3) := dk_180 0 10 (dk_at dksX4_run_0 19 rfl rfl)
theorem dX4_run_22 : decode cX4_run 22 = .ok (.invokevirtual 165, 3) := dk_182 0 165 (dk_at dksX4_run_1 0 rfl rfl)
theorem dX4_run_25 : decode cX4_run 25 = .ok (.istore_n 2, 1) := dk_61 (dk_at dksX4_run_1 3 rfl rfl)
theorem dX4_run_26 : decode cX4_run 26 = .ok (.iconst 0, 1) := dk_3 (dk_at dksX4_run_1 4 rfl rfl)
theorem dX4_run_27 : decode cX4_run 27 = .ok (.istore_n 3, 1) := dk_62 (dk_at dksX4_run_1 5 rfl rfl)
theorem dX4_run_28 : decode cX4_run 28 = .ok (.iload_n 3, 1) := dk_29 (dk_at dksX4_run_1 6 rfl rfl)
theorem dX4_run_29 : decode cX4_run 29 = .ok (.iload_n 1, 1) := dk_27 (dk_at dksX4_run_1 7 rfl rfl)
theorem dX4_run_30 : decode cX4_run 30 = .ok (.if_icmp .ge 16, 3) := dk_162 0 16 (dk_at dksX4_run_1 8 rfl rfl)
theorem dX4_run_33 : decode cX4_run 33 = .ok (.aload_n 0, 1) := dk_42 (dk_at dksX4_run_1 11 rfl rfl)
theorem dX4_run_34 : decode cX4_run 34 = .ok (.getfield 10, 3) := dk_180 0 10 (dk_at dksX4_run_1 12 rfl rfl)
theorem dX4_run_37 : decode cX4_run 37 = .ok (.invokevirtual 168, 3) := dk_182 0 168 (dk_at dksX4_run_1 15 rfl rfl)
theorem dX4_run_40 : decode cX4_run 40 = .ok (.iinc 3 1, 3) := dk_132 3 1 (dk_at dksX4_run_1 18 rfl rfl)
theorem dX4_run_43 : decode cX4_run 43 = .ok (.goto (-15), 3) := dk_167 255 241 (dk_at dksX4_run_1 21 rfl rfl)
theorem dX4_run_46 : decode cX4_run 46 = .ok (.aload_n 0, 1) := dk_42 (dk_at dksX4_run_2 0 rfl rfl)
theorem dX4_run_47 : decode cX4_run 47 = .ok (.getfield 10, 3) := dk_180 0 10 (dk_at dksX4_run_2 1 rfl rfl)
theorem dX4_run_50 : decode cX4_run 50 = .ok (.invokevirtual 165, 3) := dk_182 0 165 (dk_at dksX4_run_2 4 rfl rfl)
theorem dX4_run_53 : decode cX4_run 53 = .ok (.iload_n 2, 1) := dk_28 (dk_at dksX4_run_2 7 rfl rfl)
theorem dX4_run_54 : decode cX4_run 54 = .ok (.isub, 1) := dk_100 (dk_at dksX4_run_2 8 rfl rfl)
theorem dX4_run_55 : decode cX4_run 55 = .ok (.ireturn, 1) := dk_172 (dk_at dksX4_run_2 9 rfl rfl)
abbrev cX4_areTicks : ByteArray := prog_9_method_19_code
def yX4_areTicks : MethodName := ⟨RX4, "areTicks", "(I)Z"⟩
def dkwX4_areTicks_0 : List UInt8 := [26, 4, 16, 60, 184, 0, 30, 172]
abbrev dktX4_areTicks_0 : List UInt8 := dkwX4_areTicks_0 ++ []
theorem dksX4_areTicks_0 : cX4_areTicks.data.toList.drop 0 = dktX4_areTicks_0 := by decide +kernel
theorem dX4_areTicks_0 : decode cX4_areTicks 0 = .ok (.iload_n 0, 1) := dk_26 (dk_at dksX4_areTicks_0 0 rfl rfl)
theorem dX4_areTicks_1 : decode cX4_areTicks 1 = .ok (.iconst 1, 1) := dk_4 (dk_at dksX4_areTicks_0 1 rfl rfl)
theorem dX4_areTicks_2 : decode cX4_areTicks 2 = .ok (.bipush 60, 2) := dk_16 60 (dk_at dksX4_areTicks_0 2 rfl rfl)
theorem dX4_areTicks_4 : decode cX4_areTicks 4 = .ok (.invokestatic 30, 3) := dk_184 0 30 (dk_at dksX4_areTicks_0 4 rfl rfl)
theorem dX4_areTicks_7 : decode cX4_areTicks 7 = .ok (.ireturn, 1) := dk_172 (dk_at dksX4_areTicks_0 7 rfl rfl)
abbrev cX4_ofGuest : ByteArray := prog_9_method_22_code
def yX4_ofGuest : MethodName := ⟨RX4, "ofGuest", "(II)I"⟩
def dkwX4_ofGuest_1 : List UInt8 := [184, 0, 30, 153, 0, 12, 42, 27, 28, 182, 0, 193, 167, 0, 8, 42, 5, 182, 0, 34, 172]
abbrev dktX4_ofGuest_1 : List UInt8 := dkwX4_ofGuest_1 ++ []
def dkwX4_ofGuest_0 : List UInt8 := [42, 3, 181, 0, 16, 42, 27, 182, 0, 48, 154, 0, 9, 42, 4, 182, 0, 34, 172, 28, 3, 16, 15]
abbrev dktX4_ofGuest_0 : List UInt8 := dkwX4_ofGuest_0 ++ dktX4_ofGuest_1
theorem dksX4_ofGuest_0 : cX4_ofGuest.data.toList.drop 0 = dktX4_ofGuest_0 := by decide +kernel
theorem dksX4_ofGuest_1 : cX4_ofGuest.data.toList.drop 23 = dktX4_ofGuest_1 := dk_seg dksX4_ofGuest_0 23 rfl rfl
theorem dX4_ofGuest_0 : decode cX4_ofGuest 0 = .ok (.aload_n 0, 1) := dk_42 (dk_at dksX4_ofGuest_0 0 rfl rfl)
theorem dX4_ofGuest_1 : decode cX4_ofGuest 1 = .ok (.iconst 0, 1) := dk_3 (dk_at dksX4_ofGuest_0 1 rfl rfl)
theorem dX4_ofGuest_2 : decode cX4_ofGuest 2 = .ok (.putfield 16, 3) := dk_181 0 16 (dk_at dksX4_ofGuest_0 2 rfl rfl)
theorem dX4_ofGuest_5 : decode cX4_ofGuest 5 = .ok (.aload_n 0, 1) := dk_42 (dk_at dksX4_ofGuest_0 5 rfl rfl)
theorem dX4_ofGuest_6 : decode cX4_ofGuest 6 = .ok (.iload_n 1, 1) := dk_27 (dk_at dksX4_ofGuest_0 6 rfl rfl)
theorem dX4_ofGuest_7 : decode cX4_ofGuest 7 = .ok (.invokevirtual 48, 3) := dk_182 0 48 (dk_at dksX4_ofGuest_0 7 rfl rfl)
theorem dX4_ofGuest_10 : decode cX4_ofGuest 10 = .ok (.ifCond .ne 9, 3) := dk_154 0 9 (dk_at dksX4_ofGuest_0 10 rfl rfl)
theorem dX4_ofGuest_13 : decode cX4_ofGuest 13 = .ok (.aload_n 0, 1) := dk_42 (dk_at dksX4_ofGuest_0 13 rfl rfl)
theorem dX4_ofGuest_14 : decode cX4_ofGuest 14 = .ok (.iconst 1, 1) := dk_4 (dk_at dksX4_ofGuest_0 14 rfl rfl)
theorem dX4_ofGuest_15 : decode cX4_ofGuest 15 = .ok (.invokevirtual 34, 3) := dk_182 0 34 (dk_at dksX4_ofGuest_0 15 rfl rfl)
theorem dX4_ofGuest_18 : decode cX4_ofGuest 18 = .ok (.ireturn, 1) := dk_172 (dk_at dksX4_ofGuest_0 18 rfl rfl)
theorem dX4_ofGuest_19 : decode cX4_ofGuest 19 = .ok (.iload_n 2, 1) := dk_28 (dk_at dksX4_ofGuest_0 19 rfl rfl)
theorem dX4_ofGuest_20 : decode cX4_ofGuest 20 = .ok (.iconst 0, 1) := dk_3 (dk_at dksX4_ofGuest_0 20 rfl rfl)
theorem dX4_ofGuest_21 : decode cX4_ofGuest 21 = .ok (.bipush 15, 2) := dk_16 15 (dk_at dksX4_ofGuest_0 21 rfl rfl)
theorem dX4_ofGuest_23 : decode cX4_ofGuest 23 = .ok (.invokestatic 30, 3) := dk_184 0 30 (dk_at dksX4_ofGuest_1 0 rfl rfl)
theorem dX4_ofGuest_26 : decode cX4_ofGuest 26 = .ok (.ifCond .eq 12, 3) := dk_153 0 12 (dk_at dksX4_ofGuest_1 3 rfl rfl)
theorem dX4_ofGuest_29 : decode cX4_ofGuest 29 = .ok (.aload_n 0, 1) := dk_42 (dk_at dksX4_ofGuest_1 6 rfl rfl)
theorem dX4_ofGuest_30 : decode cX4_ofGuest 30 = .ok (.iload_n 1, 1) := dk_27 (dk_at dksX4_ofGuest_1 7 rfl rfl)
theorem dX4_ofGuest_31 : decode cX4_ofGuest 31 = .ok (.iload_n 2, 1) := dk_28 (dk_at dksX4_ofGuest_1 8 rfl rfl)
theorem dX4_ofGuest_32 : decode cX4_ofGuest 32 = .ok (.invokevirtual 193, 3) := dk_182 0 193 (dk_at dksX4_ofGuest_1 9 rfl rfl)
theorem dX4_ofGuest_35 : decode cX4_ofGuest 35 = .ok (.goto 8, 3) := dk_167 0 8 (dk_at dksX4_ofGuest_1 12 rfl rfl)
theorem dX4_ofGuest_38 : decode cX4_ofGuest 38 = .ok (.aload_n 0, 1) := dk_42 (dk_at dksX4_ofGuest_1 15 rfl rfl)
theorem dX4_ofGuest_39 : decode cX4_ofGuest 39 = .ok (.iconst 2, 1) := dk_5 (dk_at dksX4_ofGuest_1 16 rfl rfl)
theorem dX4_ofGuest_40 : decode cX4_ofGuest 40 = .ok (.invokevirtual 34, 3) := dk_182 0 34 (dk_at dksX4_ofGuest_1 17 rfl rfl)
theorem dX4_ofGuest_43 : decode cX4_ofGuest 43 = .ok (.ireturn, 1) := dk_172 (dk_at dksX4_ofGuest_1 20 rfl rfl)
abbrev cX4_ofGuestNow : ByteArray := prog_9_method_21_code
def yX4_ofGuestNow : MethodName := ⟨RX4, "ofGuestNow", "(II)I"⟩
def dkwX4_ofGuestNow_8 : List UInt8 := [58, 4, 25, 4, 28, 46, 172]
abbrev dktX4_ofGuestNow_8 : List UInt8 := dkwX4_ofGuestNow_8 ++ []
def dkwX4_ofGuestNow_7 : List UInt8 := [180, 0, 65, 5, 160, 0, 10, 45, 180, 0, 85, 167, 0, 4, 2, 79, 89, 16, 15, 45, 180, 0, 41, 79]
abbrev dktX4_ofGuestNow_7 : List UInt8 := dkwX4_ofGuestNow_7 ++ dktX4_ofGuestNow_8
def dkwX4_ofGuestNow_6 : List UInt8 := [180, 0, 190, 79, 89, 16, 14, 45, 180, 0, 62, 5, 159, 0, 19, 45, 180, 0, 62, 6, 160, 0, 18, 45]
abbrev dktX4_ofGuestNow_6 : List UInt8 := dkwX4_ofGuestNow_6 ++ dktX4_ofGuestNow_7
def dkwX4_ofGuestNow_5 : List UInt8 := [180, 0, 125, 153, 0, 13, 45, 180, 0, 116, 184, 0, 185, 167, 0, 4, 2, 79, 89, 16, 13, 45]
abbrev dktX4_ofGuestNow_5 : List UInt8 := dkwX4_ofGuestNow_5 ++ dktX4_ofGuestNow_6
def dkwX4_ofGuestNow_4 : List UInt8 := [89, 16, 10, 45, 4, 182, 0, 97, 79, 89, 16, 11, 45, 5, 182, 0, 97, 79, 89, 16, 12, 45]
abbrev dktX4_ofGuestNow_4 : List UInt8 := dkwX4_ofGuestNow_4 ++ dktX4_ofGuestNow_5
def dkwX4_ofGuestNow_3 : List UInt8 := [16, 7, 45, 180, 0, 179, 79, 89, 16, 8, 45, 180, 0, 182, 79, 89, 16, 9, 45, 3, 182, 0, 97, 79]
abbrev dktX4_ofGuestNow_3 : List UInt8 := dkwX4_ofGuestNow_3 ++ dktX4_ofGuestNow_4
def dkwX4_ofGuestNow_2 : List UInt8 := [79, 89, 7, 45, 180, 0, 82, 79, 89, 8, 45, 180, 0, 174, 79, 89, 16, 6, 45, 180, 0, 177, 79, 89]
abbrev dktX4_ofGuestNow_2 : List UInt8 := dkwX4_ofGuestNow_2 ++ dktX4_ofGuestNow_3
def dkwX4_ofGuestNow_1 : List UInt8 := [180, 0, 62, 79, 89, 4, 45, 180, 0, 140, 79, 89, 5, 45, 180, 0, 146, 79, 89, 6, 45, 180, 0, 171]
abbrev dktX4_ofGuestNow_1 : List UInt8 := dkwX4_ofGuestNow_1 ++ dktX4_ofGuestNow_2
def dkwX4_ofGuestNow_0 : List UInt8 := [42, 180, 0, 10, 180, 0, 20, 27, 182, 0, 55, 192, 0, 38, 78, 16, 16, 188, 10, 89, 3, 45]
abbrev dktX4_ofGuestNow_0 : List UInt8 := dkwX4_ofGuestNow_0 ++ dktX4_ofGuestNow_1
theorem dksX4_ofGuestNow_0 : cX4_ofGuestNow.data.toList.drop 0 = dktX4_ofGuestNow_0 := by decide +kernel
theorem dksX4_ofGuestNow_1 : cX4_ofGuestNow.data.toList.drop 22 = dktX4_ofGuestNow_1 := dk_seg dksX4_ofGuestNow_0 22 rfl rfl
theorem dksX4_ofGuestNow_2 : cX4_ofGuestNow.data.toList.drop 46 = dktX4_ofGuestNow_2 := dk_seg dksX4_ofGuestNow_1 24 rfl rfl
theorem dksX4_ofGuestNow_3 : cX4_ofGuestNow.data.toList.drop 70 = dktX4_ofGuestNow_3 := dk_seg dksX4_ofGuestNow_2 24 rfl rfl
theorem dksX4_ofGuestNow_4 : cX4_ofGuestNow.data.toList.drop 94 = dktX4_ofGuestNow_4 := dk_seg dksX4_ofGuestNow_3 24 rfl rfl
theorem dksX4_ofGuestNow_5 : cX4_ofGuestNow.data.toList.drop 116 = dktX4_ofGuestNow_5 := dk_seg dksX4_ofGuestNow_4 22 rfl rfl
theorem dksX4_ofGuestNow_6 : cX4_ofGuestNow.data.toList.drop 138 = dktX4_ofGuestNow_6 := dk_seg dksX4_ofGuestNow_5 22 rfl rfl
theorem dksX4_ofGuestNow_7 : cX4_ofGuestNow.data.toList.drop 162 = dktX4_ofGuestNow_7 := dk_seg dksX4_ofGuestNow_6 24 rfl rfl
theorem dksX4_ofGuestNow_8 : cX4_ofGuestNow.data.toList.drop 186 = dktX4_ofGuestNow_8 := dk_seg dksX4_ofGuestNow_7 24 rfl rfl
theorem dX4_ofGuestNow_0 : decode cX4_ofGuestNow 0 = .ok (.aload_n 0, 1) := dk_42 (dk_at dksX4_ofGuestNow_0 0 rfl rfl)
theorem dX4_ofGuestNow_1 : decode cX4_ofGuestNow 1 = .ok (.getfield 10, 3) := dk_180 0 10 (dk_at dksX4_ofGuestNow_0 1 rfl rfl)
theorem dX4_ofGuestNow_4 : decode cX4_ofGuestNow 4 = .ok (.getfield 20, 3) := dk_180 0 20 (dk_at dksX4_ofGuestNow_0 4 rfl rfl)
theorem dX4_ofGuestNow_7 : decode cX4_ofGuestNow 7 = .ok (.iload_n 1, 1) := dk_27 (dk_at dksX4_ofGuestNow_0 7 rfl rfl)
theorem dX4_ofGuestNow_8 : decode cX4_ofGuestNow 8 = .ok (.invokevirtual 55, 3) := dk_182 0 55 (dk_at dksX4_ofGuestNow_0 8 rfl rfl)
theorem dX4_ofGuestNow_11 : decode cX4_ofGuestNow 11 = .ok (.checkcast 38, 3) := dk_192 0 38 (dk_at dksX4_ofGuestNow_0 11 rfl rfl)
theorem dX4_ofGuestNow_14 : decode cX4_ofGuestNow 14 = .ok (.astore_n 3, 1) := dk_78 (dk_at dksX4_ofGuestNow_0 14 rfl rfl)
theorem dX4_ofGuestNow_15 : decode cX4_ofGuestNow 15 = .ok (.bipush 16, 2) := dk_16 16 (dk_at dksX4_ofGuestNow_0 15 rfl rfl)
theorem dX4_ofGuestNow_17 : decode cX4_ofGuestNow 17 = .ok (.newarray .int, 2) := dk_188_10 (dk_at dksX4_ofGuestNow_0 17 rfl rfl)
theorem dX4_ofGuestNow_19 : decode cX4_ofGuestNow 19 = .ok (.dup, 1) := dk_89 (dk_at dksX4_ofGuestNow_0 19 rfl rfl)
theorem dX4_ofGuestNow_20 : decode cX4_ofGuestNow 20 = .ok (.iconst 0, 1) := dk_3 (dk_at dksX4_ofGuestNow_0 20 rfl rfl)
theorem dX4_ofGuestNow_21 : decode cX4_ofGuestNow 21 = .ok (.aload_n 3, 1) := dk_45 (dk_at dksX4_ofGuestNow_0 21 rfl rfl)
theorem dX4_ofGuestNow_22 : decode cX4_ofGuestNow 22 = .ok (.getfield 62, 3) := dk_180 0 62 (dk_at dksX4_ofGuestNow_1 0 rfl rfl)
theorem dX4_ofGuestNow_25 : decode cX4_ofGuestNow 25 = .ok (.iastore, 1) := dk_79 (dk_at dksX4_ofGuestNow_1 3 rfl rfl)
theorem dX4_ofGuestNow_26 : decode cX4_ofGuestNow 26 = .ok (.dup, 1) := dk_89 (dk_at dksX4_ofGuestNow_1 4 rfl rfl)
theorem dX4_ofGuestNow_27 : decode cX4_ofGuestNow 27 = .ok (.iconst 1, 1) := dk_4 (dk_at dksX4_ofGuestNow_1 5 rfl rfl)
theorem dX4_ofGuestNow_28 : decode cX4_ofGuestNow 28 = .ok (.aload_n 3, 1) := dk_45 (dk_at dksX4_ofGuestNow_1 6 rfl rfl)
theorem dX4_ofGuestNow_29 : decode cX4_ofGuestNow 29 = .ok (.getfield 140, 3) := dk_180 0 140 (dk_at dksX4_ofGuestNow_1 7 rfl rfl)
theorem dX4_ofGuestNow_32 : decode cX4_ofGuestNow 32 = .ok (.iastore, 1) := dk_79 (dk_at dksX4_ofGuestNow_1 10 rfl rfl)
theorem dX4_ofGuestNow_33 : decode cX4_ofGuestNow 33 = .ok (.dup, 1) := dk_89 (dk_at dksX4_ofGuestNow_1 11 rfl rfl)
theorem dX4_ofGuestNow_34 : decode cX4_ofGuestNow 34 = .ok (.iconst 2, 1) := dk_5 (dk_at dksX4_ofGuestNow_1 12 rfl rfl)
theorem dX4_ofGuestNow_35 : decode cX4_ofGuestNow 35 = .ok (.aload_n 3, 1) := dk_45 (dk_at dksX4_ofGuestNow_1 13 rfl rfl)
theorem dX4_ofGuestNow_36 : decode cX4_ofGuestNow 36 = .ok (.getfield 146, 3) := dk_180 0 146 (dk_at dksX4_ofGuestNow_1 14 rfl rfl)
theorem dX4_ofGuestNow_39 : decode cX4_ofGuestNow 39 = .ok (.iastore, 1) := dk_79 (dk_at dksX4_ofGuestNow_1 17 rfl rfl)
theorem dX4_ofGuestNow_40 : decode cX4_ofGuestNow 40 = .ok (.dup, 1) := dk_89 (dk_at dksX4_ofGuestNow_1 18 rfl rfl)
theorem dX4_ofGuestNow_41 : decode cX4_ofGuestNow 41 = .ok (.iconst 3, 1) := dk_6 (dk_at dksX4_ofGuestNow_1 19 rfl rfl)
theorem dX4_ofGuestNow_42 : decode cX4_ofGuestNow 42 = .ok (.aload_n 3, 1) := dk_45 (dk_at dksX4_ofGuestNow_1 20 rfl rfl)
theorem dX4_ofGuestNow_43 : decode cX4_ofGuestNow 43 = .ok (.getfield 171, 3) := dk_180 0 171 (dk_at dksX4_ofGuestNow_1 21 rfl rfl)
theorem dX4_ofGuestNow_46 : decode cX4_ofGuestNow 46 = .ok (.iastore, 1) := dk_79 (dk_at dksX4_ofGuestNow_2 0 rfl rfl)
theorem dX4_ofGuestNow_47 : decode cX4_ofGuestNow 47 = .ok (.dup, 1) := dk_89 (dk_at dksX4_ofGuestNow_2 1 rfl rfl)
theorem dX4_ofGuestNow_48 : decode cX4_ofGuestNow 48 = .ok (.iconst 4, 1) := dk_7 (dk_at dksX4_ofGuestNow_2 2 rfl rfl)
theorem dX4_ofGuestNow_49 : decode cX4_ofGuestNow 49 = .ok (.aload_n 3, 1) := dk_45 (dk_at dksX4_ofGuestNow_2 3 rfl rfl)
theorem dX4_ofGuestNow_50 : decode cX4_ofGuestNow 50 = .ok (.getfield 82, 3) := dk_180 0 82 (dk_at dksX4_ofGuestNow_2 4 rfl rfl)
theorem dX4_ofGuestNow_53 : decode cX4_ofGuestNow 53 = .ok (.iastore, 1) := dk_79 (dk_at dksX4_ofGuestNow_2 7 rfl rfl)
theorem dX4_ofGuestNow_54 : decode cX4_ofGuestNow 54 = .ok (.dup, 1) := dk_89 (dk_at dksX4_ofGuestNow_2 8 rfl rfl)
theorem dX4_ofGuestNow_55 : decode cX4_ofGuestNow 55 = .ok (.iconst 5, 1) := dk_8 (dk_at dksX4_ofGuestNow_2 9 rfl rfl)
theorem dX4_ofGuestNow_56 : decode cX4_ofGuestNow 56 = .ok (.aload_n 3, 1) := dk_45 (dk_at dksX4_ofGuestNow_2 10 rfl rfl)
theorem dX4_ofGuestNow_57 : decode cX4_ofGuestNow 57 = .ok (.getfield 174, 3) := dk_180 0 174 (dk_at dksX4_ofGuestNow_2 11 rfl rfl)
theorem dX4_ofGuestNow_60 : decode cX4_ofGuestNow 60 = .ok (.iastore, 1) := dk_79 (dk_at dksX4_ofGuestNow_2 14 rfl rfl)
theorem dX4_ofGuestNow_61 : decode cX4_ofGuestNow 61 = .ok (.dup, 1) := dk_89 (dk_at dksX4_ofGuestNow_2 15 rfl rfl)
theorem dX4_ofGuestNow_62 : decode cX4_ofGuestNow 62 = .ok (.bipush 6, 2) := dk_16 6 (dk_at dksX4_ofGuestNow_2 16 rfl rfl)
theorem dX4_ofGuestNow_64 : decode cX4_ofGuestNow 64 = .ok (.aload_n 3, 1) := dk_45 (dk_at dksX4_ofGuestNow_2 18 rfl rfl)
theorem dX4_ofGuestNow_65 : decode cX4_ofGuestNow 65 = .ok (.getfield 177, 3) := dk_180 0 177 (dk_at dksX4_ofGuestNow_2 19 rfl rfl)
theorem dX4_ofGuestNow_68 : decode cX4_ofGuestNow 68 = .ok (.iastore, 1) := dk_79 (dk_at dksX4_ofGuestNow_2 22 rfl rfl)
theorem dX4_ofGuestNow_69 : decode cX4_ofGuestNow 69 = .ok (.dup, 1) := dk_89 (dk_at dksX4_ofGuestNow_2 23 rfl rfl)
theorem dX4_ofGuestNow_70 : decode cX4_ofGuestNow 70 = .ok (.bipush 7, 2) := dk_16 7 (dk_at dksX4_ofGuestNow_3 0 rfl rfl)
theorem dX4_ofGuestNow_72 : decode cX4_ofGuestNow 72 = .ok (.aload_n 3, 1) := dk_45 (dk_at dksX4_ofGuestNow_3 2 rfl rfl)
theorem dX4_ofGuestNow_73 : decode cX4_ofGuestNow 73 = .ok (.getfield 179, 3) := dk_180 0 179 (dk_at dksX4_ofGuestNow_3 3 rfl rfl)
theorem dX4_ofGuestNow_76 : decode cX4_ofGuestNow 76 = .ok (.iastore, 1) := dk_79 (dk_at dksX4_ofGuestNow_3 6 rfl rfl)
theorem dX4_ofGuestNow_77 : decode cX4_ofGuestNow 77 = .ok (.dup, 1) := dk_89 (dk_at dksX4_ofGuestNow_3 7 rfl rfl)
theorem dX4_ofGuestNow_78 : decode cX4_ofGuestNow 78 = .ok (.bipush 8, 2) := dk_16 8 (dk_at dksX4_ofGuestNow_3 8 rfl rfl)
theorem dX4_ofGuestNow_80 : decode cX4_ofGuestNow 80 = .ok (.aload_n 3, 1) := dk_45 (dk_at dksX4_ofGuestNow_3 10 rfl rfl)
theorem dX4_ofGuestNow_81 : decode cX4_ofGuestNow 81 = .ok (.getfield 182, 3) := dk_180 0 182 (dk_at dksX4_ofGuestNow_3 11 rfl rfl)
theorem dX4_ofGuestNow_84 : decode cX4_ofGuestNow 84 = .ok (.iastore, 1) := dk_79 (dk_at dksX4_ofGuestNow_3 14 rfl rfl)
theorem dX4_ofGuestNow_85 : decode cX4_ofGuestNow 85 = .ok (.dup, 1) := dk_89 (dk_at dksX4_ofGuestNow_3 15 rfl rfl)
theorem dX4_ofGuestNow_86 : decode cX4_ofGuestNow 86 = .ok (.bipush 9, 2) := dk_16 9 (dk_at dksX4_ofGuestNow_3 16 rfl rfl)
theorem dX4_ofGuestNow_88 : decode cX4_ofGuestNow 88 = .ok (.aload_n 3, 1) := dk_45 (dk_at dksX4_ofGuestNow_3 18 rfl rfl)
theorem dX4_ofGuestNow_89 : decode cX4_ofGuestNow 89 = .ok (.iconst 0, 1) := dk_3 (dk_at dksX4_ofGuestNow_3 19 rfl rfl)
theorem dX4_ofGuestNow_90 : decode cX4_ofGuestNow 90 = .ok (.invokevirtual 97, 3) := dk_182 0 97 (dk_at dksX4_ofGuestNow_3 20 rfl rfl)
theorem dX4_ofGuestNow_93 : decode cX4_ofGuestNow 93 = .ok (.iastore, 1) := dk_79 (dk_at dksX4_ofGuestNow_3 23 rfl rfl)
theorem dX4_ofGuestNow_94 : decode cX4_ofGuestNow 94 = .ok (.dup, 1) := dk_89 (dk_at dksX4_ofGuestNow_4 0 rfl rfl)
theorem dX4_ofGuestNow_95 : decode cX4_ofGuestNow 95 = .ok (.bipush 10, 2) := dk_16 10 (dk_at dksX4_ofGuestNow_4 1 rfl rfl)
theorem dX4_ofGuestNow_97 : decode cX4_ofGuestNow 97 = .ok (.aload_n 3, 1) := dk_45 (dk_at dksX4_ofGuestNow_4 3 rfl rfl)
theorem dX4_ofGuestNow_98 : decode cX4_ofGuestNow 98 = .ok (.iconst 1, 1) := dk_4 (dk_at dksX4_ofGuestNow_4 4 rfl rfl)
theorem dX4_ofGuestNow_99 : decode cX4_ofGuestNow 99 = .ok (.invokevirtual 97, 3) := dk_182 0 97 (dk_at dksX4_ofGuestNow_4 5 rfl rfl)
theorem dX4_ofGuestNow_102 : decode cX4_ofGuestNow 102 = .ok (.iastore, 1) := dk_79 (dk_at dksX4_ofGuestNow_4 8 rfl rfl)
theorem dX4_ofGuestNow_103 : decode cX4_ofGuestNow 103 = .ok (.dup, 1) := dk_89 (dk_at dksX4_ofGuestNow_4 9 rfl rfl)
theorem dX4_ofGuestNow_104 : decode cX4_ofGuestNow 104 = .ok (.bipush 11, 2) := dk_16 11 (dk_at dksX4_ofGuestNow_4 10 rfl rfl)
theorem dX4_ofGuestNow_106 : decode cX4_ofGuestNow 106 = .ok (.aload_n 3, 1) := dk_45 (dk_at dksX4_ofGuestNow_4 12 rfl rfl)
theorem dX4_ofGuestNow_107 : decode cX4_ofGuestNow 107 = .ok (.iconst 2, 1) := dk_5 (dk_at dksX4_ofGuestNow_4 13 rfl rfl)
theorem dX4_ofGuestNow_108 : decode cX4_ofGuestNow 108 = .ok (.invokevirtual 97, 3) := dk_182 0 97 (dk_at dksX4_ofGuestNow_4 14 rfl rfl)
theorem dX4_ofGuestNow_111 : decode cX4_ofGuestNow 111 = .ok (.iastore, 1) := dk_79 (dk_at dksX4_ofGuestNow_4 17 rfl rfl)
theorem dX4_ofGuestNow_112 : decode cX4_ofGuestNow 112 = .ok (.dup, 1) := dk_89 (dk_at dksX4_ofGuestNow_4 18 rfl rfl)
theorem dX4_ofGuestNow_113 : decode cX4_ofGuestNow 113 = .ok (.bipush 12, 2) := dk_16 12 (dk_at dksX4_ofGuestNow_4 19 rfl rfl)
theorem dX4_ofGuestNow_115 : decode cX4_ofGuestNow 115 = .ok (.aload_n 3, 1) := dk_45 (dk_at dksX4_ofGuestNow_4 21 rfl rfl)
theorem dX4_ofGuestNow_116 : decode cX4_ofGuestNow 116 = .ok (.getfield 125, 3) := dk_180 0 125 (dk_at dksX4_ofGuestNow_5 0 rfl rfl)
theorem dX4_ofGuestNow_119 : decode cX4_ofGuestNow 119 = .ok (.ifCond .eq 13, 3) := dk_153 0 13 (dk_at dksX4_ofGuestNow_5 3 rfl rfl)
theorem dX4_ofGuestNow_122 : decode cX4_ofGuestNow 122 = .ok (.aload_n 3, 1) := dk_45 (dk_at dksX4_ofGuestNow_5 6 rfl rfl)
theorem dX4_ofGuestNow_123 : decode cX4_ofGuestNow 123 = .ok (.getfield 116, 3) := dk_180 0 116 (dk_at dksX4_ofGuestNow_5 7 rfl rfl)
theorem dX4_ofGuestNow_126 : decode cX4_ofGuestNow 126 = .ok (.invokestatic 185, 3) := dk_184 0 185 (dk_at dksX4_ofGuestNow_5 10 rfl rfl)
theorem dX4_ofGuestNow_129 : decode cX4_ofGuestNow 129 = .ok (.goto 4, 3) := dk_167 0 4 (dk_at dksX4_ofGuestNow_5 13 rfl rfl)
theorem dX4_ofGuestNow_132 : decode cX4_ofGuestNow 132 = .ok (.iconst (-1), 1) := dk_2 (dk_at dksX4_ofGuestNow_5 16 rfl rfl)
theorem dX4_ofGuestNow_133 : decode cX4_ofGuestNow 133 = .ok (.iastore, 1) := dk_79 (dk_at dksX4_ofGuestNow_5 17 rfl rfl)
theorem dX4_ofGuestNow_134 : decode cX4_ofGuestNow 134 = .ok (.dup, 1) := dk_89 (dk_at dksX4_ofGuestNow_5 18 rfl rfl)
theorem dX4_ofGuestNow_135 : decode cX4_ofGuestNow 135 = .ok (.bipush 13, 2) := dk_16 13 (dk_at dksX4_ofGuestNow_5 19 rfl rfl)
theorem dX4_ofGuestNow_137 : decode cX4_ofGuestNow 137 = .ok (.aload_n 3, 1) := dk_45 (dk_at dksX4_ofGuestNow_5 21 rfl rfl)
theorem dX4_ofGuestNow_138 : decode cX4_ofGuestNow 138 = .ok (.getfield 190, 3) := dk_180 0 190 (dk_at dksX4_ofGuestNow_6 0 rfl rfl)
theorem dX4_ofGuestNow_141 : decode cX4_ofGuestNow 141 = .ok (.iastore, 1) := dk_79 (dk_at dksX4_ofGuestNow_6 3 rfl rfl)
theorem dX4_ofGuestNow_142 : decode cX4_ofGuestNow 142 = .ok (.dup, 1) := dk_89 (dk_at dksX4_ofGuestNow_6 4 rfl rfl)
theorem dX4_ofGuestNow_143 : decode cX4_ofGuestNow 143 = .ok (.bipush 14, 2) := dk_16 14 (dk_at dksX4_ofGuestNow_6 5 rfl rfl)
theorem dX4_ofGuestNow_145 : decode cX4_ofGuestNow 145 = .ok (.aload_n 3, 1) := dk_45 (dk_at dksX4_ofGuestNow_6 7 rfl rfl)
theorem dX4_ofGuestNow_146 : decode cX4_ofGuestNow 146 = .ok (.getfield 62, 3) := dk_180 0 62 (dk_at dksX4_ofGuestNow_6 8 rfl rfl)
theorem dX4_ofGuestNow_149 : decode cX4_ofGuestNow 149 = .ok (.iconst 2, 1) := dk_5 (dk_at dksX4_ofGuestNow_6 11 rfl rfl)
theorem dX4_ofGuestNow_150 : decode cX4_ofGuestNow 150 = .ok (.if_icmp .eq 19, 3) := dk_159 0 19 (dk_at dksX4_ofGuestNow_6 12 rfl rfl)
theorem dX4_ofGuestNow_153 : decode cX4_ofGuestNow 153 = .ok (.aload_n 3, 1) := dk_45 (dk_at dksX4_ofGuestNow_6 15 rfl rfl)
theorem dX4_ofGuestNow_154 : decode cX4_ofGuestNow 154 = .ok (.getfield 62, 3) := dk_180 0 62 (dk_at dksX4_ofGuestNow_6 16 rfl rfl)
theorem dX4_ofGuestNow_157 : decode cX4_ofGuestNow 157 = .ok (.iconst 3, 1) := dk_6 (dk_at dksX4_ofGuestNow_6 19 rfl rfl)
theorem dX4_ofGuestNow_158 : decode cX4_ofGuestNow 158 = .ok (.if_icmp .ne 18, 3) := dk_160 0 18 (dk_at dksX4_ofGuestNow_6 20 rfl rfl)
theorem dX4_ofGuestNow_161 : decode cX4_ofGuestNow 161 = .ok (.aload_n 3, 1) := dk_45 (dk_at dksX4_ofGuestNow_6 23 rfl rfl)
theorem dX4_ofGuestNow_162 : decode cX4_ofGuestNow 162 = .ok (.getfield 65, 3) := dk_180 0 65 (dk_at dksX4_ofGuestNow_7 0 rfl rfl)
theorem dX4_ofGuestNow_165 : decode cX4_ofGuestNow 165 = .ok (.iconst 2, 1) := dk_5 (dk_at dksX4_ofGuestNow_7 3 rfl rfl)
theorem dX4_ofGuestNow_166 : decode cX4_ofGuestNow 166 = .ok (.if_icmp .ne 10, 3) := dk_160 0 10 (dk_at dksX4_ofGuestNow_7 4 rfl rfl)
theorem dX4_ofGuestNow_169 : decode cX4_ofGuestNow 169 = .ok (.aload_n 3, 1) := dk_45 (dk_at dksX4_ofGuestNow_7 7 rfl rfl)
theorem dX4_ofGuestNow_170 : decode cX4_ofGuestNow 170 = .ok (.getfield 85, 3) := dk_180 0 85 (dk_at dksX4_ofGuestNow_7 8 rfl rfl)
theorem dX4_ofGuestNow_173 : decode cX4_ofGuestNow 173 = .ok (.goto 4, 3) := dk_167 0 4 (dk_at dksX4_ofGuestNow_7 11 rfl rfl)
theorem dX4_ofGuestNow_176 : decode cX4_ofGuestNow 176 = .ok (.iconst (-1), 1) := dk_2 (dk_at dksX4_ofGuestNow_7 14 rfl rfl)
theorem dX4_ofGuestNow_177 : decode cX4_ofGuestNow 177 = .ok (.iastore, 1) := dk_79 (dk_at dksX4_ofGuestNow_7 15 rfl rfl)
theorem dX4_ofGuestNow_178 : decode cX4_ofGuestNow 178 = .ok (.dup, 1) := dk_89 (dk_at dksX4_ofGuestNow_7 16 rfl rfl)
theorem dX4_ofGuestNow_179 : decode cX4_ofGuestNow 179 = .ok (.bipush 15, 2) := dk_16 15 (dk_at dksX4_ofGuestNow_7 17 rfl rfl)
theorem dX4_ofGuestNow_181 : decode cX4_ofGuestNow 181 = .ok (.aload_n 3, 1) := dk_45 (dk_at dksX4_ofGuestNow_7 19 rfl rfl)
theorem dX4_ofGuestNow_182 : decode cX4_ofGuestNow 182 = .ok (.getfield 41, 3) := dk_180 0 41 (dk_at dksX4_ofGuestNow_7 20 rfl rfl)
theorem dX4_ofGuestNow_185 : decode cX4_ofGuestNow 185 = .ok (.iastore, 1) := dk_79 (dk_at dksX4_ofGuestNow_7 23 rfl rfl)
theorem dX4_ofGuestNow_186 : decode cX4_ofGuestNow 186 = .ok (.astore 4, 2) := dk_58 4 (dk_at dksX4_ofGuestNow_8 0 rfl rfl)
theorem dX4_ofGuestNow_188 : decode cX4_ofGuestNow 188 = .ok (.aload 4, 2) := dk_25 4 (dk_at dksX4_ofGuestNow_8 2 rfl rfl)
theorem dX4_ofGuestNow_190 : decode cX4_ofGuestNow 190 = .ok (.iload_n 2, 1) := dk_28 (dk_at dksX4_ofGuestNow_8 4 rfl rfl)
theorem dX4_ofGuestNow_191 : decode cX4_ofGuestNow 191 = .ok (.iaload, 1) := dk_46 (dk_at dksX4_ofGuestNow_8 5 rfl rfl)
theorem dX4_ofGuestNow_192 : decode cX4_ofGuestNow 192 = .ok (.ireturn, 1) := dk_172 (dk_at dksX4_ofGuestNow_8 6 rfl rfl)
abbrev cX4_exits : ByteArray := prog_9_method_23_code
def yX4_exits : MethodName := ⟨RX4, "exits", "(II)I"⟩
def dkwX4_exits_2 : List UInt8 := [46, 167, 0, 8, 42, 5, 182, 0, 34, 172]
abbrev dktX4_exits_2 : List UInt8 := dkwX4_exits_2 ++ []
def dkwX4_exits_1 : List UInt8 := [184, 0, 30, 153, 0, 25, 42, 180, 0, 10, 180, 0, 20, 27, 182, 0, 55, 192, 0, 38, 180, 0, 196, 28]
abbrev dktX4_exits_1 : List UInt8 := dkwX4_exits_1 ++ dktX4_exits_2
def dkwX4_exits_0 : List UInt8 := [42, 3, 181, 0, 16, 42, 27, 182, 0, 48, 154, 0, 9, 42, 4, 182, 0, 34, 172, 28, 3, 7]
abbrev dktX4_exits_0 : List UInt8 := dkwX4_exits_0 ++ dktX4_exits_1
theorem dksX4_exits_0 : cX4_exits.data.toList.drop 0 = dktX4_exits_0 := by decide +kernel
theorem dksX4_exits_1 : cX4_exits.data.toList.drop 22 = dktX4_exits_1 := dk_seg dksX4_exits_0 22 rfl rfl
theorem dksX4_exits_2 : cX4_exits.data.toList.drop 46 = dktX4_exits_2 := dk_seg dksX4_exits_1 24 rfl rfl
theorem dX4_exits_0 : decode cX4_exits 0 = .ok (.aload_n 0, 1) := dk_42 (dk_at dksX4_exits_0 0 rfl rfl)
theorem dX4_exits_1 : decode cX4_exits 1 = .ok (.iconst 0, 1) := dk_3 (dk_at dksX4_exits_0 1 rfl rfl)
theorem dX4_exits_2 : decode cX4_exits 2 = .ok (.putfield 16, 3) := dk_181 0 16 (dk_at dksX4_exits_0 2 rfl rfl)
theorem dX4_exits_5 : decode cX4_exits 5 = .ok (.aload_n 0, 1) := dk_42 (dk_at dksX4_exits_0 5 rfl rfl)
theorem dX4_exits_6 : decode cX4_exits 6 = .ok (.iload_n 1, 1) := dk_27 (dk_at dksX4_exits_0 6 rfl rfl)
theorem dX4_exits_7 : decode cX4_exits 7 = .ok (.invokevirtual 48, 3) := dk_182 0 48 (dk_at dksX4_exits_0 7 rfl rfl)
theorem dX4_exits_10 : decode cX4_exits 10 = .ok (.ifCond .ne 9, 3) := dk_154 0 9 (dk_at dksX4_exits_0 10 rfl rfl)
theorem dX4_exits_13 : decode cX4_exits 13 = .ok (.aload_n 0, 1) := dk_42 (dk_at dksX4_exits_0 13 rfl rfl)
theorem dX4_exits_14 : decode cX4_exits 14 = .ok (.iconst 1, 1) := dk_4 (dk_at dksX4_exits_0 14 rfl rfl)
theorem dX4_exits_15 : decode cX4_exits 15 = .ok (.invokevirtual 34, 3) := dk_182 0 34 (dk_at dksX4_exits_0 15 rfl rfl)
theorem dX4_exits_18 : decode cX4_exits 18 = .ok (.ireturn, 1) := dk_172 (dk_at dksX4_exits_0 18 rfl rfl)
theorem dX4_exits_19 : decode cX4_exits 19 = .ok (.iload_n 2, 1) := dk_28 (dk_at dksX4_exits_0 19 rfl rfl)
theorem dX4_exits_20 : decode cX4_exits 20 = .ok (.iconst 0, 1) := dk_3 (dk_at dksX4_exits_0 20 rfl rfl)
theorem dX4_exits_21 : decode cX4_exits 21 = .ok (.iconst 4, 1) := dk_7 (dk_at dksX4_exits_0 21 rfl rfl)
theorem dX4_exits_22 : decode cX4_exits 22 = .ok (.invokestatic 30, 3) := dk_184 0 30 (dk_at dksX4_exits_1 0 rfl rfl)
theorem dX4_exits_25 : decode cX4_exits 25 = .ok (.ifCond .eq 25, 3) := dk_153 0 25 (dk_at dksX4_exits_1 3 rfl rfl)
theorem dX4_exits_28 : decode cX4_exits 28 = .ok (.aload_n 0, 1) := dk_42 (dk_at dksX4_exits_1 6 rfl rfl)
theorem dX4_exits_29 : decode cX4_exits 29 = .ok (.getfield 10, 3) := dk_180 0 10 (dk_at dksX4_exits_1 7 rfl rfl)
theorem dX4_exits_32 : decode cX4_exits 32 = .ok (.getfield 20, 3) := dk_180 0 20 (dk_at dksX4_exits_1 10 rfl rfl)
theorem dX4_exits_35 : decode cX4_exits 35 = .ok (.iload_n 1, 1) := dk_27 (dk_at dksX4_exits_1 13 rfl rfl)
theorem dX4_exits_36 : decode cX4_exits 36 = .ok (.invokevirtual 55, 3) := dk_182 0 55 (dk_at dksX4_exits_1 14 rfl rfl)
theorem dX4_exits_39 : decode cX4_exits 39 = .ok (.checkcast 38, 3) := dk_192 0 38 (dk_at dksX4_exits_1 17 rfl rfl)
theorem dX4_exits_42 : decode cX4_exits 42 = .ok (.getfield 196, 3) := dk_180 0 196 (dk_at dksX4_exits_1 20 rfl rfl)
theorem dX4_exits_45 : decode cX4_exits 45 = .ok (.iload_n 2, 1) := dk_28 (dk_at dksX4_exits_1 23 rfl rfl)
theorem dX4_exits_46 : decode cX4_exits 46 = .ok (.iaload, 1) := dk_46 (dk_at dksX4_exits_2 0 rfl rfl)
theorem dX4_exits_47 : decode cX4_exits 47 = .ok (.goto 8, 3) := dk_167 0 8 (dk_at dksX4_exits_2 1 rfl rfl)
theorem dX4_exits_50 : decode cX4_exits 50 = .ok (.aload_n 0, 1) := dk_42 (dk_at dksX4_exits_2 4 rfl rfl)
theorem dX4_exits_51 : decode cX4_exits 51 = .ok (.iconst 2, 1) := dk_5 (dk_at dksX4_exits_2 5 rfl rfl)
theorem dX4_exits_52 : decode cX4_exits 52 = .ok (.invokevirtual 34, 3) := dk_182 0 34 (dk_at dksX4_exits_2 6 rfl rfl)
theorem dX4_exits_55 : decode cX4_exits 55 = .ok (.ireturn, 1) := dk_172 (dk_at dksX4_exits_2 9 rfl rfl)
abbrev cX4_ofPage : ByteArray := prog_9_method_25_code
def yX4_ofPage : MethodName := ⟨RX4, "ofPage", "(III)I"⟩
def dkwX4_ofPage_2 : List UInt8 := [5, 182, 0, 34, 172]
abbrev dktX4_ofPage_2 : List UInt8 := dkwX4_ofPage_2 ++ []
def dkwX4_ofPage_1 : List UInt8 := [182, 0, 34, 172, 29, 3, 6, 184, 0, 30, 153, 0, 13, 42, 27, 28, 29, 182, 0, 205, 167, 0, 8, 42]
abbrev dktX4_ofPage_1 : List UInt8 := dkwX4_ofPage_1 ++ dktX4_ofPage_2
def dkwX4_ofPage_0 : List UInt8 := [42, 3, 181, 0, 16, 42, 27, 182, 0, 48, 153, 0, 10, 28, 184, 0, 52, 154, 0, 9, 42, 4]
abbrev dktX4_ofPage_0 : List UInt8 := dkwX4_ofPage_0 ++ dktX4_ofPage_1
theorem dksX4_ofPage_0 : cX4_ofPage.data.toList.drop 0 = dktX4_ofPage_0 := by decide +kernel
theorem dksX4_ofPage_1 : cX4_ofPage.data.toList.drop 22 = dktX4_ofPage_1 := dk_seg dksX4_ofPage_0 22 rfl rfl
theorem dksX4_ofPage_2 : cX4_ofPage.data.toList.drop 46 = dktX4_ofPage_2 := dk_seg dksX4_ofPage_1 24 rfl rfl
theorem dX4_ofPage_0 : decode cX4_ofPage 0 = .ok (.aload_n 0, 1) := dk_42 (dk_at dksX4_ofPage_0 0 rfl rfl)
theorem dX4_ofPage_1 : decode cX4_ofPage 1 = .ok (.iconst 0, 1) := dk_3 (dk_at dksX4_ofPage_0 1 rfl rfl)
theorem dX4_ofPage_2 : decode cX4_ofPage 2 = .ok (.putfield 16, 3) := dk_181 0 16 (dk_at dksX4_ofPage_0 2 rfl rfl)
theorem dX4_ofPage_5 : decode cX4_ofPage 5 = .ok (.aload_n 0, 1) := dk_42 (dk_at dksX4_ofPage_0 5 rfl rfl)
theorem dX4_ofPage_6 : decode cX4_ofPage 6 = .ok (.iload_n 1, 1) := dk_27 (dk_at dksX4_ofPage_0 6 rfl rfl)
theorem dX4_ofPage_7 : decode cX4_ofPage 7 = .ok (.invokevirtual 48, 3) := dk_182 0 48 (dk_at dksX4_ofPage_0 7 rfl rfl)
theorem dX4_ofPage_10 : decode cX4_ofPage 10 = .ok (.ifCond .eq 10, 3) := dk_153 0 10 (dk_at dksX4_ofPage_0 10 rfl rfl)
theorem dX4_ofPage_13 : decode cX4_ofPage 13 = .ok (.iload_n 2, 1) := dk_28 (dk_at dksX4_ofPage_0 13 rfl rfl)
theorem dX4_ofPage_14 : decode cX4_ofPage 14 = .ok (.invokestatic 52, 3) := dk_184 0 52 (dk_at dksX4_ofPage_0 14 rfl rfl)
theorem dX4_ofPage_17 : decode cX4_ofPage 17 = .ok (.ifCond .ne 9, 3) := dk_154 0 9 (dk_at dksX4_ofPage_0 17 rfl rfl)
theorem dX4_ofPage_20 : decode cX4_ofPage 20 = .ok (.aload_n 0, 1) := dk_42 (dk_at dksX4_ofPage_0 20 rfl rfl)
theorem dX4_ofPage_21 : decode cX4_ofPage 21 = .ok (.iconst 1, 1) := dk_4 (dk_at dksX4_ofPage_0 21 rfl rfl)
theorem dX4_ofPage_22 : decode cX4_ofPage 22 = .ok (.invokevirtual 34, 3) := dk_182 0 34 (dk_at dksX4_ofPage_1 0 rfl rfl)
theorem dX4_ofPage_25 : decode cX4_ofPage 25 = .ok (.ireturn, 1) := dk_172 (dk_at dksX4_ofPage_1 3 rfl rfl)
theorem dX4_ofPage_26 : decode cX4_ofPage 26 = .ok (.iload_n 3, 1) := dk_29 (dk_at dksX4_ofPage_1 4 rfl rfl)
theorem dX4_ofPage_27 : decode cX4_ofPage 27 = .ok (.iconst 0, 1) := dk_3 (dk_at dksX4_ofPage_1 5 rfl rfl)
theorem dX4_ofPage_28 : decode cX4_ofPage 28 = .ok (.iconst 3, 1) := dk_6 (dk_at dksX4_ofPage_1 6 rfl rfl)
theorem dX4_ofPage_29 : decode cX4_ofPage 29 = .ok (.invokestatic 30, 3) := dk_184 0 30 (dk_at dksX4_ofPage_1 7 rfl rfl)
theorem dX4_ofPage_32 : decode cX4_ofPage 32 = .ok (.ifCond .eq 13, 3) := dk_153 0 13 (dk_at dksX4_ofPage_1 10 rfl rfl)
theorem dX4_ofPage_35 : decode cX4_ofPage 35 = .ok (.aload_n 0, 1) := dk_42 (dk_at dksX4_ofPage_1 13 rfl rfl)
theorem dX4_ofPage_36 : decode cX4_ofPage 36 = .ok (.iload_n 1, 1) := dk_27 (dk_at dksX4_ofPage_1 14 rfl rfl)
theorem dX4_ofPage_37 : decode cX4_ofPage 37 = .ok (.iload_n 2, 1) := dk_28 (dk_at dksX4_ofPage_1 15 rfl rfl)
theorem dX4_ofPage_38 : decode cX4_ofPage 38 = .ok (.iload_n 3, 1) := dk_29 (dk_at dksX4_ofPage_1 16 rfl rfl)
theorem dX4_ofPage_39 : decode cX4_ofPage 39 = .ok (.invokevirtual 205, 3) := dk_182 0 205 (dk_at dksX4_ofPage_1 17 rfl rfl)
theorem dX4_ofPage_42 : decode cX4_ofPage 42 = .ok (.goto 8, 3) := dk_167 0 8 (dk_at dksX4_ofPage_1 20 rfl rfl)
theorem dX4_ofPage_45 : decode cX4_ofPage 45 = .ok (.aload_n 0, 1) := dk_42 (dk_at dksX4_ofPage_1 23 rfl rfl)
theorem dX4_ofPage_46 : decode cX4_ofPage 46 = .ok (.iconst 2, 1) := dk_5 (dk_at dksX4_ofPage_2 0 rfl rfl)
theorem dX4_ofPage_47 : decode cX4_ofPage 47 = .ok (.invokevirtual 34, 3) := dk_182 0 34 (dk_at dksX4_ofPage_2 1 rfl rfl)
theorem dX4_ofPage_50 : decode cX4_ofPage 50 = .ok (.ireturn, 1) := dk_172 (dk_at dksX4_ofPage_2 4 rfl rfl)
abbrev cX4_ofPageNow : ByteArray := prog_9_method_24_code
def yX4_ofPageNow : MethodName := ⟨RX4, "ofPageNow", "(III)I"⟩
def dkwX4_ofPageNow_4 : List UInt8 := [25, 6, 29, 46, 172]
abbrev dktX4_ofPageNow_4 : List UInt8 := dkwX4_ofPageNow_4 ++ []
def dkwX4_ofPageNow_3 : List UInt8 := [153, 0, 19, 25, 4, 180, 0, 116, 28, 184, 0, 201, 153, 0, 7, 4, 167, 0, 4, 3, 79, 58, 6]
abbrev dktX4_ofPageNow_3 : List UInt8 := dkwX4_ofPageNow_3 ++ dktX4_ofPageNow_4
def dkwX4_ofPageNow_2 : List UInt8 := [180, 0, 199, 28, 46, 167, 0, 4, 2, 79, 89, 5, 21, 5, 79, 89, 6, 25, 4, 180, 0, 125]
abbrev dktX4_ofPageNow_2 : List UInt8 := dkwX4_ofPageNow_2 ++ dktX4_ofPageNow_3
def dkwX4_ofPageNow_1 : List UInt8 := [54, 5, 7, 188, 10, 89, 3, 25, 4, 180, 0, 113, 28, 46, 79, 89, 4, 21, 5, 154, 0, 13, 25, 4]
abbrev dktX4_ofPageNow_1 : List UInt8 := dkwX4_ofPageNow_1 ++ dktX4_ofPageNow_2
def dkwX4_ofPageNow_0 : List UInt8 := [42, 180, 0, 10, 180, 0, 20, 27, 182, 0, 55, 192, 0, 38, 58, 4, 25, 4, 180, 0, 106, 28, 46]
abbrev dktX4_ofPageNow_0 : List UInt8 := dkwX4_ofPageNow_0 ++ dktX4_ofPageNow_1
theorem dksX4_ofPageNow_0 : cX4_ofPageNow.data.toList.drop 0 = dktX4_ofPageNow_0 := by decide +kernel
theorem dksX4_ofPageNow_1 : cX4_ofPageNow.data.toList.drop 23 = dktX4_ofPageNow_1 := dk_seg dksX4_ofPageNow_0 23 rfl rfl
theorem dksX4_ofPageNow_2 : cX4_ofPageNow.data.toList.drop 47 = dktX4_ofPageNow_2 := dk_seg dksX4_ofPageNow_1 24 rfl rfl
theorem dksX4_ofPageNow_3 : cX4_ofPageNow.data.toList.drop 69 = dktX4_ofPageNow_3 := dk_seg dksX4_ofPageNow_2 22 rfl rfl
theorem dksX4_ofPageNow_4 : cX4_ofPageNow.data.toList.drop 92 = dktX4_ofPageNow_4 := dk_seg dksX4_ofPageNow_3 23 rfl rfl
theorem dX4_ofPageNow_0 : decode cX4_ofPageNow 0 = .ok (.aload_n 0, 1) := dk_42 (dk_at dksX4_ofPageNow_0 0 rfl rfl)
theorem dX4_ofPageNow_1 : decode cX4_ofPageNow 1 = .ok (.getfield 10, 3) := dk_180 0 10 (dk_at dksX4_ofPageNow_0 1 rfl rfl)
theorem dX4_ofPageNow_4 : decode cX4_ofPageNow 4 = .ok (.getfield 20, 3) := dk_180 0 20 (dk_at dksX4_ofPageNow_0 4 rfl rfl)
theorem dX4_ofPageNow_7 : decode cX4_ofPageNow 7 = .ok (.iload_n 1, 1) := dk_27 (dk_at dksX4_ofPageNow_0 7 rfl rfl)
theorem dX4_ofPageNow_8 : decode cX4_ofPageNow 8 = .ok (.invokevirtual 55, 3) := dk_182 0 55 (dk_at dksX4_ofPageNow_0 8 rfl rfl)
theorem dX4_ofPageNow_11 : decode cX4_ofPageNow 11 = .ok (.checkcast 38, 3) := dk_192 0 38 (dk_at dksX4_ofPageNow_0 11 rfl rfl)
theorem dX4_ofPageNow_14 : decode cX4_ofPageNow 14 = .ok (.astore 4, 2) := dk_58 4 (dk_at dksX4_ofPageNow_0 14 rfl rfl)
theorem dX4_ofPageNow_16 : decode cX4_ofPageNow 16 = .ok (.aload 4, 2) := dk_25 4 (dk_at dksX4_ofPageNow_0 16 rfl rfl)
theorem dX4_ofPageNow_18 : decode cX4_ofPageNow 18 = .ok (.getfield 106, 3) := dk_180 0 106 (dk_at dksX4_ofPageNow_0 18 rfl rfl)
theorem dX4_ofPageNow_21 : decode cX4_ofPageNow 21 = .ok (.iload_n 2, 1) := dk_28 (dk_at dksX4_ofPageNow_0 21 rfl rfl)
theorem dX4_ofPageNow_22 : decode cX4_ofPageNow 22 = .ok (.iaload, 1) := dk_46 (dk_at dksX4_ofPageNow_0 22 rfl rfl)
theorem dX4_ofPageNow_23 : decode cX4_ofPageNow 23 = .ok (.istore 5, 2) := dk_54 5 (dk_at dksX4_ofPageNow_1 0 rfl rfl)
theorem dX4_ofPageNow_25 : decode cX4_ofPageNow 25 = .ok (.iconst 4, 1) := dk_7 (dk_at dksX4_ofPageNow_1 2 rfl rfl)
theorem dX4_ofPageNow_26 : decode cX4_ofPageNow 26 = .ok (.newarray .int, 2) := dk_188_10 (dk_at dksX4_ofPageNow_1 3 rfl rfl)
theorem dX4_ofPageNow_28 : decode cX4_ofPageNow 28 = .ok (.dup, 1) := dk_89 (dk_at dksX4_ofPageNow_1 5 rfl rfl)
theorem dX4_ofPageNow_29 : decode cX4_ofPageNow 29 = .ok (.iconst 0, 1) := dk_3 (dk_at dksX4_ofPageNow_1 6 rfl rfl)
theorem dX4_ofPageNow_30 : decode cX4_ofPageNow 30 = .ok (.aload 4, 2) := dk_25 4 (dk_at dksX4_ofPageNow_1 7 rfl rfl)
theorem dX4_ofPageNow_32 : decode cX4_ofPageNow 32 = .ok (.getfield 113, 3) := dk_180 0 113 (dk_at dksX4_ofPageNow_1 9 rfl rfl)
theorem dX4_ofPageNow_35 : decode cX4_ofPageNow 35 = .ok (.iload_n 2, 1) := dk_28 (dk_at dksX4_ofPageNow_1 12 rfl rfl)
theorem dX4_ofPageNow_36 : decode cX4_ofPageNow 36 = .ok (.iaload, 1) := dk_46 (dk_at dksX4_ofPageNow_1 13 rfl rfl)
theorem dX4_ofPageNow_37 : decode cX4_ofPageNow 37 = .ok (.iastore, 1) := dk_79 (dk_at dksX4_ofPageNow_1 14 rfl rfl)
theorem dX4_ofPageNow_38 : decode cX4_ofPageNow 38 = .ok (.dup, 1) := dk_89 (dk_at dksX4_ofPageNow_1 15 rfl rfl)
theorem dX4_ofPageNow_39 : decode cX4_ofPageNow 39 = .ok (.iconst 1, 1) := dk_4 (dk_at dksX4_ofPageNow_1 16 rfl rfl)
theorem dX4_ofPageNow_40 : decode cX4_ofPageNow 40 = .ok (.iload 5, 2) := dk_21 5 (dk_at dksX4_ofPageNow_1 17 rfl rfl)
theorem dX4_ofPageNow_42 : decode cX4_ofPageNow 42 = .ok (.ifCond .ne 13, 3) := dk_154 0 13 (dk_at dksX4_ofPageNow_1 19 rfl rfl)
theorem dX4_ofPageNow_45 : decode cX4_ofPageNow 45 = .ok (.aload 4, 2) := dk_25 4 (dk_at dksX4_ofPageNow_1 22 rfl rfl)
theorem dX4_ofPageNow_47 : decode cX4_ofPageNow 47 = .ok (.getfield 199, 3) := dk_180 0 199 (dk_at dksX4_ofPageNow_2 0 rfl rfl)
theorem dX4_ofPageNow_50 : decode cX4_ofPageNow 50 = .ok (.iload_n 2, 1) := dk_28 (dk_at dksX4_ofPageNow_2 3 rfl rfl)
theorem dX4_ofPageNow_51 : decode cX4_ofPageNow 51 = .ok (.iaload, 1) := dk_46 (dk_at dksX4_ofPageNow_2 4 rfl rfl)
theorem dX4_ofPageNow_52 : decode cX4_ofPageNow 52 = .ok (.goto 4, 3) := dk_167 0 4 (dk_at dksX4_ofPageNow_2 5 rfl rfl)
theorem dX4_ofPageNow_55 : decode cX4_ofPageNow 55 = .ok (.iconst (-1), 1) := dk_2 (dk_at dksX4_ofPageNow_2 8 rfl rfl)
theorem dX4_ofPageNow_56 : decode cX4_ofPageNow 56 = .ok (.iastore, 1) := dk_79 (dk_at dksX4_ofPageNow_2 9 rfl rfl)
theorem dX4_ofPageNow_57 : decode cX4_ofPageNow 57 = .ok (.dup, 1) := dk_89 (dk_at dksX4_ofPageNow_2 10 rfl rfl)
theorem dX4_ofPageNow_58 : decode cX4_ofPageNow 58 = .ok (.iconst 2, 1) := dk_5 (dk_at dksX4_ofPageNow_2 11 rfl rfl)
theorem dX4_ofPageNow_59 : decode cX4_ofPageNow 59 = .ok (.iload 5, 2) := dk_21 5 (dk_at dksX4_ofPageNow_2 12 rfl rfl)
theorem dX4_ofPageNow_61 : decode cX4_ofPageNow 61 = .ok (.iastore, 1) := dk_79 (dk_at dksX4_ofPageNow_2 14 rfl rfl)
theorem dX4_ofPageNow_62 : decode cX4_ofPageNow 62 = .ok (.dup, 1) := dk_89 (dk_at dksX4_ofPageNow_2 15 rfl rfl)
theorem dX4_ofPageNow_63 : decode cX4_ofPageNow 63 = .ok (.iconst 3, 1) := dk_6 (dk_at dksX4_ofPageNow_2 16 rfl rfl)
theorem dX4_ofPageNow_64 : decode cX4_ofPageNow 64 = .ok (.aload 4, 2) := dk_25 4 (dk_at dksX4_ofPageNow_2 17 rfl rfl)
theorem dX4_ofPageNow_66 : decode cX4_ofPageNow 66 = .ok (.getfield 125, 3) := dk_180 0 125 (dk_at dksX4_ofPageNow_2 19 rfl rfl)
theorem dX4_ofPageNow_69 : decode cX4_ofPageNow 69 = .ok (.ifCond .eq 19, 3) := dk_153 0 19 (dk_at dksX4_ofPageNow_3 0 rfl rfl)
theorem dX4_ofPageNow_72 : decode cX4_ofPageNow 72 = .ok (.aload 4, 2) := dk_25 4 (dk_at dksX4_ofPageNow_3 3 rfl rfl)
theorem dX4_ofPageNow_74 : decode cX4_ofPageNow 74 = .ok (.getfield 116, 3) := dk_180 0 116 (dk_at dksX4_ofPageNow_3 5 rfl rfl)
theorem dX4_ofPageNow_77 : decode cX4_ofPageNow 77 = .ok (.iload_n 2, 1) := dk_28 (dk_at dksX4_ofPageNow_3 8 rfl rfl)
theorem dX4_ofPageNow_78 : decode cX4_ofPageNow 78 = .ok (.invokestatic 201, 3) := dk_184 0 201 (dk_at dksX4_ofPageNow_3 9 rfl rfl)
theorem dX4_ofPageNow_81 : decode cX4_ofPageNow 81 = .ok (.ifCond .eq 7, 3) := dk_153 0 7 (dk_at dksX4_ofPageNow_3 12 rfl rfl)
theorem dX4_ofPageNow_84 : decode cX4_ofPageNow 84 = .ok (.iconst 1, 1) := dk_4 (dk_at dksX4_ofPageNow_3 15 rfl rfl)
theorem dX4_ofPageNow_85 : decode cX4_ofPageNow 85 = .ok (.goto 4, 3) := dk_167 0 4 (dk_at dksX4_ofPageNow_3 16 rfl rfl)
theorem dX4_ofPageNow_88 : decode cX4_ofPageNow 88 = .ok (.iconst 0, 1) := dk_3 (dk_at dksX4_ofPageNow_3 19 rfl rfl)
theorem dX4_ofPageNow_89 : decode cX4_ofPageNow 89 = .ok (.iastore, 1) := dk_79 (dk_at dksX4_ofPageNow_3 20 rfl rfl)
theorem dX4_ofPageNow_90 : decode cX4_ofPageNow 90 = .ok (.astore 6, 2) := dk_58 6 (dk_at dksX4_ofPageNow_3 21 rfl rfl)
theorem dX4_ofPageNow_92 : decode cX4_ofPageNow 92 = .ok (.aload 6, 2) := dk_25 6 (dk_at dksX4_ofPageNow_4 0 rfl rfl)
theorem dX4_ofPageNow_94 : decode cX4_ofPageNow 94 = .ok (.iload_n 3, 1) := dk_29 (dk_at dksX4_ofPageNow_4 2 rfl rfl)
theorem dX4_ofPageNow_95 : decode cX4_ofPageNow 95 = .ok (.iaload, 1) := dk_46 (dk_at dksX4_ofPageNow_4 3 rfl rfl)
theorem dX4_ofPageNow_96 : decode cX4_ofPageNow 96 = .ok (.ireturn, 1) := dk_172 (dk_at dksX4_ofPageNow_4 4 rfl rfl)
abbrev cX4_has : ByteArray := prog_9_method_5_code
def yX4_has : MethodName := ⟨RX4, "has", "(II)Z"⟩
def dkwX4_has_0 : List UInt8 := [26, 27, 122, 4, 126, 4, 160, 0, 7, 4, 167, 0, 4, 3, 172]
abbrev dktX4_has_0 : List UInt8 := dkwX4_has_0 ++ []
theorem dksX4_has_0 : cX4_has.data.toList.drop 0 = dktX4_has_0 := by decide +kernel
theorem dX4_has_0 : decode cX4_has 0 = .ok (.iload_n 0, 1) := dk_26 (dk_at dksX4_has_0 0 rfl rfl)
theorem dX4_has_1 : decode cX4_has 1 = .ok (.iload_n 1, 1) := dk_27 (dk_at dksX4_has_0 1 rfl rfl)
theorem dX4_has_2 : decode cX4_has 2 = .ok (.ishr, 1) := dk_122 (dk_at dksX4_has_0 2 rfl rfl)
theorem dX4_has_3 : decode cX4_has 3 = .ok (.iconst 1, 1) := dk_4 (dk_at dksX4_has_0 3 rfl rfl)
theorem dX4_has_4 : decode cX4_has 4 = .ok (.iand, 1) := dk_126 (dk_at dksX4_has_0 4 rfl rfl)
theorem dX4_has_5 : decode cX4_has 5 = .ok (.iconst 1, 1) := dk_4 (dk_at dksX4_has_0 5 rfl rfl)
theorem dX4_has_6 : decode cX4_has 6 = .ok (.if_icmp .ne 7, 3) := dk_160 0 7 (dk_at dksX4_has_0 6 rfl rfl)
theorem dX4_has_9 : decode cX4_has 9 = .ok (.iconst 1, 1) := dk_4 (dk_at dksX4_has_0 9 rfl rfl)
theorem dX4_has_10 : decode cX4_has 10 = .ok (.goto 4, 3) := dk_167 0 4 (dk_at dksX4_has_0 10 rfl rfl)
theorem dX4_has_13 : decode cX4_has 13 = .ok (.iconst 0, 1) := dk_3 (dk_at dksX4_has_0 13 rfl rfl)
theorem dX4_has_14 : decode cX4_has 14 = .ok (.ireturn, 1) := dk_172 (dk_at dksX4_has_0 14 rfl rfl)
abbrev cX4_ofFrame : ByteArray := prog_9_method_27_code
def yX4_ofFrame : MethodName := ⟨RX4, "ofFrame", "(II)I"⟩
def dkwX4_ofFrame_2 : List UInt8 := [182, 0, 34, 172]
abbrev dktX4_ofFrame_2 : List UInt8 := dkwX4_ofFrame_2 ++ []
def dkwX4_ofFrame_1 : List UInt8 := [182, 0, 34, 172, 28, 3, 5, 184, 0, 30, 153, 0, 12, 42, 27, 28, 182, 0, 212, 167, 0, 8, 42, 5]
abbrev dktX4_ofFrame_1 : List UInt8 := dkwX4_ofFrame_1 ++ dktX4_ofFrame_2
def dkwX4_ofFrame_0 : List UInt8 := [42, 3, 181, 0, 16, 27, 3, 42, 180, 0, 10, 180, 0, 91, 4, 100, 184, 0, 30, 154, 0, 9, 42, 4]
abbrev dktX4_ofFrame_0 : List UInt8 := dkwX4_ofFrame_0 ++ dktX4_ofFrame_1
theorem dksX4_ofFrame_0 : cX4_ofFrame.data.toList.drop 0 = dktX4_ofFrame_0 := by decide +kernel
theorem dksX4_ofFrame_1 : cX4_ofFrame.data.toList.drop 24 = dktX4_ofFrame_1 := dk_seg dksX4_ofFrame_0 24 rfl rfl
theorem dksX4_ofFrame_2 : cX4_ofFrame.data.toList.drop 48 = dktX4_ofFrame_2 := dk_seg dksX4_ofFrame_1 24 rfl rfl
theorem dX4_ofFrame_0 : decode cX4_ofFrame 0 = .ok (.aload_n 0, 1) := dk_42 (dk_at dksX4_ofFrame_0 0 rfl rfl)
theorem dX4_ofFrame_1 : decode cX4_ofFrame 1 = .ok (.iconst 0, 1) := dk_3 (dk_at dksX4_ofFrame_0 1 rfl rfl)
theorem dX4_ofFrame_2 : decode cX4_ofFrame 2 = .ok (.putfield 16, 3) := dk_181 0 16 (dk_at dksX4_ofFrame_0 2 rfl rfl)
theorem dX4_ofFrame_5 : decode cX4_ofFrame 5 = .ok (.iload_n 1, 1) := dk_27 (dk_at dksX4_ofFrame_0 5 rfl rfl)
theorem dX4_ofFrame_6 : decode cX4_ofFrame 6 = .ok (.iconst 0, 1) := dk_3 (dk_at dksX4_ofFrame_0 6 rfl rfl)
theorem dX4_ofFrame_7 : decode cX4_ofFrame 7 = .ok (.aload_n 0, 1) := dk_42 (dk_at dksX4_ofFrame_0 7 rfl rfl)
theorem dX4_ofFrame_8 : decode cX4_ofFrame 8 = .ok (.getfield 10, 3) := dk_180 0 10 (dk_at dksX4_ofFrame_0 8 rfl rfl)
theorem dX4_ofFrame_11 : decode cX4_ofFrame 11 = .ok (.getfield 91, 3) := dk_180 0 91 (dk_at dksX4_ofFrame_0 11 rfl rfl)
theorem dX4_ofFrame_14 : decode cX4_ofFrame 14 = .ok (.iconst 1, 1) := dk_4 (dk_at dksX4_ofFrame_0 14 rfl rfl)
theorem dX4_ofFrame_15 : decode cX4_ofFrame 15 = .ok (.isub, 1) := dk_100 (dk_at dksX4_ofFrame_0 15 rfl rfl)
theorem dX4_ofFrame_16 : decode cX4_ofFrame 16 = .ok (.invokestatic 30, 3) := dk_184 0 30 (dk_at dksX4_ofFrame_0 16 rfl rfl)
theorem dX4_ofFrame_19 : decode cX4_ofFrame 19 = .ok (.ifCond .ne 9, 3) := dk_154 0 9 (dk_at dksX4_ofFrame_0 19 rfl rfl)
theorem dX4_ofFrame_22 : decode cX4_ofFrame 22 = .ok (.aload_n 0, 1) := dk_42 (dk_at dksX4_ofFrame_0 22 rfl rfl)
theorem dX4_ofFrame_23 : decode cX4_ofFrame 23 = .ok (.iconst 1, 1) := dk_4 (dk_at dksX4_ofFrame_0 23 rfl rfl)
theorem dX4_ofFrame_24 : decode cX4_ofFrame 24 = .ok (.invokevirtual 34, 3) := dk_182 0 34 (dk_at dksX4_ofFrame_1 0 rfl rfl)
theorem dX4_ofFrame_27 : decode cX4_ofFrame 27 = .ok (.ireturn, 1) := dk_172 (dk_at dksX4_ofFrame_1 3 rfl rfl)
theorem dX4_ofFrame_28 : decode cX4_ofFrame 28 = .ok (.iload_n 2, 1) := dk_28 (dk_at dksX4_ofFrame_1 4 rfl rfl)
theorem dX4_ofFrame_29 : decode cX4_ofFrame 29 = .ok (.iconst 0, 1) := dk_3 (dk_at dksX4_ofFrame_1 5 rfl rfl)
theorem dX4_ofFrame_30 : decode cX4_ofFrame 30 = .ok (.iconst 2, 1) := dk_5 (dk_at dksX4_ofFrame_1 6 rfl rfl)
theorem dX4_ofFrame_31 : decode cX4_ofFrame 31 = .ok (.invokestatic 30, 3) := dk_184 0 30 (dk_at dksX4_ofFrame_1 7 rfl rfl)
theorem dX4_ofFrame_34 : decode cX4_ofFrame 34 = .ok (.ifCond .eq 12, 3) := dk_153 0 12 (dk_at dksX4_ofFrame_1 10 rfl rfl)
theorem dX4_ofFrame_37 : decode cX4_ofFrame 37 = .ok (.aload_n 0, 1) := dk_42 (dk_at dksX4_ofFrame_1 13 rfl rfl)
theorem dX4_ofFrame_38 : decode cX4_ofFrame 38 = .ok (.iload_n 1, 1) := dk_27 (dk_at dksX4_ofFrame_1 14 rfl rfl)
theorem dX4_ofFrame_39 : decode cX4_ofFrame 39 = .ok (.iload_n 2, 1) := dk_28 (dk_at dksX4_ofFrame_1 15 rfl rfl)
theorem dX4_ofFrame_40 : decode cX4_ofFrame 40 = .ok (.invokevirtual 212, 3) := dk_182 0 212 (dk_at dksX4_ofFrame_1 16 rfl rfl)
theorem dX4_ofFrame_43 : decode cX4_ofFrame 43 = .ok (.goto 8, 3) := dk_167 0 8 (dk_at dksX4_ofFrame_1 19 rfl rfl)
theorem dX4_ofFrame_46 : decode cX4_ofFrame 46 = .ok (.aload_n 0, 1) := dk_42 (dk_at dksX4_ofFrame_1 22 rfl rfl)
theorem dX4_ofFrame_47 : decode cX4_ofFrame 47 = .ok (.iconst 2, 1) := dk_5 (dk_at dksX4_ofFrame_1 23 rfl rfl)
theorem dX4_ofFrame_48 : decode cX4_ofFrame 48 = .ok (.invokevirtual 34, 3) := dk_182 0 34 (dk_at dksX4_ofFrame_2 0 rfl rfl)
theorem dX4_ofFrame_51 : decode cX4_ofFrame 51 = .ok (.ireturn, 1) := dk_172 (dk_at dksX4_ofFrame_2 3 rfl rfl)
abbrev cX4_ofFrameNow : ByteArray := prog_9_method_26_code
def yX4_ofFrameNow : MethodName := ⟨RX4, "ofFrameNow", "(II)I"⟩
def dkwX4_ofFrameNow_2 : List UInt8 := [180, 0, 20, 29, 16, 8, 108, 182, 0, 55, 192, 0, 38, 180, 0, 110, 29, 16, 8, 112, 46, 172]
abbrev dktX4_ofFrameNow_2 : List UInt8 := dkwX4_ofFrameNow_2 ++ []
def dkwX4_ofFrameNow_1 : List UInt8 := [16, 8, 108, 167, 0, 40, 28, 4, 160, 0, 10, 29, 16, 8, 112, 167, 0, 28, 42, 180, 0, 10]
abbrev dktX4_ofFrameNow_1 : List UInt8 := dkwX4_ofFrameNow_1 ++ dktX4_ofFrameNow_2
def dkwX4_ofFrameNow_0 : List UInt8 := [42, 180, 0, 10, 27, 182, 0, 209, 62, 29, 2, 160, 0, 7, 2, 167, 0, 51, 28, 154, 0, 10, 29]
abbrev dktX4_ofFrameNow_0 : List UInt8 := dkwX4_ofFrameNow_0 ++ dktX4_ofFrameNow_1
theorem dksX4_ofFrameNow_0 : cX4_ofFrameNow.data.toList.drop 0 = dktX4_ofFrameNow_0 := by decide +kernel
theorem dksX4_ofFrameNow_1 : cX4_ofFrameNow.data.toList.drop 23 = dktX4_ofFrameNow_1 := dk_seg dksX4_ofFrameNow_0 23 rfl rfl
theorem dksX4_ofFrameNow_2 : cX4_ofFrameNow.data.toList.drop 45 = dktX4_ofFrameNow_2 := dk_seg dksX4_ofFrameNow_1 22 rfl rfl
theorem dX4_ofFrameNow_0 : decode cX4_ofFrameNow 0 = .ok (.aload_n 0, 1) := dk_42 (dk_at dksX4_ofFrameNow_0 0 rfl rfl)
theorem dX4_ofFrameNow_1 : decode cX4_ofFrameNow 1 = .ok (.getfield 10, 3) := dk_180 0 10 (dk_at dksX4_ofFrameNow_0 1 rfl rfl)
theorem dX4_ofFrameNow_4 : decode cX4_ofFrameNow 4 = .ok (.iload_n 1, 1) := dk_27 (dk_at dksX4_ofFrameNow_0 4 rfl rfl)
theorem dX4_ofFrameNow_5 : decode cX4_ofFrameNow 5 = .ok (.invokevirtual 209, 3) := dk_182 0 209 (dk_at dksX4_ofFrameNow_0 5 rfl rfl)
theorem dX4_ofFrameNow_8 : decode cX4_ofFrameNow 8 = .ok (.istore_n 3, 1) := dk_62 (dk_at dksX4_ofFrameNow_0 8 rfl rfl)
theorem dX4_ofFrameNow_9 : decode cX4_ofFrameNow 9 = .ok (.iload_n 3, 1) := dk_29 (dk_at dksX4_ofFrameNow_0 9 rfl rfl)
theorem dX4_ofFrameNow_10 : decode cX4_ofFrameNow 10 = .ok (.iconst (-1), 1) := dk_2 (dk_at dksX4_ofFrameNow_0 10 rfl rfl)
theorem dX4_ofFrameNow_11 : decode cX4_ofFrameNow 11 = .ok (.if_icmp .ne 7, 3) := dk_160 0 7 (dk_at dksX4_ofFrameNow_0 11 rfl rfl)
theorem dX4_ofFrameNow_14 : decode cX4_ofFrameNow 14 = .ok (.iconst (-1), 1) := dk_2 (dk_at dksX4_ofFrameNow_0 14 rfl rfl)
theorem dX4_ofFrameNow_15 : decode cX4_ofFrameNow 15 = .ok (.goto 51, 3) := dk_167 0 51 (dk_at dksX4_ofFrameNow_0 15 rfl rfl)
theorem dX4_ofFrameNow_18 : decode cX4_ofFrameNow 18 = .ok (.iload_n 2, 1) := dk_28 (dk_at dksX4_ofFrameNow_0 18 rfl rfl)
theorem dX4_ofFrameNow_19 : decode cX4_ofFrameNow 19 = .ok (.ifCond .ne 10, 3) := dk_154 0 10 (dk_at dksX4_ofFrameNow_0 19 rfl rfl)
theorem dX4_ofFrameNow_22 : decode cX4_ofFrameNow 22 = .ok (.iload_n 3, 1) := dk_29 (dk_at dksX4_ofFrameNow_0 22 rfl rfl)
theorem dX4_ofFrameNow_23 : decode cX4_ofFrameNow 23 = .ok (.bipush 8, 2) := dk_16 8 (dk_at dksX4_ofFrameNow_1 0 rfl rfl)
theorem dX4_ofFrameNow_25 : decode cX4_ofFrameNow 25 = .ok (.idiv, 1) := dk_108 (dk_at dksX4_ofFrameNow_1 2 rfl rfl)
theorem dX4_ofFrameNow_26 : decode cX4_ofFrameNow 26 = .ok (.goto 40, 3) := dk_167 0 40 (dk_at dksX4_ofFrameNow_1 3 rfl rfl)
theorem dX4_ofFrameNow_29 : decode cX4_ofFrameNow 29 = .ok (.iload_n 2, 1) := dk_28 (dk_at dksX4_ofFrameNow_1 6 rfl rfl)
theorem dX4_ofFrameNow_30 : decode cX4_ofFrameNow 30 = .ok (.iconst 1, 1) := dk_4 (dk_at dksX4_ofFrameNow_1 7 rfl rfl)
theorem dX4_ofFrameNow_31 : decode cX4_ofFrameNow 31 = .ok (.if_icmp .ne 10, 3) := dk_160 0 10 (dk_at dksX4_ofFrameNow_1 8 rfl rfl)
theorem dX4_ofFrameNow_34 : decode cX4_ofFrameNow 34 = .ok (.iload_n 3, 1) := dk_29 (dk_at dksX4_ofFrameNow_1 11 rfl rfl)
theorem dX4_ofFrameNow_35 : decode cX4_ofFrameNow 35 = .ok (.bipush 8, 2) := dk_16 8 (dk_at dksX4_ofFrameNow_1 12 rfl rfl)
theorem dX4_ofFrameNow_37 : decode cX4_ofFrameNow 37 = .ok (.irem, 1) := dk_112 (dk_at dksX4_ofFrameNow_1 14 rfl rfl)
theorem dX4_ofFrameNow_38 : decode cX4_ofFrameNow 38 = .ok (.goto 28, 3) := dk_167 0 28 (dk_at dksX4_ofFrameNow_1 15 rfl rfl)
theorem dX4_ofFrameNow_41 : decode cX4_ofFrameNow 41 = .ok (.aload_n 0, 1) := dk_42 (dk_at dksX4_ofFrameNow_1 18 rfl rfl)
theorem dX4_ofFrameNow_42 : decode cX4_ofFrameNow 42 = .ok (.getfield 10, 3) := dk_180 0 10 (dk_at dksX4_ofFrameNow_1 19 rfl rfl)
theorem dX4_ofFrameNow_45 : decode cX4_ofFrameNow 45 = .ok (.getfield 20, 3) := dk_180 0 20 (dk_at dksX4_ofFrameNow_2 0 rfl rfl)
theorem dX4_ofFrameNow_48 : decode cX4_ofFrameNow 48 = .ok (.iload_n 3, 1) := dk_29 (dk_at dksX4_ofFrameNow_2 3 rfl rfl)
theorem dX4_ofFrameNow_49 : decode cX4_ofFrameNow 49 = .ok (.bipush 8, 2) := dk_16 8 (dk_at dksX4_ofFrameNow_2 4 rfl rfl)
theorem dX4_ofFrameNow_51 : decode cX4_ofFrameNow 51 = .ok (.idiv, 1) := dk_108 (dk_at dksX4_ofFrameNow_2 6 rfl rfl)
theorem dX4_ofFrameNow_52 : decode cX4_ofFrameNow 52 = .ok (.invokevirtual 55, 3) := dk_182 0 55 (dk_at dksX4_ofFrameNow_2 7 rfl rfl)
theorem dX4_ofFrameNow_55 : decode cX4_ofFrameNow 55 = .ok (.checkcast 38, 3) := dk_192 0 38 (dk_at dksX4_ofFrameNow_2 10 rfl rfl)
theorem dX4_ofFrameNow_58 : decode cX4_ofFrameNow 58 = .ok (.getfield 110, 3) := dk_180 0 110 (dk_at dksX4_ofFrameNow_2 13 rfl rfl)
theorem dX4_ofFrameNow_61 : decode cX4_ofFrameNow 61 = .ok (.iload_n 3, 1) := dk_29 (dk_at dksX4_ofFrameNow_2 16 rfl rfl)
theorem dX4_ofFrameNow_62 : decode cX4_ofFrameNow 62 = .ok (.bipush 8, 2) := dk_16 8 (dk_at dksX4_ofFrameNow_2 17 rfl rfl)
theorem dX4_ofFrameNow_64 : decode cX4_ofFrameNow 64 = .ok (.irem, 1) := dk_112 (dk_at dksX4_ofFrameNow_2 19 rfl rfl)
theorem dX4_ofFrameNow_65 : decode cX4_ofFrameNow 65 = .ok (.iaload, 1) := dk_46 (dk_at dksX4_ofFrameNow_2 20 rfl rfl)
theorem dX4_ofFrameNow_66 : decode cX4_ofFrameNow 66 = .ok (.ireturn, 1) := dk_172 (dk_at dksX4_ofFrameNow_2 21 rfl rfl)
abbrev cX4_logged : ByteArray := prog_9_method_29_code
def yX4_logged : MethodName := ⟨RX4, "logged", "(II)I"⟩
def dkwX4_logged_1 : List UInt8 := [27, 28, 182, 0, 218, 167, 0, 8, 42, 5, 182, 0, 34, 172]
abbrev dktX4_logged_1 : List UInt8 := dkwX4_logged_1 ++ []
def dkwX4_logged_0 : List UInt8 := [42, 3, 181, 0, 16, 42, 27, 182, 0, 48, 154, 0, 9, 42, 4, 182, 0, 34, 172, 28, 155, 0, 12, 42]
abbrev dktX4_logged_0 : List UInt8 := dkwX4_logged_0 ++ dktX4_logged_1
theorem dksX4_logged_0 : cX4_logged.data.toList.drop 0 = dktX4_logged_0 := by decide +kernel
theorem dksX4_logged_1 : cX4_logged.data.toList.drop 24 = dktX4_logged_1 := dk_seg dksX4_logged_0 24 rfl rfl
theorem dX4_logged_0 : decode cX4_logged 0 = .ok (.aload_n 0, 1) := dk_42 (dk_at dksX4_logged_0 0 rfl rfl)
theorem dX4_logged_1 : decode cX4_logged 1 = .ok (.iconst 0, 1) := dk_3 (dk_at dksX4_logged_0 1 rfl rfl)
theorem dX4_logged_2 : decode cX4_logged 2 = .ok (.putfield 16, 3) := dk_181 0 16 (dk_at dksX4_logged_0 2 rfl rfl)
theorem dX4_logged_5 : decode cX4_logged 5 = .ok (.aload_n 0, 1) := dk_42 (dk_at dksX4_logged_0 5 rfl rfl)
theorem dX4_logged_6 : decode cX4_logged 6 = .ok (.iload_n 1, 1) := dk_27 (dk_at dksX4_logged_0 6 rfl rfl)
theorem dX4_logged_7 : decode cX4_logged 7 = .ok (.invokevirtual 48, 3) := dk_182 0 48 (dk_at dksX4_logged_0 7 rfl rfl)
theorem dX4_logged_10 : decode cX4_logged 10 = .ok (.ifCond .ne 9, 3) := dk_154 0 9 (dk_at dksX4_logged_0 10 rfl rfl)
theorem dX4_logged_13 : decode cX4_logged 13 = .ok (.aload_n 0, 1) := dk_42 (dk_at dksX4_logged_0 13 rfl rfl)
theorem dX4_logged_14 : decode cX4_logged 14 = .ok (.iconst 1, 1) := dk_4 (dk_at dksX4_logged_0 14 rfl rfl)
theorem dX4_logged_15 : decode cX4_logged 15 = .ok (.invokevirtual 34, 3) := dk_182 0 34 (dk_at dksX4_logged_0 15 rfl rfl)
theorem dX4_logged_18 : decode cX4_logged 18 = .ok (.ireturn, 1) := dk_172 (dk_at dksX4_logged_0 18 rfl rfl)
theorem dX4_logged_19 : decode cX4_logged 19 = .ok (.iload_n 2, 1) := dk_28 (dk_at dksX4_logged_0 19 rfl rfl)
theorem dX4_logged_20 : decode cX4_logged 20 = .ok (.ifCond .lt 12, 3) := dk_155 0 12 (dk_at dksX4_logged_0 20 rfl rfl)
theorem dX4_logged_23 : decode cX4_logged 23 = .ok (.aload_n 0, 1) := dk_42 (dk_at dksX4_logged_0 23 rfl rfl)
theorem dX4_logged_24 : decode cX4_logged 24 = .ok (.iload_n 1, 1) := dk_27 (dk_at dksX4_logged_1 0 rfl rfl)
theorem dX4_logged_25 : decode cX4_logged 25 = .ok (.iload_n 2, 1) := dk_28 (dk_at dksX4_logged_1 1 rfl rfl)
theorem dX4_logged_26 : decode cX4_logged 26 = .ok (.invokevirtual 218, 3) := dk_182 0 218 (dk_at dksX4_logged_1 2 rfl rfl)
theorem dX4_logged_29 : decode cX4_logged 29 = .ok (.goto 8, 3) := dk_167 0 8 (dk_at dksX4_logged_1 5 rfl rfl)
theorem dX4_logged_32 : decode cX4_logged 32 = .ok (.aload_n 0, 1) := dk_42 (dk_at dksX4_logged_1 8 rfl rfl)
theorem dX4_logged_33 : decode cX4_logged 33 = .ok (.iconst 2, 1) := dk_5 (dk_at dksX4_logged_1 9 rfl rfl)
theorem dX4_logged_34 : decode cX4_logged 34 = .ok (.invokevirtual 34, 3) := dk_182 0 34 (dk_at dksX4_logged_1 10 rfl rfl)
theorem dX4_logged_37 : decode cX4_logged 37 = .ok (.ireturn, 1) := dk_172 (dk_at dksX4_logged_1 13 rfl rfl)
abbrev cX4_loggedNow : ByteArray := prog_9_method_28_code
def yX4_loggedNow : MethodName := ⟨RX4, "loggedNow", "(II)I"⟩
def dkwX4_loggedNow_2 : List UInt8 := [167, 0, 4, 2, 172]
abbrev dktX4_loggedNow_2 : List UInt8 := dkwX4_loggedNow_2 ++ []
def dkwX4_loggedNow_1 : List UInt8 := [180, 0, 137, 182, 0, 24, 162, 0, 20, 45, 180, 0, 137, 28, 182, 0, 55, 192, 0, 186, 182, 0, 215]
abbrev dktX4_loggedNow_1 : List UInt8 := dkwX4_loggedNow_1 ++ dktX4_loggedNow_2
def dkwX4_loggedNow_0 : List UInt8 := [42, 180, 0, 10, 180, 0, 20, 27, 182, 0, 55, 192, 0, 38, 78, 45, 180, 0, 68, 153, 0, 31, 28, 45]
abbrev dktX4_loggedNow_0 : List UInt8 := dkwX4_loggedNow_0 ++ dktX4_loggedNow_1
theorem dksX4_loggedNow_0 : cX4_loggedNow.data.toList.drop 0 = dktX4_loggedNow_0 := by decide +kernel
theorem dksX4_loggedNow_1 : cX4_loggedNow.data.toList.drop 24 = dktX4_loggedNow_1 := dk_seg dksX4_loggedNow_0 24 rfl rfl
theorem dksX4_loggedNow_2 : cX4_loggedNow.data.toList.drop 47 = dktX4_loggedNow_2 := dk_seg dksX4_loggedNow_1 23 rfl rfl
theorem dX4_loggedNow_0 : decode cX4_loggedNow 0 = .ok (.aload_n 0, 1) := dk_42 (dk_at dksX4_loggedNow_0 0 rfl rfl)
theorem dX4_loggedNow_1 : decode cX4_loggedNow 1 = .ok (.getfield 10, 3) := dk_180 0 10 (dk_at dksX4_loggedNow_0 1 rfl rfl)
theorem dX4_loggedNow_4 : decode cX4_loggedNow 4 = .ok (.getfield 20, 3) := dk_180 0 20 (dk_at dksX4_loggedNow_0 4 rfl rfl)
theorem dX4_loggedNow_7 : decode cX4_loggedNow 7 = .ok (.iload_n 1, 1) := dk_27 (dk_at dksX4_loggedNow_0 7 rfl rfl)
theorem dX4_loggedNow_8 : decode cX4_loggedNow 8 = .ok (.invokevirtual 55, 3) := dk_182 0 55 (dk_at dksX4_loggedNow_0 8 rfl rfl)
theorem dX4_loggedNow_11 : decode cX4_loggedNow 11 = .ok (.checkcast 38, 3) := dk_192 0 38 (dk_at dksX4_loggedNow_0 11 rfl rfl)
theorem dX4_loggedNow_14 : decode cX4_loggedNow 14 = .ok (.astore_n 3, 1) := dk_78 (dk_at dksX4_loggedNow_0 14 rfl rfl)
theorem dX4_loggedNow_15 : decode cX4_loggedNow 15 = .ok (.aload_n 3, 1) := dk_45 (dk_at dksX4_loggedNow_0 15 rfl rfl)
theorem dX4_loggedNow_16 : decode cX4_loggedNow 16 = .ok (.getfield 68, 3) := dk_180 0 68 (dk_at dksX4_loggedNow_0 16 rfl rfl)
theorem dX4_loggedNow_19 : decode cX4_loggedNow 19 = .ok (.ifCond .eq 31, 3) := dk_153 0 31 (dk_at dksX4_loggedNow_0 19 rfl rfl)
theorem dX4_loggedNow_22 : decode cX4_loggedNow 22 = .ok (.iload_n 2, 1) := dk_28 (dk_at dksX4_loggedNow_0 22 rfl rfl)
theorem dX4_loggedNow_23 : decode cX4_loggedNow 23 = .ok (.aload_n 3, 1) := dk_45 (dk_at dksX4_loggedNow_0 23 rfl rfl)
theorem dX4_loggedNow_24 : decode cX4_loggedNow 24 = .ok (.getfield 137, 3) := dk_180 0 137 (dk_at dksX4_loggedNow_1 0 rfl rfl)
theorem dX4_loggedNow_27 : decode cX4_loggedNow 27 = .ok (.invokevirtual 24, 3) := dk_182 0 24 (dk_at dksX4_loggedNow_1 3 rfl rfl)
theorem dX4_loggedNow_30 : decode cX4_loggedNow 30 = .ok (.if_icmp .ge 20, 3) := dk_162 0 20 (dk_at dksX4_loggedNow_1 6 rfl rfl)
theorem dX4_loggedNow_33 : decode cX4_loggedNow 33 = .ok (.aload_n 3, 1) := dk_45 (dk_at dksX4_loggedNow_1 9 rfl rfl)
theorem dX4_loggedNow_34 : decode cX4_loggedNow 34 = .ok (.getfield 137, 3) := dk_180 0 137 (dk_at dksX4_loggedNow_1 10 rfl rfl)
theorem dX4_loggedNow_37 : decode cX4_loggedNow 37 = .ok (.iload_n 2, 1) := dk_28 (dk_at dksX4_loggedNow_1 13 rfl rfl)
theorem dX4_loggedNow_38 : decode cX4_loggedNow 38 = .ok (.invokevirtual 55, 3) := dk_182 0 55 (dk_at dksX4_loggedNow_1 14 rfl rfl)
theorem dX4_loggedNow_41 : decode cX4_loggedNow 41 = .ok (.checkcast 186, 3) := dk_192 0 186 (dk_at dksX4_loggedNow_1 17 rfl rfl)
theorem dX4_loggedNow_44 : decode cX4_loggedNow 44 = .ok (.invokevirtual 215, 3) := dk_182 0 215 (dk_at dksX4_loggedNow_1 20 rfl rfl)
theorem dX4_loggedNow_47 : decode cX4_loggedNow 47 = .ok (.goto 4, 3) := dk_167 0 4 (dk_at dksX4_loggedNow_2 0 rfl rfl)
theorem dX4_loggedNow_50 : decode cX4_loggedNow 50 = .ok (.iconst (-1), 1) := dk_2 (dk_at dksX4_loggedNow_2 3 rfl rfl)
theorem dX4_loggedNow_51 : decode cX4_loggedNow 51 = .ok (.ireturn, 1) := dk_172 (dk_at dksX4_loggedNow_2 4 rfl rfl)
abbrev cX4_many : ByteArray := prog_9_method_31_code
def yX4_many : MethodName := ⟨RX4, "many", "(I)I"⟩
def dkwX4_many_1 : List UInt8 := [4, 182, 0, 34, 172]
abbrev dktX4_many_1 : List UInt8 := dkwX4_many_1 ++ []
def dkwX4_many_0 : List UInt8 := [42, 3, 181, 0, 16, 27, 3, 16, 10, 184, 0, 30, 153, 0, 11, 42, 27, 182, 0, 253, 167, 0, 8, 42]
abbrev dktX4_many_0 : List UInt8 := dkwX4_many_0 ++ dktX4_many_1
theorem dksX4_many_0 : cX4_many.data.toList.drop 0 = dktX4_many_0 := by decide +kernel
theorem dksX4_many_1 : cX4_many.data.toList.drop 24 = dktX4_many_1 := dk_seg dksX4_many_0 24 rfl rfl
theorem dX4_many_0 : decode cX4_many 0 = .ok (.aload_n 0, 1) := dk_42 (dk_at dksX4_many_0 0 rfl rfl)
theorem dX4_many_1 : decode cX4_many 1 = .ok (.iconst 0, 1) := dk_3 (dk_at dksX4_many_0 1 rfl rfl)
theorem dX4_many_2 : decode cX4_many 2 = .ok (.putfield 16, 3) := dk_181 0 16 (dk_at dksX4_many_0 2 rfl rfl)
theorem dX4_many_5 : decode cX4_many 5 = .ok (.iload_n 1, 1) := dk_27 (dk_at dksX4_many_0 5 rfl rfl)
theorem dX4_many_6 : decode cX4_many 6 = .ok (.iconst 0, 1) := dk_3 (dk_at dksX4_many_0 6 rfl rfl)
theorem dX4_many_7 : decode cX4_many 7 = .ok (.bipush 10, 2) := dk_16 10 (dk_at dksX4_many_0 7 rfl rfl)
theorem dX4_many_9 : decode cX4_many 9 = .ok (.invokestatic 30, 3) := dk_184 0 30 (dk_at dksX4_many_0 9 rfl rfl)
theorem dX4_many_12 : decode cX4_many 12 = .ok (.ifCond .eq 11, 3) := dk_153 0 11 (dk_at dksX4_many_0 12 rfl rfl)
theorem dX4_many_15 : decode cX4_many 15 = .ok (.aload_n 0, 1) := dk_42 (dk_at dksX4_many_0 15 rfl rfl)
theorem dX4_many_16 : decode cX4_many 16 = .ok (.iload_n 1, 1) := dk_27 (dk_at dksX4_many_0 16 rfl rfl)
theorem dX4_many_17 : decode cX4_many 17 = .ok (.invokevirtual 253, 3) := dk_182 0 253 (dk_at dksX4_many_0 17 rfl rfl)
theorem dX4_many_20 : decode cX4_many 20 = .ok (.goto 8, 3) := dk_167 0 8 (dk_at dksX4_many_0 20 rfl rfl)
theorem dX4_many_23 : decode cX4_many 23 = .ok (.aload_n 0, 1) := dk_42 (dk_at dksX4_many_0 23 rfl rfl)
theorem dX4_many_24 : decode cX4_many 24 = .ok (.iconst 1, 1) := dk_4 (dk_at dksX4_many_1 0 rfl rfl)
theorem dX4_many_25 : decode cX4_many 25 = .ok (.invokevirtual 34, 3) := dk_182 0 34 (dk_at dksX4_many_1 1 rfl rfl)
theorem dX4_many_28 : decode cX4_many 28 = .ok (.ireturn, 1) := dk_172 (dk_at dksX4_many_1 4 rfl rfl)
abbrev cX4_manyNow : ByteArray := prog_9_method_30_code
def yX4_manyNow : MethodName := ⟨RX4, "manyNow", "(I)I"⟩
def dkwX4_manyNow_10 : List UInt8 := [180, 0, 247, 79, 89, 16, 10, 42, 180, 0, 10, 180, 0, 250, 79, 58, 4, 25, 4, 27, 46, 172]
abbrev dktX4_manyNow_10 : List UInt8 := dkwX4_manyNow_10 ++ []
def dkwX4_manyNow_9 : List UInt8 := [16, 7, 42, 180, 0, 10, 180, 0, 244, 79, 89, 16, 8, 29, 79, 89, 16, 9, 42, 180, 0, 10]
abbrev dktX4_manyNow_9 : List UInt8 := dkwX4_manyNow_9 ++ dktX4_manyNow_10
def dkwX4_manyNow_8 : List UInt8 := [180, 0, 10, 180, 0, 238, 2, 160, 0, 7, 2, 167, 0, 10, 42, 180, 0, 10, 180, 0, 241, 79, 89]
abbrev dktX4_manyNow_8 : List UInt8 := dkwX4_manyNow_8 ++ dktX4_manyNow_9
def dkwX4_manyNow_7 : List UInt8 := [7, 42, 180, 0, 10, 180, 0, 235, 79, 89, 8, 42, 180, 0, 10, 180, 0, 238, 79, 89, 16, 6, 42]
abbrev dktX4_manyNow_7 : List UInt8 := dkwX4_manyNow_7 ++ dktX4_manyNow_8
def dkwX4_manyNow_6 : List UInt8 := [4, 42, 180, 0, 10, 180, 0, 88, 79, 89, 5, 42, 180, 0, 10, 180, 0, 91, 79, 89, 6, 28, 79, 89]
abbrev dktX4_manyNow_6 : List UInt8 := dkwX4_manyNow_6 ++ dktX4_manyNow_7
def dkwX4_manyNow_5 : List UInt8 := [167, 255, 234, 167, 255, 194, 16, 11, 188, 10, 89, 3, 42, 180, 0, 10, 180, 0, 20, 182, 0, 24, 79, 89]
abbrev dktX4_manyNow_5 : List UInt8 := dkwX4_manyNow_5 ++ dktX4_manyNow_6
def dkwX4_manyNow_4 : List UInt8 := [54, 8, 21, 8, 21, 7, 162, 0, 21, 25, 6, 21, 8, 46, 54, 9, 29, 21, 9, 96, 62, 132, 8, 1]
abbrev dktX4_manyNow_4 : List UInt8 := dkwX4_manyNow_4 ++ dktX4_manyNow_5
def dkwX4_manyNow_3 : List UInt8 := [185, 0, 231, 1, 0, 192, 0, 38, 58, 5, 25, 5, 180, 0, 196, 58, 6, 25, 6, 190, 54, 7, 3]
abbrev dktX4_manyNow_3 : List UInt8 := dkwX4_manyNow_3 ++ dktX4_manyNow_4
def dkwX4_manyNow_2 : List UInt8 := [180, 0, 20, 182, 0, 221, 58, 4, 25, 4, 185, 0, 225, 1, 0, 153, 0, 58, 25, 4]
abbrev dktX4_manyNow_2 : List UInt8 := dkwX4_manyNow_2 ++ dktX4_manyNow_3
def dkwX4_manyNow_1 : List UInt8 := [2, 160, 0, 7, 4, 167, 0, 4, 3, 96, 61, 132, 3, 1, 167, 255, 222, 3, 62, 42, 180, 0, 10]
abbrev dktX4_manyNow_1 : List UInt8 := dkwX4_manyNow_1 ++ dktX4_manyNow_2
def dkwX4_manyNow_0 : List UInt8 := [3, 61, 3, 62, 29, 42, 180, 0, 10, 180, 0, 91, 162, 0, 29, 28, 42, 180, 0, 10, 29, 182, 0, 209]
abbrev dktX4_manyNow_0 : List UInt8 := dkwX4_manyNow_0 ++ dktX4_manyNow_1
theorem dksX4_manyNow_0 : cX4_manyNow.data.toList.drop 0 = dktX4_manyNow_0 := by decide +kernel
theorem dksX4_manyNow_1 : cX4_manyNow.data.toList.drop 24 = dktX4_manyNow_1 := dk_seg dksX4_manyNow_0 24 rfl rfl
theorem dksX4_manyNow_2 : cX4_manyNow.data.toList.drop 47 = dktX4_manyNow_2 := dk_seg dksX4_manyNow_1 23 rfl rfl
theorem dksX4_manyNow_3 : cX4_manyNow.data.toList.drop 67 = dktX4_manyNow_3 := dk_seg dksX4_manyNow_2 20 rfl rfl
theorem dksX4_manyNow_4 : cX4_manyNow.data.toList.drop 90 = dktX4_manyNow_4 := dk_seg dksX4_manyNow_3 23 rfl rfl
theorem dksX4_manyNow_5 : cX4_manyNow.data.toList.drop 114 = dktX4_manyNow_5 := dk_seg dksX4_manyNow_4 24 rfl rfl
theorem dksX4_manyNow_6 : cX4_manyNow.data.toList.drop 138 = dktX4_manyNow_6 := dk_seg dksX4_manyNow_5 24 rfl rfl
theorem dksX4_manyNow_7 : cX4_manyNow.data.toList.drop 162 = dktX4_manyNow_7 := dk_seg dksX4_manyNow_6 24 rfl rfl
theorem dksX4_manyNow_8 : cX4_manyNow.data.toList.drop 185 = dktX4_manyNow_8 := dk_seg dksX4_manyNow_7 23 rfl rfl
theorem dksX4_manyNow_9 : cX4_manyNow.data.toList.drop 208 = dktX4_manyNow_9 := dk_seg dksX4_manyNow_8 23 rfl rfl
theorem dksX4_manyNow_10 : cX4_manyNow.data.toList.drop 230 = dktX4_manyNow_10 := dk_seg dksX4_manyNow_9 22 rfl rfl
theorem dX4_manyNow_0 : decode cX4_manyNow 0 = .ok (.iconst 0, 1) := dk_3 (dk_at dksX4_manyNow_0 0 rfl rfl)
theorem dX4_manyNow_1 : decode cX4_manyNow 1 = .ok (.istore_n 2, 1) := dk_61 (dk_at dksX4_manyNow_0 1 rfl rfl)
theorem dX4_manyNow_2 : decode cX4_manyNow 2 = .ok (.iconst 0, 1) := dk_3 (dk_at dksX4_manyNow_0 2 rfl rfl)
theorem dX4_manyNow_3 : decode cX4_manyNow 3 = .ok (.istore_n 3, 1) := dk_62 (dk_at dksX4_manyNow_0 3 rfl rfl)
theorem dX4_manyNow_4 : decode cX4_manyNow 4 = .ok (.iload_n 3, 1) := dk_29 (dk_at dksX4_manyNow_0 4 rfl rfl)
theorem dX4_manyNow_5 : decode cX4_manyNow 5 = .ok (.aload_n 0, 1) := dk_42 (dk_at dksX4_manyNow_0 5 rfl rfl)
theorem dX4_manyNow_6 : decode cX4_manyNow 6 = .ok (.getfield 10, 3) := dk_180 0 10 (dk_at dksX4_manyNow_0 6 rfl rfl)
theorem dX4_manyNow_9 : decode cX4_manyNow 9 = .ok (.getfield 91, 3) := dk_180 0 91 (dk_at dksX4_manyNow_0 9 rfl rfl)
theorem dX4_manyNow_12 : decode cX4_manyNow 12 = .ok (.if_icmp .ge 29, 3) := dk_162 0 29 (dk_at dksX4_manyNow_0 12 rfl rfl)
theorem dX4_manyNow_15 : decode cX4_manyNow 15 = .ok (.iload_n 2, 1) := dk_28 (dk_at dksX4_manyNow_0 15 rfl rfl)
theorem dX4_manyNow_16 : decode cX4_manyNow 16 = .ok (.aload_n 0, 1) := dk_42 (dk_at dksX4_manyNow_0 16 rfl rfl)
theorem dX4_manyNow_17 : decode cX4_manyNow 17 = .ok (.getfield 10, 3) := dk_180 0 10 (dk_at dksX4_manyNow_0 17 rfl rfl)
theorem dX4_manyNow_20 : decode cX4_manyNow 20 = .ok (.iload_n 3, 1) := dk_29 (dk_at dksX4_manyNow_0 20 rfl rfl)
theorem dX4_manyNow_21 : decode cX4_manyNow 21 = .ok (.invokevirtual 209, 3) := dk_182 0 209 (dk_at dksX4_manyNow_0 21 rfl rfl)
theorem dX4_manyNow_24 : decode cX4_manyNow 24 = .ok (.iconst (-1), 1) := dk_2 (dk_at dksX4_manyNow_1 0 rfl rfl)
theorem dX4_manyNow_25 : decode cX4_manyNow 25 = .ok (.if_icmp .ne 7, 3) := dk_160 0 7 (dk_at dksX4_manyNow_1 1 rfl rfl)
theorem dX4_manyNow_28 : decode cX4_manyNow 28 = .ok (.iconst 1, 1) := dk_4 (dk_at dksX4_manyNow_1 4 rfl rfl)
theorem dX4_manyNow_29 : decode cX4_manyNow 29 = .ok (.goto 4, 3) := dk_167 0 4 (dk_at dksX4_manyNow_1 5 rfl rfl)
theorem dX4_manyNow_32 : decode cX4_manyNow 32 = .ok (.iconst 0, 1) := dk_3 (dk_at dksX4_manyNow_1 8 rfl rfl)
theorem dX4_manyNow_33 : decode cX4_manyNow 33 = .ok (.iadd, 1) := dk_96 (dk_at dksX4_manyNow_1 9 rfl rfl)
theorem dX4_manyNow_34 : decode cX4_manyNow 34 = .ok (.istore_n 2, 1) := dk_61 (dk_at dksX4_manyNow_1 10 rfl rfl)
theorem dX4_manyNow_35 : decode cX4_manyNow 35 = .ok (.iinc 3 1, 3) := dk_132 3 1 (dk_at dksX4_manyNow_1 11 rfl rfl)
theorem dX4_manyNow_38 : decode cX4_manyNow 38 = .ok (.goto (-34), 3) := dk_167 255 222 (dk_at dksX4_manyNow_1 14 rfl rfl)
theorem dX4_manyNow_41 : decode cX4_manyNow 41 = .ok (.iconst 0, 1) := dk_3 (dk_at dksX4_manyNow_1 17 rfl rfl)
theorem dX4_manyNow_42 : decode cX4_manyNow 42 = .ok (.istore_n 3, 1) := dk_62 (dk_at dksX4_manyNow_1 18 rfl rfl)
theorem dX4_manyNow_43 : decode cX4_manyNow 43 = .ok (.aload_n 0, 1) := dk_42 (dk_at dksX4_manyNow_1 19 rfl rfl)
theorem dX4_manyNow_44 : decode cX4_manyNow 44 = .ok (.getfield 10, 3) := dk_180 0 10 (dk_at dksX4_manyNow_1 20 rfl rfl)
theorem dX4_manyNow_47 : decode cX4_manyNow 47 = .ok (.getfield 20, 3) := dk_180 0 20 (dk_at dksX4_manyNow_2 0 rfl rfl)
theorem dX4_manyNow_50 : decode cX4_manyNow 50 = .ok (.invokevirtual 221, 3) := dk_182 0 221 (dk_at dksX4_manyNow_2 3 rfl rfl)
theorem dX4_manyNow_53 : decode cX4_manyNow 53 = .ok (.astore 4, 2) := dk_58 4 (dk_at dksX4_manyNow_2 6 rfl rfl)
theorem dX4_manyNow_55 : decode cX4_manyNow 55 = .ok (.aload 4, 2) := dk_25 4 (dk_at dksX4_manyNow_2 8 rfl rfl)
theorem dX4_manyNow_57 : decode cX4_manyNow 57 = .ok (.invokeinterface 225 1, 5) := by decide +kernel
theorem dX4_manyNow_62 : decode cX4_manyNow 62 = .ok (.ifCond .eq 58, 3) := dk_153 0 58 (dk_at dksX4_manyNow_2 15 rfl rfl)
theorem dX4_manyNow_65 : decode cX4_manyNow 65 = .ok (.aload 4, 2) := dk_25 4 (dk_at dksX4_manyNow_2 18 rfl rfl)
theorem dX4_manyNow_67 : decode cX4_manyNow 67 = .ok (.invokeinterface 231 1, 5) := by decide +kernel
theorem dX4_manyNow_72 : decode cX4_manyNow 72 = .ok (.checkcast 38, 3) := dk_192 0 38 (dk_at dksX4_manyNow_3 5 rfl rfl)
theorem dX4_manyNow_75 : decode cX4_manyNow 75 = .ok (.astore 5, 2) := dk_58 5 (dk_at dksX4_manyNow_3 8 rfl rfl)
theorem dX4_manyNow_77 : decode cX4_manyNow 77 = .ok (.aload 5, 2) := dk_25 5 (dk_at dksX4_manyNow_3 10 rfl rfl)
theorem dX4_manyNow_79 : decode cX4_manyNow 79 = .ok (.getfield 196, 3) := dk_180 0 196 (dk_at dksX4_manyNow_3 12 rfl rfl)
theorem dX4_manyNow_82 : decode cX4_manyNow 82 = .ok (.astore 6, 2) := dk_58 6 (dk_at dksX4_manyNow_3 15 rfl rfl)
theorem dX4_manyNow_84 : decode cX4_manyNow 84 = .ok (.aload 6, 2) := dk_25 6 (dk_at dksX4_manyNow_3 17 rfl rfl)
theorem dX4_manyNow_86 : decode cX4_manyNow 86 = .ok (.arraylength, 1) := dk_190 (dk_at dksX4_manyNow_3 19 rfl rfl)
theorem dX4_manyNow_87 : decode cX4_manyNow 87 = .ok (.istore 7, 2) := dk_54 7 (dk_at dksX4_manyNow_3 20 rfl rfl)
theorem dX4_manyNow_89 : decode cX4_manyNow 89 = .ok (.iconst 0, 1) := dk_3 (dk_at dksX4_manyNow_3 22 rfl rfl)
theorem dX4_manyNow_90 : decode cX4_manyNow 90 = .ok (.istore 8, 2) := dk_54 8 (dk_at dksX4_manyNow_4 0 rfl rfl)
theorem dX4_manyNow_92 : decode cX4_manyNow 92 = .ok (.iload 8, 2) := dk_21 8 (dk_at dksX4_manyNow_4 2 rfl rfl)
theorem dX4_manyNow_94 : decode cX4_manyNow 94 = .ok (.iload 7, 2) := dk_21 7 (dk_at dksX4_manyNow_4 4 rfl rfl)
theorem dX4_manyNow_96 : decode cX4_manyNow 96 = .ok (.if_icmp .ge 21, 3) := dk_162 0 21 (dk_at dksX4_manyNow_4 6 rfl rfl)
theorem dX4_manyNow_99 : decode cX4_manyNow 99 = .ok (.aload 6, 2) := dk_25 6 (dk_at dksX4_manyNow_4 9 rfl rfl)
theorem dX4_manyNow_101 : decode cX4_manyNow 101 = .ok (.iload 8, 2) := dk_21 8 (dk_at dksX4_manyNow_4 11 rfl rfl)
theorem dX4_manyNow_103 : decode cX4_manyNow 103 = .ok (.iaload, 1) := dk_46 (dk_at dksX4_manyNow_4 13 rfl rfl)
theorem dX4_manyNow_104 : decode cX4_manyNow 104 = .ok (.istore 9, 2) := dk_54 9 (dk_at dksX4_manyNow_4 14 rfl rfl)
theorem dX4_manyNow_106 : decode cX4_manyNow 106 = .ok (.iload_n 3, 1) := dk_29 (dk_at dksX4_manyNow_4 16 rfl rfl)
theorem dX4_manyNow_107 : decode cX4_manyNow 107 = .ok (.iload 9, 2) := dk_21 9 (dk_at dksX4_manyNow_4 17 rfl rfl)
theorem dX4_manyNow_109 : decode cX4_manyNow 109 = .ok (.iadd, 1) := dk_96 (dk_at dksX4_manyNow_4 19 rfl rfl)
theorem dX4_manyNow_110 : decode cX4_manyNow 110 = .ok (.istore_n 3, 1) := dk_62 (dk_at dksX4_manyNow_4 20 rfl rfl)
theorem dX4_manyNow_111 : decode cX4_manyNow 111 = .ok (.iinc 8 1, 3) := dk_132 8 1 (dk_at dksX4_manyNow_4 21 rfl rfl)
theorem dX4_manyNow_114 : decode cX4_manyNow 114 = .ok (.goto (-22), 3) := dk_167 255 234 (dk_at dksX4_manyNow_5 0 rfl rfl)
theorem dX4_manyNow_117 : decode cX4_manyNow 117 = .ok (.goto (-62), 3) := dk_167 255 194 (dk_at dksX4_manyNow_5 3 rfl rfl)
theorem dX4_manyNow_120 : decode cX4_manyNow 120 = .ok (.bipush 11, 2) := dk_16 11 (dk_at dksX4_manyNow_5 6 rfl rfl)
theorem dX4_manyNow_122 : decode cX4_manyNow 122 = .ok (.newarray .int, 2) := dk_188_10 (dk_at dksX4_manyNow_5 8 rfl rfl)
theorem dX4_manyNow_124 : decode cX4_manyNow 124 = .ok (.dup, 1) := dk_89 (dk_at dksX4_manyNow_5 10 rfl rfl)
theorem dX4_manyNow_125 : decode cX4_manyNow 125 = .ok (.iconst 0, 1) := dk_3 (dk_at dksX4_manyNow_5 11 rfl rfl)
theorem dX4_manyNow_126 : decode cX4_manyNow 126 = .ok (.aload_n 0, 1) := dk_42 (dk_at dksX4_manyNow_5 12 rfl rfl)
theorem dX4_manyNow_127 : decode cX4_manyNow 127 = .ok (.getfield 10, 3) := dk_180 0 10 (dk_at dksX4_manyNow_5 13 rfl rfl)
theorem dX4_manyNow_130 : decode cX4_manyNow 130 = .ok (.getfield 20, 3) := dk_180 0 20 (dk_at dksX4_manyNow_5 16 rfl rfl)
theorem dX4_manyNow_133 : decode cX4_manyNow 133 = .ok (.invokevirtual 24, 3) := dk_182 0 24 (dk_at dksX4_manyNow_5 19 rfl rfl)
theorem dX4_manyNow_136 : decode cX4_manyNow 136 = .ok (.iastore, 1) := dk_79 (dk_at dksX4_manyNow_5 22 rfl rfl)
theorem dX4_manyNow_137 : decode cX4_manyNow 137 = .ok (.dup, 1) := dk_89 (dk_at dksX4_manyNow_5 23 rfl rfl)
theorem dX4_manyNow_138 : decode cX4_manyNow 138 = .ok (.iconst 1, 1) := dk_4 (dk_at dksX4_manyNow_6 0 rfl rfl)
theorem dX4_manyNow_139 : decode cX4_manyNow 139 = .ok (.aload_n 0, 1) := dk_42 (dk_at dksX4_manyNow_6 1 rfl rfl)
theorem dX4_manyNow_140 : decode cX4_manyNow 140 = .ok (.getfield 10, 3) := dk_180 0 10 (dk_at dksX4_manyNow_6 2 rfl rfl)
theorem dX4_manyNow_143 : decode cX4_manyNow 143 = .ok (.getfield 88, 3) := dk_180 0 88 (dk_at dksX4_manyNow_6 5 rfl rfl)
theorem dX4_manyNow_146 : decode cX4_manyNow 146 = .ok (.iastore, 1) := dk_79 (dk_at dksX4_manyNow_6 8 rfl rfl)
theorem dX4_manyNow_147 : decode cX4_manyNow 147 = .ok (.dup, 1) := dk_89 (dk_at dksX4_manyNow_6 9 rfl rfl)
theorem dX4_manyNow_148 : decode cX4_manyNow 148 = .ok (.iconst 2, 1) := dk_5 (dk_at dksX4_manyNow_6 10 rfl rfl)
theorem dX4_manyNow_149 : decode cX4_manyNow 149 = .ok (.aload_n 0, 1) := dk_42 (dk_at dksX4_manyNow_6 11 rfl rfl)
theorem dX4_manyNow_150 : decode cX4_manyNow 150 = .ok (.getfield 10, 3) := dk_180 0 10 (dk_at dksX4_manyNow_6 12 rfl rfl)
theorem dX4_manyNow_153 : decode cX4_manyNow 153 = .ok (.getfield 91, 3) := dk_180 0 91 (dk_at dksX4_manyNow_6 15 rfl rfl)
theorem dX4_manyNow_156 : decode cX4_manyNow 156 = .ok (.iastore, 1) := dk_79 (dk_at dksX4_manyNow_6 18 rfl rfl)
theorem dX4_manyNow_157 : decode cX4_manyNow 157 = .ok (.dup, 1) := dk_89 (dk_at dksX4_manyNow_6 19 rfl rfl)
theorem dX4_manyNow_158 : decode cX4_manyNow 158 = .ok (.iconst 3, 1) := dk_6 (dk_at dksX4_manyNow_6 20 rfl rfl)
theorem dX4_manyNow_159 : decode cX4_manyNow 159 = .ok (.iload_n 2, 1) := dk_28 (dk_at dksX4_manyNow_6 21 rfl rfl)
theorem dX4_manyNow_160 : decode cX4_manyNow 160 = .ok (.iastore, 1) := dk_79 (dk_at dksX4_manyNow_6 22 rfl rfl)
theorem dX4_manyNow_161 : decode cX4_manyNow 161 = .ok (.dup, 1) := dk_89 (dk_at dksX4_manyNow_6 23 rfl rfl)
theorem dX4_manyNow_162 : decode cX4_manyNow 162 = .ok (.iconst 4, 1) := dk_7 (dk_at dksX4_manyNow_7 0 rfl rfl)
theorem dX4_manyNow_163 : decode cX4_manyNow 163 = .ok (.aload_n 0, 1) := dk_42 (dk_at dksX4_manyNow_7 1 rfl rfl)
theorem dX4_manyNow_164 : decode cX4_manyNow 164 = .ok (.getfield 10, 3) := dk_180 0 10 (dk_at dksX4_manyNow_7 2 rfl rfl)
theorem dX4_manyNow_167 : decode cX4_manyNow 167 = .ok (.getfield 235, 3) := dk_180 0 235 (dk_at dksX4_manyNow_7 5 rfl rfl)
theorem dX4_manyNow_170 : decode cX4_manyNow 170 = .ok (.iastore, 1) := dk_79 (dk_at dksX4_manyNow_7 8 rfl rfl)
theorem dX4_manyNow_171 : decode cX4_manyNow 171 = .ok (.dup, 1) := dk_89 (dk_at dksX4_manyNow_7 9 rfl rfl)
theorem dX4_manyNow_172 : decode cX4_manyNow 172 = .ok (.iconst 5, 1) := dk_8 (dk_at dksX4_manyNow_7 10 rfl rfl)
theorem dX4_manyNow_173 : decode cX4_manyNow 173 = .ok (.aload_n 0, 1) := dk_42 (dk_at dksX4_manyNow_7 11 rfl rfl)
theorem dX4_manyNow_174 : decode cX4_manyNow 174 = .ok (.getfield 10, 3) := dk_180 0 10 (dk_at dksX4_manyNow_7 12 rfl rfl)
theorem dX4_manyNow_177 : decode cX4_manyNow 177 = .ok (.getfield 238, 3) := dk_180 0 238 (dk_at dksX4_manyNow_7 15 rfl rfl)
theorem dX4_manyNow_180 : decode cX4_manyNow 180 = .ok (.iastore, 1) := dk_79 (dk_at dksX4_manyNow_7 18 rfl rfl)
theorem dX4_manyNow_181 : decode cX4_manyNow 181 = .ok (.dup, 1) := dk_89 (dk_at dksX4_manyNow_7 19 rfl rfl)
theorem dX4_manyNow_182 : decode cX4_manyNow 182 = .ok (.bipush 6, 2) := dk_16 6 (dk_at dksX4_manyNow_7 20 rfl rfl)
theorem dX4_manyNow_184 : decode cX4_manyNow 184 = .ok (.aload_n 0, 1) := dk_42 (dk_at dksX4_manyNow_7 22 rfl rfl)
theorem dX4_manyNow_185 : decode cX4_manyNow 185 = .ok (.getfield 10, 3) := dk_180 0 10 (dk_at dksX4_manyNow_8 0 rfl rfl)
theorem dX4_manyNow_188 : decode cX4_manyNow 188 = .ok (.getfield 238, 3) := dk_180 0 238 (dk_at dksX4_manyNow_8 3 rfl rfl)
theorem dX4_manyNow_191 : decode cX4_manyNow 191 = .ok (.iconst (-1), 1) := dk_2 (dk_at dksX4_manyNow_8 6 rfl rfl)
theorem dX4_manyNow_192 : decode cX4_manyNow 192 = .ok (.if_icmp .ne 7, 3) := dk_160 0 7 (dk_at dksX4_manyNow_8 7 rfl rfl)
theorem dX4_manyNow_195 : decode cX4_manyNow 195 = .ok (.iconst (-1), 1) := dk_2 (dk_at dksX4_manyNow_8 10 rfl rfl)
theorem dX4_manyNow_196 : decode cX4_manyNow 196 = .ok (.goto 10, 3) := dk_167 0 10 (dk_at dksX4_manyNow_8 11 rfl rfl)
theorem dX4_manyNow_199 : decode cX4_manyNow 199 = .ok (.aload_n 0, 1) := dk_42 (dk_at dksX4_manyNow_8 14 rfl rfl)
theorem dX4_manyNow_200 : decode cX4_manyNow 200 = .ok (.getfield 10, 3) := dk_180 0 10 (dk_at dksX4_manyNow_8 15 rfl rfl)
theorem dX4_manyNow_203 : decode cX4_manyNow 203 = .ok (.getfield 241, 3) := dk_180 0 241 (dk_at dksX4_manyNow_8 18 rfl rfl)
theorem dX4_manyNow_206 : decode cX4_manyNow 206 = .ok (.iastore, 1) := dk_79 (dk_at dksX4_manyNow_8 21 rfl rfl)
theorem dX4_manyNow_207 : decode cX4_manyNow 207 = .ok (.dup, 1) := dk_89 (dk_at dksX4_manyNow_8 22 rfl rfl)
theorem dX4_manyNow_208 : decode cX4_manyNow 208 = .ok (.bipush 7, 2) := dk_16 7 (dk_at dksX4_manyNow_9 0 rfl rfl)
theorem dX4_manyNow_210 : decode cX4_manyNow 210 = .ok (.aload_n 0, 1) := dk_42 (dk_at dksX4_manyNow_9 2 rfl rfl)
theorem dX4_manyNow_211 : decode cX4_manyNow 211 = .ok (.getfield 10, 3) := dk_180 0 10 (dk_at dksX4_manyNow_9 3 rfl rfl)
theorem dX4_manyNow_214 : decode cX4_manyNow 214 = .ok (.getfield 244, 3) := dk_180 0 244 (dk_at dksX4_manyNow_9 6 rfl rfl)
theorem dX4_manyNow_217 : decode cX4_manyNow 217 = .ok (.iastore, 1) := dk_79 (dk_at dksX4_manyNow_9 9 rfl rfl)
theorem dX4_manyNow_218 : decode cX4_manyNow 218 = .ok (.dup, 1) := dk_89 (dk_at dksX4_manyNow_9 10 rfl rfl)
theorem dX4_manyNow_219 : decode cX4_manyNow 219 = .ok (.bipush 8, 2) := dk_16 8 (dk_at dksX4_manyNow_9 11 rfl rfl)
theorem dX4_manyNow_221 : decode cX4_manyNow 221 = .ok (.iload_n 3, 1) := dk_29 (dk_at dksX4_manyNow_9 13 rfl rfl)
theorem dX4_manyNow_222 : decode cX4_manyNow 222 = .ok (.iastore, 1) := dk_79 (dk_at dksX4_manyNow_9 14 rfl rfl)
theorem dX4_manyNow_223 : decode cX4_manyNow 223 = .ok (.dup, 1) := dk_89 (dk_at dksX4_manyNow_9 15 rfl rfl)
theorem dX4_manyNow_224 : decode cX4_manyNow 224 = .ok (.bipush 9, 2) := dk_16 9 (dk_at dksX4_manyNow_9 16 rfl rfl)
theorem dX4_manyNow_226 : decode cX4_manyNow 226 = .ok (.aload_n 0, 1) := dk_42 (dk_at dksX4_manyNow_9 18 rfl rfl)
theorem dX4_manyNow_227 : decode cX4_manyNow 227 = .ok (.getfield 10, 3) := dk_180 0 10 (dk_at dksX4_manyNow_9 19 rfl rfl)
theorem dX4_manyNow_230 : decode cX4_manyNow 230 = .ok (.getfield 247, 3) := dk_180 0 247 (dk_at dksX4_manyNow_10 0 rfl rfl)
theorem dX4_manyNow_233 : decode cX4_manyNow 233 = .ok (.iastore, 1) := dk_79 (dk_at dksX4_manyNow_10 3 rfl rfl)
theorem dX4_manyNow_234 : decode cX4_manyNow 234 = .ok (.dup, 1) := dk_89 (dk_at dksX4_manyNow_10 4 rfl rfl)
theorem dX4_manyNow_235 : decode cX4_manyNow 235 = .ok (.bipush 10, 2) := dk_16 10 (dk_at dksX4_manyNow_10 5 rfl rfl)
theorem dX4_manyNow_237 : decode cX4_manyNow 237 = .ok (.aload_n 0, 1) := dk_42 (dk_at dksX4_manyNow_10 7 rfl rfl)
theorem dX4_manyNow_238 : decode cX4_manyNow 238 = .ok (.getfield 10, 3) := dk_180 0 10 (dk_at dksX4_manyNow_10 8 rfl rfl)
theorem dX4_manyNow_241 : decode cX4_manyNow 241 = .ok (.getfield 250, 3) := dk_180 0 250 (dk_at dksX4_manyNow_10 11 rfl rfl)
theorem dX4_manyNow_244 : decode cX4_manyNow 244 = .ok (.iastore, 1) := dk_79 (dk_at dksX4_manyNow_10 14 rfl rfl)
theorem dX4_manyNow_245 : decode cX4_manyNow 245 = .ok (.astore 4, 2) := dk_58 4 (dk_at dksX4_manyNow_10 15 rfl rfl)
theorem dX4_manyNow_247 : decode cX4_manyNow 247 = .ok (.aload 4, 2) := dk_25 4 (dk_at dksX4_manyNow_10 17 rfl rfl)
theorem dX4_manyNow_249 : decode cX4_manyNow 249 = .ok (.iload_n 1, 1) := dk_27 (dk_at dksX4_manyNow_10 19 rfl rfl)
theorem dX4_manyNow_250 : decode cX4_manyNow 250 = .ok (.iaload, 1) := dk_46 (dk_at dksX4_manyNow_10 20 rfl rfl)
theorem dX4_manyNow_251 : decode cX4_manyNow 251 = .ok (.ireturn, 1) := dk_172 (dk_at dksX4_manyNow_10 21 rfl rfl)
abbrev cX4_meanDone : ByteArray := prog_9_method_32_code
def yX4_meanDone : MethodName := ⟨RX4, "meanDone", "(I)D"⟩
def dkwX4_meanDone_2 : List UInt8 := [14, 167, 0, 14, 44, 180, 0, 177, 135, 44, 180, 0, 171, 135, 111, 175]
abbrev dktX4_meanDone_2 : List UInt8 := dkwX4_meanDone_2 ++ []
def dkwX4_meanDone_1 : List UInt8 := [14, 175, 42, 180, 0, 10, 180, 0, 20, 27, 182, 0, 55, 192, 0, 38, 77, 44, 180, 0, 171, 154, 0, 7]
abbrev dktX4_meanDone_1 : List UInt8 := dkwX4_meanDone_1 ++ dktX4_meanDone_2
def dkwX4_meanDone_0 : List UInt8 := [42, 42, 27, 182, 0, 48, 153, 0, 7, 3, 167, 0, 4, 4, 181, 0, 16, 42, 180, 0, 16, 158, 0, 5]
abbrev dktX4_meanDone_0 : List UInt8 := dkwX4_meanDone_0 ++ dktX4_meanDone_1
theorem dksX4_meanDone_0 : cX4_meanDone.data.toList.drop 0 = dktX4_meanDone_0 := by decide +kernel
theorem dksX4_meanDone_1 : cX4_meanDone.data.toList.drop 24 = dktX4_meanDone_1 := dk_seg dksX4_meanDone_0 24 rfl rfl
theorem dksX4_meanDone_2 : cX4_meanDone.data.toList.drop 48 = dktX4_meanDone_2 := dk_seg dksX4_meanDone_1 24 rfl rfl
theorem dX4_meanDone_0 : decode cX4_meanDone 0 = .ok (.aload_n 0, 1) := dk_42 (dk_at dksX4_meanDone_0 0 rfl rfl)
theorem dX4_meanDone_1 : decode cX4_meanDone 1 = .ok (.aload_n 0, 1) := dk_42 (dk_at dksX4_meanDone_0 1 rfl rfl)
theorem dX4_meanDone_2 : decode cX4_meanDone 2 = .ok (.iload_n 1, 1) := dk_27 (dk_at dksX4_meanDone_0 2 rfl rfl)
theorem dX4_meanDone_3 : decode cX4_meanDone 3 = .ok (.invokevirtual 48, 3) := dk_182 0 48 (dk_at dksX4_meanDone_0 3 rfl rfl)
theorem dX4_meanDone_6 : decode cX4_meanDone 6 = .ok (.ifCond .eq 7, 3) := dk_153 0 7 (dk_at dksX4_meanDone_0 6 rfl rfl)
theorem dX4_meanDone_9 : decode cX4_meanDone 9 = .ok (.iconst 0, 1) := dk_3 (dk_at dksX4_meanDone_0 9 rfl rfl)
theorem dX4_meanDone_10 : decode cX4_meanDone 10 = .ok (.goto 4, 3) := dk_167 0 4 (dk_at dksX4_meanDone_0 10 rfl rfl)
theorem dX4_meanDone_13 : decode cX4_meanDone 13 = .ok (.iconst 1, 1) := dk_4 (dk_at dksX4_meanDone_0 13 rfl rfl)
theorem dX4_meanDone_14 : decode cX4_meanDone 14 = .ok (.putfield 16, 3) := dk_181 0 16 (dk_at dksX4_meanDone_0 14 rfl rfl)
theorem dX4_meanDone_17 : decode cX4_meanDone 17 = .ok (.aload_n 0, 1) := dk_42 (dk_at dksX4_meanDone_0 17 rfl rfl)
theorem dX4_meanDone_18 : decode cX4_meanDone 18 = .ok (.getfield 16, 3) := dk_180 0 16 (dk_at dksX4_meanDone_0 18 rfl rfl)
theorem dX4_meanDone_21 : decode cX4_meanDone 21 = .ok (.ifCond .le 5, 3) := dk_158 0 5 (dk_at dksX4_meanDone_0 21 rfl rfl)
theorem dX4_meanDone_24 : decode cX4_meanDone 24 = .ok (.dconst 0, 1) := dk_14 (dk_at dksX4_meanDone_1 0 rfl rfl)
theorem dX4_meanDone_25 : decode cX4_meanDone 25 = .ok (.dreturn, 1) := dk_175 (dk_at dksX4_meanDone_1 1 rfl rfl)
theorem dX4_meanDone_26 : decode cX4_meanDone 26 = .ok (.aload_n 0, 1) := dk_42 (dk_at dksX4_meanDone_1 2 rfl rfl)
theorem dX4_meanDone_27 : decode cX4_meanDone 27 = .ok (.getfield 10, 3) := dk_180 0 10 (dk_at dksX4_meanDone_1 3 rfl rfl)
theorem dX4_meanDone_30 : decode cX4_meanDone 30 = .ok (.getfield 20, 3) := dk_180 0 20 (dk_at dksX4_meanDone_1 6 rfl rfl)
theorem dX4_meanDone_33 : decode cX4_meanDone 33 = .ok (.iload_n 1, 1) := dk_27 (dk_at dksX4_meanDone_1 9 rfl rfl)
theorem dX4_meanDone_34 : decode cX4_meanDone 34 = .ok (.invokevirtual 55, 3) := dk_182 0 55 (dk_at dksX4_meanDone_1 10 rfl rfl)
theorem dX4_meanDone_37 : decode cX4_meanDone 37 = .ok (.checkcast 38, 3) := dk_192 0 38 (dk_at dksX4_meanDone_1 13 rfl rfl)
theorem dX4_meanDone_40 : decode cX4_meanDone 40 = .ok (.astore_n 2, 1) := dk_77 (dk_at dksX4_meanDone_1 16 rfl rfl)
theorem dX4_meanDone_41 : decode cX4_meanDone 41 = .ok (.aload_n 2, 1) := dk_44 (dk_at dksX4_meanDone_1 17 rfl rfl)
theorem dX4_meanDone_42 : decode cX4_meanDone 42 = .ok (.getfield 171, 3) := dk_180 0 171 (dk_at dksX4_meanDone_1 18 rfl rfl)
theorem dX4_meanDone_45 : decode cX4_meanDone 45 = .ok (.ifCond .ne 7, 3) := dk_154 0 7 (dk_at dksX4_meanDone_1 21 rfl rfl)
theorem dX4_meanDone_48 : decode cX4_meanDone 48 = .ok (.dconst 0, 1) := dk_14 (dk_at dksX4_meanDone_2 0 rfl rfl)
theorem dX4_meanDone_49 : decode cX4_meanDone 49 = .ok (.goto 14, 3) := dk_167 0 14 (dk_at dksX4_meanDone_2 1 rfl rfl)
theorem dX4_meanDone_52 : decode cX4_meanDone 52 = .ok (.aload_n 2, 1) := dk_44 (dk_at dksX4_meanDone_2 4 rfl rfl)
theorem dX4_meanDone_53 : decode cX4_meanDone 53 = .ok (.getfield 177, 3) := dk_180 0 177 (dk_at dksX4_meanDone_2 5 rfl rfl)
theorem dX4_meanDone_56 : decode cX4_meanDone 56 = .ok (.i2d, 1) := dk_135 (dk_at dksX4_meanDone_2 8 rfl rfl)
theorem dX4_meanDone_57 : decode cX4_meanDone 57 = .ok (.aload_n 2, 1) := dk_44 (dk_at dksX4_meanDone_2 9 rfl rfl)
theorem dX4_meanDone_58 : decode cX4_meanDone 58 = .ok (.getfield 171, 3) := dk_180 0 171 (dk_at dksX4_meanDone_2 10 rfl rfl)
theorem dX4_meanDone_61 : decode cX4_meanDone 61 = .ok (.i2d, 1) := dk_135 (dk_at dksX4_meanDone_2 13 rfl rfl)
theorem dX4_meanDone_62 : decode cX4_meanDone 62 = .ok (.ddiv, 1) := dk_111 (dk_at dksX4_meanDone_2 14 rfl rfl)
theorem dX4_meanDone_63 : decode cX4_meanDone 63 = .ok (.dreturn, 1) := dk_175 (dk_at dksX4_meanDone_2 15 rfl rfl)
abbrev cX4_replayed : ByteArray := prog_9_method_33_code
def yX4_replayed : MethodName := ⟨RX4, "replayed", "(III)I"⟩
def dkwX4_replayed_2 : List UInt8 := [180, 0, 20, 27, 182, 0, 55, 192, 0, 38, 28, 29, 182, 1, 0, 167, 0, 8, 42, 5, 182, 0, 34, 172]
abbrev dktX4_replayed_2 : List UInt8 := dkwX4_replayed_2 ++ []
def dkwX4_replayed_1 : List UInt8 := [154, 0, 9, 42, 4, 182, 0, 34, 172, 28, 3, 17, 0, 200, 184, 0, 30, 153, 0, 25, 42, 180, 0, 10]
abbrev dktX4_replayed_1 : List UInt8 := dkwX4_replayed_1 ++ dktX4_replayed_2
def dkwX4_replayed_0 : List UInt8 := [42, 3, 181, 0, 16, 42, 27, 182, 0, 48, 153, 0, 15, 29, 2, 159, 0, 16, 29, 184, 0, 52]
abbrev dktX4_replayed_0 : List UInt8 := dkwX4_replayed_0 ++ dktX4_replayed_1
theorem dksX4_replayed_0 : cX4_replayed.data.toList.drop 0 = dktX4_replayed_0 := by decide +kernel
theorem dksX4_replayed_1 : cX4_replayed.data.toList.drop 22 = dktX4_replayed_1 := dk_seg dksX4_replayed_0 22 rfl rfl
theorem dksX4_replayed_2 : cX4_replayed.data.toList.drop 46 = dktX4_replayed_2 := dk_seg dksX4_replayed_1 24 rfl rfl
theorem dX4_replayed_0 : decode cX4_replayed 0 = .ok (.aload_n 0, 1) := dk_42 (dk_at dksX4_replayed_0 0 rfl rfl)
theorem dX4_replayed_1 : decode cX4_replayed 1 = .ok (.iconst 0, 1) := dk_3 (dk_at dksX4_replayed_0 1 rfl rfl)
theorem dX4_replayed_2 : decode cX4_replayed 2 = .ok (.putfield 16, 3) := dk_181 0 16 (dk_at dksX4_replayed_0 2 rfl rfl)
theorem dX4_replayed_5 : decode cX4_replayed 5 = .ok (.aload_n 0, 1) := dk_42 (dk_at dksX4_replayed_0 5 rfl rfl)
theorem dX4_replayed_6 : decode cX4_replayed 6 = .ok (.iload_n 1, 1) := dk_27 (dk_at dksX4_replayed_0 6 rfl rfl)
theorem dX4_replayed_7 : decode cX4_replayed 7 = .ok (.invokevirtual 48, 3) := dk_182 0 48 (dk_at dksX4_replayed_0 7 rfl rfl)
theorem dX4_replayed_10 : decode cX4_replayed 10 = .ok (.ifCond .eq 15, 3) := dk_153 0 15 (dk_at dksX4_replayed_0 10 rfl rfl)
theorem dX4_replayed_13 : decode cX4_replayed 13 = .ok (.iload_n 3, 1) := dk_29 (dk_at dksX4_replayed_0 13 rfl rfl)
theorem dX4_replayed_14 : decode cX4_replayed 14 = .ok (.iconst (-1), 1) := dk_2 (dk_at dksX4_replayed_0 14 rfl rfl)
theorem dX4_replayed_15 : decode cX4_replayed 15 = .ok (.if_icmp .eq 16, 3) := dk_159 0 16 (dk_at dksX4_replayed_0 15 rfl rfl)
theorem dX4_replayed_18 : decode cX4_replayed 18 = .ok (.iload_n 3, 1) := dk_29 (dk_at dksX4_replayed_0 18 rfl rfl)
theorem dX4_replayed_19 : decode cX4_replayed 19 = .ok (.invokestatic 52, 3) := dk_184 0 52 (dk_at dksX4_replayed_0 19 rfl rfl)
theorem dX4_replayed_22 : decode cX4_replayed 22 = .ok (.ifCond .ne 9, 3) := dk_154 0 9 (dk_at dksX4_replayed_1 0 rfl rfl)
theorem dX4_replayed_25 : decode cX4_replayed 25 = .ok (.aload_n 0, 1) := dk_42 (dk_at dksX4_replayed_1 3 rfl rfl)
theorem dX4_replayed_26 : decode cX4_replayed 26 = .ok (.iconst 1, 1) := dk_4 (dk_at dksX4_replayed_1 4 rfl rfl)
theorem dX4_replayed_27 : decode cX4_replayed 27 = .ok (.invokevirtual 34, 3) := dk_182 0 34 (dk_at dksX4_replayed_1 5 rfl rfl)
theorem dX4_replayed_30 : decode cX4_replayed 30 = .ok (.ireturn, 1) := dk_172 (dk_at dksX4_replayed_1 8 rfl rfl)
theorem dX4_replayed_31 : decode cX4_replayed 31 = .ok (.iload_n 2, 1) := dk_28 (dk_at dksX4_replayed_1 9 rfl rfl)
theorem dX4_replayed_32 : decode cX4_replayed 32 = .ok (.iconst 0, 1) := dk_3 (dk_at dksX4_replayed_1 10 rfl rfl)
theorem dX4_replayed_33 : decode cX4_replayed 33 = .ok (.sipush 200, 3) := dk_17 0 200 (dk_at dksX4_replayed_1 11 rfl rfl)
theorem dX4_replayed_36 : decode cX4_replayed 36 = .ok (.invokestatic 30, 3) := dk_184 0 30 (dk_at dksX4_replayed_1 14 rfl rfl)
theorem dX4_replayed_39 : decode cX4_replayed 39 = .ok (.ifCond .eq 25, 3) := dk_153 0 25 (dk_at dksX4_replayed_1 17 rfl rfl)
theorem dX4_replayed_42 : decode cX4_replayed 42 = .ok (.aload_n 0, 1) := dk_42 (dk_at dksX4_replayed_1 20 rfl rfl)
theorem dX4_replayed_43 : decode cX4_replayed 43 = .ok (.getfield 10, 3) := dk_180 0 10 (dk_at dksX4_replayed_1 21 rfl rfl)
theorem dX4_replayed_46 : decode cX4_replayed 46 = .ok (.getfield 20, 3) := dk_180 0 20 (dk_at dksX4_replayed_2 0 rfl rfl)
theorem dX4_replayed_49 : decode cX4_replayed 49 = .ok (.iload_n 1, 1) := dk_27 (dk_at dksX4_replayed_2 3 rfl rfl)
theorem dX4_replayed_50 : decode cX4_replayed 50 = .ok (.invokevirtual 55, 3) := dk_182 0 55 (dk_at dksX4_replayed_2 4 rfl rfl)
theorem dX4_replayed_53 : decode cX4_replayed 53 = .ok (.checkcast 38, 3) := dk_192 0 38 (dk_at dksX4_replayed_2 7 rfl rfl)
theorem dX4_replayed_56 : decode cX4_replayed 56 = .ok (.iload_n 2, 1) := dk_28 (dk_at dksX4_replayed_2 10 rfl rfl)
theorem dX4_replayed_57 : decode cX4_replayed 57 = .ok (.iload_n 3, 1) := dk_29 (dk_at dksX4_replayed_2 11 rfl rfl)
theorem dX4_replayed_58 : decode cX4_replayed 58 = .ok (.invokevirtual 256, 3) := dk_182 1 0 (dk_at dksX4_replayed_2 12 rfl rfl)
theorem dX4_replayed_61 : decode cX4_replayed 61 = .ok (.goto 8, 3) := dk_167 0 8 (dk_at dksX4_replayed_2 15 rfl rfl)
theorem dX4_replayed_64 : decode cX4_replayed 64 = .ok (.aload_n 0, 1) := dk_42 (dk_at dksX4_replayed_2 18 rfl rfl)
theorem dX4_replayed_65 : decode cX4_replayed 65 = .ok (.iconst 2, 1) := dk_5 (dk_at dksX4_replayed_2 19 rfl rfl)
theorem dX4_replayed_66 : decode cX4_replayed 66 = .ok (.invokevirtual 34, 3) := dk_182 0 34 (dk_at dksX4_replayed_2 20 rfl rfl)
theorem dX4_replayed_69 : decode cX4_replayed 69 = .ok (.ireturn, 1) := dk_172 (dk_at dksX4_replayed_2 23 rfl rfl)
abbrev cX4_doneIn : ByteArray := prog_9_method_35_code
def yX4_doneIn : MethodName := ⟨RX4, "doneIn", "(II)I"⟩
def dkwX4_doneIn_1 : List UInt8 := [153, 0, 12, 42, 27, 28, 182, 1, 7, 167, 0, 8, 42, 5, 182, 0, 34, 172]
abbrev dktX4_doneIn_1 : List UInt8 := dkwX4_doneIn_1 ++ []
def dkwX4_doneIn_0 : List UInt8 := [42, 3, 181, 0, 16, 42, 27, 182, 0, 48, 154, 0, 9, 42, 4, 182, 0, 34, 172, 28, 184, 0, 162]
abbrev dktX4_doneIn_0 : List UInt8 := dkwX4_doneIn_0 ++ dktX4_doneIn_1
theorem dksX4_doneIn_0 : cX4_doneIn.data.toList.drop 0 = dktX4_doneIn_0 := by decide +kernel
theorem dksX4_doneIn_1 : cX4_doneIn.data.toList.drop 23 = dktX4_doneIn_1 := dk_seg dksX4_doneIn_0 23 rfl rfl
theorem dX4_doneIn_0 : decode cX4_doneIn 0 = .ok (.aload_n 0, 1) := dk_42 (dk_at dksX4_doneIn_0 0 rfl rfl)
theorem dX4_doneIn_1 : decode cX4_doneIn 1 = .ok (.iconst 0, 1) := dk_3 (dk_at dksX4_doneIn_0 1 rfl rfl)
theorem dX4_doneIn_2 : decode cX4_doneIn 2 = .ok (.putfield 16, 3) := dk_181 0 16 (dk_at dksX4_doneIn_0 2 rfl rfl)
theorem dX4_doneIn_5 : decode cX4_doneIn 5 = .ok (.aload_n 0, 1) := dk_42 (dk_at dksX4_doneIn_0 5 rfl rfl)
theorem dX4_doneIn_6 : decode cX4_doneIn 6 = .ok (.iload_n 1, 1) := dk_27 (dk_at dksX4_doneIn_0 6 rfl rfl)
theorem dX4_doneIn_7 : decode cX4_doneIn 7 = .ok (.invokevirtual 48, 3) := dk_182 0 48 (dk_at dksX4_doneIn_0 7 rfl rfl)
theorem dX4_doneIn_10 : decode cX4_doneIn 10 = .ok (.ifCond .ne 9, 3) := dk_154 0 9 (dk_at dksX4_doneIn_0 10 rfl rfl)
theorem dX4_doneIn_13 : decode cX4_doneIn 13 = .ok (.aload_n 0, 1) := dk_42 (dk_at dksX4_doneIn_0 13 rfl rfl)
theorem dX4_doneIn_14 : decode cX4_doneIn 14 = .ok (.iconst 1, 1) := dk_4 (dk_at dksX4_doneIn_0 14 rfl rfl)
theorem dX4_doneIn_15 : decode cX4_doneIn 15 = .ok (.invokevirtual 34, 3) := dk_182 0 34 (dk_at dksX4_doneIn_0 15 rfl rfl)
theorem dX4_doneIn_18 : decode cX4_doneIn 18 = .ok (.ireturn, 1) := dk_172 (dk_at dksX4_doneIn_0 18 rfl rfl)
theorem dX4_doneIn_19 : decode cX4_doneIn 19 = .ok (.iload_n 2, 1) := dk_28 (dk_at dksX4_doneIn_0 19 rfl rfl)
theorem dX4_doneIn_20 : decode cX4_doneIn 20 = .ok (.invokestatic 162, 3) := dk_184 0 162 (dk_at dksX4_doneIn_0 20 rfl rfl)
theorem dX4_doneIn_23 : decode cX4_doneIn 23 = .ok (.ifCond .eq 12, 3) := dk_153 0 12 (dk_at dksX4_doneIn_1 0 rfl rfl)
theorem dX4_doneIn_26 : decode cX4_doneIn 26 = .ok (.aload_n 0, 1) := dk_42 (dk_at dksX4_doneIn_1 3 rfl rfl)
theorem dX4_doneIn_27 : decode cX4_doneIn 27 = .ok (.iload_n 1, 1) := dk_27 (dk_at dksX4_doneIn_1 4 rfl rfl)
theorem dX4_doneIn_28 : decode cX4_doneIn 28 = .ok (.iload_n 2, 1) := dk_28 (dk_at dksX4_doneIn_1 5 rfl rfl)
theorem dX4_doneIn_29 : decode cX4_doneIn 29 = .ok (.invokevirtual 263, 3) := dk_182 1 7 (dk_at dksX4_doneIn_1 6 rfl rfl)
theorem dX4_doneIn_32 : decode cX4_doneIn 32 = .ok (.goto 8, 3) := dk_167 0 8 (dk_at dksX4_doneIn_1 9 rfl rfl)
theorem dX4_doneIn_35 : decode cX4_doneIn 35 = .ok (.aload_n 0, 1) := dk_42 (dk_at dksX4_doneIn_1 12 rfl rfl)
theorem dX4_doneIn_36 : decode cX4_doneIn 36 = .ok (.iconst 2, 1) := dk_5 (dk_at dksX4_doneIn_1 13 rfl rfl)
theorem dX4_doneIn_37 : decode cX4_doneIn 37 = .ok (.invokevirtual 34, 3) := dk_182 0 34 (dk_at dksX4_doneIn_1 14 rfl rfl)
theorem dX4_doneIn_40 : decode cX4_doneIn 40 = .ok (.ireturn, 1) := dk_172 (dk_at dksX4_doneIn_1 17 rfl rfl)
abbrev cX4_doneNow : ByteArray := prog_9_method_34_code
def yX4_doneNow : MethodName := ⟨RX4, "doneNow", "(II)I"⟩
def dkwX4_doneNow_2 : List UInt8 := [27, 182, 0, 55, 192, 0, 38, 180, 0, 177, 100, 172]
abbrev dktX4_doneNow_2 : List UInt8 := dkwX4_doneNow_2 ++ []
def dkwX4_doneNow_1 : List UInt8 := [167, 255, 243, 45, 180, 0, 20, 27, 182, 0, 55, 192, 0, 38, 180, 0, 177, 42, 180, 0, 10, 180, 0, 20]
abbrev dktX4_doneNow_1 : List UInt8 := dkwX4_doneNow_1 ++ dktX4_doneNow_2
def dkwX4_doneNow_0 : List UInt8 := [42, 180, 0, 10, 182, 1, 3, 78, 3, 54, 4, 21, 4, 28, 162, 0, 13, 45, 182, 0, 168, 132, 4, 1]
abbrev dktX4_doneNow_0 : List UInt8 := dkwX4_doneNow_0 ++ dktX4_doneNow_1
theorem dksX4_doneNow_0 : cX4_doneNow.data.toList.drop 0 = dktX4_doneNow_0 := by decide +kernel
theorem dksX4_doneNow_1 : cX4_doneNow.data.toList.drop 24 = dktX4_doneNow_1 := dk_seg dksX4_doneNow_0 24 rfl rfl
theorem dksX4_doneNow_2 : cX4_doneNow.data.toList.drop 48 = dktX4_doneNow_2 := dk_seg dksX4_doneNow_1 24 rfl rfl
theorem dX4_doneNow_0 : decode cX4_doneNow 0 = .ok (.aload_n 0, 1) := dk_42 (dk_at dksX4_doneNow_0 0 rfl rfl)
theorem dX4_doneNow_1 : decode cX4_doneNow 1 = .ok (.getfield 10, 3) := dk_180 0 10 (dk_at dksX4_doneNow_0 1 rfl rfl)
theorem dX4_doneNow_4 : decode cX4_doneNow 4 = .ok (.invokevirtual 259, 3) := dk_182 1 3 (dk_at dksX4_doneNow_0 4 rfl rfl)
theorem dX4_doneNow_7 : decode cX4_doneNow 7 = .ok (.astore_n 3, 1) := dk_78 (dk_at dksX4_doneNow_0 7 rfl rfl)
theorem dX4_doneNow_8 : decode cX4_doneNow 8 = .ok (.iconst 0, 1) := dk_3 (dk_at dksX4_doneNow_0 8 rfl rfl)
theorem dX4_doneNow_9 : decode cX4_doneNow 9 = .ok (.istore 4, 2) := dk_54 4 (dk_at dksX4_doneNow_0 9 rfl rfl)
theorem dX4_doneNow_11 : decode cX4_doneNow 11 = .ok (.iload 4, 2) := dk_21 4 (dk_at dksX4_doneNow_0 11 rfl rfl)
theorem dX4_doneNow_13 : decode cX4_doneNow 13 = .ok (.iload_n 2, 1) := dk_28 (dk_at dksX4_doneNow_0 13 rfl rfl)
theorem dX4_doneNow_14 : decode cX4_doneNow 14 = .ok (.if_icmp .ge 13, 3) := dk_162 0 13 (dk_at dksX4_doneNow_0 14 rfl rfl)
theorem dX4_doneNow_17 : decode cX4_doneNow 17 = .ok (.aload_n 3, 1) := dk_45 (dk_at dksX4_doneNow_0 17 rfl rfl)
theorem dX4_doneNow_18 : decode cX4_doneNow 18 = .ok (.invokevirtual 168, 3) := dk_182 0 168 (dk_at dksX4_doneNow_0 18 rfl rfl)
theorem dX4_doneNow_21 : decode cX4_doneNow 21 = .ok (.iinc 4 1, 3) := dk_132 4 1 (dk_at dksX4_doneNow_0 21 rfl rfl)
theorem dX4_doneNow_24 : decode cX4_doneNow 24 = .ok (.goto (-13), 3) := dk_167 255 243 (dk_at dksX4_doneNow_1 0 rfl rfl)
theorem dX4_doneNow_27 : decode cX4_doneNow 27 = .ok (.aload_n 3, 1) := dk_45 (dk_at dksX4_doneNow_1 3 rfl rfl)
theorem dX4_doneNow_28 : decode cX4_doneNow 28 = .ok (.getfield 20, 3) := dk_180 0 20 (dk_at dksX4_doneNow_1 4 rfl rfl)
theorem dX4_doneNow_31 : decode cX4_doneNow 31 = .ok (.iload_n 1, 1) := dk_27 (dk_at dksX4_doneNow_1 7 rfl rfl)
theorem dX4_doneNow_32 : decode cX4_doneNow 32 = .ok (.invokevirtual 55, 3) := dk_182 0 55 (dk_at dksX4_doneNow_1 8 rfl rfl)
theorem dX4_doneNow_35 : decode cX4_doneNow 35 = .ok (.checkcast 38, 3) := dk_192 0 38 (dk_at dksX4_doneNow_1 11 rfl rfl)
theorem dX4_doneNow_38 : decode cX4_doneNow 38 = .ok (.getfield 177, 3) := dk_180 0 177 (dk_at dksX4_doneNow_1 14 rfl rfl)
theorem dX4_doneNow_41 : decode cX4_doneNow 41 = .ok (.aload_n 0, 1) := dk_42 (dk_at dksX4_doneNow_1 17 rfl rfl)
theorem dX4_doneNow_42 : decode cX4_doneNow 42 = .ok (.getfield 10, 3) := dk_180 0 10 (dk_at dksX4_doneNow_1 18 rfl rfl)
theorem dX4_doneNow_45 : decode cX4_doneNow 45 = .ok (.getfield 20, 3) := dk_180 0 20 (dk_at dksX4_doneNow_1 21 rfl rfl)
theorem dX4_doneNow_48 : decode cX4_doneNow 48 = .ok (.iload_n 1, 1) := dk_27 (dk_at dksX4_doneNow_2 0 rfl rfl)
theorem dX4_doneNow_49 : decode cX4_doneNow 49 = .ok (.invokevirtual 55, 3) := dk_182 0 55 (dk_at dksX4_doneNow_2 1 rfl rfl)
theorem dX4_doneNow_52 : decode cX4_doneNow 52 = .ok (.checkcast 38, 3) := dk_192 0 38 (dk_at dksX4_doneNow_2 4 rfl rfl)
theorem dX4_doneNow_55 : decode cX4_doneNow 55 = .ok (.getfield 177, 3) := dk_180 0 177 (dk_at dksX4_doneNow_2 7 rfl rfl)
theorem dX4_doneNow_58 : decode cX4_doneNow 58 = .ok (.isub, 1) := dk_100 (dk_at dksX4_doneNow_2 10 rfl rfl)
theorem dX4_doneNow_59 : decode cX4_doneNow 59 = .ok (.ireturn, 1) := dk_172 (dk_at dksX4_doneNow_2 11 rfl rfl)
abbrev cX4_awayIn : ByteArray := prog_9_method_37_code
def yX4_awayIn : MethodName := ⟨RX4, "awayIn", "(II)I"⟩
def dkwX4_awayIn_2 : List UInt8 := [167, 0, 8, 42, 6, 182, 0, 34, 172]
abbrev dktX4_awayIn_2 : List UInt8 := dkwX4_awayIn_2 ++ []
def dkwX4_awayIn_1 : List UInt8 := [154, 0, 9, 42, 5, 182, 0, 34, 172, 42, 27, 182, 0, 131, 153, 0, 12, 42, 27, 28, 182, 1, 10]
abbrev dktX4_awayIn_1 : List UInt8 := dkwX4_awayIn_1 ++ dktX4_awayIn_2
def dkwX4_awayIn_0 : List UInt8 := [42, 3, 181, 0, 16, 42, 27, 182, 0, 48, 154, 0, 9, 42, 4, 182, 0, 34, 172, 28, 184, 0, 128]
abbrev dktX4_awayIn_0 : List UInt8 := dkwX4_awayIn_0 ++ dktX4_awayIn_1
theorem dksX4_awayIn_0 : cX4_awayIn.data.toList.drop 0 = dktX4_awayIn_0 := by decide +kernel
theorem dksX4_awayIn_1 : cX4_awayIn.data.toList.drop 23 = dktX4_awayIn_1 := dk_seg dksX4_awayIn_0 23 rfl rfl
theorem dksX4_awayIn_2 : cX4_awayIn.data.toList.drop 46 = dktX4_awayIn_2 := dk_seg dksX4_awayIn_1 23 rfl rfl
theorem dX4_awayIn_0 : decode cX4_awayIn 0 = .ok (.aload_n 0, 1) := dk_42 (dk_at dksX4_awayIn_0 0 rfl rfl)
theorem dX4_awayIn_1 : decode cX4_awayIn 1 = .ok (.iconst 0, 1) := dk_3 (dk_at dksX4_awayIn_0 1 rfl rfl)
theorem dX4_awayIn_2 : decode cX4_awayIn 2 = .ok (.putfield 16, 3) := dk_181 0 16 (dk_at dksX4_awayIn_0 2 rfl rfl)
theorem dX4_awayIn_5 : decode cX4_awayIn 5 = .ok (.aload_n 0, 1) := dk_42 (dk_at dksX4_awayIn_0 5 rfl rfl)
theorem dX4_awayIn_6 : decode cX4_awayIn 6 = .ok (.iload_n 1, 1) := dk_27 (dk_at dksX4_awayIn_0 6 rfl rfl)
theorem dX4_awayIn_7 : decode cX4_awayIn 7 = .ok (.invokevirtual 48, 3) := dk_182 0 48 (dk_at dksX4_awayIn_0 7 rfl rfl)
theorem dX4_awayIn_10 : decode cX4_awayIn 10 = .ok (.ifCond .ne 9, 3) := dk_154 0 9 (dk_at dksX4_awayIn_0 10 rfl rfl)
theorem dX4_awayIn_13 : decode cX4_awayIn 13 = .ok (.aload_n 0, 1) := dk_42 (dk_at dksX4_awayIn_0 13 rfl rfl)
theorem dX4_awayIn_14 : decode cX4_awayIn 14 = .ok (.iconst 1, 1) := dk_4 (dk_at dksX4_awayIn_0 14 rfl rfl)
theorem dX4_awayIn_15 : decode cX4_awayIn 15 = .ok (.invokevirtual 34, 3) := dk_182 0 34 (dk_at dksX4_awayIn_0 15 rfl rfl)
theorem dX4_awayIn_18 : decode cX4_awayIn 18 = .ok (.ireturn, 1) := dk_172 (dk_at dksX4_awayIn_0 18 rfl rfl)
theorem dX4_awayIn_19 : decode cX4_awayIn 19 = .ok (.iload_n 2, 1) := dk_28 (dk_at dksX4_awayIn_0 19 rfl rfl)
theorem dX4_awayIn_20 : decode cX4_awayIn 20 = .ok (.invokestatic 128, 3) := dk_184 0 128 (dk_at dksX4_awayIn_0 20 rfl rfl)
theorem dX4_awayIn_23 : decode cX4_awayIn 23 = .ok (.ifCond .ne 9, 3) := dk_154 0 9 (dk_at dksX4_awayIn_1 0 rfl rfl)
theorem dX4_awayIn_26 : decode cX4_awayIn 26 = .ok (.aload_n 0, 1) := dk_42 (dk_at dksX4_awayIn_1 3 rfl rfl)
theorem dX4_awayIn_27 : decode cX4_awayIn 27 = .ok (.iconst 2, 1) := dk_5 (dk_at dksX4_awayIn_1 4 rfl rfl)
theorem dX4_awayIn_28 : decode cX4_awayIn 28 = .ok (.invokevirtual 34, 3) := dk_182 0 34 (dk_at dksX4_awayIn_1 5 rfl rfl)
theorem dX4_awayIn_31 : decode cX4_awayIn 31 = .ok (.ireturn, 1) := dk_172 (dk_at dksX4_awayIn_1 8 rfl rfl)
theorem dX4_awayIn_32 : decode cX4_awayIn 32 = .ok (.aload_n 0, 1) := dk_42 (dk_at dksX4_awayIn_1 9 rfl rfl)
theorem dX4_awayIn_33 : decode cX4_awayIn 33 = .ok (.iload_n 1, 1) := dk_27 (dk_at dksX4_awayIn_1 10 rfl rfl)
theorem dX4_awayIn_34 : decode cX4_awayIn 34 = .ok (.invokevirtual 131, 3) := dk_182 0 131 (dk_at dksX4_awayIn_1 11 rfl rfl)
theorem dX4_awayIn_37 : decode cX4_awayIn 37 = .ok (.ifCond .eq 12, 3) := dk_153 0 12 (dk_at dksX4_awayIn_1 14 rfl rfl)
theorem dX4_awayIn_40 : decode cX4_awayIn 40 = .ok (.aload_n 0, 1) := dk_42 (dk_at dksX4_awayIn_1 17 rfl rfl)
theorem dX4_awayIn_41 : decode cX4_awayIn 41 = .ok (.iload_n 1, 1) := dk_27 (dk_at dksX4_awayIn_1 18 rfl rfl)
theorem dX4_awayIn_42 : decode cX4_awayIn 42 = .ok (.iload_n 2, 1) := dk_28 (dk_at dksX4_awayIn_1 19 rfl rfl)
theorem dX4_awayIn_43 : decode cX4_awayIn 43 = .ok (.invokevirtual 266, 3) := dk_182 1 10 (dk_at dksX4_awayIn_1 20 rfl rfl)
theorem dX4_awayIn_46 : decode cX4_awayIn 46 = .ok (.goto 8, 3) := dk_167 0 8 (dk_at dksX4_awayIn_2 0 rfl rfl)
theorem dX4_awayIn_49 : decode cX4_awayIn 49 = .ok (.aload_n 0, 1) := dk_42 (dk_at dksX4_awayIn_2 3 rfl rfl)
theorem dX4_awayIn_50 : decode cX4_awayIn 50 = .ok (.iconst 3, 1) := dk_6 (dk_at dksX4_awayIn_2 4 rfl rfl)
theorem dX4_awayIn_51 : decode cX4_awayIn 51 = .ok (.invokevirtual 34, 3) := dk_182 0 34 (dk_at dksX4_awayIn_2 5 rfl rfl)
theorem dX4_awayIn_54 : decode cX4_awayIn 54 = .ok (.ireturn, 1) := dk_172 (dk_at dksX4_awayIn_2 8 rfl rfl)
abbrev cX4_awayNow : ByteArray := prog_9_method_36_code
def yX4_awayNow : MethodName := ⟨RX4, "awayNow", "(II)I"⟩
def dkwX4_awayNow_2 : List UInt8 := [160, 0, 6, 21, 4, 172, 132, 4, 1, 167, 255, 221, 2, 172]
abbrev dktX4_awayNow_2 : List UInt8 := dkwX4_awayNow_2 ++ []
def dkwX4_awayNow_1 : List UInt8 := [163, 0, 34, 45, 182, 0, 168, 45, 180, 0, 20, 27, 182, 0, 55, 192, 0, 38, 180, 0, 62, 7]
abbrev dktX4_awayNow_1 : List UInt8 := dkwX4_awayNow_1 ++ dktX4_awayNow_2
def dkwX4_awayNow_0 : List UInt8 := [42, 180, 0, 10, 182, 1, 3, 78, 45, 27, 28, 182, 0, 134, 87, 4, 54, 4, 21, 4, 16, 40]
abbrev dktX4_awayNow_0 : List UInt8 := dkwX4_awayNow_0 ++ dktX4_awayNow_1
theorem dksX4_awayNow_0 : cX4_awayNow.data.toList.drop 0 = dktX4_awayNow_0 := by decide +kernel
theorem dksX4_awayNow_1 : cX4_awayNow.data.toList.drop 22 = dktX4_awayNow_1 := dk_seg dksX4_awayNow_0 22 rfl rfl
theorem dksX4_awayNow_2 : cX4_awayNow.data.toList.drop 44 = dktX4_awayNow_2 := dk_seg dksX4_awayNow_1 22 rfl rfl
theorem dX4_awayNow_0 : decode cX4_awayNow 0 = .ok (.aload_n 0, 1) := dk_42 (dk_at dksX4_awayNow_0 0 rfl rfl)
theorem dX4_awayNow_1 : decode cX4_awayNow 1 = .ok (.getfield 10, 3) := dk_180 0 10 (dk_at dksX4_awayNow_0 1 rfl rfl)
theorem dX4_awayNow_4 : decode cX4_awayNow 4 = .ok (.invokevirtual 259, 3) := dk_182 1 3 (dk_at dksX4_awayNow_0 4 rfl rfl)
theorem dX4_awayNow_7 : decode cX4_awayNow 7 = .ok (.astore_n 3, 1) := dk_78 (dk_at dksX4_awayNow_0 7 rfl rfl)
theorem dX4_awayNow_8 : decode cX4_awayNow 8 = .ok (.aload_n 3, 1) := dk_45 (dk_at dksX4_awayNow_0 8 rfl rfl)
theorem dX4_awayNow_9 : decode cX4_awayNow 9 = .ok (.iload_n 1, 1) := dk_27 (dk_at dksX4_awayNow_0 9 rfl rfl)
theorem dX4_awayNow_10 : decode cX4_awayNow 10 = .ok (.iload_n 2, 1) := dk_28 (dk_at dksX4_awayNow_0 10 rfl rfl)
theorem dX4_awayNow_11 : decode cX4_awayNow 11 = .ok (.invokevirtual 134, 3) := dk_182 0 134 (dk_at dksX4_awayNow_0 11 rfl rfl)
theorem dX4_awayNow_14 : decode cX4_awayNow 14 = .ok (.pop, 1) := dk_87 (dk_at dksX4_awayNow_0 14 rfl rfl)
theorem dX4_awayNow_15 : decode cX4_awayNow 15 = .ok (.iconst 1, 1) := dk_4 (dk_at dksX4_awayNow_0 15 rfl rfl)
theorem dX4_awayNow_16 : decode cX4_awayNow 16 = .ok (.istore 4, 2) := dk_54 4 (dk_at dksX4_awayNow_0 16 rfl rfl)
theorem dX4_awayNow_18 : decode cX4_awayNow 18 = .ok (.iload 4, 2) := dk_21 4 (dk_at dksX4_awayNow_0 18 rfl rfl)
theorem dX4_awayNow_20 : decode cX4_awayNow 20 = .ok (.bipush 40, 2) := dk_16 40 (dk_at dksX4_awayNow_0 20 rfl rfl)
theorem dX4_awayNow_22 : decode cX4_awayNow 22 = .ok (.if_icmp .gt 34, 3) := dk_163 0 34 (dk_at dksX4_awayNow_1 0 rfl rfl)
theorem dX4_awayNow_25 : decode cX4_awayNow 25 = .ok (.aload_n 3, 1) := dk_45 (dk_at dksX4_awayNow_1 3 rfl rfl)
theorem dX4_awayNow_26 : decode cX4_awayNow 26 = .ok (.invokevirtual 168, 3) := dk_182 0 168 (dk_at dksX4_awayNow_1 4 rfl rfl)
theorem dX4_awayNow_29 : decode cX4_awayNow 29 = .ok (.aload_n 3, 1) := dk_45 (dk_at dksX4_awayNow_1 7 rfl rfl)
theorem dX4_awayNow_30 : decode cX4_awayNow 30 = .ok (.getfield 20, 3) := dk_180 0 20 (dk_at dksX4_awayNow_1 8 rfl rfl)
theorem dX4_awayNow_33 : decode cX4_awayNow 33 = .ok (.iload_n 1, 1) := dk_27 (dk_at dksX4_awayNow_1 11 rfl rfl)
theorem dX4_awayNow_34 : decode cX4_awayNow 34 = .ok (.invokevirtual 55, 3) := dk_182 0 55 (dk_at dksX4_awayNow_1 12 rfl rfl)
theorem dX4_awayNow_37 : decode cX4_awayNow 37 = .ok (.checkcast 38, 3) := dk_192 0 38 (dk_at dksX4_awayNow_1 15 rfl rfl)
theorem dX4_awayNow_40 : decode cX4_awayNow 40 = .ok (.getfield 62, 3) := dk_180 0 62 (dk_at dksX4_awayNow_1 18 rfl rfl)
theorem dX4_awayNow_43 : decode cX4_awayNow 43 = .ok (.iconst 4, 1) := dk_7 (dk_at dksX4_awayNow_1 21 rfl rfl)
theorem dX4_awayNow_44 : decode cX4_awayNow 44 = .ok (.if_icmp .ne 6, 3) := dk_160 0 6 (dk_at dksX4_awayNow_2 0 rfl rfl)
theorem dX4_awayNow_47 : decode cX4_awayNow 47 = .ok (.iload 4, 2) := dk_21 4 (dk_at dksX4_awayNow_2 3 rfl rfl)
theorem dX4_awayNow_49 : decode cX4_awayNow 49 = .ok (.ireturn, 1) := dk_172 (dk_at dksX4_awayNow_2 5 rfl rfl)
theorem dX4_awayNow_50 : decode cX4_awayNow 50 = .ok (.iinc 4 1, 3) := dk_132 4 1 (dk_at dksX4_awayNow_2 6 rfl rfl)
theorem dX4_awayNow_53 : decode cX4_awayNow 53 = .ok (.goto (-35), 3) := dk_167 255 221 (dk_at dksX4_awayNow_2 9 rfl rfl)
theorem dX4_awayNow_56 : decode cX4_awayNow 56 = .ok (.iconst (-1), 1) := dk_2 (dk_at dksX4_awayNow_2 12 rfl rfl)
theorem dX4_awayNow_57 : decode cX4_awayNow 57 = .ok (.ireturn, 1) := dk_172 (dk_at dksX4_awayNow_2 13 rfl rfl)
abbrev cX4_digest : ByteArray := prog_9_method_40_code
def yX4_digest : MethodName := ⟨RX4, "digest", "()J"⟩
def dkwX4_digest_4 : List UInt8 := [132, 2, 1, 167, 255, 238, 132, 1, 1, 167, 255, 219, 42, 180, 1, 13, 173]
abbrev dktX4_digest_4 : List UInt8 := dkwX4_digest_4 ++ []
def dkwX4_digest_3 : List UInt8 := [180, 0, 91, 162, 0, 32, 3, 61, 28, 6, 162, 0, 19, 42, 42, 27, 28, 182, 0, 212, 182, 1, 19]
abbrev dktX4_digest_3 : List UInt8 := dkwX4_digest_3 ++ dktX4_digest_4
def dkwX4_digest_2 : List UInt8 := [182, 0, 24, 162, 0, 14, 42, 27, 182, 1, 24, 132, 1, 1, 167, 255, 234, 3, 60, 27, 42, 180, 0, 10]
abbrev dktX4_digest_2 : List UInt8 := dkwX4_digest_2 ++ dktX4_digest_3
def dkwX4_digest_1 : List UInt8 := [182, 0, 253, 182, 1, 19, 132, 1, 1, 167, 255, 238, 3, 60, 27, 42, 180, 0, 10, 180, 0, 20]
abbrev dktX4_digest_1 : List UInt8 := dkwX4_digest_1 ++ dktX4_digest_2
def dkwX4_digest_0 : List UInt8 := [42, 3, 181, 0, 16, 42, 20, 1, 22, 181, 1, 13, 3, 60, 27, 16, 11, 162, 0, 18, 42, 42, 27]
abbrev dktX4_digest_0 : List UInt8 := dkwX4_digest_0 ++ dktX4_digest_1
theorem dksX4_digest_0 : cX4_digest.data.toList.drop 0 = dktX4_digest_0 := by decide +kernel
theorem dksX4_digest_1 : cX4_digest.data.toList.drop 23 = dktX4_digest_1 := dk_seg dksX4_digest_0 23 rfl rfl
theorem dksX4_digest_2 : cX4_digest.data.toList.drop 45 = dktX4_digest_2 := dk_seg dksX4_digest_1 22 rfl rfl
theorem dksX4_digest_3 : cX4_digest.data.toList.drop 69 = dktX4_digest_3 := dk_seg dksX4_digest_2 24 rfl rfl
theorem dksX4_digest_4 : cX4_digest.data.toList.drop 92 = dktX4_digest_4 := dk_seg dksX4_digest_3 23 rfl rfl
theorem dX4_digest_0 : decode cX4_digest 0 = .ok (.aload_n 0, 1) := dk_42 (dk_at dksX4_digest_0 0 rfl rfl)
theorem dX4_digest_1 : decode cX4_digest 1 = .ok (.iconst 0, 1) := dk_3 (dk_at dksX4_digest_0 1 rfl rfl)
theorem dX4_digest_2 : decode cX4_digest 2 = .ok (.putfield 16, 3) := dk_181 0 16 (dk_at dksX4_digest_0 2 rfl rfl)
theorem dX4_digest_5 : decode cX4_digest 5 = .ok (.aload_n 0, 1) := dk_42 (dk_at dksX4_digest_0 5 rfl rfl)
theorem dX4_digest_6 : decode cX4_digest 6 = .ok (.ldc2_w 278, 3) := dk_20 1 22 (dk_at dksX4_digest_0 6 rfl rfl)
theorem dX4_digest_9 : decode cX4_digest 9 = .ok (.putfield 269, 3) := dk_181 1 13 (dk_at dksX4_digest_0 9 rfl rfl)
theorem dX4_digest_12 : decode cX4_digest 12 = .ok (.iconst 0, 1) := dk_3 (dk_at dksX4_digest_0 12 rfl rfl)
theorem dX4_digest_13 : decode cX4_digest 13 = .ok (.istore_n 1, 1) := dk_60 (dk_at dksX4_digest_0 13 rfl rfl)
theorem dX4_digest_14 : decode cX4_digest 14 = .ok (.iload_n 1, 1) := dk_27 (dk_at dksX4_digest_0 14 rfl rfl)
theorem dX4_digest_15 : decode cX4_digest 15 = .ok (.bipush 11, 2) := dk_16 11 (dk_at dksX4_digest_0 15 rfl rfl)
theorem dX4_digest_17 : decode cX4_digest 17 = .ok (.if_icmp .ge 18, 3) := dk_162 0 18 (dk_at dksX4_digest_0 17 rfl rfl)
theorem dX4_digest_20 : decode cX4_digest 20 = .ok (.aload_n 0, 1) := dk_42 (dk_at dksX4_digest_0 20 rfl rfl)
theorem dX4_digest_21 : decode cX4_digest 21 = .ok (.aload_n 0, 1) := dk_42 (dk_at dksX4_digest_0 21 rfl rfl)
theorem dX4_digest_22 : decode cX4_digest 22 = .ok (.iload_n 1, 1) := dk_27 (dk_at dksX4_digest_0 22 rfl rfl)
theorem dX4_digest_23 : decode cX4_digest 23 = .ok (.invokevirtual 253, 3) := dk_182 0 253 (dk_at dksX4_digest_1 0 rfl rfl)
theorem dX4_digest_26 : decode cX4_digest 26 = .ok (.invokevirtual 275, 3) := dk_182 1 19 (dk_at dksX4_digest_1 3 rfl rfl)
theorem dX4_digest_29 : decode cX4_digest 29 = .ok (.iinc 1 1, 3) := dk_132 1 1 (dk_at dksX4_digest_1 6 rfl rfl)
theorem dX4_digest_32 : decode cX4_digest 32 = .ok (.goto (-18), 3) := dk_167 255 238 (dk_at dksX4_digest_1 9 rfl rfl)
theorem dX4_digest_35 : decode cX4_digest 35 = .ok (.iconst 0, 1) := dk_3 (dk_at dksX4_digest_1 12 rfl rfl)
theorem dX4_digest_36 : decode cX4_digest 36 = .ok (.istore_n 1, 1) := dk_60 (dk_at dksX4_digest_1 13 rfl rfl)
theorem dX4_digest_37 : decode cX4_digest 37 = .ok (.iload_n 1, 1) := dk_27 (dk_at dksX4_digest_1 14 rfl rfl)
theorem dX4_digest_38 : decode cX4_digest 38 = .ok (.aload_n 0, 1) := dk_42 (dk_at dksX4_digest_1 15 rfl rfl)
theorem dX4_digest_39 : decode cX4_digest 39 = .ok (.getfield 10, 3) := dk_180 0 10 (dk_at dksX4_digest_1 16 rfl rfl)
theorem dX4_digest_42 : decode cX4_digest 42 = .ok (.getfield 20, 3) := dk_180 0 20 (dk_at dksX4_digest_1 19 rfl rfl)
theorem dX4_digest_45 : decode cX4_digest 45 = .ok (.invokevirtual 24, 3) := dk_182 0 24 (dk_at dksX4_digest_2 0 rfl rfl)
theorem dX4_digest_48 : decode cX4_digest 48 = .ok (.if_icmp .ge 14, 3) := dk_162 0 14 (dk_at dksX4_digest_2 3 rfl rfl)
theorem dX4_digest_51 : decode cX4_digest 51 = .ok (.aload_n 0, 1) := dk_42 (dk_at dksX4_digest_2 6 rfl rfl)
theorem dX4_digest_52 : decode cX4_digest 52 = .ok (.iload_n 1, 1) := dk_27 (dk_at dksX4_digest_2 7 rfl rfl)
theorem dX4_digest_53 : decode cX4_digest 53 = .ok (.invokevirtual 280, 3) := dk_182 1 24 (dk_at dksX4_digest_2 8 rfl rfl)
theorem dX4_digest_56 : decode cX4_digest 56 = .ok (.iinc 1 1, 3) := dk_132 1 1 (dk_at dksX4_digest_2 11 rfl rfl)
theorem dX4_digest_59 : decode cX4_digest 59 = .ok (.goto (-22), 3) := dk_167 255 234 (dk_at dksX4_digest_2 14 rfl rfl)
theorem dX4_digest_62 : decode cX4_digest 62 = .ok (.iconst 0, 1) := dk_3 (dk_at dksX4_digest_2 17 rfl rfl)
theorem dX4_digest_63 : decode cX4_digest 63 = .ok (.istore_n 1, 1) := dk_60 (dk_at dksX4_digest_2 18 rfl rfl)
theorem dX4_digest_64 : decode cX4_digest 64 = .ok (.iload_n 1, 1) := dk_27 (dk_at dksX4_digest_2 19 rfl rfl)
theorem dX4_digest_65 : decode cX4_digest 65 = .ok (.aload_n 0, 1) := dk_42 (dk_at dksX4_digest_2 20 rfl rfl)
theorem dX4_digest_66 : decode cX4_digest 66 = .ok (.getfield 10, 3) := dk_180 0 10 (dk_at dksX4_digest_2 21 rfl rfl)
theorem dX4_digest_69 : decode cX4_digest 69 = .ok (.getfield 91, 3) := dk_180 0 91 (dk_at dksX4_digest_3 0 rfl rfl)
theorem dX4_digest_72 : decode cX4_digest 72 = .ok (.if_icmp .ge 32, 3) := dk_162 0 32 (dk_at dksX4_digest_3 3 rfl rfl)
theorem dX4_digest_75 : decode cX4_digest 75 = .ok (.iconst 0, 1) := dk_3 (dk_at dksX4_digest_3 6 rfl rfl)
theorem dX4_digest_76 : decode cX4_digest 76 = .ok (.istore_n 2, 1) := dk_61 (dk_at dksX4_digest_3 7 rfl rfl)
theorem dX4_digest_77 : decode cX4_digest 77 = .ok (.iload_n 2, 1) := dk_28 (dk_at dksX4_digest_3 8 rfl rfl)
theorem dX4_digest_78 : decode cX4_digest 78 = .ok (.iconst 3, 1) := dk_6 (dk_at dksX4_digest_3 9 rfl rfl)
theorem dX4_digest_79 : decode cX4_digest 79 = .ok (.if_icmp .ge 19, 3) := dk_162 0 19 (dk_at dksX4_digest_3 10 rfl rfl)
theorem dX4_digest_82 : decode cX4_digest 82 = .ok (.aload_n 0, 1) := dk_42 (dk_at dksX4_digest_3 13 rfl rfl)
theorem dX4_digest_83 : decode cX4_digest 83 = .ok (.aload_n 0, 1) := dk_42 (dk_at dksX4_digest_3 14 rfl rfl)
theorem dX4_digest_84 : decode cX4_digest 84 = .ok (.iload_n 1, 1) := dk_27 (dk_at dksX4_digest_3 15 rfl rfl)
theorem dX4_digest_85 : decode cX4_digest 85 = .ok (.iload_n 2, 1) := dk_28 (dk_at dksX4_digest_3 16 rfl rfl)
theorem dX4_digest_86 : decode cX4_digest 86 = .ok (.invokevirtual 212, 3) := dk_182 0 212 (dk_at dksX4_digest_3 17 rfl rfl)
theorem dX4_digest_89 : decode cX4_digest 89 = .ok (.invokevirtual 275, 3) := dk_182 1 19 (dk_at dksX4_digest_3 20 rfl rfl)
theorem dX4_digest_92 : decode cX4_digest 92 = .ok (.iinc 2 1, 3) := dk_132 2 1 (dk_at dksX4_digest_4 0 rfl rfl)
theorem dX4_digest_95 : decode cX4_digest 95 = .ok (.goto (-18), 3) := dk_167 255 238 (dk_at dksX4_digest_4 3 rfl rfl)
theorem dX4_digest_98 : decode cX4_digest 98 = .ok (.iinc 1 1, 3) := dk_132 1 1 (dk_at dksX4_digest_4 6 rfl rfl)
theorem dX4_digest_101 : decode cX4_digest 101 = .ok (.goto (-37), 3) := dk_167 255 219 (dk_at dksX4_digest_4 9 rfl rfl)
theorem dX4_digest_104 : decode cX4_digest 104 = .ok (.aload_n 0, 1) := dk_42 (dk_at dksX4_digest_4 12 rfl rfl)
theorem dX4_digest_105 : decode cX4_digest 105 = .ok (.getfield 269, 3) := dk_180 1 13 (dk_at dksX4_digest_4 13 rfl rfl)
theorem dX4_digest_108 : decode cX4_digest 108 = .ok (.lreturn, 1) := dk_173 (dk_at dksX4_digest_4 16 rfl rfl)
abbrev cX4_add : ByteArray := prog_9_method_38_code
def yX4_add : MethodName := ⟨RX4, "add", "(I)V"⟩
def dkwX4_add_0 : List UInt8 := [42, 42, 180, 1, 13, 20, 1, 17, 105, 27, 133, 97, 181, 1, 13, 177]
abbrev dktX4_add_0 : List UInt8 := dkwX4_add_0 ++ []
theorem dksX4_add_0 : cX4_add.data.toList.drop 0 = dktX4_add_0 := by decide +kernel
theorem dX4_add_0 : decode cX4_add 0 = .ok (.aload_n 0, 1) := dk_42 (dk_at dksX4_add_0 0 rfl rfl)
theorem dX4_add_1 : decode cX4_add 1 = .ok (.aload_n 0, 1) := dk_42 (dk_at dksX4_add_0 1 rfl rfl)
theorem dX4_add_2 : decode cX4_add 2 = .ok (.getfield 269, 3) := dk_180 1 13 (dk_at dksX4_add_0 2 rfl rfl)
theorem dX4_add_5 : decode cX4_add 5 = .ok (.ldc2_w 273, 3) := dk_20 1 17 (dk_at dksX4_add_0 5 rfl rfl)
theorem dX4_add_8 : decode cX4_add 8 = .ok (.lmul, 1) := dk_105 (dk_at dksX4_add_0 8 rfl rfl)
theorem dX4_add_9 : decode cX4_add 9 = .ok (.iload_n 1, 1) := dk_27 (dk_at dksX4_add_0 9 rfl rfl)
theorem dX4_add_10 : decode cX4_add 10 = .ok (.i2l, 1) := dk_133 (dk_at dksX4_add_0 10 rfl rfl)
theorem dX4_add_11 : decode cX4_add 11 = .ok (.ladd, 1) := dk_97 (dk_at dksX4_add_0 11 rfl rfl)
theorem dX4_add_12 : decode cX4_add 12 = .ok (.putfield 269, 3) := dk_181 1 13 (dk_at dksX4_add_0 12 rfl rfl)
theorem dX4_add_15 : decode cX4_add 15 = .ok (.return_, 1) := dk_177 (dk_at dksX4_add_0 15 rfl rfl)
abbrev cX4_addGuest : ByteArray := prog_9_method_39_code
def yX4_addGuest : MethodName := ⟨RX4, "addGuest", "(I)V"⟩
def dkwX4_addGuest_10 : List UInt8 := [42, 27, 182, 0, 131, 153, 0, 13, 42, 42, 27, 5, 182, 1, 10, 182, 1, 19, 177]
abbrev dktX4_addGuest_10 : List UInt8 := dkwX4_addGuest_10 ++ []
def dkwX4_addGuest_9 : List UInt8 := [2, 182, 1, 0, 182, 1, 19, 132, 6, 1, 167, 255, 206, 42, 42, 27, 16, 10, 182, 1, 7, 182, 1, 19]
abbrev dktX4_addGuest_9 : List UInt8 := dkwX4_addGuest_9 ++ dktX4_addGuest_10
def dkwX4_addGuest_8 : List UInt8 := [21, 7, 3, 182, 1, 0, 182, 1, 19, 42, 44, 21, 7, 4, 182, 1, 0, 182, 1, 19, 42, 44, 21, 7]
abbrev dktX4_addGuest_8 : List UInt8 := dkwX4_addGuest_8 ++ dktX4_addGuest_9
def dkwX4_addGuest_7 : List UInt8 := [25, 4, 190, 54, 5, 3, 54, 6, 21, 6, 21, 5, 162, 0, 49, 25, 4, 21, 6, 46, 54, 7, 42, 44]
abbrev dktX4_addGuest_7 : List UInt8 := dkwX4_addGuest_7 ++ dktX4_addGuest_8
def dkwX4_addGuest_6 : List UInt8 := [167, 255, 233, 6, 188, 10, 89, 3, 3, 79, 89, 4, 8, 79, 89, 5, 16, 12, 79, 78, 45, 58, 4]
abbrev dktX4_addGuest_6 : List UInt8 := dkwX4_addGuest_6 ++ dktX4_addGuest_7
def dkwX4_addGuest_5 : List UInt8 := [62, 42, 27, 29, 182, 0, 218, 2, 159, 0, 19, 42, 42, 27, 29, 182, 0, 218, 182, 1, 19, 132, 3, 1]
abbrev dktX4_addGuest_5 : List UInt8 := dkwX4_addGuest_5 ++ dktX4_addGuest_6
def dkwX4_addGuest_4 : List UInt8 := [42, 27, 29, 21, 4, 182, 0, 205, 182, 1, 19, 132, 4, 1, 167, 255, 235, 132, 3, 1, 167, 255, 220, 3]
abbrev dktX4_addGuest_4 : List UInt8 := dkwX4_addGuest_4 ++ dktX4_addGuest_5
def dkwX4_addGuest_3 : List UInt8 := [132, 5, 1, 167, 255, 234, 3, 62, 29, 16, 6, 162, 0, 36, 3, 54, 4, 21, 4, 7, 162, 0, 21, 42]
abbrev dktX4_addGuest_3 : List UInt8 := dkwX4_addGuest_3 ++ dktX4_addGuest_4
def dkwX4_addGuest_2 : List UInt8 := [3, 54, 5, 21, 5, 21, 4, 162, 0, 21, 45, 21, 5, 46, 54, 6, 42, 21, 6, 182, 1, 19]
abbrev dktX4_addGuest_2 : List UInt8 := dkwX4_addGuest_2 ++ dktX4_addGuest_3
def dkwX4_addGuest_1 : List UInt8 := [42, 180, 0, 10, 180, 0, 20, 27, 182, 0, 55, 192, 0, 38, 77, 44, 180, 0, 196, 78, 45, 190, 54, 4]
abbrev dktX4_addGuest_1 : List UInt8 := dkwX4_addGuest_1 ++ dktX4_addGuest_2
def dkwX4_addGuest_0 : List UInt8 := [3, 61, 28, 16, 16, 162, 0, 19, 42, 42, 27, 28, 182, 0, 193, 182, 1, 19, 132, 2, 1, 167, 255, 237]
abbrev dktX4_addGuest_0 : List UInt8 := dkwX4_addGuest_0 ++ dktX4_addGuest_1
theorem dksX4_addGuest_0 : cX4_addGuest.data.toList.drop 0 = dktX4_addGuest_0 := by decide +kernel
theorem dksX4_addGuest_1 : cX4_addGuest.data.toList.drop 24 = dktX4_addGuest_1 := dk_seg dksX4_addGuest_0 24 rfl rfl
theorem dksX4_addGuest_2 : cX4_addGuest.data.toList.drop 48 = dktX4_addGuest_2 := dk_seg dksX4_addGuest_1 24 rfl rfl
theorem dksX4_addGuest_3 : cX4_addGuest.data.toList.drop 70 = dktX4_addGuest_3 := dk_seg dksX4_addGuest_2 22 rfl rfl
theorem dksX4_addGuest_4 : cX4_addGuest.data.toList.drop 94 = dktX4_addGuest_4 := dk_seg dksX4_addGuest_3 24 rfl rfl
theorem dksX4_addGuest_5 : cX4_addGuest.data.toList.drop 118 = dktX4_addGuest_5 := dk_seg dksX4_addGuest_4 24 rfl rfl
theorem dksX4_addGuest_6 : cX4_addGuest.data.toList.drop 142 = dktX4_addGuest_6 := dk_seg dksX4_addGuest_5 24 rfl rfl
theorem dksX4_addGuest_7 : cX4_addGuest.data.toList.drop 165 = dktX4_addGuest_7 := dk_seg dksX4_addGuest_6 23 rfl rfl
theorem dksX4_addGuest_8 : cX4_addGuest.data.toList.drop 189 = dktX4_addGuest_8 := dk_seg dksX4_addGuest_7 24 rfl rfl
theorem dksX4_addGuest_9 : cX4_addGuest.data.toList.drop 213 = dktX4_addGuest_9 := dk_seg dksX4_addGuest_8 24 rfl rfl
theorem dksX4_addGuest_10 : cX4_addGuest.data.toList.drop 237 = dktX4_addGuest_10 := dk_seg dksX4_addGuest_9 24 rfl rfl
theorem dX4_addGuest_0 : decode cX4_addGuest 0 = .ok (.iconst 0, 1) := dk_3 (dk_at dksX4_addGuest_0 0 rfl rfl)
theorem dX4_addGuest_1 : decode cX4_addGuest 1 = .ok (.istore_n 2, 1) := dk_61 (dk_at dksX4_addGuest_0 1 rfl rfl)
theorem dX4_addGuest_2 : decode cX4_addGuest 2 = .ok (.iload_n 2, 1) := dk_28 (dk_at dksX4_addGuest_0 2 rfl rfl)
theorem dX4_addGuest_3 : decode cX4_addGuest 3 = .ok (.bipush 16, 2) := dk_16 16 (dk_at dksX4_addGuest_0 3 rfl rfl)
theorem dX4_addGuest_5 : decode cX4_addGuest 5 = .ok (.if_icmp .ge 19, 3) := dk_162 0 19 (dk_at dksX4_addGuest_0 5 rfl rfl)
theorem dX4_addGuest_8 : decode cX4_addGuest 8 = .ok (.aload_n 0, 1) := dk_42 (dk_at dksX4_addGuest_0 8 rfl rfl)
theorem dX4_addGuest_9 : decode cX4_addGuest 9 = .ok (.aload_n 0, 1) := dk_42 (dk_at dksX4_addGuest_0 9 rfl rfl)
theorem dX4_addGuest_10 : decode cX4_addGuest 10 = .ok (.iload_n 1, 1) := dk_27 (dk_at dksX4_addGuest_0 10 rfl rfl)
theorem dX4_addGuest_11 : decode cX4_addGuest 11 = .ok (.iload_n 2, 1) := dk_28 (dk_at dksX4_addGuest_0 11 rfl rfl)
theorem dX4_addGuest_12 : decode cX4_addGuest 12 = .ok (.invokevirtual 193, 3) := dk_182 0 193 (dk_at dksX4_addGuest_0 12 rfl rfl)
theorem dX4_addGuest_15 : decode cX4_addGuest 15 = .ok (.invokevirtual 275, 3) := dk_182 1 19 (dk_at dksX4_addGuest_0 15 rfl rfl)
theorem dX4_addGuest_18 : decode cX4_addGuest 18 = .ok (.iinc 2 1, 3) := dk_132 2 1 (dk_at dksX4_addGuest_0 18 rfl rfl)
theorem dX4_addGuest_21 : decode cX4_addGuest 21 = .ok (.goto (-19), 3) := dk_167 255 237 (dk_at dksX4_addGuest_0 21 rfl rfl)
theorem dX4_addGuest_24 : decode cX4_addGuest 24 = .ok (.aload_n 0, 1) := dk_42 (dk_at dksX4_addGuest_1 0 rfl rfl)
theorem dX4_addGuest_25 : decode cX4_addGuest 25 = .ok (.getfield 10, 3) := dk_180 0 10 (dk_at dksX4_addGuest_1 1 rfl rfl)
theorem dX4_addGuest_28 : decode cX4_addGuest 28 = .ok (.getfield 20, 3) := dk_180 0 20 (dk_at dksX4_addGuest_1 4 rfl rfl)
theorem dX4_addGuest_31 : decode cX4_addGuest 31 = .ok (.iload_n 1, 1) := dk_27 (dk_at dksX4_addGuest_1 7 rfl rfl)
theorem dX4_addGuest_32 : decode cX4_addGuest 32 = .ok (.invokevirtual 55, 3) := dk_182 0 55 (dk_at dksX4_addGuest_1 8 rfl rfl)
theorem dX4_addGuest_35 : decode cX4_addGuest 35 = .ok (.checkcast 38, 3) := dk_192 0 38 (dk_at dksX4_addGuest_1 11 rfl rfl)
theorem dX4_addGuest_38 : decode cX4_addGuest 38 = .ok (.astore_n 2, 1) := dk_77 (dk_at dksX4_addGuest_1 14 rfl rfl)
theorem dX4_addGuest_39 : decode cX4_addGuest 39 = .ok (.aload_n 2, 1) := dk_44 (dk_at dksX4_addGuest_1 15 rfl rfl)
theorem dX4_addGuest_40 : decode cX4_addGuest 40 = .ok (.getfield 196, 3) := dk_180 0 196 (dk_at dksX4_addGuest_1 16 rfl rfl)
theorem dX4_addGuest_43 : decode cX4_addGuest 43 = .ok (.astore_n 3, 1) := dk_78 (dk_at dksX4_addGuest_1 19 rfl rfl)
theorem dX4_addGuest_44 : decode cX4_addGuest 44 = .ok (.aload_n 3, 1) := dk_45 (dk_at dksX4_addGuest_1 20 rfl rfl)
theorem dX4_addGuest_45 : decode cX4_addGuest 45 = .ok (.arraylength, 1) := dk_190 (dk_at dksX4_addGuest_1 21 rfl rfl)
theorem dX4_addGuest_46 : decode cX4_addGuest 46 = .ok (.istore 4, 2) := dk_54 4 (dk_at dksX4_addGuest_1 22 rfl rfl)
theorem dX4_addGuest_48 : decode cX4_addGuest 48 = .ok (.iconst 0, 1) := dk_3 (dk_at dksX4_addGuest_2 0 rfl rfl)
theorem dX4_addGuest_49 : decode cX4_addGuest 49 = .ok (.istore 5, 2) := dk_54 5 (dk_at dksX4_addGuest_2 1 rfl rfl)
theorem dX4_addGuest_51 : decode cX4_addGuest 51 = .ok (.iload 5, 2) := dk_21 5 (dk_at dksX4_addGuest_2 3 rfl rfl)
theorem dX4_addGuest_53 : decode cX4_addGuest 53 = .ok (.iload 4, 2) := dk_21 4 (dk_at dksX4_addGuest_2 5 rfl rfl)
theorem dX4_addGuest_55 : decode cX4_addGuest 55 = .ok (.if_icmp .ge 21, 3) := dk_162 0 21 (dk_at dksX4_addGuest_2 7 rfl rfl)
theorem dX4_addGuest_58 : decode cX4_addGuest 58 = .ok (.aload_n 3, 1) := dk_45 (dk_at dksX4_addGuest_2 10 rfl rfl)
theorem dX4_addGuest_59 : decode cX4_addGuest 59 = .ok (.iload 5, 2) := dk_21 5 (dk_at dksX4_addGuest_2 11 rfl rfl)
theorem dX4_addGuest_61 : decode cX4_addGuest 61 = .ok (.iaload, 1) := dk_46 (dk_at dksX4_addGuest_2 13 rfl rfl)
theorem dX4_addGuest_62 : decode cX4_addGuest 62 = .ok (.istore 6, 2) := dk_54 6 (dk_at dksX4_addGuest_2 14 rfl rfl)
theorem dX4_addGuest_64 : decode cX4_addGuest 64 = .ok (.aload_n 0, 1) := dk_42 (dk_at dksX4_addGuest_2 16 rfl rfl)
theorem dX4_addGuest_65 : decode cX4_addGuest 65 = .ok (.iload 6, 2) := dk_21 6 (dk_at dksX4_addGuest_2 17 rfl rfl)
theorem dX4_addGuest_67 : decode cX4_addGuest 67 = .ok (.invokevirtual 275, 3) := dk_182 1 19 (dk_at dksX4_addGuest_2 19 rfl rfl)
theorem dX4_addGuest_70 : decode cX4_addGuest 70 = .ok (.iinc 5 1, 3) := dk_132 5 1 (dk_at dksX4_addGuest_3 0 rfl rfl)
theorem dX4_addGuest_73 : decode cX4_addGuest 73 = .ok (.goto (-22), 3) := dk_167 255 234 (dk_at dksX4_addGuest_3 3 rfl rfl)
theorem dX4_addGuest_76 : decode cX4_addGuest 76 = .ok (.iconst 0, 1) := dk_3 (dk_at dksX4_addGuest_3 6 rfl rfl)
theorem dX4_addGuest_77 : decode cX4_addGuest 77 = .ok (.istore_n 3, 1) := dk_62 (dk_at dksX4_addGuest_3 7 rfl rfl)
theorem dX4_addGuest_78 : decode cX4_addGuest 78 = .ok (.iload_n 3, 1) := dk_29 (dk_at dksX4_addGuest_3 8 rfl rfl)
theorem dX4_addGuest_79 : decode cX4_addGuest 79 = .ok (.bipush 6, 2) := dk_16 6 (dk_at dksX4_addGuest_3 9 rfl rfl)
theorem dX4_addGuest_81 : decode cX4_addGuest 81 = .ok (.if_icmp .ge 36, 3) := dk_162 0 36 (dk_at dksX4_addGuest_3 11 rfl rfl)
theorem dX4_addGuest_84 : decode cX4_addGuest 84 = .ok (.iconst 0, 1) := dk_3 (dk_at dksX4_addGuest_3 14 rfl rfl)
theorem dX4_addGuest_85 : decode cX4_addGuest 85 = .ok (.istore 4, 2) := dk_54 4 (dk_at dksX4_addGuest_3 15 rfl rfl)
theorem dX4_addGuest_87 : decode cX4_addGuest 87 = .ok (.iload 4, 2) := dk_21 4 (dk_at dksX4_addGuest_3 17 rfl rfl)
theorem dX4_addGuest_89 : decode cX4_addGuest 89 = .ok (.iconst 4, 1) := dk_7 (dk_at dksX4_addGuest_3 19 rfl rfl)
theorem dX4_addGuest_90 : decode cX4_addGuest 90 = .ok (.if_icmp .ge 21, 3) := dk_162 0 21 (dk_at dksX4_addGuest_3 20 rfl rfl)
theorem dX4_addGuest_93 : decode cX4_addGuest 93 = .ok (.aload_n 0, 1) := dk_42 (dk_at dksX4_addGuest_3 23 rfl rfl)
theorem dX4_addGuest_94 : decode cX4_addGuest 94 = .ok (.aload_n 0, 1) := dk_42 (dk_at dksX4_addGuest_4 0 rfl rfl)
theorem dX4_addGuest_95 : decode cX4_addGuest 95 = .ok (.iload_n 1, 1) := dk_27 (dk_at dksX4_addGuest_4 1 rfl rfl)
theorem dX4_addGuest_96 : decode cX4_addGuest 96 = .ok (.iload_n 3, 1) := dk_29 (dk_at dksX4_addGuest_4 2 rfl rfl)
theorem dX4_addGuest_97 : decode cX4_addGuest 97 = .ok (.iload 4, 2) := dk_21 4 (dk_at dksX4_addGuest_4 3 rfl rfl)
theorem dX4_addGuest_99 : decode cX4_addGuest 99 = .ok (.invokevirtual 205, 3) := dk_182 0 205 (dk_at dksX4_addGuest_4 5 rfl rfl)
theorem dX4_addGuest_102 : decode cX4_addGuest 102 = .ok (.invokevirtual 275, 3) := dk_182 1 19 (dk_at dksX4_addGuest_4 8 rfl rfl)
theorem dX4_addGuest_105 : decode cX4_addGuest 105 = .ok (.iinc 4 1, 3) := dk_132 4 1 (dk_at dksX4_addGuest_4 11 rfl rfl)
theorem dX4_addGuest_108 : decode cX4_addGuest 108 = .ok (.goto (-21), 3) := dk_167 255 235 (dk_at dksX4_addGuest_4 14 rfl rfl)
theorem dX4_addGuest_111 : decode cX4_addGuest 111 = .ok (.iinc 3 1, 3) := dk_132 3 1 (dk_at dksX4_addGuest_4 17 rfl rfl)
theorem dX4_addGuest_114 : decode cX4_addGuest 114 = .ok (.goto (-36), 3) := dk_167 255 220 (dk_at dksX4_addGuest_4 20 rfl rfl)
theorem dX4_addGuest_117 : decode cX4_addGuest 117 = .ok (.iconst 0, 1) := dk_3 (dk_at dksX4_addGuest_4 23 rfl rfl)
theorem dX4_addGuest_118 : decode cX4_addGuest 118 = .ok (.istore_n 3, 1) := dk_62 (dk_at dksX4_addGuest_5 0 rfl rfl)
theorem dX4_addGuest_119 : decode cX4_addGuest 119 = .ok (.aload_n 0, 1) := dk_42 (dk_at dksX4_addGuest_5 1 rfl rfl)
theorem dX4_addGuest_120 : decode cX4_addGuest 120 = .ok (.iload_n 1, 1) := dk_27 (dk_at dksX4_addGuest_5 2 rfl rfl)
theorem dX4_addGuest_121 : decode cX4_addGuest 121 = .ok (.iload_n 3, 1) := dk_29 (dk_at dksX4_addGuest_5 3 rfl rfl)
theorem dX4_addGuest_122 : decode cX4_addGuest 122 = .ok (.invokevirtual 218, 3) := dk_182 0 218 (dk_at dksX4_addGuest_5 4 rfl rfl)
theorem dX4_addGuest_125 : decode cX4_addGuest 125 = .ok (.iconst (-1), 1) := dk_2 (dk_at dksX4_addGuest_5 7 rfl rfl)
theorem dX4_addGuest_126 : decode cX4_addGuest 126 = .ok (.if_icmp .eq 19, 3) := dk_159 0 19 (dk_at dksX4_addGuest_5 8 rfl rfl)
theorem dX4_addGuest_129 : decode cX4_addGuest 129 = .ok (.aload_n 0, 1) := dk_42 (dk_at dksX4_addGuest_5 11 rfl rfl)
theorem dX4_addGuest_130 : decode cX4_addGuest 130 = .ok (.aload_n 0, 1) := dk_42 (dk_at dksX4_addGuest_5 12 rfl rfl)
theorem dX4_addGuest_131 : decode cX4_addGuest 131 = .ok (.iload_n 1, 1) := dk_27 (dk_at dksX4_addGuest_5 13 rfl rfl)
theorem dX4_addGuest_132 : decode cX4_addGuest 132 = .ok (.iload_n 3, 1) := dk_29 (dk_at dksX4_addGuest_5 14 rfl rfl)
theorem dX4_addGuest_133 : decode cX4_addGuest 133 = .ok (.invokevirtual 218, 3) := dk_182 0 218 (dk_at dksX4_addGuest_5 15 rfl rfl)
theorem dX4_addGuest_136 : decode cX4_addGuest 136 = .ok (.invokevirtual 275, 3) := dk_182 1 19 (dk_at dksX4_addGuest_5 18 rfl rfl)
theorem dX4_addGuest_139 : decode cX4_addGuest 139 = .ok (.iinc 3 1, 3) := dk_132 3 1 (dk_at dksX4_addGuest_5 21 rfl rfl)
theorem dX4_addGuest_142 : decode cX4_addGuest 142 = .ok (.goto (-23), 3) := dk_167 255 233 (dk_at dksX4_addGuest_6 0 rfl rfl)
theorem dX4_addGuest_145 : decode cX4_addGuest 145 = .ok (.iconst 3, 1) := dk_6 (dk_at dksX4_addGuest_6 3 rfl rfl)
theorem dX4_addGuest_146 : decode cX4_addGuest 146 = .ok (.newarray .int, 2) := dk_188_10 (dk_at dksX4_addGuest_6 4 rfl rfl)
theorem dX4_addGuest_148 : decode cX4_addGuest 148 = .ok (.dup, 1) := dk_89 (dk_at dksX4_addGuest_6 6 rfl rfl)
theorem dX4_addGuest_149 : decode cX4_addGuest 149 = .ok (.iconst 0, 1) := dk_3 (dk_at dksX4_addGuest_6 7 rfl rfl)
theorem dX4_addGuest_150 : decode cX4_addGuest 150 = .ok (.iconst 0, 1) := dk_3 (dk_at dksX4_addGuest_6 8 rfl rfl)
theorem dX4_addGuest_151 : decode cX4_addGuest 151 = .ok (.iastore, 1) := dk_79 (dk_at dksX4_addGuest_6 9 rfl rfl)
theorem dX4_addGuest_152 : decode cX4_addGuest 152 = .ok (.dup, 1) := dk_89 (dk_at dksX4_addGuest_6 10 rfl rfl)
theorem dX4_addGuest_153 : decode cX4_addGuest 153 = .ok (.iconst 1, 1) := dk_4 (dk_at dksX4_addGuest_6 11 rfl rfl)
theorem dX4_addGuest_154 : decode cX4_addGuest 154 = .ok (.iconst 5, 1) := dk_8 (dk_at dksX4_addGuest_6 12 rfl rfl)
theorem dX4_addGuest_155 : decode cX4_addGuest 155 = .ok (.iastore, 1) := dk_79 (dk_at dksX4_addGuest_6 13 rfl rfl)
theorem dX4_addGuest_156 : decode cX4_addGuest 156 = .ok (.dup, 1) := dk_89 (dk_at dksX4_addGuest_6 14 rfl rfl)
theorem dX4_addGuest_157 : decode cX4_addGuest 157 = .ok (.iconst 2, 1) := dk_5 (dk_at dksX4_addGuest_6 15 rfl rfl)
theorem dX4_addGuest_158 : decode cX4_addGuest 158 = .ok (.bipush 12, 2) := dk_16 12 (dk_at dksX4_addGuest_6 16 rfl rfl)
theorem dX4_addGuest_160 : decode cX4_addGuest 160 = .ok (.iastore, 1) := dk_79 (dk_at dksX4_addGuest_6 18 rfl rfl)
theorem dX4_addGuest_161 : decode cX4_addGuest 161 = .ok (.astore_n 3, 1) := dk_78 (dk_at dksX4_addGuest_6 19 rfl rfl)
theorem dX4_addGuest_162 : decode cX4_addGuest 162 = .ok (.aload_n 3, 1) := dk_45 (dk_at dksX4_addGuest_6 20 rfl rfl)
theorem dX4_addGuest_163 : decode cX4_addGuest 163 = .ok (.astore 4, 2) := dk_58 4 (dk_at dksX4_addGuest_6 21 rfl rfl)
theorem dX4_addGuest_165 : decode cX4_addGuest 165 = .ok (.aload 4, 2) := dk_25 4 (dk_at dksX4_addGuest_7 0 rfl rfl)
theorem dX4_addGuest_167 : decode cX4_addGuest 167 = .ok (.arraylength, 1) := dk_190 (dk_at dksX4_addGuest_7 2 rfl rfl)
theorem dX4_addGuest_168 : decode cX4_addGuest 168 = .ok (.istore 5, 2) := dk_54 5 (dk_at dksX4_addGuest_7 3 rfl rfl)
theorem dX4_addGuest_170 : decode cX4_addGuest 170 = .ok (.iconst 0, 1) := dk_3 (dk_at dksX4_addGuest_7 5 rfl rfl)
theorem dX4_addGuest_171 : decode cX4_addGuest 171 = .ok (.istore 6, 2) := dk_54 6 (dk_at dksX4_addGuest_7 6 rfl rfl)
theorem dX4_addGuest_173 : decode cX4_addGuest 173 = .ok (.iload 6, 2) := dk_21 6 (dk_at dksX4_addGuest_7 8 rfl rfl)
theorem dX4_addGuest_175 : decode cX4_addGuest 175 = .ok (.iload 5, 2) := dk_21 5 (dk_at dksX4_addGuest_7 10 rfl rfl)
theorem dX4_addGuest_177 : decode cX4_addGuest 177 = .ok (.if_icmp .ge 49, 3) := dk_162 0 49 (dk_at dksX4_addGuest_7 12 rfl rfl)
theorem dX4_addGuest_180 : decode cX4_addGuest 180 = .ok (.aload 4, 2) := dk_25 4 (dk_at dksX4_addGuest_7 15 rfl rfl)
theorem dX4_addGuest_182 : decode cX4_addGuest 182 = .ok (.iload 6, 2) := dk_21 6 (dk_at dksX4_addGuest_7 17 rfl rfl)
theorem dX4_addGuest_184 : decode cX4_addGuest 184 = .ok (.iaload, 1) := dk_46 (dk_at dksX4_addGuest_7 19 rfl rfl)
theorem dX4_addGuest_185 : decode cX4_addGuest 185 = .ok (.istore 7, 2) := dk_54 7 (dk_at dksX4_addGuest_7 20 rfl rfl)
theorem dX4_addGuest_187 : decode cX4_addGuest 187 = .ok (.aload_n 0, 1) := dk_42 (dk_at dksX4_addGuest_7 22 rfl rfl)
theorem dX4_addGuest_188 : decode cX4_addGuest 188 = .ok (.aload_n 2, 1) := dk_44 (dk_at dksX4_addGuest_7 23 rfl rfl)
theorem dX4_addGuest_189 : decode cX4_addGuest 189 = .ok (.iload 7, 2) := dk_21 7 (dk_at dksX4_addGuest_8 0 rfl rfl)
theorem dX4_addGuest_191 : decode cX4_addGuest 191 = .ok (.iconst 0, 1) := dk_3 (dk_at dksX4_addGuest_8 2 rfl rfl)
theorem dX4_addGuest_192 : decode cX4_addGuest 192 = .ok (.invokevirtual 256, 3) := dk_182 1 0 (dk_at dksX4_addGuest_8 3 rfl rfl)
theorem dX4_addGuest_195 : decode cX4_addGuest 195 = .ok (.invokevirtual 275, 3) := dk_182 1 19 (dk_at dksX4_addGuest_8 6 rfl rfl)
theorem dX4_addGuest_198 : decode cX4_addGuest 198 = .ok (.aload_n 0, 1) := dk_42 (dk_at dksX4_addGuest_8 9 rfl rfl)
theorem dX4_addGuest_199 : decode cX4_addGuest 199 = .ok (.aload_n 2, 1) := dk_44 (dk_at dksX4_addGuest_8 10 rfl rfl)
theorem dX4_addGuest_200 : decode cX4_addGuest 200 = .ok (.iload 7, 2) := dk_21 7 (dk_at dksX4_addGuest_8 11 rfl rfl)
theorem dX4_addGuest_202 : decode cX4_addGuest 202 = .ok (.iconst 1, 1) := dk_4 (dk_at dksX4_addGuest_8 13 rfl rfl)
theorem dX4_addGuest_203 : decode cX4_addGuest 203 = .ok (.invokevirtual 256, 3) := dk_182 1 0 (dk_at dksX4_addGuest_8 14 rfl rfl)
theorem dX4_addGuest_206 : decode cX4_addGuest 206 = .ok (.invokevirtual 275, 3) := dk_182 1 19 (dk_at dksX4_addGuest_8 17 rfl rfl)
theorem dX4_addGuest_209 : decode cX4_addGuest 209 = .ok (.aload_n 0, 1) := dk_42 (dk_at dksX4_addGuest_8 20 rfl rfl)
theorem dX4_addGuest_210 : decode cX4_addGuest 210 = .ok (.aload_n 2, 1) := dk_44 (dk_at dksX4_addGuest_8 21 rfl rfl)
theorem dX4_addGuest_211 : decode cX4_addGuest 211 = .ok (.iload 7, 2) := dk_21 7 (dk_at dksX4_addGuest_8 22 rfl rfl)
theorem dX4_addGuest_213 : decode cX4_addGuest 213 = .ok (.iconst (-1), 1) := dk_2 (dk_at dksX4_addGuest_9 0 rfl rfl)
theorem dX4_addGuest_214 : decode cX4_addGuest 214 = .ok (.invokevirtual 256, 3) := dk_182 1 0 (dk_at dksX4_addGuest_9 1 rfl rfl)
theorem dX4_addGuest_217 : decode cX4_addGuest 217 = .ok (.invokevirtual 275, 3) := dk_182 1 19 (dk_at dksX4_addGuest_9 4 rfl rfl)
theorem dX4_addGuest_220 : decode cX4_addGuest 220 = .ok (.iinc 6 1, 3) := dk_132 6 1 (dk_at dksX4_addGuest_9 7 rfl rfl)
theorem dX4_addGuest_223 : decode cX4_addGuest 223 = .ok (.goto (-50), 3) := dk_167 255 206 (dk_at dksX4_addGuest_9 10 rfl rfl)
theorem dX4_addGuest_226 : decode cX4_addGuest 226 = .ok (.aload_n 0, 1) := dk_42 (dk_at dksX4_addGuest_9 13 rfl rfl)
theorem dX4_addGuest_227 : decode cX4_addGuest 227 = .ok (.aload_n 0, 1) := dk_42 (dk_at dksX4_addGuest_9 14 rfl rfl)
theorem dX4_addGuest_228 : decode cX4_addGuest 228 = .ok (.iload_n 1, 1) := dk_27 (dk_at dksX4_addGuest_9 15 rfl rfl)
theorem dX4_addGuest_229 : decode cX4_addGuest 229 = .ok (.bipush 10, 2) := dk_16 10 (dk_at dksX4_addGuest_9 16 rfl rfl)
theorem dX4_addGuest_231 : decode cX4_addGuest 231 = .ok (.invokevirtual 263, 3) := dk_182 1 7 (dk_at dksX4_addGuest_9 18 rfl rfl)
theorem dX4_addGuest_234 : decode cX4_addGuest 234 = .ok (.invokevirtual 275, 3) := dk_182 1 19 (dk_at dksX4_addGuest_9 21 rfl rfl)
theorem dX4_addGuest_237 : decode cX4_addGuest 237 = .ok (.aload_n 0, 1) := dk_42 (dk_at dksX4_addGuest_10 0 rfl rfl)
theorem dX4_addGuest_238 : decode cX4_addGuest 238 = .ok (.iload_n 1, 1) := dk_27 (dk_at dksX4_addGuest_10 1 rfl rfl)
theorem dX4_addGuest_239 : decode cX4_addGuest 239 = .ok (.invokevirtual 131, 3) := dk_182 0 131 (dk_at dksX4_addGuest_10 2 rfl rfl)
theorem dX4_addGuest_242 : decode cX4_addGuest 242 = .ok (.ifCond .eq 13, 3) := dk_153 0 13 (dk_at dksX4_addGuest_10 5 rfl rfl)
theorem dX4_addGuest_245 : decode cX4_addGuest 245 = .ok (.aload_n 0, 1) := dk_42 (dk_at dksX4_addGuest_10 8 rfl rfl)
theorem dX4_addGuest_246 : decode cX4_addGuest 246 = .ok (.aload_n 0, 1) := dk_42 (dk_at dksX4_addGuest_10 9 rfl rfl)
theorem dX4_addGuest_247 : decode cX4_addGuest 247 = .ok (.iload_n 1, 1) := dk_27 (dk_at dksX4_addGuest_10 10 rfl rfl)
theorem dX4_addGuest_248 : decode cX4_addGuest 248 = .ok (.iconst 2, 1) := dk_5 (dk_at dksX4_addGuest_10 11 rfl rfl)
theorem dX4_addGuest_249 : decode cX4_addGuest 249 = .ok (.invokevirtual 266, 3) := dk_182 1 10 (dk_at dksX4_addGuest_10 12 rfl rfl)
theorem dX4_addGuest_252 : decode cX4_addGuest 252 = .ok (.invokevirtual 275, 3) := dk_182 1 19 (dk_at dksX4_addGuest_10 15 rfl rfl)
theorem dX4_addGuest_255 : decode cX4_addGuest 255 = .ok (.return_, 1) := dk_177 (dk_at dksX4_addGuest_10 18 rfl rfl)
theorem q66 : (Jvm.Cond.initialized "HyperVaneModel") ∈ lw_all := lw_g (lw_at lw_m1 13 rfl) rfl
theorem q266 : (Jvm.Cond.selects "HyperVaneModel" ({ cls := "java/lang/Object", name := "getClass", desc := "()Ljava/lang/Class;" } : Jvm.MethodName) ({ cls := "java/lang/Object", name := "getClass", desc := "()Ljava/lang/Class;" } : Jvm.MethodName)) ∈ lw_all := lw_g (lw_at lw_m1 213 rfl) rfl
theorem q418 : (Jvm.Cond.selects "HyperVaneModel" ({ cls := "java/lang/Object", name := "equals", desc := "(Ljava/lang/Object;)Z" } : Jvm.MethodName) ({ cls := "java/lang/Object", name := "equals", desc := "(Ljava/lang/Object;)Z" } : Jvm.MethodName)) ∈ lw_all := lw_g (lw_at lw_m2 125 rfl) rfl
theorem q1173 : (Jvm.Cond.instantiable "HyperVaneModel" (3 : Nat)) ∈ lw_all := lw_g (lw_at lw_m5 160 rfl) rfl
theorem q1175 : (Jvm.Cond.instanceMethod ({ cls := "HyperVaneModel", name := "<init>", desc := "()V" } : Jvm.MethodName)) ∈ lw_all := lw_g (lw_at lw_m5 162 rfl) rfl
theorem q1176 : (Jvm.Cond.code ({ cls := "HyperVaneModel", name := "<init>", desc := "()V" } : Jvm.MethodName) prog_9_method_1_code (1 : Nat) (Option.none : Option Jvm.ClassFile.FieldType)) ∈ lw_all := lw_g (lw_at lw_m5 163 rfl) rfl
theorem q1177 : (Jvm.Cond.methodLink "HyperVaneModel" (1 : Nat) ({ cls := "java/lang/Object", name := "<init>", desc := "()V" } : Jvm.MethodName)) ∈ lw_all := lw_g (lw_at lw_m5 164 rfl) rfl
theorem q1178 : (Jvm.Cond.classLink "HyperVaneModel" (7 : Nat) "HyperVaneModel$World") ∈ lw_all := lw_g (lw_at lw_m5 165 rfl) rfl
theorem q1180 : (Jvm.Cond.methodLinkNest "HyperVaneModel" (9 : Nat) ({ cls := "HyperVaneModel$World", name := "<init>", desc := "()V" } : Jvm.MethodName) "HyperVaneModel") ∈ lw_tbl := lw_at lw_m5 167 rfl
theorem q1187 : (Jvm.Cond.fieldLinkNest "HyperVaneModel" (20 : Nat) "HyperVaneModel$World" "guests" "Ljava/util/ArrayList;" "HyperVaneModel") ∈ lw_tbl := lw_at lw_m5 174 rfl
theorem q1189 : (Jvm.Cond.fieldLinkNest "HyperVaneModel" (88 : Nat) "HyperVaneModel$World" "now" "I" "HyperVaneModel") ∈ lw_tbl := lw_at lw_m5 176 rfl
theorem q1191 : (Jvm.Cond.fieldLinkNest "HyperVaneModel" (91 : Nat) "HyperVaneModel$World" "frames" "I" "HyperVaneModel") ∈ lw_tbl := lw_at lw_m5 178 rfl
theorem q1193 : (Jvm.Cond.fieldLinkNest "HyperVaneModel" (235 : Nat) "HyperVaneModel$World" "went" "I" "HyperVaneModel") ∈ lw_tbl := lw_at lw_m5 180 rfl
theorem q1195 : (Jvm.Cond.fieldLinkNest "HyperVaneModel" (238 : Nat) "HyperVaneModel$World" "works" "I" "HyperVaneModel") ∈ lw_tbl := lw_at lw_m5 182 rfl
theorem q1197 : (Jvm.Cond.fieldLinkNest "HyperVaneModel" (241 : Nat) "HyperVaneModel$World" "worksSince" "I" "HyperVaneModel") ∈ lw_tbl := lw_at lw_m5 184 rfl
theorem q1200 : (Jvm.Cond.fieldLinkNest "HyperVaneModel" (244 : Nat) "HyperVaneModel$World" "idle" "I" "HyperVaneModel") ∈ lw_tbl := lw_at lw_m5 187 rfl
theorem q1202 : (Jvm.Cond.fieldLinkNest "HyperVaneModel" (247 : Nat) "HyperVaneModel$World" "toDisk" "I" "HyperVaneModel") ∈ lw_tbl := lw_at lw_m5 189 rfl
theorem q1204 : (Jvm.Cond.fieldLinkNest "HyperVaneModel" (250 : Nat) "HyperVaneModel$World" "over" "I" "HyperVaneModel") ∈ lw_tbl := lw_at lw_m5 191 rfl
theorem q1226 : (Jvm.Cond.fieldLink "HyperVaneModel" (16 : Nat) "HyperVaneModel" "thrown" "I") ∈ lw_all := lw_g (lw_at lw_m5 213 rfl) rfl
theorem q1227 : (Jvm.Cond.fieldLink "HyperVaneModel" (10 : Nat) "HyperVaneModel" "world" "LHyperVaneModel$World;") ∈ lw_all := lw_g (lw_at lw_m5 214 rfl) rfl
theorem q1228 : (Jvm.Cond.fieldLink "HyperVaneModel" (269 : Nat) "HyperVaneModel" "sum" "J") ∈ lw_all := lw_g (lw_at lw_m5 215 rfl) rfl
theorem q1229 : (Jvm.Cond.lays "HyperVaneModel" "HyperVaneModel" "thrown" "I") ∈ lw_all := lw_g (lw_at lw_m5 216 rfl) rfl
theorem q1230 : (Jvm.Cond.soleField "HyperVaneModel" "thrown") ∈ lw_all := lw_g (lw_at lw_m5 217 rfl) rfl
theorem q1231 : (Jvm.Cond.lays "HyperVaneModel" "HyperVaneModel" "world" "LHyperVaneModel$World;") ∈ lw_all := lw_g (lw_at lw_m5 218 rfl) rfl
theorem q1232 : (Jvm.Cond.soleField "HyperVaneModel" "world") ∈ lw_all := lw_g (lw_at lw_m5 219 rfl) rfl
theorem q1233 : (Jvm.Cond.lays "HyperVaneModel" "HyperVaneModel" "sum" "J") ∈ lw_all := lw_g (lw_at lw_m5 220 rfl) rfl
theorem q1234 : (Jvm.Cond.soleField "HyperVaneModel" "sum") ∈ lw_all := lw_g (lw_at lw_m5 221 rfl) rfl
theorem q1235 : (Jvm.Cond.superclass "HyperVaneModel" "java/lang/Object") ∈ lw_all := lw_g (lw_at lw_m5 222 rfl) rfl
theorem q1237 : (Jvm.Cond.instanceMethod ({ cls := "HyperVaneModel", name := "thrown", desc := "()I" } : Jvm.MethodName)) ∈ lw_all := lw_g (lw_at lw_m5 224 rfl) rfl
theorem q1238 : (Jvm.Cond.selects "HyperVaneModel" ({ cls := "HyperVaneModel", name := "thrown", desc := "()I" } : Jvm.MethodName) ({ cls := "HyperVaneModel", name := "thrown", desc := "()I" } : Jvm.MethodName)) ∈ lw_all := lw_g (lw_at lw_m5 225 rfl) rfl
theorem q1239 : (Jvm.Cond.code ({ cls := "HyperVaneModel", name := "thrown", desc := "()I" } : Jvm.MethodName) prog_9_method_2_code (1 : Nat) (Option.some Jvm.ClassFile.FieldType.int)) ∈ lw_all := lw_g (lw_at lw_m5 226 rfl) rfl
theorem q1241 : (Jvm.Cond.instanceMethod ({ cls := "HyperVaneModel", name := "guest", desc := "(I)I" } : Jvm.MethodName)) ∈ lw_all := lw_g (lw_at lw_m5 228 rfl) rfl
theorem q1242 : (Jvm.Cond.selects "HyperVaneModel" ({ cls := "HyperVaneModel", name := "guest", desc := "(I)I" } : Jvm.MethodName) ({ cls := "HyperVaneModel", name := "guest", desc := "(I)I" } : Jvm.MethodName)) ∈ lw_all := lw_g (lw_at lw_m5 229 rfl) rfl
theorem q1243 : (Jvm.Cond.code ({ cls := "HyperVaneModel", name := "guest", desc := "(I)I" } : Jvm.MethodName) prog_9_method_8_code (3 : Nat) (Option.some Jvm.ClassFile.FieldType.int)) ∈ lw_all := lw_g (lw_at lw_m5 230 rfl) rfl
theorem q1244 : (Jvm.Cond.methodLink "HyperVaneModel" (30 : Nat) ({ cls := "HyperVaneModel", name := "is", desc := "(III)Z" } : Jvm.MethodName)) ∈ lw_all := lw_g (lw_at lw_m5 231 rfl) rfl
theorem q1245 : (Jvm.Cond.static ({ cls := "HyperVaneModel", name := "is", desc := "(III)Z" } : Jvm.MethodName)) ∈ lw_all := lw_g (lw_at lw_m5 232 rfl) rfl
theorem q1246 : (Jvm.Cond.code ({ cls := "HyperVaneModel", name := "is", desc := "(III)Z" } : Jvm.MethodName) prog_9_method_4_code (3 : Nat) (Option.some Jvm.ClassFile.FieldType.boolean)) ∈ lw_all := lw_g (lw_at lw_m5 233 rfl) rfl
theorem q1247 : (Jvm.Cond.methodLink "HyperVaneModel" (34 : Nat) ({ cls := "HyperVaneModel", name := "refuse", desc := "(I)I" } : Jvm.MethodName)) ∈ lw_all := lw_g (lw_at lw_m5 234 rfl) rfl
theorem q1248 : (Jvm.Cond.privateMethod ({ cls := "HyperVaneModel", name := "refuse", desc := "(I)I" } : Jvm.MethodName)) ∈ lw_tbl := lw_at lw_m5 235 rfl
theorem q1249 : (Jvm.Cond.instanceMethod ({ cls := "HyperVaneModel", name := "refuse", desc := "(I)I" } : Jvm.MethodName)) ∈ lw_all := lw_g (lw_at lw_m5 236 rfl) rfl
theorem q1250 : (Jvm.Cond.code ({ cls := "HyperVaneModel", name := "refuse", desc := "(I)I" } : Jvm.MethodName) prog_9_method_3_code (2 : Nat) (Option.some Jvm.ClassFile.FieldType.int)) ∈ lw_all := lw_g (lw_at lw_m5 237 rfl) rfl
theorem q1251 : (Jvm.Cond.methodLink "HyperVaneModel" (24 : Nat) ({ cls := "java/util/ArrayList", name := "size", desc := "()I" } : Jvm.MethodName)) ∈ lw_all := lw_g (lw_at lw_m5 238 rfl) rfl
theorem q1252 : (Jvm.Cond.classLink "HyperVaneModel" (38 : Nat) "HyperVaneModel$Guest") ∈ lw_all := lw_g (lw_at lw_m5 239 rfl) rfl
theorem q1254 : (Jvm.Cond.methodLinkNest "HyperVaneModel" (40 : Nat) ({ cls := "HyperVaneModel$Guest", name := "<init>", desc := "()V" } : Jvm.MethodName) "HyperVaneModel") ∈ lw_tbl := lw_at lw_m6 1 rfl
theorem q1262 : (Jvm.Cond.fieldLinkNest "HyperVaneModel" (41 : Nat) "HyperVaneModel$Guest" "weight" "I" "HyperVaneModel") ∈ lw_tbl := lw_at lw_m6 9 rfl
theorem q1265 : (Jvm.Cond.fieldLinkNest "HyperVaneModel" (59 : Nat) "HyperVaneModel$Guest" "tape" "Ljava/util/ArrayList;" "HyperVaneModel") ∈ lw_tbl := lw_at lw_m6 12 rfl
theorem q1268 : (Jvm.Cond.fieldLinkNest "HyperVaneModel" (140 : Nat) "HyperVaneModel$Guest" "place" "I" "HyperVaneModel") ∈ lw_tbl := lw_at lw_m6 15 rfl
theorem q1271 : (Jvm.Cond.fieldLinkNest "HyperVaneModel" (146 : Nat) "HyperVaneModel$Guest" "mark" "I" "HyperVaneModel") ∈ lw_tbl := lw_at lw_m6 18 rfl
theorem q1274 : (Jvm.Cond.fieldLinkNest "HyperVaneModel" (171 : Nat) "HyperVaneModel$Guest" "time" "I" "HyperVaneModel") ∈ lw_tbl := lw_at lw_m6 21 rfl
theorem q1277 : (Jvm.Cond.fieldLinkNest "HyperVaneModel" (82 : Nat) "HyperVaneModel$Guest" "pending" "I" "HyperVaneModel") ∈ lw_tbl := lw_at lw_m6 24 rfl
theorem q1280 : (Jvm.Cond.fieldLinkNest "HyperVaneModel" (62 : Nat) "HyperVaneModel$Guest" "state" "I" "HyperVaneModel") ∈ lw_tbl := lw_at lw_m6 27 rfl
theorem q1282 : (Jvm.Cond.fieldLinkNest "HyperVaneModel" (65 : Nat) "HyperVaneModel$Guest" "ahead" "I" "HyperVaneModel") ∈ lw_tbl := lw_at lw_m6 29 rfl
theorem q1286 : (Jvm.Cond.fieldLinkNest "HyperVaneModel" (85 : Nat) "HyperVaneModel$Guest" "stuckTill" "I" "HyperVaneModel") ∈ lw_tbl := lw_at lw_m6 33 rfl
theorem q1289 : (Jvm.Cond.fieldLinkNest "HyperVaneModel" (174 : Nat) "HyperVaneModel$Guest" "credits" "I" "HyperVaneModel") ∈ lw_tbl := lw_at lw_m6 36 rfl
theorem q1292 : (Jvm.Cond.fieldLinkNest "HyperVaneModel" (177 : Nat) "HyperVaneModel$Guest" "done" "I" "HyperVaneModel") ∈ lw_tbl := lw_at lw_m6 39 rfl
theorem q1295 : (Jvm.Cond.fieldLinkNest "HyperVaneModel" (179 : Nat) "HyperVaneModel$Guest" "stolen" "I" "HyperVaneModel") ∈ lw_tbl := lw_at lw_m6 42 rfl
theorem q1298 : (Jvm.Cond.fieldLinkNest "HyperVaneModel" (182 : Nat) "HyperVaneModel$Guest" "queue" "I" "HyperVaneModel") ∈ lw_tbl := lw_at lw_m6 45 rfl
theorem q1301 : (Jvm.Cond.fieldLinkNest "HyperVaneModel" (113 : Nat) "HyperVaneModel$Guest" "values" "[I" "HyperVaneModel") ∈ lw_tbl := lw_at lw_m6 48 rfl
theorem q1304 : (Jvm.Cond.fieldLinkNest "HyperVaneModel" (106 : Nat) "HyperVaneModel$Guest" "where" "[I" "HyperVaneModel") ∈ lw_tbl := lw_at lw_m6 51 rfl
theorem q1307 : (Jvm.Cond.fieldLinkNest "HyperVaneModel" (199 : Nat) "HyperVaneModel$Guest" "frames" "[I" "HyperVaneModel") ∈ lw_tbl := lw_at lw_m6 54 rfl
theorem q1310 : (Jvm.Cond.fieldLinkNest "HyperVaneModel" (110 : Nat) "HyperVaneModel$Guest" "used" "[I" "HyperVaneModel") ∈ lw_tbl := lw_at lw_m6 57 rfl
theorem q1313 : (Jvm.Cond.fieldLinkNest "HyperVaneModel" (196 : Nat) "HyperVaneModel$Guest" "exits" "[I" "HyperVaneModel") ∈ lw_tbl := lw_at lw_m6 60 rfl
theorem q1316 : (Jvm.Cond.fieldLinkNest "HyperVaneModel" (125 : Nat) "HyperVaneModel$Guest" "isMoved" "Z" "HyperVaneModel") ∈ lw_tbl := lw_at lw_m6 63 rfl
theorem q1320 : (Jvm.Cond.fieldLinkNest "HyperVaneModel" (72 : Nat) "HyperVaneModel$Guest" "isHeld" "Z" "HyperVaneModel") ∈ lw_tbl := lw_at lw_m6 67 rfl
theorem q1326 : (Jvm.Cond.fieldLinkNest "HyperVaneModel" (116 : Nat) "HyperVaneModel$Guest" "left" "I" "HyperVaneModel") ∈ lw_tbl := lw_at lw_m6 73 rfl
theorem q1331 : (Jvm.Cond.fieldLinkNest "HyperVaneModel" (190 : Nat) "HyperVaneModel$Guest" "down" "I" "HyperVaneModel") ∈ lw_tbl := lw_at lw_m6 78 rfl
theorem q1333 : (Jvm.Cond.fieldLinkNest "HyperVaneModel" (68 : Nat) "HyperVaneModel$Guest" "isSnapped" "Z" "HyperVaneModel") ∈ lw_tbl := lw_at lw_m6 80 rfl
theorem q1335 : (Jvm.Cond.fieldLinkNest "HyperVaneModel" (143 : Nat) "HyperVaneModel$Guest" "snapPlace" "I" "HyperVaneModel") ∈ lw_tbl := lw_at lw_m6 82 rfl
theorem q1337 : (Jvm.Cond.fieldLinkNest "HyperVaneModel" (149 : Nat) "HyperVaneModel$Guest" "snapMark" "I" "HyperVaneModel") ∈ lw_tbl := lw_at lw_m6 84 rfl
theorem q1339 : (Jvm.Cond.fieldLinkNest "HyperVaneModel" (152 : Nat) "HyperVaneModel$Guest" "snapValues" "[I" "HyperVaneModel") ∈ lw_tbl := lw_at lw_m6 86 rfl
theorem q1341 : (Jvm.Cond.fieldLinkNest "HyperVaneModel" (119 : Nat) "HyperVaneModel$Guest" "since" "I" "HyperVaneModel") ∈ lw_tbl := lw_at lw_m6 88 rfl
theorem q1343 : (Jvm.Cond.fieldLinkNest "HyperVaneModel" (137 : Nat) "HyperVaneModel$Guest" "log" "Ljava/util/ArrayList;" "HyperVaneModel") ∈ lw_tbl := lw_at lw_m6 90 rfl
theorem q1345 : (Jvm.Cond.fieldLinkNest "HyperVaneModel" (122 : Nat) "HyperVaneModel$Guest" "given" "Ljava/util/ArrayList;" "HyperVaneModel") ∈ lw_tbl := lw_at lw_m6 92 rfl
theorem q1411 : (Jvm.Cond.methodLink "HyperVaneModel" (44 : Nat) ({ cls := "java/util/ArrayList", name := "add", desc := "(Ljava/lang/Object;)Z" } : Jvm.MethodName)) ∈ lw_all := lw_g (lw_at lw_m6 158 rfl) rfl
theorem q1413 : (Jvm.Cond.instanceMethod ({ cls := "HyperVaneModel", name := "op", desc := "(III)I" } : Jvm.MethodName)) ∈ lw_all := lw_g (lw_at lw_m6 160 rfl) rfl
theorem q1414 : (Jvm.Cond.selects "HyperVaneModel" ({ cls := "HyperVaneModel", name := "op", desc := "(III)I" } : Jvm.MethodName) ({ cls := "HyperVaneModel", name := "op", desc := "(III)I" } : Jvm.MethodName)) ∈ lw_all := lw_g (lw_at lw_m6 161 rfl) rfl
theorem q1415 : (Jvm.Cond.code ({ cls := "HyperVaneModel", name := "op", desc := "(III)I" } : Jvm.MethodName) prog_9_method_9_code (6 : Nat) (Option.some Jvm.ClassFile.FieldType.int)) ∈ lw_all := lw_g (lw_at lw_m6 162 rfl) rfl
theorem q1416 : (Jvm.Cond.methodLink "HyperVaneModel" (48 : Nat) ({ cls := "HyperVaneModel", name := "isGuest", desc := "(I)Z" } : Jvm.MethodName)) ∈ lw_all := lw_g (lw_at lw_m6 163 rfl) rfl
theorem q1417 : (Jvm.Cond.privateMethod ({ cls := "HyperVaneModel", name := "isGuest", desc := "(I)Z" } : Jvm.MethodName)) ∈ lw_tbl := lw_at lw_m6 164 rfl
theorem q1418 : (Jvm.Cond.instanceMethod ({ cls := "HyperVaneModel", name := "isGuest", desc := "(I)Z" } : Jvm.MethodName)) ∈ lw_all := lw_g (lw_at lw_m6 165 rfl) rfl
theorem q1419 : (Jvm.Cond.code ({ cls := "HyperVaneModel", name := "isGuest", desc := "(I)Z" } : Jvm.MethodName) prog_9_method_6_code (2 : Nat) (Option.some Jvm.ClassFile.FieldType.boolean)) ∈ lw_all := lw_g (lw_at lw_m6 166 rfl) rfl
theorem q1420 : (Jvm.Cond.methodLink "HyperVaneModel" (52 : Nat) ({ cls := "HyperVaneModel", name := "isPage", desc := "(I)Z" } : Jvm.MethodName)) ∈ lw_all := lw_g (lw_at lw_m6 167 rfl) rfl
theorem q1421 : (Jvm.Cond.static ({ cls := "HyperVaneModel", name := "isPage", desc := "(I)Z" } : Jvm.MethodName)) ∈ lw_all := lw_g (lw_at lw_m6 168 rfl) rfl
theorem q1422 : (Jvm.Cond.code ({ cls := "HyperVaneModel", name := "isPage", desc := "(I)Z" } : Jvm.MethodName) prog_9_method_7_code (1 : Nat) (Option.some Jvm.ClassFile.FieldType.boolean)) ∈ lw_all := lw_g (lw_at lw_m6 169 rfl) rfl
theorem q1423 : (Jvm.Cond.methodLink "HyperVaneModel" (55 : Nat) ({ cls := "java/util/ArrayList", name := "get", desc := "(I)Ljava/lang/Object;" } : Jvm.MethodName)) ∈ lw_all := lw_g (lw_at lw_m6 170 rfl) rfl
theorem q1425 : (Jvm.Cond.instanceMethod ({ cls := "HyperVaneModel", name := "weight", desc := "(II)I" } : Jvm.MethodName)) ∈ lw_all := lw_g (lw_at lw_m6 172 rfl) rfl
theorem q1426 : (Jvm.Cond.selects "HyperVaneModel" ({ cls := "HyperVaneModel", name := "weight", desc := "(II)I" } : Jvm.MethodName) ({ cls := "HyperVaneModel", name := "weight", desc := "(II)I" } : Jvm.MethodName)) ∈ lw_all := lw_g (lw_at lw_m6 173 rfl) rfl
theorem q1427 : (Jvm.Cond.code ({ cls := "HyperVaneModel", name := "weight", desc := "(II)I" } : Jvm.MethodName) prog_9_method_10_code (4 : Nat) (Option.some Jvm.ClassFile.FieldType.int)) ∈ lw_all := lw_g (lw_at lw_m6 174 rfl) rfl
theorem q1429 : (Jvm.Cond.instanceMethod ({ cls := "HyperVaneModel", name := "pause", desc := "(IZ)Z" } : Jvm.MethodName)) ∈ lw_all := lw_g (lw_at lw_m6 176 rfl) rfl
theorem q1430 : (Jvm.Cond.selects "HyperVaneModel" ({ cls := "HyperVaneModel", name := "pause", desc := "(IZ)Z" } : Jvm.MethodName) ({ cls := "HyperVaneModel", name := "pause", desc := "(IZ)Z" } : Jvm.MethodName)) ∈ lw_all := lw_g (lw_at lw_m6 177 rfl) rfl
theorem q1431 : (Jvm.Cond.code ({ cls := "HyperVaneModel", name := "pause", desc := "(IZ)Z" } : Jvm.MethodName) prog_9_method_11_code (5 : Nat) (Option.some Jvm.ClassFile.FieldType.boolean)) ∈ lw_all := lw_g (lw_at lw_m6 178 rfl) rfl
theorem q1432 : (Jvm.Cond.methodLink "HyperVaneModel" (75 : Nat) ({ cls := "HyperVaneModel$World", name := "pause", desc := "(LHyperVaneModel$Guest;)V" } : Jvm.MethodName)) ∈ lw_all := lw_g (lw_at lw_m6 179 rfl) rfl
theorem q1436 : (Jvm.Cond.methodLink "HyperVaneModel" (79 : Nat) ({ cls := "HyperVaneModel", name := "goOn", desc := "(LHyperVaneModel$Guest;)V" } : Jvm.MethodName)) ∈ lw_all := lw_g (lw_at lw_m6 183 rfl) rfl
theorem q1437 : (Jvm.Cond.privateMethod ({ cls := "HyperVaneModel", name := "goOn", desc := "(LHyperVaneModel$Guest;)V" } : Jvm.MethodName)) ∈ lw_tbl := lw_at lw_m6 184 rfl
theorem q1438 : (Jvm.Cond.instanceMethod ({ cls := "HyperVaneModel", name := "goOn", desc := "(LHyperVaneModel$Guest;)V" } : Jvm.MethodName)) ∈ lw_all := lw_g (lw_at lw_m6 185 rfl) rfl
theorem q1439 : (Jvm.Cond.code ({ cls := "HyperVaneModel", name := "goOn", desc := "(LHyperVaneModel$Guest;)V" } : Jvm.MethodName) prog_9_method_12_code (3 : Nat) (Option.none : Option Jvm.ClassFile.FieldType)) ∈ lw_all := lw_g (lw_at lw_m6 186 rfl) rfl
theorem q1441 : (Jvm.Cond.instanceMethod ({ cls := "HyperVaneModel", name := "frames", desc := "(I)I" } : Jvm.MethodName)) ∈ lw_all := lw_g (lw_at lw_m6 188 rfl) rfl
theorem q1442 : (Jvm.Cond.selects "HyperVaneModel" ({ cls := "HyperVaneModel", name := "frames", desc := "(I)I" } : Jvm.MethodName) ({ cls := "HyperVaneModel", name := "frames", desc := "(I)I" } : Jvm.MethodName)) ∈ lw_all := lw_g (lw_at lw_m6 189 rfl) rfl
theorem q1443 : (Jvm.Cond.code ({ cls := "HyperVaneModel", name := "frames", desc := "(I)I" } : Jvm.MethodName) prog_9_method_13_code (4 : Nat) (Option.some Jvm.ClassFile.FieldType.int)) ∈ lw_all := lw_g (lw_at lw_m6 190 rfl) rfl
theorem q1444 : (Jvm.Cond.methodLink "HyperVaneModel" (94 : Nat) ({ cls := "HyperVaneModel$World", name := "out", desc := "(I)Z" } : Jvm.MethodName)) ∈ lw_all := lw_g (lw_at lw_m6 191 rfl) rfl
theorem q1456 : (Jvm.Cond.instanceMethod ({ cls := "HyperVaneModel", name := "giveUp", desc := "(II)I" } : Jvm.MethodName)) ∈ lw_all := lw_g (lw_at lw_m6 203 rfl) rfl
theorem q1457 : (Jvm.Cond.selects "HyperVaneModel" ({ cls := "HyperVaneModel", name := "giveUp", desc := "(II)I" } : Jvm.MethodName) ({ cls := "HyperVaneModel", name := "giveUp", desc := "(II)I" } : Jvm.MethodName)) ∈ lw_all := lw_g (lw_at lw_m6 204 rfl) rfl
theorem q1458 : (Jvm.Cond.code ({ cls := "HyperVaneModel", name := "giveUp", desc := "(II)I" } : Jvm.MethodName) prog_9_method_14_code (8 : Nat) (Option.some Jvm.ClassFile.FieldType.int)) ∈ lw_all := lw_g (lw_at lw_m6 205 rfl) rfl
theorem q1459 : (Jvm.Cond.methodLink "HyperVaneModel" (97 : Nat) ({ cls := "HyperVaneModel$Guest", name := "many", desc := "(I)I" } : Jvm.MethodName)) ∈ lw_all := lw_g (lw_at lw_m6 206 rfl) rfl
theorem q1463 : (Jvm.Cond.methodLink "HyperVaneModel" (100 : Nat) ({ cls := "java/lang/Math", name := "min", desc := "(II)I" } : Jvm.MethodName)) ∈ lw_all := lw_g (lw_at lw_m6 210 rfl) rfl
theorem q1465 : (Jvm.Cond.instanceMethod ({ cls := "HyperVaneModel", name := "move", desc := "(II)I" } : Jvm.MethodName)) ∈ lw_all := lw_g (lw_at lw_m6 212 rfl) rfl
theorem q1466 : (Jvm.Cond.selects "HyperVaneModel" ({ cls := "HyperVaneModel", name := "move", desc := "(II)I" } : Jvm.MethodName) ({ cls := "HyperVaneModel", name := "move", desc := "(II)I" } : Jvm.MethodName)) ∈ lw_all := lw_g (lw_at lw_m6 213 rfl) rfl
theorem q1467 : (Jvm.Cond.code ({ cls := "HyperVaneModel", name := "move", desc := "(II)I" } : Jvm.MethodName) prog_9_method_17_code (3 : Nat) (Option.some Jvm.ClassFile.FieldType.int)) ∈ lw_all := lw_g (lw_at lw_m6 214 rfl) rfl
theorem q1468 : (Jvm.Cond.methodLink "HyperVaneModel" (128 : Nat) ({ cls := "HyperVaneModel", name := "isSpeed", desc := "(I)Z" } : Jvm.MethodName)) ∈ lw_all := lw_g (lw_at lw_m6 215 rfl) rfl
theorem q1469 : (Jvm.Cond.static ({ cls := "HyperVaneModel", name := "isSpeed", desc := "(I)Z" } : Jvm.MethodName)) ∈ lw_all := lw_g (lw_at lw_m6 216 rfl) rfl
theorem q1470 : (Jvm.Cond.code ({ cls := "HyperVaneModel", name := "isSpeed", desc := "(I)Z" } : Jvm.MethodName) prog_9_method_15_code (1 : Nat) (Option.some Jvm.ClassFile.FieldType.boolean)) ∈ lw_all := lw_g (lw_at lw_m6 217 rfl) rfl
theorem q1471 : (Jvm.Cond.methodLink "HyperVaneModel" (131 : Nat) ({ cls := "HyperVaneModel", name := "canBeMoved", desc := "(I)Z" } : Jvm.MethodName)) ∈ lw_all := lw_g (lw_at lw_m6 218 rfl) rfl
theorem q1472 : (Jvm.Cond.privateMethod ({ cls := "HyperVaneModel", name := "canBeMoved", desc := "(I)Z" } : Jvm.MethodName)) ∈ lw_tbl := lw_at lw_m6 219 rfl
theorem q1473 : (Jvm.Cond.instanceMethod ({ cls := "HyperVaneModel", name := "canBeMoved", desc := "(I)Z" } : Jvm.MethodName)) ∈ lw_all := lw_g (lw_at lw_m6 220 rfl) rfl
theorem q1474 : (Jvm.Cond.code ({ cls := "HyperVaneModel", name := "canBeMoved", desc := "(I)Z" } : Jvm.MethodName) prog_9_method_16_code (2 : Nat) (Option.some Jvm.ClassFile.FieldType.boolean)) ∈ lw_all := lw_g (lw_at lw_m6 221 rfl) rfl
theorem q1475 : (Jvm.Cond.methodLink "HyperVaneModel" (134 : Nat) ({ cls := "HyperVaneModel$World", name := "begin", desc := "(II)I" } : Jvm.MethodName)) ∈ lw_all := lw_g (lw_at lw_m6 222 rfl) rfl
theorem q1486 : (Jvm.Cond.instanceMethod ({ cls := "HyperVaneModel", name := "snap", desc := "(I)I" } : Jvm.MethodName)) ∈ lw_all := lw_g (lw_at lw_m6 233 rfl) rfl
theorem q1487 : (Jvm.Cond.selects "HyperVaneModel" ({ cls := "HyperVaneModel", name := "snap", desc := "(I)I" } : Jvm.MethodName) ({ cls := "HyperVaneModel", name := "snap", desc := "(I)I" } : Jvm.MethodName)) ∈ lw_all := lw_g (lw_at lw_m6 234 rfl) rfl
theorem q1488 : (Jvm.Cond.code ({ cls := "HyperVaneModel", name := "snap", desc := "(I)I" } : Jvm.MethodName) prog_9_method_18_code (4 : Nat) (Option.some Jvm.ClassFile.FieldType.int)) ∈ lw_all := lw_g (lw_at lw_m6 235 rfl) rfl
theorem q1489 : (Jvm.Cond.methodLink "HyperVaneModel" (155 : Nat) ({ cls := "java/lang/System", name := "arraycopy", desc := "(Ljava/lang/Object;ILjava/lang/Object;II)V" } : Jvm.MethodName)) ∈ lw_all := lw_g (lw_at lw_m6 236 rfl) rfl
theorem q1490 : (Jvm.Cond.classLink "HyperVaneModel" (25 : Nat) "java/util/ArrayList") ∈ lw_all := lw_g (lw_at lw_m6 237 rfl) rfl
theorem q1491 : (Jvm.Cond.methodLink "HyperVaneModel" (161 : Nat) ({ cls := "java/util/ArrayList", name := "<init>", desc := "()V" } : Jvm.MethodName)) ∈ lw_all := lw_g (lw_at lw_m6 238 rfl) rfl
theorem q1493 : (Jvm.Cond.instanceMethod ({ cls := "HyperVaneModel", name := "run", desc := "(I)I" } : Jvm.MethodName)) ∈ lw_all := lw_g (lw_at lw_m7 0 rfl) rfl
theorem q1494 : (Jvm.Cond.selects "HyperVaneModel" ({ cls := "HyperVaneModel", name := "run", desc := "(I)I" } : Jvm.MethodName) ({ cls := "HyperVaneModel", name := "run", desc := "(I)I" } : Jvm.MethodName)) ∈ lw_all := lw_g (lw_at lw_m7 1 rfl) rfl
theorem q1495 : (Jvm.Cond.code ({ cls := "HyperVaneModel", name := "run", desc := "(I)I" } : Jvm.MethodName) prog_9_method_20_code (4 : Nat) (Option.some Jvm.ClassFile.FieldType.int)) ∈ lw_all := lw_g (lw_at lw_m7 2 rfl) rfl
theorem q1496 : (Jvm.Cond.methodLink "HyperVaneModel" (162 : Nat) ({ cls := "HyperVaneModel", name := "areTicks", desc := "(I)Z" } : Jvm.MethodName)) ∈ lw_all := lw_g (lw_at lw_m7 3 rfl) rfl
theorem q1497 : (Jvm.Cond.static ({ cls := "HyperVaneModel", name := "areTicks", desc := "(I)Z" } : Jvm.MethodName)) ∈ lw_all := lw_g (lw_at lw_m7 4 rfl) rfl
theorem q1498 : (Jvm.Cond.code ({ cls := "HyperVaneModel", name := "areTicks", desc := "(I)Z" } : Jvm.MethodName) prog_9_method_19_code (1 : Nat) (Option.some Jvm.ClassFile.FieldType.boolean)) ∈ lw_all := lw_g (lw_at lw_m7 5 rfl) rfl
theorem q1499 : (Jvm.Cond.methodLink "HyperVaneModel" (165 : Nat) ({ cls := "HyperVaneModel$World", name := "done", desc := "()I" } : Jvm.MethodName)) ∈ lw_all := lw_g (lw_at lw_m7 6 rfl) rfl
theorem q1508 : (Jvm.Cond.methodLink "HyperVaneModel" (168 : Nat) ({ cls := "HyperVaneModel$World", name := "tick", desc := "()V" } : Jvm.MethodName)) ∈ lw_all := lw_g (lw_at lw_m7 15 rfl) rfl
theorem q1561 : (Jvm.Cond.instanceMethod ({ cls := "HyperVaneModel", name := "ofGuest", desc := "(II)I" } : Jvm.MethodName)) ∈ lw_all := lw_g (lw_at lw_m7 68 rfl) rfl
theorem q1562 : (Jvm.Cond.selects "HyperVaneModel" ({ cls := "HyperVaneModel", name := "ofGuest", desc := "(II)I" } : Jvm.MethodName) ({ cls := "HyperVaneModel", name := "ofGuest", desc := "(II)I" } : Jvm.MethodName)) ∈ lw_all := lw_g (lw_at lw_m7 69 rfl) rfl
theorem q1563 : (Jvm.Cond.code ({ cls := "HyperVaneModel", name := "ofGuest", desc := "(II)I" } : Jvm.MethodName) prog_9_method_22_code (3 : Nat) (Option.some Jvm.ClassFile.FieldType.int)) ∈ lw_all := lw_g (lw_at lw_m7 70 rfl) rfl
theorem q1564 : (Jvm.Cond.methodLink "HyperVaneModel" (193 : Nat) ({ cls := "HyperVaneModel", name := "ofGuestNow", desc := "(II)I" } : Jvm.MethodName)) ∈ lw_all := lw_g (lw_at lw_m7 71 rfl) rfl
theorem q1565 : (Jvm.Cond.privateMethod ({ cls := "HyperVaneModel", name := "ofGuestNow", desc := "(II)I" } : Jvm.MethodName)) ∈ lw_tbl := lw_at lw_m7 72 rfl
theorem q1566 : (Jvm.Cond.instanceMethod ({ cls := "HyperVaneModel", name := "ofGuestNow", desc := "(II)I" } : Jvm.MethodName)) ∈ lw_all := lw_g (lw_at lw_m7 73 rfl) rfl
theorem q1567 : (Jvm.Cond.code ({ cls := "HyperVaneModel", name := "ofGuestNow", desc := "(II)I" } : Jvm.MethodName) prog_9_method_21_code (5 : Nat) (Option.some Jvm.ClassFile.FieldType.int)) ∈ lw_all := lw_g (lw_at lw_m7 74 rfl) rfl
theorem q1568 : (Jvm.Cond.methodLink "HyperVaneModel" (185 : Nat) ({ cls := "java/lang/Integer", name := "bitCount", desc := "(I)I" } : Jvm.MethodName)) ∈ lw_all := lw_g (lw_at lw_m7 75 rfl) rfl
theorem q1570 : (Jvm.Cond.instanceMethod ({ cls := "HyperVaneModel", name := "exits", desc := "(II)I" } : Jvm.MethodName)) ∈ lw_all := lw_g (lw_at lw_m7 77 rfl) rfl
theorem q1571 : (Jvm.Cond.selects "HyperVaneModel" ({ cls := "HyperVaneModel", name := "exits", desc := "(II)I" } : Jvm.MethodName) ({ cls := "HyperVaneModel", name := "exits", desc := "(II)I" } : Jvm.MethodName)) ∈ lw_all := lw_g (lw_at lw_m7 78 rfl) rfl
theorem q1572 : (Jvm.Cond.code ({ cls := "HyperVaneModel", name := "exits", desc := "(II)I" } : Jvm.MethodName) prog_9_method_23_code (3 : Nat) (Option.some Jvm.ClassFile.FieldType.int)) ∈ lw_all := lw_g (lw_at lw_m7 79 rfl) rfl
theorem q1574 : (Jvm.Cond.instanceMethod ({ cls := "HyperVaneModel", name := "ofPage", desc := "(III)I" } : Jvm.MethodName)) ∈ lw_all := lw_g (lw_at lw_m7 81 rfl) rfl
theorem q1575 : (Jvm.Cond.selects "HyperVaneModel" ({ cls := "HyperVaneModel", name := "ofPage", desc := "(III)I" } : Jvm.MethodName) ({ cls := "HyperVaneModel", name := "ofPage", desc := "(III)I" } : Jvm.MethodName)) ∈ lw_all := lw_g (lw_at lw_m7 82 rfl) rfl
theorem q1576 : (Jvm.Cond.code ({ cls := "HyperVaneModel", name := "ofPage", desc := "(III)I" } : Jvm.MethodName) prog_9_method_25_code (4 : Nat) (Option.some Jvm.ClassFile.FieldType.int)) ∈ lw_all := lw_g (lw_at lw_m7 83 rfl) rfl
theorem q1577 : (Jvm.Cond.methodLink "HyperVaneModel" (205 : Nat) ({ cls := "HyperVaneModel", name := "ofPageNow", desc := "(III)I" } : Jvm.MethodName)) ∈ lw_all := lw_g (lw_at lw_m7 84 rfl) rfl
theorem q1578 : (Jvm.Cond.privateMethod ({ cls := "HyperVaneModel", name := "ofPageNow", desc := "(III)I" } : Jvm.MethodName)) ∈ lw_tbl := lw_at lw_m7 85 rfl
theorem q1579 : (Jvm.Cond.instanceMethod ({ cls := "HyperVaneModel", name := "ofPageNow", desc := "(III)I" } : Jvm.MethodName)) ∈ lw_all := lw_g (lw_at lw_m7 86 rfl) rfl
theorem q1580 : (Jvm.Cond.code ({ cls := "HyperVaneModel", name := "ofPageNow", desc := "(III)I" } : Jvm.MethodName) prog_9_method_24_code (7 : Nat) (Option.some Jvm.ClassFile.FieldType.int)) ∈ lw_all := lw_g (lw_at lw_m7 87 rfl) rfl
theorem q1581 : (Jvm.Cond.methodLink "HyperVaneModel" (201 : Nat) ({ cls := "HyperVaneModel", name := "has", desc := "(II)Z" } : Jvm.MethodName)) ∈ lw_all := lw_g (lw_at lw_m7 88 rfl) rfl
theorem q1582 : (Jvm.Cond.static ({ cls := "HyperVaneModel", name := "has", desc := "(II)Z" } : Jvm.MethodName)) ∈ lw_all := lw_g (lw_at lw_m7 89 rfl) rfl
theorem q1583 : (Jvm.Cond.code ({ cls := "HyperVaneModel", name := "has", desc := "(II)Z" } : Jvm.MethodName) prog_9_method_5_code (2 : Nat) (Option.some Jvm.ClassFile.FieldType.boolean)) ∈ lw_all := lw_g (lw_at lw_m7 90 rfl) rfl
theorem q1585 : (Jvm.Cond.instanceMethod ({ cls := "HyperVaneModel", name := "ofFrame", desc := "(II)I" } : Jvm.MethodName)) ∈ lw_all := lw_g (lw_at lw_m7 92 rfl) rfl
theorem q1586 : (Jvm.Cond.selects "HyperVaneModel" ({ cls := "HyperVaneModel", name := "ofFrame", desc := "(II)I" } : Jvm.MethodName) ({ cls := "HyperVaneModel", name := "ofFrame", desc := "(II)I" } : Jvm.MethodName)) ∈ lw_all := lw_g (lw_at lw_m7 93 rfl) rfl
theorem q1587 : (Jvm.Cond.code ({ cls := "HyperVaneModel", name := "ofFrame", desc := "(II)I" } : Jvm.MethodName) prog_9_method_27_code (3 : Nat) (Option.some Jvm.ClassFile.FieldType.int)) ∈ lw_all := lw_g (lw_at lw_m7 94 rfl) rfl
theorem q1588 : (Jvm.Cond.methodLink "HyperVaneModel" (212 : Nat) ({ cls := "HyperVaneModel", name := "ofFrameNow", desc := "(II)I" } : Jvm.MethodName)) ∈ lw_all := lw_g (lw_at lw_m7 95 rfl) rfl
theorem q1589 : (Jvm.Cond.privateMethod ({ cls := "HyperVaneModel", name := "ofFrameNow", desc := "(II)I" } : Jvm.MethodName)) ∈ lw_tbl := lw_at lw_m7 96 rfl
theorem q1590 : (Jvm.Cond.instanceMethod ({ cls := "HyperVaneModel", name := "ofFrameNow", desc := "(II)I" } : Jvm.MethodName)) ∈ lw_all := lw_g (lw_at lw_m7 97 rfl) rfl
theorem q1591 : (Jvm.Cond.code ({ cls := "HyperVaneModel", name := "ofFrameNow", desc := "(II)I" } : Jvm.MethodName) prog_9_method_26_code (4 : Nat) (Option.some Jvm.ClassFile.FieldType.int)) ∈ lw_all := lw_g (lw_at lw_m7 98 rfl) rfl
theorem q1592 : (Jvm.Cond.methodLink "HyperVaneModel" (209 : Nat) ({ cls := "HyperVaneModel$World", name := "in", desc := "(I)I" } : Jvm.MethodName)) ∈ lw_all := lw_g (lw_at lw_m7 99 rfl) rfl
theorem q1594 : (Jvm.Cond.instanceMethod ({ cls := "HyperVaneModel", name := "logged", desc := "(II)I" } : Jvm.MethodName)) ∈ lw_all := lw_g (lw_at lw_m7 101 rfl) rfl
theorem q1595 : (Jvm.Cond.selects "HyperVaneModel" ({ cls := "HyperVaneModel", name := "logged", desc := "(II)I" } : Jvm.MethodName) ({ cls := "HyperVaneModel", name := "logged", desc := "(II)I" } : Jvm.MethodName)) ∈ lw_all := lw_g (lw_at lw_m7 102 rfl) rfl
theorem q1596 : (Jvm.Cond.code ({ cls := "HyperVaneModel", name := "logged", desc := "(II)I" } : Jvm.MethodName) prog_9_method_29_code (3 : Nat) (Option.some Jvm.ClassFile.FieldType.int)) ∈ lw_all := lw_g (lw_at lw_m7 103 rfl) rfl
theorem q1597 : (Jvm.Cond.methodLink "HyperVaneModel" (218 : Nat) ({ cls := "HyperVaneModel", name := "loggedNow", desc := "(II)I" } : Jvm.MethodName)) ∈ lw_all := lw_g (lw_at lw_m7 104 rfl) rfl
theorem q1598 : (Jvm.Cond.privateMethod ({ cls := "HyperVaneModel", name := "loggedNow", desc := "(II)I" } : Jvm.MethodName)) ∈ lw_tbl := lw_at lw_m7 105 rfl
theorem q1599 : (Jvm.Cond.instanceMethod ({ cls := "HyperVaneModel", name := "loggedNow", desc := "(II)I" } : Jvm.MethodName)) ∈ lw_all := lw_g (lw_at lw_m7 106 rfl) rfl
theorem q1600 : (Jvm.Cond.code ({ cls := "HyperVaneModel", name := "loggedNow", desc := "(II)I" } : Jvm.MethodName) prog_9_method_28_code (4 : Nat) (Option.some Jvm.ClassFile.FieldType.int)) ∈ lw_all := lw_g (lw_at lw_m7 107 rfl) rfl
theorem q1601 : (Jvm.Cond.classLink "HyperVaneModel" (186 : Nat) "java/lang/Integer") ∈ lw_all := lw_g (lw_at lw_m7 108 rfl) rfl
theorem q1602 : (Jvm.Cond.methodLink "HyperVaneModel" (215 : Nat) ({ cls := "java/lang/Integer", name := "intValue", desc := "()I" } : Jvm.MethodName)) ∈ lw_all := lw_g (lw_at lw_m7 109 rfl) rfl
theorem q1604 : (Jvm.Cond.instanceMethod ({ cls := "HyperVaneModel", name := "many", desc := "(I)I" } : Jvm.MethodName)) ∈ lw_all := lw_g (lw_at lw_m7 111 rfl) rfl
theorem q1605 : (Jvm.Cond.selects "HyperVaneModel" ({ cls := "HyperVaneModel", name := "many", desc := "(I)I" } : Jvm.MethodName) ({ cls := "HyperVaneModel", name := "many", desc := "(I)I" } : Jvm.MethodName)) ∈ lw_all := lw_g (lw_at lw_m7 112 rfl) rfl
theorem q1606 : (Jvm.Cond.code ({ cls := "HyperVaneModel", name := "many", desc := "(I)I" } : Jvm.MethodName) prog_9_method_31_code (2 : Nat) (Option.some Jvm.ClassFile.FieldType.int)) ∈ lw_all := lw_g (lw_at lw_m7 113 rfl) rfl
theorem q1607 : (Jvm.Cond.methodLink "HyperVaneModel" (253 : Nat) ({ cls := "HyperVaneModel", name := "manyNow", desc := "(I)I" } : Jvm.MethodName)) ∈ lw_all := lw_g (lw_at lw_m7 114 rfl) rfl
theorem q1608 : (Jvm.Cond.privateMethod ({ cls := "HyperVaneModel", name := "manyNow", desc := "(I)I" } : Jvm.MethodName)) ∈ lw_tbl := lw_at lw_m7 115 rfl
theorem q1609 : (Jvm.Cond.instanceMethod ({ cls := "HyperVaneModel", name := "manyNow", desc := "(I)I" } : Jvm.MethodName)) ∈ lw_all := lw_g (lw_at lw_m7 116 rfl) rfl
theorem q1610 : (Jvm.Cond.code ({ cls := "HyperVaneModel", name := "manyNow", desc := "(I)I" } : Jvm.MethodName) prog_9_method_30_code (10 : Nat) (Option.some Jvm.ClassFile.FieldType.int)) ∈ lw_all := lw_g (lw_at lw_m7 117 rfl) rfl
theorem q1611 : (Jvm.Cond.methodLink "HyperVaneModel" (221 : Nat) ({ cls := "java/util/ArrayList", name := "iterator", desc := "()Ljava/util/Iterator;" } : Jvm.MethodName)) ∈ lw_all := lw_g (lw_at lw_m7 118 rfl) rfl
theorem q1612 : (Jvm.Cond.interfaceEntry "HyperVaneModel" (225 : Nat)) ∈ lw_tbl := lw_at lw_m7 119 rfl
theorem q1613 : (Jvm.Cond.methodLink "HyperVaneModel" (225 : Nat) ({ cls := "java/util/Iterator", name := "hasNext", desc := "()Z" } : Jvm.MethodName)) ∈ lw_all := lw_g (lw_at lw_m7 120 rfl) rfl
theorem q1614 : (Jvm.Cond.interfaceEntry "HyperVaneModel" (231 : Nat)) ∈ lw_tbl := lw_at lw_m7 121 rfl
theorem q1615 : (Jvm.Cond.methodLink "HyperVaneModel" (231 : Nat) ({ cls := "java/util/Iterator", name := "next", desc := "()Ljava/lang/Object;" } : Jvm.MethodName)) ∈ lw_all := lw_g (lw_at lw_m7 122 rfl) rfl
theorem q1617 : (Jvm.Cond.instanceMethod ({ cls := "HyperVaneModel", name := "meanDone", desc := "(I)D" } : Jvm.MethodName)) ∈ lw_all := lw_g (lw_at lw_m7 124 rfl) rfl
theorem q1618 : (Jvm.Cond.selects "HyperVaneModel" ({ cls := "HyperVaneModel", name := "meanDone", desc := "(I)D" } : Jvm.MethodName) ({ cls := "HyperVaneModel", name := "meanDone", desc := "(I)D" } : Jvm.MethodName)) ∈ lw_all := lw_g (lw_at lw_m7 125 rfl) rfl
theorem q1619 : (Jvm.Cond.code ({ cls := "HyperVaneModel", name := "meanDone", desc := "(I)D" } : Jvm.MethodName) prog_9_method_32_code (3 : Nat) (Option.some Jvm.ClassFile.FieldType.double)) ∈ lw_all := lw_g (lw_at lw_m7 126 rfl) rfl
theorem q1621 : (Jvm.Cond.instanceMethod ({ cls := "HyperVaneModel", name := "replayed", desc := "(III)I" } : Jvm.MethodName)) ∈ lw_all := lw_g (lw_at lw_m7 128 rfl) rfl
theorem q1622 : (Jvm.Cond.selects "HyperVaneModel" ({ cls := "HyperVaneModel", name := "replayed", desc := "(III)I" } : Jvm.MethodName) ({ cls := "HyperVaneModel", name := "replayed", desc := "(III)I" } : Jvm.MethodName)) ∈ lw_all := lw_g (lw_at lw_m7 129 rfl) rfl
theorem q1623 : (Jvm.Cond.code ({ cls := "HyperVaneModel", name := "replayed", desc := "(III)I" } : Jvm.MethodName) prog_9_method_33_code (4 : Nat) (Option.some Jvm.ClassFile.FieldType.int)) ∈ lw_all := lw_g (lw_at lw_m7 130 rfl) rfl
theorem q1624 : (Jvm.Cond.methodLink "HyperVaneModel" (256 : Nat) ({ cls := "HyperVaneModel$Guest", name := "replay", desc := "(II)I" } : Jvm.MethodName)) ∈ lw_all := lw_g (lw_at lw_m7 131 rfl) rfl
theorem q1637 : (Jvm.Cond.instanceMethod ({ cls := "HyperVaneModel", name := "doneIn", desc := "(II)I" } : Jvm.MethodName)) ∈ lw_all := lw_g (lw_at lw_m7 144 rfl) rfl
theorem q1638 : (Jvm.Cond.selects "HyperVaneModel" ({ cls := "HyperVaneModel", name := "doneIn", desc := "(II)I" } : Jvm.MethodName) ({ cls := "HyperVaneModel", name := "doneIn", desc := "(II)I" } : Jvm.MethodName)) ∈ lw_all := lw_g (lw_at lw_m7 145 rfl) rfl
theorem q1639 : (Jvm.Cond.code ({ cls := "HyperVaneModel", name := "doneIn", desc := "(II)I" } : Jvm.MethodName) prog_9_method_35_code (3 : Nat) (Option.some Jvm.ClassFile.FieldType.int)) ∈ lw_all := lw_g (lw_at lw_m7 146 rfl) rfl
theorem q1640 : (Jvm.Cond.methodLink "HyperVaneModel" (263 : Nat) ({ cls := "HyperVaneModel", name := "doneNow", desc := "(II)I" } : Jvm.MethodName)) ∈ lw_all := lw_g (lw_at lw_m7 147 rfl) rfl
theorem q1641 : (Jvm.Cond.privateMethod ({ cls := "HyperVaneModel", name := "doneNow", desc := "(II)I" } : Jvm.MethodName)) ∈ lw_tbl := lw_at lw_m7 148 rfl
theorem q1642 : (Jvm.Cond.instanceMethod ({ cls := "HyperVaneModel", name := "doneNow", desc := "(II)I" } : Jvm.MethodName)) ∈ lw_all := lw_g (lw_at lw_m7 149 rfl) rfl
theorem q1643 : (Jvm.Cond.code ({ cls := "HyperVaneModel", name := "doneNow", desc := "(II)I" } : Jvm.MethodName) prog_9_method_34_code (5 : Nat) (Option.some Jvm.ClassFile.FieldType.int)) ∈ lw_all := lw_g (lw_at lw_m7 150 rfl) rfl
theorem q1644 : (Jvm.Cond.methodLink "HyperVaneModel" (259 : Nat) ({ cls := "HyperVaneModel$World", name := "copy", desc := "()LHyperVaneModel$World;" } : Jvm.MethodName)) ∈ lw_all := lw_g (lw_at lw_m7 151 rfl) rfl
theorem q1674 : (Jvm.Cond.instanceMethod ({ cls := "HyperVaneModel", name := "awayIn", desc := "(II)I" } : Jvm.MethodName)) ∈ lw_all := lw_g (lw_at lw_m7 181 rfl) rfl
theorem q1675 : (Jvm.Cond.selects "HyperVaneModel" ({ cls := "HyperVaneModel", name := "awayIn", desc := "(II)I" } : Jvm.MethodName) ({ cls := "HyperVaneModel", name := "awayIn", desc := "(II)I" } : Jvm.MethodName)) ∈ lw_all := lw_g (lw_at lw_m7 182 rfl) rfl
theorem q1676 : (Jvm.Cond.code ({ cls := "HyperVaneModel", name := "awayIn", desc := "(II)I" } : Jvm.MethodName) prog_9_method_37_code (3 : Nat) (Option.some Jvm.ClassFile.FieldType.int)) ∈ lw_all := lw_g (lw_at lw_m7 183 rfl) rfl
theorem q1677 : (Jvm.Cond.methodLink "HyperVaneModel" (266 : Nat) ({ cls := "HyperVaneModel", name := "awayNow", desc := "(II)I" } : Jvm.MethodName)) ∈ lw_all := lw_g (lw_at lw_m7 184 rfl) rfl
theorem q1678 : (Jvm.Cond.privateMethod ({ cls := "HyperVaneModel", name := "awayNow", desc := "(II)I" } : Jvm.MethodName)) ∈ lw_tbl := lw_at lw_m7 185 rfl
theorem q1679 : (Jvm.Cond.instanceMethod ({ cls := "HyperVaneModel", name := "awayNow", desc := "(II)I" } : Jvm.MethodName)) ∈ lw_all := lw_g (lw_at lw_m7 186 rfl) rfl
theorem q1680 : (Jvm.Cond.code ({ cls := "HyperVaneModel", name := "awayNow", desc := "(II)I" } : Jvm.MethodName) prog_9_method_36_code (5 : Nat) (Option.some Jvm.ClassFile.FieldType.int)) ∈ lw_all := lw_g (lw_at lw_m7 187 rfl) rfl
theorem q1682 : (Jvm.Cond.instanceMethod ({ cls := "HyperVaneModel", name := "digest", desc := "()J" } : Jvm.MethodName)) ∈ lw_all := lw_g (lw_at lw_m7 189 rfl) rfl
theorem q1683 : (Jvm.Cond.selects "HyperVaneModel" ({ cls := "HyperVaneModel", name := "digest", desc := "()J" } : Jvm.MethodName) ({ cls := "HyperVaneModel", name := "digest", desc := "()J" } : Jvm.MethodName)) ∈ lw_all := lw_g (lw_at lw_m7 190 rfl) rfl
theorem q1684 : (Jvm.Cond.code ({ cls := "HyperVaneModel", name := "digest", desc := "()J" } : Jvm.MethodName) prog_9_method_40_code (3 : Nat) (Option.some Jvm.ClassFile.FieldType.long)) ∈ lw_all := lw_g (lw_at lw_m7 191 rfl) rfl
theorem q1685 : (Jvm.Cond.constantLong "HyperVaneModel" (278 : Nat) (9609 : Int64)) ∈ lw_all := lw_g (lw_at lw_m7 192 rfl) rfl
theorem q1686 : (Jvm.Cond.methodLink "HyperVaneModel" (275 : Nat) ({ cls := "HyperVaneModel", name := "add", desc := "(I)V" } : Jvm.MethodName)) ∈ lw_all := lw_g (lw_at lw_m7 193 rfl) rfl
theorem q1687 : (Jvm.Cond.privateMethod ({ cls := "HyperVaneModel", name := "add", desc := "(I)V" } : Jvm.MethodName)) ∈ lw_tbl := lw_at lw_m7 194 rfl
theorem q1688 : (Jvm.Cond.instanceMethod ({ cls := "HyperVaneModel", name := "add", desc := "(I)V" } : Jvm.MethodName)) ∈ lw_all := lw_g (lw_at lw_m7 195 rfl) rfl
theorem q1689 : (Jvm.Cond.code ({ cls := "HyperVaneModel", name := "add", desc := "(I)V" } : Jvm.MethodName) prog_9_method_38_code (2 : Nat) (Option.none : Option Jvm.ClassFile.FieldType)) ∈ lw_all := lw_g (lw_at lw_m7 196 rfl) rfl
theorem q1690 : (Jvm.Cond.constantLong "HyperVaneModel" (273 : Nat) (31 : Int64)) ∈ lw_all := lw_g (lw_at lw_m7 197 rfl) rfl
theorem q1691 : (Jvm.Cond.methodLink "HyperVaneModel" (280 : Nat) ({ cls := "HyperVaneModel", name := "addGuest", desc := "(I)V" } : Jvm.MethodName)) ∈ lw_all := lw_g (lw_at lw_m7 198 rfl) rfl
theorem q1692 : (Jvm.Cond.privateMethod ({ cls := "HyperVaneModel", name := "addGuest", desc := "(I)V" } : Jvm.MethodName)) ∈ lw_tbl := lw_at lw_m7 199 rfl
theorem q1693 : (Jvm.Cond.instanceMethod ({ cls := "HyperVaneModel", name := "addGuest", desc := "(I)V" } : Jvm.MethodName)) ∈ lw_all := lw_g (lw_at lw_m7 200 rfl) rfl
theorem q1694 : (Jvm.Cond.code ({ cls := "HyperVaneModel", name := "addGuest", desc := "(I)V" } : Jvm.MethodName) prog_9_method_39_code (8 : Nat) (Option.none : Option Jvm.ClassFile.FieldType)) ∈ lw_all := lw_g (lw_at lw_m7 201 rfl) rfl
theorem q1704 : (Jvm.Cond.castable "HyperVaneModel" "java/lang/Object") ∈ lw_tbl := lw_at lw_m7 211 rfl
theorem in_X4 : ∀ w ∈ wsX40, w ∈ lw_all := lw_in wsX40 [1229, 1231, 1233] (by decide +kernel) (by decide +kernel)

