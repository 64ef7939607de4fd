/-! HyperVaneLaw -/
set_option maxRecDepth 100000
def RX0 : String := "HyperVaneLaw"
abbrev cX0_guest : ByteArray := method_3_code
def yX0_guest : MethodName := ⟨RX0, "guest", "(LHyperVane;I[J)I"⟩
def dkwX0_guest_0 : List UInt8 := [44, 3, 42, 27, 182, 0, 7, 133, 80, 167, 0, 9, 78, 4, 172, 78, 5, 172, 3, 172]
abbrev dktX0_guest_0 : List UInt8 := dkwX0_guest_0 ++ []
theorem dksX0_guest_0 : cX0_guest.data.toList.drop 0 = dktX0_guest_0 := by decide +kernel
theorem dX0_guest_0 : decode cX0_guest 0 = .ok (.aload_n 2, 1) := dk_44 (dk_at dksX0_guest_0 0 rfl rfl)
theorem dX0_guest_1 : decode cX0_guest 1 = .ok (.iconst 0, 1) := dk_3 (dk_at dksX0_guest_0 1 rfl rfl)
theorem dX0_guest_2 : decode cX0_guest 2 = .ok (.aload_n 0, 1) := dk_42 (dk_at dksX0_guest_0 2 rfl rfl)
theorem dX0_guest_3 : decode cX0_guest 3 = .ok (.iload_n 1, 1) := dk_27 (dk_at dksX0_guest_0 3 rfl rfl)
theorem dX0_guest_4 : decode cX0_guest 4 = .ok (.invokevirtual 7, 3) := dk_182 0 7 (dk_at dksX0_guest_0 4 rfl rfl)
theorem dX0_guest_7 : decode cX0_guest 7 = .ok (.i2l, 1) := dk_133 (dk_at dksX0_guest_0 7 rfl rfl)
theorem dX0_guest_8 : decode cX0_guest 8 = .ok (.lastore, 1) := dk_80 (dk_at dksX0_guest_0 8 rfl rfl)
theorem dX0_guest_9 : decode cX0_guest 9 = .ok (.goto 9, 3) := dk_167 0 9 (dk_at dksX0_guest_0 9 rfl rfl)
theorem dX0_guest_12 : decode cX0_guest 12 = .ok (.astore_n 3, 1) := dk_78 (dk_at dksX0_guest_0 12 rfl rfl)
theorem dX0_guest_13 : decode cX0_guest 13 = .ok (.iconst 1, 1) := dk_4 (dk_at dksX0_guest_0 13 rfl rfl)
theorem dX0_guest_14 : decode cX0_guest 14 = .ok (.ireturn, 1) := dk_172 (dk_at dksX0_guest_0 14 rfl rfl)
theorem dX0_guest_15 : decode cX0_guest 15 = .ok (.astore_n 3, 1) := dk_78 (dk_at dksX0_guest_0 15 rfl rfl)
theorem dX0_guest_16 : decode cX0_guest 16 = .ok (.iconst 2, 1) := dk_5 (dk_at dksX0_guest_0 16 rfl rfl)
theorem dX0_guest_17 : decode cX0_guest 17 = .ok (.ireturn, 1) := dk_172 (dk_at dksX0_guest_0 17 rfl rfl)
theorem dX0_guest_18 : decode cX0_guest 18 = .ok (.iconst 0, 1) := dk_3 (dk_at dksX0_guest_0 18 rfl rfl)
theorem dX0_guest_19 : decode cX0_guest 19 = .ok (.ireturn, 1) := dk_172 (dk_at dksX0_guest_0 19 rfl rfl)
abbrev cX0_op : ByteArray := method_4_code
def yX0_op : MethodName := ⟨RX0, "op", "(LHyperVane;III[J)I"⟩
def dkwX0_op_1 : List UInt8 := [58, 5, 6, 172, 3, 172]
abbrev dktX0_op_1 : List UInt8 := dkwX0_op_1 ++ []
def dkwX0_op_0 : List UInt8 := [25, 4, 3, 42, 27, 28, 29, 182, 0, 17, 133, 80, 167, 0, 15, 58, 5, 4, 172, 58, 5, 5, 172]
abbrev dktX0_op_0 : List UInt8 := dkwX0_op_0 ++ dktX0_op_1
theorem dksX0_op_0 : cX0_op.data.toList.drop 0 = dktX0_op_0 := by decide +kernel
theorem dksX0_op_1 : cX0_op.data.toList.drop 23 = dktX0_op_1 := dk_seg dksX0_op_0 23 rfl rfl
theorem dX0_op_0 : decode cX0_op 0 = .ok (.aload 4, 2) := dk_25 4 (dk_at dksX0_op_0 0 rfl rfl)
theorem dX0_op_2 : decode cX0_op 2 = .ok (.iconst 0, 1) := dk_3 (dk_at dksX0_op_0 2 rfl rfl)
theorem dX0_op_3 : decode cX0_op 3 = .ok (.aload_n 0, 1) := dk_42 (dk_at dksX0_op_0 3 rfl rfl)
theorem dX0_op_4 : decode cX0_op 4 = .ok (.iload_n 1, 1) := dk_27 (dk_at dksX0_op_0 4 rfl rfl)
theorem dX0_op_5 : decode cX0_op 5 = .ok (.iload_n 2, 1) := dk_28 (dk_at dksX0_op_0 5 rfl rfl)
theorem dX0_op_6 : decode cX0_op 6 = .ok (.iload_n 3, 1) := dk_29 (dk_at dksX0_op_0 6 rfl rfl)
theorem dX0_op_7 : decode cX0_op 7 = .ok (.invokevirtual 17, 3) := dk_182 0 17 (dk_at dksX0_op_0 7 rfl rfl)
theorem dX0_op_10 : decode cX0_op 10 = .ok (.i2l, 1) := dk_133 (dk_at dksX0_op_0 10 rfl rfl)
theorem dX0_op_11 : decode cX0_op 11 = .ok (.lastore, 1) := dk_80 (dk_at dksX0_op_0 11 rfl rfl)
theorem dX0_op_12 : decode cX0_op 12 = .ok (.goto 15, 3) := dk_167 0 15 (dk_at dksX0_op_0 12 rfl rfl)
theorem dX0_op_15 : decode cX0_op 15 = .ok (.astore 5, 2) := dk_58 5 (dk_at dksX0_op_0 15 rfl rfl)
theorem dX0_op_17 : decode cX0_op 17 = .ok (.iconst 1, 1) := dk_4 (dk_at dksX0_op_0 17 rfl rfl)
theorem dX0_op_18 : decode cX0_op 18 = .ok (.ireturn, 1) := dk_172 (dk_at dksX0_op_0 18 rfl rfl)
theorem dX0_op_19 : decode cX0_op 19 = .ok (.astore 5, 2) := dk_58 5 (dk_at dksX0_op_0 19 rfl rfl)
theorem dX0_op_21 : decode cX0_op 21 = .ok (.iconst 2, 1) := dk_5 (dk_at dksX0_op_0 21 rfl rfl)
theorem dX0_op_22 : decode cX0_op 22 = .ok (.ireturn, 1) := dk_172 (dk_at dksX0_op_0 22 rfl rfl)
theorem dX0_op_23 : decode cX0_op 23 = .ok (.astore 5, 2) := dk_58 5 (dk_at dksX0_op_1 0 rfl rfl)
theorem dX0_op_25 : decode cX0_op 25 = .ok (.iconst 3, 1) := dk_6 (dk_at dksX0_op_1 2 rfl rfl)
theorem dX0_op_26 : decode cX0_op 26 = .ok (.ireturn, 1) := dk_172 (dk_at dksX0_op_1 3 rfl rfl)
theorem dX0_op_27 : decode cX0_op 27 = .ok (.iconst 0, 1) := dk_3 (dk_at dksX0_op_1 4 rfl rfl)
theorem dX0_op_28 : decode cX0_op 28 = .ok (.ireturn, 1) := dk_172 (dk_at dksX0_op_1 5 rfl rfl)
abbrev cX0_weight : ByteArray := method_5_code
def yX0_weight : MethodName := ⟨RX0, "weight", "(LHyperVane;II[J)I"⟩
def dkwX0_weight_0 : List UInt8 := [45, 3, 42, 27, 28, 182, 0, 23, 133, 80, 167, 0, 11, 58, 4, 4, 172, 58, 4, 5, 172, 3, 172]
abbrev dktX0_weight_0 : List UInt8 := dkwX0_weight_0 ++ []
theorem dksX0_weight_0 : cX0_weight.data.toList.drop 0 = dktX0_weight_0 := by decide +kernel
theorem dX0_weight_0 : decode cX0_weight 0 = .ok (.aload_n 3, 1) := dk_45 (dk_at dksX0_weight_0 0 rfl rfl)
theorem dX0_weight_1 : decode cX0_weight 1 = .ok (.iconst 0, 1) := dk_3 (dk_at dksX0_weight_0 1 rfl rfl)
theorem dX0_weight_2 : decode cX0_weight 2 = .ok (.aload_n 0, 1) := dk_42 (dk_at dksX0_weight_0 2 rfl rfl)
theorem dX0_weight_3 : decode cX0_weight 3 = .ok (.iload_n 1, 1) := dk_27 (dk_at dksX0_weight_0 3 rfl rfl)
theorem dX0_weight_4 : decode cX0_weight 4 = .ok (.iload_n 2, 1) := dk_28 (dk_at dksX0_weight_0 4 rfl rfl)
theorem dX0_weight_5 : decode cX0_weight 5 = .ok (.invokevirtual 23, 3) := dk_182 0 23 (dk_at dksX0_weight_0 5 rfl rfl)
theorem dX0_weight_8 : decode cX0_weight 8 = .ok (.i2l, 1) := dk_133 (dk_at dksX0_weight_0 8 rfl rfl)
theorem dX0_weight_9 : decode cX0_weight 9 = .ok (.lastore, 1) := dk_80 (dk_at dksX0_weight_0 9 rfl rfl)
theorem dX0_weight_10 : decode cX0_weight 10 = .ok (.goto 11, 3) := dk_167 0 11 (dk_at dksX0_weight_0 10 rfl rfl)
theorem dX0_weight_13 : decode cX0_weight 13 = .ok (.astore 4, 2) := dk_58 4 (dk_at dksX0_weight_0 13 rfl rfl)
theorem dX0_weight_15 : decode cX0_weight 15 = .ok (.iconst 1, 1) := dk_4 (dk_at dksX0_weight_0 15 rfl rfl)
theorem dX0_weight_16 : decode cX0_weight 16 = .ok (.ireturn, 1) := dk_172 (dk_at dksX0_weight_0 16 rfl rfl)
theorem dX0_weight_17 : decode cX0_weight 17 = .ok (.astore 4, 2) := dk_58 4 (dk_at dksX0_weight_0 17 rfl rfl)
theorem dX0_weight_19 : decode cX0_weight 19 = .ok (.iconst 2, 1) := dk_5 (dk_at dksX0_weight_0 19 rfl rfl)
theorem dX0_weight_20 : decode cX0_weight 20 = .ok (.ireturn, 1) := dk_172 (dk_at dksX0_weight_0 20 rfl rfl)
theorem dX0_weight_21 : decode cX0_weight 21 = .ok (.iconst 0, 1) := dk_3 (dk_at dksX0_weight_0 21 rfl rfl)
theorem dX0_weight_22 : decode cX0_weight 22 = .ok (.ireturn, 1) := dk_172 (dk_at dksX0_weight_0 22 rfl rfl)
abbrev cX0_pause : ByteArray := method_6_code
def yX0_pause : MethodName := ⟨RX0, "pause", "(LHyperVane;IZ[J)I"⟩
def dkwX0_pause_1 : List UInt8 := [58, 4, 5, 172, 3, 172]
abbrev dktX0_pause_1 : List UInt8 := dkwX0_pause_1 ++ []
def dkwX0_pause_0 : List UInt8 := [45, 3, 42, 27, 28, 182, 0, 27, 153, 0, 7, 10, 167, 0, 4, 9, 80, 167, 0, 11, 58, 4, 4, 172]
abbrev dktX0_pause_0 : List UInt8 := dkwX0_pause_0 ++ dktX0_pause_1
theorem dksX0_pause_0 : cX0_pause.data.toList.drop 0 = dktX0_pause_0 := by decide +kernel
theorem dksX0_pause_1 : cX0_pause.data.toList.drop 24 = dktX0_pause_1 := dk_seg dksX0_pause_0 24 rfl rfl
theorem dX0_pause_0 : decode cX0_pause 0 = .ok (.aload_n 3, 1) := dk_45 (dk_at dksX0_pause_0 0 rfl rfl)
theorem dX0_pause_1 : decode cX0_pause 1 = .ok (.iconst 0, 1) := dk_3 (dk_at dksX0_pause_0 1 rfl rfl)
theorem dX0_pause_2 : decode cX0_pause 2 = .ok (.aload_n 0, 1) := dk_42 (dk_at dksX0_pause_0 2 rfl rfl)
theorem dX0_pause_3 : decode cX0_pause 3 = .ok (.iload_n 1, 1) := dk_27 (dk_at dksX0_pause_0 3 rfl rfl)
theorem dX0_pause_4 : decode cX0_pause 4 = .ok (.iload_n 2, 1) := dk_28 (dk_at dksX0_pause_0 4 rfl rfl)
theorem dX0_pause_5 : decode cX0_pause 5 = .ok (.invokevirtual 27, 3) := dk_182 0 27 (dk_at dksX0_pause_0 5 rfl rfl)
theorem dX0_pause_8 : decode cX0_pause 8 = .ok (.ifCond .eq 7, 3) := dk_153 0 7 (dk_at dksX0_pause_0 8 rfl rfl)
theorem dX0_pause_11 : decode cX0_pause 11 = .ok (.lconst 1, 1) := dk_10 (dk_at dksX0_pause_0 11 rfl rfl)
theorem dX0_pause_12 : decode cX0_pause 12 = .ok (.goto 4, 3) := dk_167 0 4 (dk_at dksX0_pause_0 12 rfl rfl)
theorem dX0_pause_15 : decode cX0_pause 15 = .ok (.lconst 0, 1) := dk_9 (dk_at dksX0_pause_0 15 rfl rfl)
theorem dX0_pause_16 : decode cX0_pause 16 = .ok (.lastore, 1) := dk_80 (dk_at dksX0_pause_0 16 rfl rfl)
theorem dX0_pause_17 : decode cX0_pause 17 = .ok (.goto 11, 3) := dk_167 0 11 (dk_at dksX0_pause_0 17 rfl rfl)
theorem dX0_pause_20 : decode cX0_pause 20 = .ok (.astore 4, 2) := dk_58 4 (dk_at dksX0_pause_0 20 rfl rfl)
theorem dX0_pause_22 : decode cX0_pause 22 = .ok (.iconst 1, 1) := dk_4 (dk_at dksX0_pause_0 22 rfl rfl)
theorem dX0_pause_23 : decode cX0_pause 23 = .ok (.ireturn, 1) := dk_172 (dk_at dksX0_pause_0 23 rfl rfl)
theorem dX0_pause_24 : decode cX0_pause 24 = .ok (.astore 4, 2) := dk_58 4 (dk_at dksX0_pause_1 0 rfl rfl)
theorem dX0_pause_26 : decode cX0_pause 26 = .ok (.iconst 2, 1) := dk_5 (dk_at dksX0_pause_1 2 rfl rfl)
theorem dX0_pause_27 : decode cX0_pause 27 = .ok (.ireturn, 1) := dk_172 (dk_at dksX0_pause_1 3 rfl rfl)
theorem dX0_pause_28 : decode cX0_pause 28 = .ok (.iconst 0, 1) := dk_3 (dk_at dksX0_pause_1 4 rfl rfl)
theorem dX0_pause_29 : decode cX0_pause 29 = .ok (.ireturn, 1) := dk_172 (dk_at dksX0_pause_1 5 rfl rfl)
abbrev cX0_frames : ByteArray := method_7_code
def yX0_frames : MethodName := ⟨RX0, "frames", "(LHyperVane;I[J)I"⟩
def dkwX0_frames_0 : List UInt8 := [44, 3, 42, 27, 182, 0, 31, 133, 80, 167, 0, 6, 78, 4, 172, 3, 172]
abbrev dktX0_frames_0 : List UInt8 := dkwX0_frames_0 ++ []
theorem dksX0_frames_0 : cX0_frames.data.toList.drop 0 = dktX0_frames_0 := by decide +kernel
theorem dX0_frames_0 : decode cX0_frames 0 = .ok (.aload_n 2, 1) := dk_44 (dk_at dksX0_frames_0 0 rfl rfl)
theorem dX0_frames_1 : decode cX0_frames 1 = .ok (.iconst 0, 1) := dk_3 (dk_at dksX0_frames_0 1 rfl rfl)
theorem dX0_frames_2 : decode cX0_frames 2 = .ok (.aload_n 0, 1) := dk_42 (dk_at dksX0_frames_0 2 rfl rfl)
theorem dX0_frames_3 : decode cX0_frames 3 = .ok (.iload_n 1, 1) := dk_27 (dk_at dksX0_frames_0 3 rfl rfl)
theorem dX0_frames_4 : decode cX0_frames 4 = .ok (.invokevirtual 31, 3) := dk_182 0 31 (dk_at dksX0_frames_0 4 rfl rfl)
theorem dX0_frames_7 : decode cX0_frames 7 = .ok (.i2l, 1) := dk_133 (dk_at dksX0_frames_0 7 rfl rfl)
theorem dX0_frames_8 : decode cX0_frames 8 = .ok (.lastore, 1) := dk_80 (dk_at dksX0_frames_0 8 rfl rfl)
theorem dX0_frames_9 : decode cX0_frames 9 = .ok (.goto 6, 3) := dk_167 0 6 (dk_at dksX0_frames_0 9 rfl rfl)
theorem dX0_frames_12 : decode cX0_frames 12 = .ok (.astore_n 3, 1) := dk_78 (dk_at dksX0_frames_0 12 rfl rfl)
theorem dX0_frames_13 : decode cX0_frames 13 = .ok (.iconst 1, 1) := dk_4 (dk_at dksX0_frames_0 13 rfl rfl)
theorem dX0_frames_14 : decode cX0_frames 14 = .ok (.ireturn, 1) := dk_172 (dk_at dksX0_frames_0 14 rfl rfl)
theorem dX0_frames_15 : decode cX0_frames 15 = .ok (.iconst 0, 1) := dk_3 (dk_at dksX0_frames_0 15 rfl rfl)
theorem dX0_frames_16 : decode cX0_frames 16 = .ok (.ireturn, 1) := dk_172 (dk_at dksX0_frames_0 16 rfl rfl)
abbrev cX0_giveUp : ByteArray := method_8_code
def yX0_giveUp : MethodName := ⟨RX0, "giveUp", "(LHyperVane;II[J)I"⟩
def dkwX0_giveUp_1 : List UInt8 := [172, 3, 172]
abbrev dktX0_giveUp_1 : List UInt8 := dkwX0_giveUp_1 ++ []
def dkwX0_giveUp_0 : List UInt8 := [45, 3, 42, 27, 28, 182, 0, 34, 133, 80, 167, 0, 15, 58, 4, 4, 172, 58, 4, 5, 172, 58, 4, 6]
abbrev dktX0_giveUp_0 : List UInt8 := dkwX0_giveUp_0 ++ dktX0_giveUp_1
theorem dksX0_giveUp_0 : cX0_giveUp.data.toList.drop 0 = dktX0_giveUp_0 := by decide +kernel
theorem dksX0_giveUp_1 : cX0_giveUp.data.toList.drop 24 = dktX0_giveUp_1 := dk_seg dksX0_giveUp_0 24 rfl rfl
theorem dX0_giveUp_0 : decode cX0_giveUp 0 = .ok (.aload_n 3, 1) := dk_45 (dk_at dksX0_giveUp_0 0 rfl rfl)
theorem dX0_giveUp_1 : decode cX0_giveUp 1 = .ok (.iconst 0, 1) := dk_3 (dk_at dksX0_giveUp_0 1 rfl rfl)
theorem dX0_giveUp_2 : decode cX0_giveUp 2 = .ok (.aload_n 0, 1) := dk_42 (dk_at dksX0_giveUp_0 2 rfl rfl)
theorem dX0_giveUp_3 : decode cX0_giveUp 3 = .ok (.iload_n 1, 1) := dk_27 (dk_at dksX0_giveUp_0 3 rfl rfl)
theorem dX0_giveUp_4 : decode cX0_giveUp 4 = .ok (.iload_n 2, 1) := dk_28 (dk_at dksX0_giveUp_0 4 rfl rfl)
theorem dX0_giveUp_5 : decode cX0_giveUp 5 = .ok (.invokevirtual 34, 3) := dk_182 0 34 (dk_at dksX0_giveUp_0 5 rfl rfl)
theorem dX0_giveUp_8 : decode cX0_giveUp 8 = .ok (.i2l, 1) := dk_133 (dk_at dksX0_giveUp_0 8 rfl rfl)
theorem dX0_giveUp_9 : decode cX0_giveUp 9 = .ok (.lastore, 1) := dk_80 (dk_at dksX0_giveUp_0 9 rfl rfl)
theorem dX0_giveUp_10 : decode cX0_giveUp 10 = .ok (.goto 15, 3) := dk_167 0 15 (dk_at dksX0_giveUp_0 10 rfl rfl)
theorem dX0_giveUp_13 : decode cX0_giveUp 13 = .ok (.astore 4, 2) := dk_58 4 (dk_at dksX0_giveUp_0 13 rfl rfl)
theorem dX0_giveUp_15 : decode cX0_giveUp 15 = .ok (.iconst 1, 1) := dk_4 (dk_at dksX0_giveUp_0 15 rfl rfl)
theorem dX0_giveUp_16 : decode cX0_giveUp 16 = .ok (.ireturn, 1) := dk_172 (dk_at dksX0_giveUp_0 16 rfl rfl)
theorem dX0_giveUp_17 : decode cX0_giveUp 17 = .ok (.astore 4, 2) := dk_58 4 (dk_at dksX0_giveUp_0 17 rfl rfl)
theorem dX0_giveUp_19 : decode cX0_giveUp 19 = .ok (.iconst 2, 1) := dk_5 (dk_at dksX0_giveUp_0 19 rfl rfl)
theorem dX0_giveUp_20 : decode cX0_giveUp 20 = .ok (.ireturn, 1) := dk_172 (dk_at dksX0_giveUp_0 20 rfl rfl)
theorem dX0_giveUp_21 : decode cX0_giveUp 21 = .ok (.astore 4, 2) := dk_58 4 (dk_at dksX0_giveUp_0 21 rfl rfl)
theorem dX0_giveUp_23 : decode cX0_giveUp 23 = .ok (.iconst 3, 1) := dk_6 (dk_at dksX0_giveUp_0 23 rfl rfl)
theorem dX0_giveUp_24 : decode cX0_giveUp 24 = .ok (.ireturn, 1) := dk_172 (dk_at dksX0_giveUp_1 0 rfl rfl)
theorem dX0_giveUp_25 : decode cX0_giveUp 25 = .ok (.iconst 0, 1) := dk_3 (dk_at dksX0_giveUp_1 1 rfl rfl)
theorem dX0_giveUp_26 : decode cX0_giveUp 26 = .ok (.ireturn, 1) := dk_172 (dk_at dksX0_giveUp_1 2 rfl rfl)
abbrev cX0_move : ByteArray := method_9_code
def yX0_move : MethodName := ⟨RX0, "move", "(LHyperVane;II[J)I"⟩
def dkwX0_move_1 : List UInt8 := [172, 3, 172]
abbrev dktX0_move_1 : List UInt8 := dkwX0_move_1 ++ []
def dkwX0_move_0 : List UInt8 := [45, 3, 42, 27, 28, 182, 0, 37, 133, 80, 167, 0, 15, 58, 4, 4, 172, 58, 4, 5, 172, 58, 4, 6]
abbrev dktX0_move_0 : List UInt8 := dkwX0_move_0 ++ dktX0_move_1
theorem dksX0_move_0 : cX0_move.data.toList.drop 0 = dktX0_move_0 := by decide +kernel
theorem dksX0_move_1 : cX0_move.data.toList.drop 24 = dktX0_move_1 := dk_seg dksX0_move_0 24 rfl rfl
theorem dX0_move_0 : decode cX0_move 0 = .ok (.aload_n 3, 1) := dk_45 (dk_at dksX0_move_0 0 rfl rfl)
theorem dX0_move_1 : decode cX0_move 1 = .ok (.iconst 0, 1) := dk_3 (dk_at dksX0_move_0 1 rfl rfl)
theorem dX0_move_2 : decode cX0_move 2 = .ok (.aload_n 0, 1) := dk_42 (dk_at dksX0_move_0 2 rfl rfl)
theorem dX0_move_3 : decode cX0_move 3 = .ok (.iload_n 1, 1) := dk_27 (dk_at dksX0_move_0 3 rfl rfl)
theorem dX0_move_4 : decode cX0_move 4 = .ok (.iload_n 2, 1) := dk_28 (dk_at dksX0_move_0 4 rfl rfl)
theorem dX0_move_5 : decode cX0_move 5 = .ok (.invokevirtual 37, 3) := dk_182 0 37 (dk_at dksX0_move_0 5 rfl rfl)
theorem dX0_move_8 : decode cX0_move 8 = .ok (.i2l, 1) := dk_133 (dk_at dksX0_move_0 8 rfl rfl)
theorem dX0_move_9 : decode cX0_move 9 = .ok (.lastore, 1) := dk_80 (dk_at dksX0_move_0 9 rfl rfl)
theorem dX0_move_10 : decode cX0_move 10 = .ok (.goto 15, 3) := dk_167 0 15 (dk_at dksX0_move_0 10 rfl rfl)
theorem dX0_move_13 : decode cX0_move 13 = .ok (.astore 4, 2) := dk_58 4 (dk_at dksX0_move_0 13 rfl rfl)
theorem dX0_move_15 : decode cX0_move 15 = .ok (.iconst 1, 1) := dk_4 (dk_at dksX0_move_0 15 rfl rfl)
theorem dX0_move_16 : decode cX0_move 16 = .ok (.ireturn, 1) := dk_172 (dk_at dksX0_move_0 16 rfl rfl)
theorem dX0_move_17 : decode cX0_move 17 = .ok (.astore 4, 2) := dk_58 4 (dk_at dksX0_move_0 17 rfl rfl)
theorem dX0_move_19 : decode cX0_move 19 = .ok (.iconst 2, 1) := dk_5 (dk_at dksX0_move_0 19 rfl rfl)
theorem dX0_move_20 : decode cX0_move 20 = .ok (.ireturn, 1) := dk_172 (dk_at dksX0_move_0 20 rfl rfl)
theorem dX0_move_21 : decode cX0_move 21 = .ok (.astore 4, 2) := dk_58 4 (dk_at dksX0_move_0 21 rfl rfl)
theorem dX0_move_23 : decode cX0_move 23 = .ok (.iconst 3, 1) := dk_6 (dk_at dksX0_move_0 23 rfl rfl)
theorem dX0_move_24 : decode cX0_move 24 = .ok (.ireturn, 1) := dk_172 (dk_at dksX0_move_1 0 rfl rfl)
theorem dX0_move_25 : decode cX0_move 25 = .ok (.iconst 0, 1) := dk_3 (dk_at dksX0_move_1 1 rfl rfl)
theorem dX0_move_26 : decode cX0_move 26 = .ok (.ireturn, 1) := dk_172 (dk_at dksX0_move_1 2 rfl rfl)
abbrev cX0_snap : ByteArray := method_10_code
def yX0_snap : MethodName := ⟨RX0, "snap", "(LHyperVane;I[J)I"⟩
def dkwX0_snap_0 : List UInt8 := [44, 3, 42, 27, 182, 0, 40, 133, 80, 167, 0, 9, 78, 4, 172, 78, 5, 172, 3, 172]
abbrev dktX0_snap_0 : List UInt8 := dkwX0_snap_0 ++ []
theorem dksX0_snap_0 : cX0_snap.data.toList.drop 0 = dktX0_snap_0 := by decide +kernel
theorem dX0_snap_0 : decode cX0_snap 0 = .ok (.aload_n 2, 1) := dk_44 (dk_at dksX0_snap_0 0 rfl rfl)
theorem dX0_snap_1 : decode cX0_snap 1 = .ok (.iconst 0, 1) := dk_3 (dk_at dksX0_snap_0 1 rfl rfl)
theorem dX0_snap_2 : decode cX0_snap 2 = .ok (.aload_n 0, 1) := dk_42 (dk_at dksX0_snap_0 2 rfl rfl)
theorem dX0_snap_3 : decode cX0_snap 3 = .ok (.iload_n 1, 1) := dk_27 (dk_at dksX0_snap_0 3 rfl rfl)
theorem dX0_snap_4 : decode cX0_snap 4 = .ok (.invokevirtual 40, 3) := dk_182 0 40 (dk_at dksX0_snap_0 4 rfl rfl)
theorem dX0_snap_7 : decode cX0_snap 7 = .ok (.i2l, 1) := dk_133 (dk_at dksX0_snap_0 7 rfl rfl)
theorem dX0_snap_8 : decode cX0_snap 8 = .ok (.lastore, 1) := dk_80 (dk_at dksX0_snap_0 8 rfl rfl)
theorem dX0_snap_9 : decode cX0_snap 9 = .ok (.goto 9, 3) := dk_167 0 9 (dk_at dksX0_snap_0 9 rfl rfl)
theorem dX0_snap_12 : decode cX0_snap 12 = .ok (.astore_n 3, 1) := dk_78 (dk_at dksX0_snap_0 12 rfl rfl)
theorem dX0_snap_13 : decode cX0_snap 13 = .ok (.iconst 1, 1) := dk_4 (dk_at dksX0_snap_0 13 rfl rfl)
theorem dX0_snap_14 : decode cX0_snap 14 = .ok (.ireturn, 1) := dk_172 (dk_at dksX0_snap_0 14 rfl rfl)
theorem dX0_snap_15 : decode cX0_snap 15 = .ok (.astore_n 3, 1) := dk_78 (dk_at dksX0_snap_0 15 rfl rfl)
theorem dX0_snap_16 : decode cX0_snap 16 = .ok (.iconst 2, 1) := dk_5 (dk_at dksX0_snap_0 16 rfl rfl)
theorem dX0_snap_17 : decode cX0_snap 17 = .ok (.ireturn, 1) := dk_172 (dk_at dksX0_snap_0 17 rfl rfl)
theorem dX0_snap_18 : decode cX0_snap 18 = .ok (.iconst 0, 1) := dk_3 (dk_at dksX0_snap_0 18 rfl rfl)
theorem dX0_snap_19 : decode cX0_snap 19 = .ok (.ireturn, 1) := dk_172 (dk_at dksX0_snap_0 19 rfl rfl)
abbrev cX0_run : ByteArray := method_11_code
def yX0_run : MethodName := ⟨RX0, "run", "(LHyperVane;I[J)I"⟩
def dkwX0_run_0 : List UInt8 := [44, 3, 42, 27, 182, 0, 43, 133, 80, 167, 0, 6, 78, 4, 172, 3, 172]
abbrev dktX0_run_0 : List UInt8 := dkwX0_run_0 ++ []
theorem dksX0_run_0 : cX0_run.data.toList.drop 0 = dktX0_run_0 := by decide +kernel
theorem dX0_run_0 : decode cX0_run 0 = .ok (.aload_n 2, 1) := dk_44 (dk_at dksX0_run_0 0 rfl rfl)
theorem dX0_run_1 : decode cX0_run 1 = .ok (.iconst 0, 1) := dk_3 (dk_at dksX0_run_0 1 rfl rfl)
theorem dX0_run_2 : decode cX0_run 2 = .ok (.aload_n 0, 1) := dk_42 (dk_at dksX0_run_0 2 rfl rfl)
theorem dX0_run_3 : decode cX0_run 3 = .ok (.iload_n 1, 1) := dk_27 (dk_at dksX0_run_0 3 rfl rfl)
theorem dX0_run_4 : decode cX0_run 4 = .ok (.invokevirtual 43, 3) := dk_182 0 43 (dk_at dksX0_run_0 4 rfl rfl)
theorem dX0_run_7 : decode cX0_run 7 = .ok (.i2l, 1) := dk_133 (dk_at dksX0_run_0 7 rfl rfl)
theorem dX0_run_8 : decode cX0_run 8 = .ok (.lastore, 1) := dk_80 (dk_at dksX0_run_0 8 rfl rfl)
theorem dX0_run_9 : decode cX0_run 9 = .ok (.goto 6, 3) := dk_167 0 6 (dk_at dksX0_run_0 9 rfl rfl)
theorem dX0_run_12 : decode cX0_run 12 = .ok (.astore_n 3, 1) := dk_78 (dk_at dksX0_run_0 12 rfl rfl)
theorem dX0_run_13 : decode cX0_run 13 = .ok (.iconst 1, 1) := dk_4 (dk_at dksX0_run_0 13 rfl rfl)
theorem dX0_run_14 : decode cX0_run 14 = .ok (.ireturn, 1) := dk_172 (dk_at dksX0_run_0 14 rfl rfl)
theorem dX0_run_15 : decode cX0_run 15 = .ok (.iconst 0, 1) := dk_3 (dk_at dksX0_run_0 15 rfl rfl)
theorem dX0_run_16 : decode cX0_run 16 = .ok (.ireturn, 1) := dk_172 (dk_at dksX0_run_0 16 rfl rfl)
abbrev cX0_ofGuest : ByteArray := method_12_code
def yX0_ofGuest : MethodName := ⟨RX0, "ofGuest", "(LHyperVane;II[J)I"⟩
def dkwX0_ofGuest_0 : List UInt8 := [45, 3, 42, 27, 28, 182, 0, 46, 133, 80, 167, 0, 11, 58, 4, 4, 172, 58, 4, 5, 172, 3, 172]
abbrev dktX0_ofGuest_0 : List UInt8 := dkwX0_ofGuest_0 ++ []
theorem dksX0_ofGuest_0 : cX0_ofGuest.data.toList.drop 0 = dktX0_ofGuest_0 := by decide +kernel
theorem dX0_ofGuest_0 : decode cX0_ofGuest 0 = .ok (.aload_n 3, 1) := dk_45 (dk_at dksX0_ofGuest_0 0 rfl rfl)
theorem dX0_ofGuest_1 : decode cX0_ofGuest 1 = .ok (.iconst 0, 1) := dk_3 (dk_at dksX0_ofGuest_0 1 rfl rfl)
theorem dX0_ofGuest_2 : decode cX0_ofGuest 2 = .ok (.aload_n 0, 1) := dk_42 (dk_at dksX0_ofGuest_0 2 rfl rfl)
theorem dX0_ofGuest_3 : decode cX0_ofGuest 3 = .ok (.iload_n 1, 1) := dk_27 (dk_at dksX0_ofGuest_0 3 rfl rfl)
theorem dX0_ofGuest_4 : decode cX0_ofGuest 4 = .ok (.iload_n 2, 1) := dk_28 (dk_at dksX0_ofGuest_0 4 rfl rfl)
theorem dX0_ofGuest_5 : decode cX0_ofGuest 5 = .ok (.invokevirtual 46, 3) := dk_182 0 46 (dk_at dksX0_ofGuest_0 5 rfl rfl)
theorem dX0_ofGuest_8 : decode cX0_ofGuest 8 = .ok (.i2l, 1) := dk_133 (dk_at dksX0_ofGuest_0 8 rfl rfl)
theorem dX0_ofGuest_9 : decode cX0_ofGuest 9 = .ok (.lastore, 1) := dk_80 (dk_at dksX0_ofGuest_0 9 rfl rfl)
theorem dX0_ofGuest_10 : decode cX0_ofGuest 10 = .ok (.goto 11, 3) := dk_167 0 11 (dk_at dksX0_ofGuest_0 10 rfl rfl)
theorem dX0_ofGuest_13 : decode cX0_ofGuest 13 = .ok (.astore 4, 2) := dk_58 4 (dk_at dksX0_ofGuest_0 13 rfl rfl)
theorem dX0_ofGuest_15 : decode cX0_ofGuest 15 = .ok (.iconst 1, 1) := dk_4 (dk_at dksX0_ofGuest_0 15 rfl rfl)
theorem dX0_ofGuest_16 : decode cX0_ofGuest 16 = .ok (.ireturn, 1) := dk_172 (dk_at dksX0_ofGuest_0 16 rfl rfl)
theorem dX0_ofGuest_17 : decode cX0_ofGuest 17 = .ok (.astore 4, 2) := dk_58 4 (dk_at dksX0_ofGuest_0 17 rfl rfl)
theorem dX0_ofGuest_19 : decode cX0_ofGuest 19 = .ok (.iconst 2, 1) := dk_5 (dk_at dksX0_ofGuest_0 19 rfl rfl)
theorem dX0_ofGuest_20 : decode cX0_ofGuest 20 = .ok (.ireturn, 1) := dk_172 (dk_at dksX0_ofGuest_0 20 rfl rfl)
theorem dX0_ofGuest_21 : decode cX0_ofGuest 21 = .ok (.iconst 0, 1) := dk_3 (dk_at dksX0_ofGuest_0 21 rfl rfl)
theorem dX0_ofGuest_22 : decode cX0_ofGuest 22 = .ok (.ireturn, 1) := dk_172 (dk_at dksX0_ofGuest_0 22 rfl rfl)
abbrev cX0_exits : ByteArray := method_13_code
def yX0_exits : MethodName := ⟨RX0, "exits", "(LHyperVane;II[J)I"⟩
def dkwX0_exits_0 : List UInt8 := [45, 3, 42, 27, 28, 182, 0, 49, 133, 80, 167, 0, 11, 58, 4, 4, 172, 58, 4, 5, 172, 3, 172]
abbrev dktX0_exits_0 : List UInt8 := dkwX0_exits_0 ++ []
theorem dksX0_exits_0 : cX0_exits.data.toList.drop 0 = dktX0_exits_0 := by decide +kernel
theorem dX0_exits_0 : decode cX0_exits 0 = .ok (.aload_n 3, 1) := dk_45 (dk_at dksX0_exits_0 0 rfl rfl)
theorem dX0_exits_1 : decode cX0_exits 1 = .ok (.iconst 0, 1) := dk_3 (dk_at dksX0_exits_0 1 rfl rfl)
theorem dX0_exits_2 : decode cX0_exits 2 = .ok (.aload_n 0, 1) := dk_42 (dk_at dksX0_exits_0 2 rfl rfl)
theorem dX0_exits_3 : decode cX0_exits 3 = .ok (.iload_n 1, 1) := dk_27 (dk_at dksX0_exits_0 3 rfl rfl)
theorem dX0_exits_4 : decode cX0_exits 4 = .ok (.iload_n 2, 1) := dk_28 (dk_at dksX0_exits_0 4 rfl rfl)
theorem dX0_exits_5 : decode cX0_exits 5 = .ok (.invokevirtual 49, 3) := dk_182 0 49 (dk_at dksX0_exits_0 5 rfl rfl)
theorem dX0_exits_8 : decode cX0_exits 8 = .ok (.i2l, 1) := dk_133 (dk_at dksX0_exits_0 8 rfl rfl)
theorem dX0_exits_9 : decode cX0_exits 9 = .ok (.lastore, 1) := dk_80 (dk_at dksX0_exits_0 9 rfl rfl)
theorem dX0_exits_10 : decode cX0_exits 10 = .ok (.goto 11, 3) := dk_167 0 11 (dk_at dksX0_exits_0 10 rfl rfl)
theorem dX0_exits_13 : decode cX0_exits 13 = .ok (.astore 4, 2) := dk_58 4 (dk_at dksX0_exits_0 13 rfl rfl)
theorem dX0_exits_15 : decode cX0_exits 15 = .ok (.iconst 1, 1) := dk_4 (dk_at dksX0_exits_0 15 rfl rfl)
theorem dX0_exits_16 : decode cX0_exits 16 = .ok (.ireturn, 1) := dk_172 (dk_at dksX0_exits_0 16 rfl rfl)
theorem dX0_exits_17 : decode cX0_exits 17 = .ok (.astore 4, 2) := dk_58 4 (dk_at dksX0_exits_0 17 rfl rfl)
theorem dX0_exits_19 : decode cX0_exits 19 = .ok (.iconst 2, 1) := dk_5 (dk_at dksX0_exits_0 19 rfl rfl)
theorem dX0_exits_20 : decode cX0_exits 20 = .ok (.ireturn, 1) := dk_172 (dk_at dksX0_exits_0 20 rfl rfl)
theorem dX0_exits_21 : decode cX0_exits 21 = .ok (.iconst 0, 1) := dk_3 (dk_at dksX0_exits_0 21 rfl rfl)
theorem dX0_exits_22 : decode cX0_exits 22 = .ok (.ireturn, 1) := dk_172 (dk_at dksX0_exits_0 22 rfl rfl)
abbrev cX0_ofPage : ByteArray := method_14_code
def yX0_ofPage : MethodName := ⟨RX0, "ofPage", "(LHyperVane;III[J)I"⟩
def dkwX0_ofPage_1 : List UInt8 := [172]
abbrev dktX0_ofPage_1 : List UInt8 := dkwX0_ofPage_1 ++ []
def dkwX0_ofPage_0 : List UInt8 := [25, 4, 3, 42, 27, 28, 29, 182, 0, 52, 133, 80, 167, 0, 11, 58, 5, 4, 172, 58, 5, 5, 172, 3]
abbrev dktX0_ofPage_0 : List UInt8 := dkwX0_ofPage_0 ++ dktX0_ofPage_1
theorem dksX0_ofPage_0 : cX0_ofPage.data.toList.drop 0 = dktX0_ofPage_0 := by decide +kernel
theorem dksX0_ofPage_1 : cX0_ofPage.data.toList.drop 24 = dktX0_ofPage_1 := dk_seg dksX0_ofPage_0 24 rfl rfl
theorem dX0_ofPage_0 : decode cX0_ofPage 0 = .ok (.aload 4, 2) := dk_25 4 (dk_at dksX0_ofPage_0 0 rfl rfl)
theorem dX0_ofPage_2 : decode cX0_ofPage 2 = .ok (.iconst 0, 1) := dk_3 (dk_at dksX0_ofPage_0 2 rfl rfl)
theorem dX0_ofPage_3 : decode cX0_ofPage 3 = .ok (.aload_n 0, 1) := dk_42 (dk_at dksX0_ofPage_0 3 rfl rfl)
theorem dX0_ofPage_4 : decode cX0_ofPage 4 = .ok (.iload_n 1, 1) := dk_27 (dk_at dksX0_ofPage_0 4 rfl rfl)
theorem dX0_ofPage_5 : decode cX0_ofPage 5 = .ok (.iload_n 2, 1) := dk_28 (dk_at dksX0_ofPage_0 5 rfl rfl)
theorem dX0_ofPage_6 : decode cX0_ofPage 6 = .ok (.iload_n 3, 1) := dk_29 (dk_at dksX0_ofPage_0 6 rfl rfl)
theorem dX0_ofPage_7 : decode cX0_ofPage 7 = .ok (.invokevirtual 52, 3) := dk_182 0 52 (dk_at dksX0_ofPage_0 7 rfl rfl)
theorem dX0_ofPage_10 : decode cX0_ofPage 10 = .ok (.i2l, 1) := dk_133 (dk_at dksX0_ofPage_0 10 rfl rfl)
theorem dX0_ofPage_11 : decode cX0_ofPage 11 = .ok (.lastore, 1) := dk_80 (dk_at dksX0_ofPage_0 11 rfl rfl)
theorem dX0_ofPage_12 : decode cX0_ofPage 12 = .ok (.goto 11, 3) := dk_167 0 11 (dk_at dksX0_ofPage_0 12 rfl rfl)
theorem dX0_ofPage_15 : decode cX0_ofPage 15 = .ok (.astore 5, 2) := dk_58 5 (dk_at dksX0_ofPage_0 15 rfl rfl)
theorem dX0_ofPage_17 : decode cX0_ofPage 17 = .ok (.iconst 1, 1) := dk_4 (dk_at dksX0_ofPage_0 17 rfl rfl)
theorem dX0_ofPage_18 : decode cX0_ofPage 18 = .ok (.ireturn, 1) := dk_172 (dk_at dksX0_ofPage_0 18 rfl rfl)
theorem dX0_ofPage_19 : decode cX0_ofPage 19 = .ok (.astore 5, 2) := dk_58 5 (dk_at dksX0_ofPage_0 19 rfl rfl)
theorem dX0_ofPage_21 : decode cX0_ofPage 21 = .ok (.iconst 2, 1) := dk_5 (dk_at dksX0_ofPage_0 21 rfl rfl)
theorem dX0_ofPage_22 : decode cX0_ofPage 22 = .ok (.ireturn, 1) := dk_172 (dk_at dksX0_ofPage_0 22 rfl rfl)
theorem dX0_ofPage_23 : decode cX0_ofPage 23 = .ok (.iconst 0, 1) := dk_3 (dk_at dksX0_ofPage_0 23 rfl rfl)
theorem dX0_ofPage_24 : decode cX0_ofPage 24 = .ok (.ireturn, 1) := dk_172 (dk_at dksX0_ofPage_1 0 rfl rfl)
abbrev cX0_ofFrame : ByteArray := method_15_code
def yX0_ofFrame : MethodName := ⟨RX0, "ofFrame", "(LHyperVane;II[J)I"⟩
def dkwX0_ofFrame_0 : List UInt8 := [45, 3, 42, 27, 28, 182, 0, 55, 133, 80, 167, 0, 11, 58, 4, 4, 172, 58, 4, 5, 172, 3, 172]
abbrev dktX0_ofFrame_0 : List UInt8 := dkwX0_ofFrame_0 ++ []
theorem dksX0_ofFrame_0 : cX0_ofFrame.data.toList.drop 0 = dktX0_ofFrame_0 := by decide +kernel
theorem dX0_ofFrame_0 : decode cX0_ofFrame 0 = .ok (.aload_n 3, 1) := dk_45 (dk_at dksX0_ofFrame_0 0 rfl rfl)
theorem dX0_ofFrame_1 : decode cX0_ofFrame 1 = .ok (.iconst 0, 1) := dk_3 (dk_at dksX0_ofFrame_0 1 rfl rfl)
theorem dX0_ofFrame_2 : decode cX0_ofFrame 2 = .ok (.aload_n 0, 1) := dk_42 (dk_at dksX0_ofFrame_0 2 rfl rfl)
theorem dX0_ofFrame_3 : decode cX0_ofFrame 3 = .ok (.iload_n 1, 1) := dk_27 (dk_at dksX0_ofFrame_0 3 rfl rfl)
theorem dX0_ofFrame_4 : decode cX0_ofFrame 4 = .ok (.iload_n 2, 1) := dk_28 (dk_at dksX0_ofFrame_0 4 rfl rfl)
theorem dX0_ofFrame_5 : decode cX0_ofFrame 5 = .ok (.invokevirtual 55, 3) := dk_182 0 55 (dk_at dksX0_ofFrame_0 5 rfl rfl)
theorem dX0_ofFrame_8 : decode cX0_ofFrame 8 = .ok (.i2l, 1) := dk_133 (dk_at dksX0_ofFrame_0 8 rfl rfl)
theorem dX0_ofFrame_9 : decode cX0_ofFrame 9 = .ok (.lastore, 1) := dk_80 (dk_at dksX0_ofFrame_0 9 rfl rfl)
theorem dX0_ofFrame_10 : decode cX0_ofFrame 10 = .ok (.goto 11, 3) := dk_167 0 11 (dk_at dksX0_ofFrame_0 10 rfl rfl)
theorem dX0_ofFrame_13 : decode cX0_ofFrame 13 = .ok (.astore 4, 2) := dk_58 4 (dk_at dksX0_ofFrame_0 13 rfl rfl)
theorem dX0_ofFrame_15 : decode cX0_ofFrame 15 = .ok (.iconst 1, 1) := dk_4 (dk_at dksX0_ofFrame_0 15 rfl rfl)
theorem dX0_ofFrame_16 : decode cX0_ofFrame 16 = .ok (.ireturn, 1) := dk_172 (dk_at dksX0_ofFrame_0 16 rfl rfl)
theorem dX0_ofFrame_17 : decode cX0_ofFrame 17 = .ok (.astore 4, 2) := dk_58 4 (dk_at dksX0_ofFrame_0 17 rfl rfl)
theorem dX0_ofFrame_19 : decode cX0_ofFrame 19 = .ok (.iconst 2, 1) := dk_5 (dk_at dksX0_ofFrame_0 19 rfl rfl)
theorem dX0_ofFrame_20 : decode cX0_ofFrame 20 = .ok (.ireturn, 1) := dk_172 (dk_at dksX0_ofFrame_0 20 rfl rfl)
theorem dX0_ofFrame_21 : decode cX0_ofFrame 21 = .ok (.iconst 0, 1) := dk_3 (dk_at dksX0_ofFrame_0 21 rfl rfl)
theorem dX0_ofFrame_22 : decode cX0_ofFrame 22 = .ok (.ireturn, 1) := dk_172 (dk_at dksX0_ofFrame_0 22 rfl rfl)
abbrev cX0_logged : ByteArray := method_16_code
def yX0_logged : MethodName := ⟨RX0, "logged", "(LHyperVane;II[J)I"⟩
def dkwX0_logged_0 : List UInt8 := [45, 3, 42, 27, 28, 182, 0, 58, 133, 80, 167, 0, 11, 58, 4, 4, 172, 58, 4, 5, 172, 3, 172]
abbrev dktX0_logged_0 : List UInt8 := dkwX0_logged_0 ++ []
theorem dksX0_logged_0 : cX0_logged.data.toList.drop 0 = dktX0_logged_0 := by decide +kernel
theorem dX0_logged_0 : decode cX0_logged 0 = .ok (.aload_n 3, 1) := dk_45 (dk_at dksX0_logged_0 0 rfl rfl)
theorem dX0_logged_1 : decode cX0_logged 1 = .ok (.iconst 0, 1) := dk_3 (dk_at dksX0_logged_0 1 rfl rfl)
theorem dX0_logged_2 : decode cX0_logged 2 = .ok (.aload_n 0, 1) := dk_42 (dk_at dksX0_logged_0 2 rfl rfl)
theorem dX0_logged_3 : decode cX0_logged 3 = .ok (.iload_n 1, 1) := dk_27 (dk_at dksX0_logged_0 3 rfl rfl)
theorem dX0_logged_4 : decode cX0_logged 4 = .ok (.iload_n 2, 1) := dk_28 (dk_at dksX0_logged_0 4 rfl rfl)
theorem dX0_logged_5 : decode cX0_logged 5 = .ok (.invokevirtual 58, 3) := dk_182 0 58 (dk_at dksX0_logged_0 5 rfl rfl)
theorem dX0_logged_8 : decode cX0_logged 8 = .ok (.i2l, 1) := dk_133 (dk_at dksX0_logged_0 8 rfl rfl)
theorem dX0_logged_9 : decode cX0_logged 9 = .ok (.lastore, 1) := dk_80 (dk_at dksX0_logged_0 9 rfl rfl)
theorem dX0_logged_10 : decode cX0_logged 10 = .ok (.goto 11, 3) := dk_167 0 11 (dk_at dksX0_logged_0 10 rfl rfl)
theorem dX0_logged_13 : decode cX0_logged 13 = .ok (.astore 4, 2) := dk_58 4 (dk_at dksX0_logged_0 13 rfl rfl)
theorem dX0_logged_15 : decode cX0_logged 15 = .ok (.iconst 1, 1) := dk_4 (dk_at dksX0_logged_0 15 rfl rfl)
theorem dX0_logged_16 : decode cX0_logged 16 = .ok (.ireturn, 1) := dk_172 (dk_at dksX0_logged_0 16 rfl rfl)
theorem dX0_logged_17 : decode cX0_logged 17 = .ok (.astore 4, 2) := dk_58 4 (dk_at dksX0_logged_0 17 rfl rfl)
theorem dX0_logged_19 : decode cX0_logged 19 = .ok (.iconst 2, 1) := dk_5 (dk_at dksX0_logged_0 19 rfl rfl)
theorem dX0_logged_20 : decode cX0_logged 20 = .ok (.ireturn, 1) := dk_172 (dk_at dksX0_logged_0 20 rfl rfl)
theorem dX0_logged_21 : decode cX0_logged 21 = .ok (.iconst 0, 1) := dk_3 (dk_at dksX0_logged_0 21 rfl rfl)
theorem dX0_logged_22 : decode cX0_logged 22 = .ok (.ireturn, 1) := dk_172 (dk_at dksX0_logged_0 22 rfl rfl)
abbrev cX0_many : ByteArray := method_17_code
def yX0_many : MethodName := ⟨RX0, "many", "(LHyperVane;I[J)I"⟩
def dkwX0_many_0 : List UInt8 := [44, 3, 42, 27, 182, 0, 61, 133, 80, 167, 0, 6, 78, 4, 172, 3, 172]
abbrev dktX0_many_0 : List UInt8 := dkwX0_many_0 ++ []
theorem dksX0_many_0 : cX0_many.data.toList.drop 0 = dktX0_many_0 := by decide +kernel
theorem dX0_many_0 : decode cX0_many 0 = .ok (.aload_n 2, 1) := dk_44 (dk_at dksX0_many_0 0 rfl rfl)
theorem dX0_many_1 : decode cX0_many 1 = .ok (.iconst 0, 1) := dk_3 (dk_at dksX0_many_0 1 rfl rfl)
theorem dX0_many_2 : decode cX0_many 2 = .ok (.aload_n 0, 1) := dk_42 (dk_at dksX0_many_0 2 rfl rfl)
theorem dX0_many_3 : decode cX0_many 3 = .ok (.iload_n 1, 1) := dk_27 (dk_at dksX0_many_0 3 rfl rfl)
theorem dX0_many_4 : decode cX0_many 4 = .ok (.invokevirtual 61, 3) := dk_182 0 61 (dk_at dksX0_many_0 4 rfl rfl)
theorem dX0_many_7 : decode cX0_many 7 = .ok (.i2l, 1) := dk_133 (dk_at dksX0_many_0 7 rfl rfl)
theorem dX0_many_8 : decode cX0_many 8 = .ok (.lastore, 1) := dk_80 (dk_at dksX0_many_0 8 rfl rfl)
theorem dX0_many_9 : decode cX0_many 9 = .ok (.goto 6, 3) := dk_167 0 6 (dk_at dksX0_many_0 9 rfl rfl)
theorem dX0_many_12 : decode cX0_many 12 = .ok (.astore_n 3, 1) := dk_78 (dk_at dksX0_many_0 12 rfl rfl)
theorem dX0_many_13 : decode cX0_many 13 = .ok (.iconst 1, 1) := dk_4 (dk_at dksX0_many_0 13 rfl rfl)
theorem dX0_many_14 : decode cX0_many 14 = .ok (.ireturn, 1) := dk_172 (dk_at dksX0_many_0 14 rfl rfl)
theorem dX0_many_15 : decode cX0_many 15 = .ok (.iconst 0, 1) := dk_3 (dk_at dksX0_many_0 15 rfl rfl)
theorem dX0_many_16 : decode cX0_many 16 = .ok (.ireturn, 1) := dk_172 (dk_at dksX0_many_0 16 rfl rfl)
abbrev cX0_meanDone : ByteArray := method_18_code
def yX0_meanDone : MethodName := ⟨RX0, "meanDone", "(LHyperVane;I[D)I"⟩
def dkwX0_meanDone_0 : List UInt8 := [44, 3, 42, 27, 182, 0, 64, 82, 167, 0, 6, 78, 4, 172, 3, 172]
abbrev dktX0_meanDone_0 : List UInt8 := dkwX0_meanDone_0 ++ []
theorem dksX0_meanDone_0 : cX0_meanDone.data.toList.drop 0 = dktX0_meanDone_0 := by decide +kernel
theorem dX0_meanDone_0 : decode cX0_meanDone 0 = .ok (.aload_n 2, 1) := dk_44 (dk_at dksX0_meanDone_0 0 rfl rfl)
theorem dX0_meanDone_1 : decode cX0_meanDone 1 = .ok (.iconst 0, 1) := dk_3 (dk_at dksX0_meanDone_0 1 rfl rfl)
theorem dX0_meanDone_2 : decode cX0_meanDone 2 = .ok (.aload_n 0, 1) := dk_42 (dk_at dksX0_meanDone_0 2 rfl rfl)
theorem dX0_meanDone_3 : decode cX0_meanDone 3 = .ok (.iload_n 1, 1) := dk_27 (dk_at dksX0_meanDone_0 3 rfl rfl)
theorem dX0_meanDone_4 : decode cX0_meanDone 4 = .ok (.invokevirtual 64, 3) := dk_182 0 64 (dk_at dksX0_meanDone_0 4 rfl rfl)
theorem dX0_meanDone_7 : decode cX0_meanDone 7 = .ok (.dastore, 1) := dk_82 (dk_at dksX0_meanDone_0 7 rfl rfl)
theorem dX0_meanDone_8 : decode cX0_meanDone 8 = .ok (.goto 6, 3) := dk_167 0 6 (dk_at dksX0_meanDone_0 8 rfl rfl)
theorem dX0_meanDone_11 : decode cX0_meanDone 11 = .ok (.astore_n 3, 1) := dk_78 (dk_at dksX0_meanDone_0 11 rfl rfl)
theorem dX0_meanDone_12 : decode cX0_meanDone 12 = .ok (.iconst 1, 1) := dk_4 (dk_at dksX0_meanDone_0 12 rfl rfl)
theorem dX0_meanDone_13 : decode cX0_meanDone 13 = .ok (.ireturn, 1) := dk_172 (dk_at dksX0_meanDone_0 13 rfl rfl)
theorem dX0_meanDone_14 : decode cX0_meanDone 14 = .ok (.iconst 0, 1) := dk_3 (dk_at dksX0_meanDone_0 14 rfl rfl)
theorem dX0_meanDone_15 : decode cX0_meanDone 15 = .ok (.ireturn, 1) := dk_172 (dk_at dksX0_meanDone_0 15 rfl rfl)
abbrev cX0_replayed : ByteArray := method_19_code
def yX0_replayed : MethodName := ⟨RX0, "replayed", "(LHyperVane;III[J)I"⟩
def dkwX0_replayed_1 : List UInt8 := [172]
abbrev dktX0_replayed_1 : List UInt8 := dkwX0_replayed_1 ++ []
def dkwX0_replayed_0 : List UInt8 := [25, 4, 3, 42, 27, 28, 29, 182, 0, 68, 133, 80, 167, 0, 11, 58, 5, 4, 172, 58, 5, 5, 172, 3]
abbrev dktX0_replayed_0 : List UInt8 := dkwX0_replayed_0 ++ dktX0_replayed_1
theorem dksX0_replayed_0 : cX0_replayed.data.toList.drop 0 = dktX0_replayed_0 := by decide +kernel
theorem dksX0_replayed_1 : cX0_replayed.data.toList.drop 24 = dktX0_replayed_1 := dk_seg dksX0_replayed_0 24 rfl rfl
theorem dX0_replayed_0 : decode cX0_replayed 0 = .ok (.aload 4, 2) := dk_25 4 (dk_at dksX0_replayed_0 0 rfl rfl)
theorem dX0_replayed_2 : decode cX0_replayed 2 = .ok (.iconst 0, 1) := dk_3 (dk_at dksX0_replayed_0 2 rfl rfl)
theorem dX0_replayed_3 : decode cX0_replayed 3 = .ok (.aload_n 0, 1) := dk_42 (dk_at dksX0_replayed_0 3 rfl rfl)
theorem dX0_replayed_4 : decode cX0_replayed 4 = .ok (.iload_n 1, 1) := dk_27 (dk_at dksX0_replayed_0 4 rfl rfl)
theorem dX0_replayed_5 : decode cX0_replayed 5 = .ok (.iload_n 2, 1) := dk_28 (dk_at dksX0_replayed_0 5 rfl rfl)
theorem dX0_replayed_6 : decode cX0_replayed 6 = .ok (.iload_n 3, 1) := dk_29 (dk_at dksX0_replayed_0 6 rfl rfl)
theorem dX0_replayed_7 : decode cX0_replayed 7 = .ok (.invokevirtual 68, 3) := dk_182 0 68 (dk_at dksX0_replayed_0 7 rfl rfl)
theorem dX0_replayed_10 : decode cX0_replayed 10 = .ok (.i2l, 1) := dk_133 (dk_at dksX0_replayed_0 10 rfl rfl)
theorem dX0_replayed_11 : decode cX0_replayed 11 = .ok (.lastore, 1) := dk_80 (dk_at dksX0_replayed_0 11 rfl rfl)
theorem dX0_replayed_12 : decode cX0_replayed 12 = .ok (.goto 11, 3) := dk_167 0 11 (dk_at dksX0_replayed_0 12 rfl rfl)
theorem dX0_replayed_15 : decode cX0_replayed 15 = .ok (.astore 5, 2) := dk_58 5 (dk_at dksX0_replayed_0 15 rfl rfl)
theorem dX0_replayed_17 : decode cX0_replayed 17 = .ok (.iconst 1, 1) := dk_4 (dk_at dksX0_replayed_0 17 rfl rfl)
theorem dX0_replayed_18 : decode cX0_replayed 18 = .ok (.ireturn, 1) := dk_172 (dk_at dksX0_replayed_0 18 rfl rfl)
theorem dX0_replayed_19 : decode cX0_replayed 19 = .ok (.astore 5, 2) := dk_58 5 (dk_at dksX0_replayed_0 19 rfl rfl)
theorem dX0_replayed_21 : decode cX0_replayed 21 = .ok (.iconst 2, 1) := dk_5 (dk_at dksX0_replayed_0 21 rfl rfl)
theorem dX0_replayed_22 : decode cX0_replayed 22 = .ok (.ireturn, 1) := dk_172 (dk_at dksX0_replayed_0 22 rfl rfl)
theorem dX0_replayed_23 : decode cX0_replayed 23 = .ok (.iconst 0, 1) := dk_3 (dk_at dksX0_replayed_0 23 rfl rfl)
theorem dX0_replayed_24 : decode cX0_replayed 24 = .ok (.ireturn, 1) := dk_172 (dk_at dksX0_replayed_1 0 rfl rfl)
abbrev cX0_doneIn : ByteArray := method_20_code
def yX0_doneIn : MethodName := ⟨RX0, "doneIn", "(LHyperVane;II[J)I"⟩
def dkwX0_doneIn_0 : List UInt8 := [45, 3, 42, 27, 28, 182, 0, 71, 133, 80, 167, 0, 11, 58, 4, 4, 172, 58, 4, 5, 172, 3, 172]
abbrev dktX0_doneIn_0 : List UInt8 := dkwX0_doneIn_0 ++ []
theorem dksX0_doneIn_0 : cX0_doneIn.data.toList.drop 0 = dktX0_doneIn_0 := by decide +kernel
theorem dX0_doneIn_0 : decode cX0_doneIn 0 = .ok (.aload_n 3, 1) := dk_45 (dk_at dksX0_doneIn_0 0 rfl rfl)
theorem dX0_doneIn_1 : decode cX0_doneIn 1 = .ok (.iconst 0, 1) := dk_3 (dk_at dksX0_doneIn_0 1 rfl rfl)
theorem dX0_doneIn_2 : decode cX0_doneIn 2 = .ok (.aload_n 0, 1) := dk_42 (dk_at dksX0_doneIn_0 2 rfl rfl)
theorem dX0_doneIn_3 : decode cX0_doneIn 3 = .ok (.iload_n 1, 1) := dk_27 (dk_at dksX0_doneIn_0 3 rfl rfl)
theorem dX0_doneIn_4 : decode cX0_doneIn 4 = .ok (.iload_n 2, 1) := dk_28 (dk_at dksX0_doneIn_0 4 rfl rfl)
theorem dX0_doneIn_5 : decode cX0_doneIn 5 = .ok (.invokevirtual 71, 3) := dk_182 0 71 (dk_at dksX0_doneIn_0 5 rfl rfl)
theorem dX0_doneIn_8 : decode cX0_doneIn 8 = .ok (.i2l, 1) := dk_133 (dk_at dksX0_doneIn_0 8 rfl rfl)
theorem dX0_doneIn_9 : decode cX0_doneIn 9 = .ok (.lastore, 1) := dk_80 (dk_at dksX0_doneIn_0 9 rfl rfl)
theorem dX0_doneIn_10 : decode cX0_doneIn 10 = .ok (.goto 11, 3) := dk_167 0 11 (dk_at dksX0_doneIn_0 10 rfl rfl)
theorem dX0_doneIn_13 : decode cX0_doneIn 13 = .ok (.astore 4, 2) := dk_58 4 (dk_at dksX0_doneIn_0 13 rfl rfl)
theorem dX0_doneIn_15 : decode cX0_doneIn 15 = .ok (.iconst 1, 1) := dk_4 (dk_at dksX0_doneIn_0 15 rfl rfl)
theorem dX0_doneIn_16 : decode cX0_doneIn 16 = .ok (.ireturn, 1) := dk_172 (dk_at dksX0_doneIn_0 16 rfl rfl)
theorem dX0_doneIn_17 : decode cX0_doneIn 17 = .ok (.astore 4, 2) := dk_58 4 (dk_at dksX0_doneIn_0 17 rfl rfl)
theorem dX0_doneIn_19 : decode cX0_doneIn 19 = .ok (.iconst 2, 1) := dk_5 (dk_at dksX0_doneIn_0 19 rfl rfl)
theorem dX0_doneIn_20 : decode cX0_doneIn 20 = .ok (.ireturn, 1) := dk_172 (dk_at dksX0_doneIn_0 20 rfl rfl)
theorem dX0_doneIn_21 : decode cX0_doneIn 21 = .ok (.iconst 0, 1) := dk_3 (dk_at dksX0_doneIn_0 21 rfl rfl)
theorem dX0_doneIn_22 : decode cX0_doneIn 22 = .ok (.ireturn, 1) := dk_172 (dk_at dksX0_doneIn_0 22 rfl rfl)
abbrev cX0_awayIn : ByteArray := method_21_code
def yX0_awayIn : MethodName := ⟨RX0, "awayIn", "(LHyperVane;II[J)I"⟩
def dkwX0_awayIn_1 : List UInt8 := [172, 3, 172]
abbrev dktX0_awayIn_1 : List UInt8 := dkwX0_awayIn_1 ++ []
def dkwX0_awayIn_0 : List UInt8 := [45, 3, 42, 27, 28, 182, 0, 74, 133, 80, 167, 0, 15, 58, 4, 4, 172, 58, 4, 5, 172, 58, 4, 6]
abbrev dktX0_awayIn_0 : List UInt8 := dkwX0_awayIn_0 ++ dktX0_awayIn_1
theorem dksX0_awayIn_0 : cX0_awayIn.data.toList.drop 0 = dktX0_awayIn_0 := by decide +kernel
theorem dksX0_awayIn_1 : cX0_awayIn.data.toList.drop 24 = dktX0_awayIn_1 := dk_seg dksX0_awayIn_0 24 rfl rfl
theorem dX0_awayIn_0 : decode cX0_awayIn 0 = .ok (.aload_n 3, 1) := dk_45 (dk_at dksX0_awayIn_0 0 rfl rfl)
theorem dX0_awayIn_1 : decode cX0_awayIn 1 = .ok (.iconst 0, 1) := dk_3 (dk_at dksX0_awayIn_0 1 rfl rfl)
theorem dX0_awayIn_2 : decode cX0_awayIn 2 = .ok (.aload_n 0, 1) := dk_42 (dk_at dksX0_awayIn_0 2 rfl rfl)
theorem dX0_awayIn_3 : decode cX0_awayIn 3 = .ok (.iload_n 1, 1) := dk_27 (dk_at dksX0_awayIn_0 3 rfl rfl)
theorem dX0_awayIn_4 : decode cX0_awayIn 4 = .ok (.iload_n 2, 1) := dk_28 (dk_at dksX0_awayIn_0 4 rfl rfl)
theorem dX0_awayIn_5 : decode cX0_awayIn 5 = .ok (.invokevirtual 74, 3) := dk_182 0 74 (dk_at dksX0_awayIn_0 5 rfl rfl)
theorem dX0_awayIn_8 : decode cX0_awayIn 8 = .ok (.i2l, 1) := dk_133 (dk_at dksX0_awayIn_0 8 rfl rfl)
theorem dX0_awayIn_9 : decode cX0_awayIn 9 = .ok (.lastore, 1) := dk_80 (dk_at dksX0_awayIn_0 9 rfl rfl)
theorem dX0_awayIn_10 : decode cX0_awayIn 10 = .ok (.goto 15, 3) := dk_167 0 15 (dk_at dksX0_awayIn_0 10 rfl rfl)
theorem dX0_awayIn_13 : decode cX0_awayIn 13 = .ok (.astore 4, 2) := dk_58 4 (dk_at dksX0_awayIn_0 13 rfl rfl)
theorem dX0_awayIn_15 : decode cX0_awayIn 15 = .ok (.iconst 1, 1) := dk_4 (dk_at dksX0_awayIn_0 15 rfl rfl)
theorem dX0_awayIn_16 : decode cX0_awayIn 16 = .ok (.ireturn, 1) := dk_172 (dk_at dksX0_awayIn_0 16 rfl rfl)
theorem dX0_awayIn_17 : decode cX0_awayIn 17 = .ok (.astore 4, 2) := dk_58 4 (dk_at dksX0_awayIn_0 17 rfl rfl)
theorem dX0_awayIn_19 : decode cX0_awayIn 19 = .ok (.iconst 2, 1) := dk_5 (dk_at dksX0_awayIn_0 19 rfl rfl)
theorem dX0_awayIn_20 : decode cX0_awayIn 20 = .ok (.ireturn, 1) := dk_172 (dk_at dksX0_awayIn_0 20 rfl rfl)
theorem dX0_awayIn_21 : decode cX0_awayIn 21 = .ok (.astore 4, 2) := dk_58 4 (dk_at dksX0_awayIn_0 21 rfl rfl)
theorem dX0_awayIn_23 : decode cX0_awayIn 23 = .ok (.iconst 3, 1) := dk_6 (dk_at dksX0_awayIn_0 23 rfl rfl)
theorem dX0_awayIn_24 : decode cX0_awayIn 24 = .ok (.ireturn, 1) := dk_172 (dk_at dksX0_awayIn_1 0 rfl rfl)
theorem dX0_awayIn_25 : decode cX0_awayIn 25 = .ok (.iconst 0, 1) := dk_3 (dk_at dksX0_awayIn_1 1 rfl rfl)
theorem dX0_awayIn_26 : decode cX0_awayIn 26 = .ok (.ireturn, 1) := dk_172 (dk_at dksX0_awayIn_1 2 rfl rfl)
theorem q53 : (Jvm.Cond.initialized "HyperVaneLaw") ∈ lw_all := lw_g (lw_at lw_m1 0 rfl) rfl
theorem q85 : (Jvm.Cond.classLink "HyperVaneLaw" (8 : Nat) "HyperVane") ∈ lw_all := lw_g (lw_at lw_m1 32 rfl) rfl
theorem q87 : (Jvm.Cond.methodLink "HyperVaneLaw" (77 : Nat) ({ cls := "HyperVane", name := "<init>", desc := "()V" } : Jvm.MethodName)) ∈ lw_all := lw_g (lw_at lw_m1 34 rfl) rfl
theorem q293 : (Jvm.Cond.methodLink "HyperVaneLaw" (149 : Nat) ({ cls := "HyperVane", name := "digest", desc := "()J" } : Jvm.MethodName)) ∈ lw_all := lw_g (lw_at lw_m2 0 rfl) rfl
theorem q830 : (Jvm.Cond.methodLink "HyperVaneLaw" (81 : Nat) ({ cls := "HyperVaneLaw", name := "guest", desc := "(LHyperVane;I[J)I" } : Jvm.MethodName)) ∈ lw_all := lw_g (lw_at lw_m4 57 rfl) rfl
theorem q831 : (Jvm.Cond.static ({ cls := "HyperVaneLaw", name := "guest", desc := "(LHyperVane;I[J)I" } : Jvm.MethodName)) ∈ lw_all := lw_g (lw_at lw_m4 58 rfl) rfl
theorem q832 : (Jvm.Cond.codeWith ({ cls := "HyperVaneLaw", name := "guest", desc := "(LHyperVane;I[J)I" } : Jvm.MethodName) method_3_code (4 : Nat) (Option.some Jvm.ClassFile.FieldType.int) [((0 : Nat), (9 : Nat), (12 : Nat), (13 : Nat)), ((0 : Nat), (9 : Nat), (15 : Nat), (15 : Nat))]) ∈ lw_all := lw_g (lw_at lw_m4 59 rfl) rfl
theorem q833 : (Jvm.Cond.classLink "HyperVaneLaw" (13 : Nat) "java/lang/IllegalArgumentException") ∈ lw_all := lw_g (lw_at lw_m4 60 rfl) rfl
theorem q834 : (Jvm.Cond.classLink "HyperVaneLaw" (15 : Nat) "java/lang/IllegalStateException") ∈ lw_all := lw_g (lw_at lw_m4 61 rfl) rfl
theorem q835 : (Jvm.Cond.methodLink "HyperVaneLaw" (7 : Nat) ({ cls := "HyperVane", name := "guest", desc := "(I)I" } : Jvm.MethodName)) ∈ lw_all := lw_g (lw_at lw_m4 62 rfl) rfl
theorem q933 : (Jvm.Cond.methodLink "HyperVaneLaw" (91 : Nat) ({ cls := "HyperVaneLaw", name := "op", desc := "(LHyperVane;III[J)I" } : Jvm.MethodName)) ∈ lw_all := lw_g (lw_at lw_m4 160 rfl) rfl
theorem q934 : (Jvm.Cond.static ({ cls := "HyperVaneLaw", name := "op", desc := "(LHyperVane;III[J)I" } : Jvm.MethodName)) ∈ lw_all := lw_g (lw_at lw_m4 161 rfl) rfl
theorem q935 : (Jvm.Cond.codeWith ({ cls := "HyperVaneLaw", name := "op", desc := "(LHyperVane;III[J)I" } : Jvm.MethodName) method_4_code (6 : Nat) (Option.some Jvm.ClassFile.FieldType.int) [((0 : Nat), (12 : Nat), (15 : Nat), (21 : Nat)), ((0 : Nat), (12 : Nat), (19 : Nat), (13 : Nat)), ((0 : Nat), (12 : Nat), (23 : Nat), (15 : Nat))]) ∈ lw_all := lw_g (lw_at lw_m4 162 rfl) rfl
theorem q936 : (Jvm.Cond.classLink "HyperVaneLaw" (21 : Nat) "java/lang/IndexOutOfBoundsException") ∈ lw_all := lw_g (lw_at lw_m4 163 rfl) rfl
theorem q969 : (Jvm.Cond.methodLink "HyperVaneLaw" (17 : Nat) ({ cls := "HyperVane", name := "op", desc := "(III)I" } : Jvm.MethodName)) ∈ lw_all := lw_g (lw_at lw_m4 196 rfl) rfl
theorem q1031 : (Jvm.Cond.methodLink "HyperVaneLaw" (95 : Nat) ({ cls := "HyperVaneLaw", name := "weight", desc := "(LHyperVane;II[J)I" } : Jvm.MethodName)) ∈ lw_all := lw_g (lw_at lw_m5 18 rfl) rfl
theorem q1032 : (Jvm.Cond.static ({ cls := "HyperVaneLaw", name := "weight", desc := "(LHyperVane;II[J)I" } : Jvm.MethodName)) ∈ lw_all := lw_g (lw_at lw_m5 19 rfl) rfl
theorem q1033 : (Jvm.Cond.codeWith ({ cls := "HyperVaneLaw", name := "weight", desc := "(LHyperVane;II[J)I" } : Jvm.MethodName) method_5_code (5 : Nat) (Option.some Jvm.ClassFile.FieldType.int) [((0 : Nat), (10 : Nat), (13 : Nat), (21 : Nat)), ((0 : Nat), (10 : Nat), (17 : Nat), (13 : Nat))]) ∈ lw_all := lw_g (lw_at lw_m5 20 rfl) rfl
theorem q1034 : (Jvm.Cond.methodLink "HyperVaneLaw" (23 : Nat) ({ cls := "HyperVane", name := "weight", desc := "(II)I" } : Jvm.MethodName)) ∈ lw_all := lw_g (lw_at lw_m5 21 rfl) rfl
theorem q1038 : (Jvm.Cond.methodLink "HyperVaneLaw" (99 : Nat) ({ cls := "HyperVaneLaw", name := "pause", desc := "(LHyperVane;IZ[J)I" } : Jvm.MethodName)) ∈ lw_all := lw_g (lw_at lw_m5 25 rfl) rfl
theorem q1039 : (Jvm.Cond.static ({ cls := "HyperVaneLaw", name := "pause", desc := "(LHyperVane;IZ[J)I" } : Jvm.MethodName)) ∈ lw_all := lw_g (lw_at lw_m5 26 rfl) rfl
theorem q1040 : (Jvm.Cond.codeWith ({ cls := "HyperVaneLaw", name := "pause", desc := "(LHyperVane;IZ[J)I" } : Jvm.MethodName) method_6_code (5 : Nat) (Option.some Jvm.ClassFile.FieldType.int) [((0 : Nat), (17 : Nat), (20 : Nat), (21 : Nat)), ((0 : Nat), (17 : Nat), (24 : Nat), (15 : Nat))]) ∈ lw_all := lw_g (lw_at lw_m5 27 rfl) rfl
theorem q1041 : (Jvm.Cond.methodLink "HyperVaneLaw" (27 : Nat) ({ cls := "HyperVane", name := "pause", desc := "(IZ)Z" } : Jvm.MethodName)) ∈ lw_all := lw_g (lw_at lw_m5 28 rfl) rfl
theorem q1051 : (Jvm.Cond.methodLink "HyperVaneLaw" (103 : Nat) ({ cls := "HyperVaneLaw", name := "frames", desc := "(LHyperVane;I[J)I" } : Jvm.MethodName)) ∈ lw_all := lw_g (lw_at lw_m5 38 rfl) rfl
theorem q1052 : (Jvm.Cond.static ({ cls := "HyperVaneLaw", name := "frames", desc := "(LHyperVane;I[J)I" } : Jvm.MethodName)) ∈ lw_all := lw_g (lw_at lw_m5 39 rfl) rfl
theorem q1053 : (Jvm.Cond.codeWith ({ cls := "HyperVaneLaw", name := "frames", desc := "(LHyperVane;I[J)I" } : Jvm.MethodName) method_7_code (4 : Nat) (Option.some Jvm.ClassFile.FieldType.int) [((0 : Nat), (9 : Nat), (12 : Nat), (13 : Nat))]) ∈ lw_all := lw_g (lw_at lw_m5 40 rfl) rfl
theorem q1054 : (Jvm.Cond.methodLink "HyperVaneLaw" (31 : Nat) ({ cls := "HyperVane", name := "frames", desc := "(I)I" } : Jvm.MethodName)) ∈ lw_all := lw_g (lw_at lw_m5 41 rfl) rfl
theorem q1058 : (Jvm.Cond.methodLink "HyperVaneLaw" (106 : Nat) ({ cls := "HyperVaneLaw", name := "giveUp", desc := "(LHyperVane;II[J)I" } : Jvm.MethodName)) ∈ lw_all := lw_g (lw_at lw_m5 45 rfl) rfl
theorem q1059 : (Jvm.Cond.static ({ cls := "HyperVaneLaw", name := "giveUp", desc := "(LHyperVane;II[J)I" } : Jvm.MethodName)) ∈ lw_all := lw_g (lw_at lw_m5 46 rfl) rfl
theorem q1060 : (Jvm.Cond.codeWith ({ cls := "HyperVaneLaw", name := "giveUp", desc := "(LHyperVane;II[J)I" } : Jvm.MethodName) method_8_code (5 : Nat) (Option.some Jvm.ClassFile.FieldType.int) [((0 : Nat), (10 : Nat), (13 : Nat), (21 : Nat)), ((0 : Nat), (10 : Nat), (17 : Nat), (13 : Nat)), ((0 : Nat), (10 : Nat), (21 : Nat), (15 : Nat))]) ∈ lw_all := lw_g (lw_at lw_m5 47 rfl) rfl
theorem q1061 : (Jvm.Cond.methodLink "HyperVaneLaw" (34 : Nat) ({ cls := "HyperVane", name := "giveUp", desc := "(II)I" } : Jvm.MethodName)) ∈ lw_all := lw_g (lw_at lw_m5 48 rfl) rfl
theorem q1072 : (Jvm.Cond.methodLink "HyperVaneLaw" (109 : Nat) ({ cls := "HyperVaneLaw", name := "move", desc := "(LHyperVane;II[J)I" } : Jvm.MethodName)) ∈ lw_all := lw_g (lw_at lw_m5 59 rfl) rfl
theorem q1073 : (Jvm.Cond.static ({ cls := "HyperVaneLaw", name := "move", desc := "(LHyperVane;II[J)I" } : Jvm.MethodName)) ∈ lw_all := lw_g (lw_at lw_m5 60 rfl) rfl
theorem q1074 : (Jvm.Cond.codeWith ({ cls := "HyperVaneLaw", name := "move", desc := "(LHyperVane;II[J)I" } : Jvm.MethodName) method_9_code (5 : Nat) (Option.some Jvm.ClassFile.FieldType.int) [((0 : Nat), (10 : Nat), (13 : Nat), (21 : Nat)), ((0 : Nat), (10 : Nat), (17 : Nat), (13 : Nat)), ((0 : Nat), (10 : Nat), (21 : Nat), (15 : Nat))]) ∈ lw_all := lw_g (lw_at lw_m5 61 rfl) rfl
theorem q1075 : (Jvm.Cond.methodLink "HyperVaneLaw" (37 : Nat) ({ cls := "HyperVane", name := "move", desc := "(II)I" } : Jvm.MethodName)) ∈ lw_all := lw_g (lw_at lw_m5 62 rfl) rfl
theorem q1082 : (Jvm.Cond.methodLink "HyperVaneLaw" (112 : Nat) ({ cls := "HyperVaneLaw", name := "snap", desc := "(LHyperVane;I[J)I" } : Jvm.MethodName)) ∈ lw_all := lw_g (lw_at lw_m5 69 rfl) rfl
theorem q1083 : (Jvm.Cond.static ({ cls := "HyperVaneLaw", name := "snap", desc := "(LHyperVane;I[J)I" } : Jvm.MethodName)) ∈ lw_all := lw_g (lw_at lw_m5 70 rfl) rfl
theorem q1084 : (Jvm.Cond.codeWith ({ cls := "HyperVaneLaw", name := "snap", desc := "(LHyperVane;I[J)I" } : Jvm.MethodName) method_10_code (4 : Nat) (Option.some Jvm.ClassFile.FieldType.int) [((0 : Nat), (9 : Nat), (12 : Nat), (21 : Nat)), ((0 : Nat), (9 : Nat), (15 : Nat), (15 : Nat))]) ∈ lw_all := lw_g (lw_at lw_m5 71 rfl) rfl
theorem q1085 : (Jvm.Cond.methodLink "HyperVaneLaw" (40 : Nat) ({ cls := "HyperVane", name := "snap", desc := "(I)I" } : Jvm.MethodName)) ∈ lw_all := lw_g (lw_at lw_m5 72 rfl) rfl
theorem q1092 : (Jvm.Cond.methodLink "HyperVaneLaw" (115 : Nat) ({ cls := "HyperVaneLaw", name := "run", desc := "(LHyperVane;I[J)I" } : Jvm.MethodName)) ∈ lw_all := lw_g (lw_at lw_m5 79 rfl) rfl
theorem q1093 : (Jvm.Cond.static ({ cls := "HyperVaneLaw", name := "run", desc := "(LHyperVane;I[J)I" } : Jvm.MethodName)) ∈ lw_all := lw_g (lw_at lw_m5 80 rfl) rfl
theorem q1094 : (Jvm.Cond.codeWith ({ cls := "HyperVaneLaw", name := "run", desc := "(LHyperVane;I[J)I" } : Jvm.MethodName) method_11_code (4 : Nat) (Option.some Jvm.ClassFile.FieldType.int) [((0 : Nat), (9 : Nat), (12 : Nat), (13 : Nat))]) ∈ lw_all := lw_g (lw_at lw_m5 81 rfl) rfl
theorem q1095 : (Jvm.Cond.methodLink "HyperVaneLaw" (43 : Nat) ({ cls := "HyperVane", name := "run", desc := "(I)I" } : Jvm.MethodName)) ∈ lw_all := lw_g (lw_at lw_m5 82 rfl) rfl
theorem q1102 : (Jvm.Cond.methodLink "HyperVaneLaw" (118 : Nat) ({ cls := "HyperVaneLaw", name := "ofGuest", desc := "(LHyperVane;II[J)I" } : Jvm.MethodName)) ∈ lw_all := lw_g (lw_at lw_m5 89 rfl) rfl
theorem q1103 : (Jvm.Cond.static ({ cls := "HyperVaneLaw", name := "ofGuest", desc := "(LHyperVane;II[J)I" } : Jvm.MethodName)) ∈ lw_all := lw_g (lw_at lw_m5 90 rfl) rfl
theorem q1104 : (Jvm.Cond.codeWith ({ cls := "HyperVaneLaw", name := "ofGuest", desc := "(LHyperVane;II[J)I" } : Jvm.MethodName) method_12_code (5 : Nat) (Option.some Jvm.ClassFile.FieldType.int) [((0 : Nat), (10 : Nat), (13 : Nat), (21 : Nat)), ((0 : Nat), (10 : Nat), (17 : Nat), (13 : Nat))]) ∈ lw_all := lw_g (lw_at lw_m5 91 rfl) rfl
theorem q1105 : (Jvm.Cond.methodLink "HyperVaneLaw" (46 : Nat) ({ cls := "HyperVane", name := "ofGuest", desc := "(II)I" } : Jvm.MethodName)) ∈ lw_all := lw_g (lw_at lw_m5 92 rfl) rfl
theorem q1109 : (Jvm.Cond.methodLink "HyperVaneLaw" (121 : Nat) ({ cls := "HyperVaneLaw", name := "exits", desc := "(LHyperVane;II[J)I" } : Jvm.MethodName)) ∈ lw_all := lw_g (lw_at lw_m5 96 rfl) rfl
theorem q1110 : (Jvm.Cond.static ({ cls := "HyperVaneLaw", name := "exits", desc := "(LHyperVane;II[J)I" } : Jvm.MethodName)) ∈ lw_all := lw_g (lw_at lw_m5 97 rfl) rfl
theorem q1111 : (Jvm.Cond.codeWith ({ cls := "HyperVaneLaw", name := "exits", desc := "(LHyperVane;II[J)I" } : Jvm.MethodName) method_13_code (5 : Nat) (Option.some Jvm.ClassFile.FieldType.int) [((0 : Nat), (10 : Nat), (13 : Nat), (21 : Nat)), ((0 : Nat), (10 : Nat), (17 : Nat), (13 : Nat))]) ∈ lw_all := lw_g (lw_at lw_m5 98 rfl) rfl
theorem q1112 : (Jvm.Cond.methodLink "HyperVaneLaw" (49 : Nat) ({ cls := "HyperVane", name := "exits", desc := "(II)I" } : Jvm.MethodName)) ∈ lw_all := lw_g (lw_at lw_m5 99 rfl) rfl
theorem q1116 : (Jvm.Cond.methodLink "HyperVaneLaw" (124 : Nat) ({ cls := "HyperVaneLaw", name := "ofPage", desc := "(LHyperVane;III[J)I" } : Jvm.MethodName)) ∈ lw_all := lw_g (lw_at lw_m5 103 rfl) rfl
theorem q1117 : (Jvm.Cond.static ({ cls := "HyperVaneLaw", name := "ofPage", desc := "(LHyperVane;III[J)I" } : Jvm.MethodName)) ∈ lw_all := lw_g (lw_at lw_m5 104 rfl) rfl
theorem q1118 : (Jvm.Cond.codeWith ({ cls := "HyperVaneLaw", name := "ofPage", desc := "(LHyperVane;III[J)I" } : Jvm.MethodName) method_14_code (6 : Nat) (Option.some Jvm.ClassFile.FieldType.int) [((0 : Nat), (12 : Nat), (15 : Nat), (21 : Nat)), ((0 : Nat), (12 : Nat), (19 : Nat), (13 : Nat))]) ∈ lw_all := lw_g (lw_at lw_m5 105 rfl) rfl
theorem q1119 : (Jvm.Cond.methodLink "HyperVaneLaw" (52 : Nat) ({ cls := "HyperVane", name := "ofPage", desc := "(III)I" } : Jvm.MethodName)) ∈ lw_all := lw_g (lw_at lw_m5 106 rfl) rfl
theorem q1123 : (Jvm.Cond.methodLink "HyperVaneLaw" (127 : Nat) ({ cls := "HyperVaneLaw", name := "ofFrame", desc := "(LHyperVane;II[J)I" } : Jvm.MethodName)) ∈ lw_all := lw_g (lw_at lw_m5 110 rfl) rfl
theorem q1124 : (Jvm.Cond.static ({ cls := "HyperVaneLaw", name := "ofFrame", desc := "(LHyperVane;II[J)I" } : Jvm.MethodName)) ∈ lw_all := lw_g (lw_at lw_m5 111 rfl) rfl
theorem q1125 : (Jvm.Cond.codeWith ({ cls := "HyperVaneLaw", name := "ofFrame", desc := "(LHyperVane;II[J)I" } : Jvm.MethodName) method_15_code (5 : Nat) (Option.some Jvm.ClassFile.FieldType.int) [((0 : Nat), (10 : Nat), (13 : Nat), (21 : Nat)), ((0 : Nat), (10 : Nat), (17 : Nat), (13 : Nat))]) ∈ lw_all := lw_g (lw_at lw_m5 112 rfl) rfl
theorem q1126 : (Jvm.Cond.methodLink "HyperVaneLaw" (55 : Nat) ({ cls := "HyperVane", name := "ofFrame", desc := "(II)I" } : Jvm.MethodName)) ∈ lw_all := lw_g (lw_at lw_m5 113 rfl) rfl
theorem q1130 : (Jvm.Cond.methodLink "HyperVaneLaw" (130 : Nat) ({ cls := "HyperVaneLaw", name := "logged", desc := "(LHyperVane;II[J)I" } : Jvm.MethodName)) ∈ lw_all := lw_g (lw_at lw_m5 117 rfl) rfl
theorem q1131 : (Jvm.Cond.static ({ cls := "HyperVaneLaw", name := "logged", desc := "(LHyperVane;II[J)I" } : Jvm.MethodName)) ∈ lw_all := lw_g (lw_at lw_m5 118 rfl) rfl
theorem q1132 : (Jvm.Cond.codeWith ({ cls := "HyperVaneLaw", name := "logged", desc := "(LHyperVane;II[J)I" } : Jvm.MethodName) method_16_code (5 : Nat) (Option.some Jvm.ClassFile.FieldType.int) [((0 : Nat), (10 : Nat), (13 : Nat), (21 : Nat)), ((0 : Nat), (10 : Nat), (17 : Nat), (13 : Nat))]) ∈ lw_all := lw_g (lw_at lw_m5 119 rfl) rfl
theorem q1133 : (Jvm.Cond.methodLink "HyperVaneLaw" (58 : Nat) ({ cls := "HyperVane", name := "logged", desc := "(II)I" } : Jvm.MethodName)) ∈ lw_all := lw_g (lw_at lw_m5 120 rfl) rfl
theorem q1137 : (Jvm.Cond.methodLink "HyperVaneLaw" (133 : Nat) ({ cls := "HyperVaneLaw", name := "many", desc := "(LHyperVane;I[J)I" } : Jvm.MethodName)) ∈ lw_all := lw_g (lw_at lw_m5 124 rfl) rfl
theorem q1138 : (Jvm.Cond.static ({ cls := "HyperVaneLaw", name := "many", desc := "(LHyperVane;I[J)I" } : Jvm.MethodName)) ∈ lw_all := lw_g (lw_at lw_m5 125 rfl) rfl
theorem q1139 : (Jvm.Cond.codeWith ({ cls := "HyperVaneLaw", name := "many", desc := "(LHyperVane;I[J)I" } : Jvm.MethodName) method_17_code (4 : Nat) (Option.some Jvm.ClassFile.FieldType.int) [((0 : Nat), (9 : Nat), (12 : Nat), (13 : Nat))]) ∈ lw_all := lw_g (lw_at lw_m5 126 rfl) rfl
theorem q1140 : (Jvm.Cond.methodLink "HyperVaneLaw" (61 : Nat) ({ cls := "HyperVane", name := "many", desc := "(I)I" } : Jvm.MethodName)) ∈ lw_all := lw_g (lw_at lw_m5 127 rfl) rfl
theorem q1144 : (Jvm.Cond.methodLink "HyperVaneLaw" (136 : Nat) ({ cls := "HyperVaneLaw", name := "meanDone", desc := "(LHyperVane;I[D)I" } : Jvm.MethodName)) ∈ lw_all := lw_g (lw_at lw_m5 131 rfl) rfl
theorem q1145 : (Jvm.Cond.static ({ cls := "HyperVaneLaw", name := "meanDone", desc := "(LHyperVane;I[D)I" } : Jvm.MethodName)) ∈ lw_all := lw_g (lw_at lw_m5 132 rfl) rfl
theorem q1146 : (Jvm.Cond.codeWith ({ cls := "HyperVaneLaw", name := "meanDone", desc := "(LHyperVane;I[D)I" } : Jvm.MethodName) method_18_code (4 : Nat) (Option.some Jvm.ClassFile.FieldType.int) [((0 : Nat), (8 : Nat), (11 : Nat), (21 : Nat))]) ∈ lw_all := lw_g (lw_at lw_m5 133 rfl) rfl
theorem q1147 : (Jvm.Cond.methodLink "HyperVaneLaw" (64 : Nat) ({ cls := "HyperVane", name := "meanDone", desc := "(I)D" } : Jvm.MethodName)) ∈ lw_all := lw_g (lw_at lw_m5 134 rfl) rfl
theorem q1151 : (Jvm.Cond.methodLink "HyperVaneLaw" (140 : Nat) ({ cls := "HyperVaneLaw", name := "replayed", desc := "(LHyperVane;III[J)I" } : Jvm.MethodName)) ∈ lw_all := lw_g (lw_at lw_m5 138 rfl) rfl
theorem q1152 : (Jvm.Cond.static ({ cls := "HyperVaneLaw", name := "replayed", desc := "(LHyperVane;III[J)I" } : Jvm.MethodName)) ∈ lw_all := lw_g (lw_at lw_m5 139 rfl) rfl
theorem q1153 : (Jvm.Cond.codeWith ({ cls := "HyperVaneLaw", name := "replayed", desc := "(LHyperVane;III[J)I" } : Jvm.MethodName) method_19_code (6 : Nat) (Option.some Jvm.ClassFile.FieldType.int) [((0 : Nat), (12 : Nat), (15 : Nat), (21 : Nat)), ((0 : Nat), (12 : Nat), (19 : Nat), (13 : Nat))]) ∈ lw_all := lw_g (lw_at lw_m5 140 rfl) rfl
theorem q1154 : (Jvm.Cond.methodLink "HyperVaneLaw" (68 : Nat) ({ cls := "HyperVane", name := "replayed", desc := "(III)I" } : Jvm.MethodName)) ∈ lw_all := lw_g (lw_at lw_m5 141 rfl) rfl
theorem q1158 : (Jvm.Cond.methodLink "HyperVaneLaw" (143 : Nat) ({ cls := "HyperVaneLaw", name := "doneIn", desc := "(LHyperVane;II[J)I" } : Jvm.MethodName)) ∈ lw_all := lw_g (lw_at lw_m5 145 rfl) rfl
theorem q1159 : (Jvm.Cond.static ({ cls := "HyperVaneLaw", name := "doneIn", desc := "(LHyperVane;II[J)I" } : Jvm.MethodName)) ∈ lw_all := lw_g (lw_at lw_m5 146 rfl) rfl
theorem q1160 : (Jvm.Cond.codeWith ({ cls := "HyperVaneLaw", name := "doneIn", desc := "(LHyperVane;II[J)I" } : Jvm.MethodName) method_20_code (5 : Nat) (Option.some Jvm.ClassFile.FieldType.int) [((0 : Nat), (10 : Nat), (13 : Nat), (21 : Nat)), ((0 : Nat), (10 : Nat), (17 : Nat), (13 : Nat))]) ∈ lw_all := lw_g (lw_at lw_m5 147 rfl) rfl
theorem q1161 : (Jvm.Cond.methodLink "HyperVaneLaw" (71 : Nat) ({ cls := "HyperVane", name := "doneIn", desc := "(II)I" } : Jvm.MethodName)) ∈ lw_all := lw_g (lw_at lw_m5 148 rfl) rfl
theorem q1165 : (Jvm.Cond.methodLink "HyperVaneLaw" (146 : Nat) ({ cls := "HyperVaneLaw", name := "awayIn", desc := "(LHyperVane;II[J)I" } : Jvm.MethodName)) ∈ lw_all := lw_g (lw_at lw_m5 152 rfl) rfl
theorem q1166 : (Jvm.Cond.static ({ cls := "HyperVaneLaw", name := "awayIn", desc := "(LHyperVane;II[J)I" } : Jvm.MethodName)) ∈ lw_all := lw_g (lw_at lw_m5 153 rfl) rfl
theorem q1167 : (Jvm.Cond.codeWith ({ cls := "HyperVaneLaw", name := "awayIn", desc := "(LHyperVane;II[J)I" } : Jvm.MethodName) method_21_code (5 : Nat) (Option.some Jvm.ClassFile.FieldType.int) [((0 : Nat), (10 : Nat), (13 : Nat), (21 : Nat)), ((0 : Nat), (10 : Nat), (17 : Nat), (13 : Nat)), ((0 : Nat), (10 : Nat), (21 : Nat), (15 : Nat))]) ∈ lw_all := lw_g (lw_at lw_m5 154 rfl) rfl
theorem q1168 : (Jvm.Cond.methodLink "HyperVaneLaw" (74 : Nat) ({ cls := "HyperVane", name := "awayIn", desc := "(II)I" } : Jvm.MethodName)) ∈ lw_all := lw_g (lw_at lw_m5 155 rfl) rfl
theorem q1172 : (Jvm.Cond.classLink "HyperVaneLaw" (78 : Nat) "HyperVaneModel") ∈ lw_all := lw_g (lw_at lw_m5 159 rfl) rfl
theorem q1174 : (Jvm.Cond.methodLink "HyperVaneLaw" (80 : Nat) ({ cls := "HyperVaneModel", name := "<init>", desc := "()V" } : Jvm.MethodName)) ∈ lw_all := lw_g (lw_at lw_m5 161 rfl) rfl
theorem q1236 : (Jvm.Cond.methodLink "HyperVaneLaw" (87 : Nat) ({ cls := "HyperVaneModel", name := "thrown", desc := "()I" } : Jvm.MethodName)) ∈ lw_all := lw_g (lw_at lw_m5 223 rfl) rfl
theorem q1240 : (Jvm.Cond.methodLink "HyperVaneLaw" (86 : Nat) ({ cls := "HyperVaneModel", name := "guest", desc := "(I)I" } : Jvm.MethodName)) ∈ lw_all := lw_g (lw_at lw_m5 227 rfl) rfl
theorem q1412 : (Jvm.Cond.methodLink "HyperVaneLaw" (94 : Nat) ({ cls := "HyperVaneModel", name := "op", desc := "(III)I" } : Jvm.MethodName)) ∈ lw_all := lw_g (lw_at lw_m6 159 rfl) rfl
theorem q1424 : (Jvm.Cond.methodLink "HyperVaneLaw" (98 : Nat) ({ cls := "HyperVaneModel", name := "weight", desc := "(II)I" } : Jvm.MethodName)) ∈ lw_all := lw_g (lw_at lw_m6 171 rfl) rfl
theorem q1428 : (Jvm.Cond.methodLink "HyperVaneLaw" (102 : Nat) ({ cls := "HyperVaneModel", name := "pause", desc := "(IZ)Z" } : Jvm.MethodName)) ∈ lw_all := lw_g (lw_at lw_m6 175 rfl) rfl
theorem q1440 : (Jvm.Cond.methodLink "HyperVaneLaw" (105 : Nat) ({ cls := "HyperVaneModel", name := "frames", desc := "(I)I" } : Jvm.MethodName)) ∈ lw_all := lw_g (lw_at lw_m6 187 rfl) rfl
theorem q1455 : (Jvm.Cond.methodLink "HyperVaneLaw" (108 : Nat) ({ cls := "HyperVaneModel", name := "giveUp", desc := "(II)I" } : Jvm.MethodName)) ∈ lw_all := lw_g (lw_at lw_m6 202 rfl) rfl
theorem q1464 : (Jvm.Cond.methodLink "HyperVaneLaw" (111 : Nat) ({ cls := "HyperVaneModel", name := "move", desc := "(II)I" } : Jvm.MethodName)) ∈ lw_all := lw_g (lw_at lw_m6 211 rfl) rfl
theorem q1485 : (Jvm.Cond.methodLink "HyperVaneLaw" (114 : Nat) ({ cls := "HyperVaneModel", name := "snap", desc := "(I)I" } : Jvm.MethodName)) ∈ lw_all := lw_g (lw_at lw_m6 232 rfl) rfl
theorem q1492 : (Jvm.Cond.methodLink "HyperVaneLaw" (117 : Nat) ({ cls := "HyperVaneModel", name := "run", desc := "(I)I" } : Jvm.MethodName)) ∈ lw_all := lw_g (lw_at lw_m6 239 rfl) rfl
theorem q1560 : (Jvm.Cond.methodLink "HyperVaneLaw" (120 : Nat) ({ cls := "HyperVaneModel", name := "ofGuest", desc := "(II)I" } : Jvm.MethodName)) ∈ lw_all := lw_g (lw_at lw_m7 67 rfl) rfl
theorem q1569 : (Jvm.Cond.methodLink "HyperVaneLaw" (123 : Nat) ({ cls := "HyperVaneModel", name := "exits", desc := "(II)I" } : Jvm.MethodName)) ∈ lw_all := lw_g (lw_at lw_m7 76 rfl) rfl
theorem q1573 : (Jvm.Cond.methodLink "HyperVaneLaw" (126 : Nat) ({ cls := "HyperVaneModel", name := "ofPage", desc := "(III)I" } : Jvm.MethodName)) ∈ lw_all := lw_g (lw_at lw_m7 80 rfl) rfl
theorem q1584 : (Jvm.Cond.methodLink "HyperVaneLaw" (129 : Nat) ({ cls := "HyperVaneModel", name := "ofFrame", desc := "(II)I" } : Jvm.MethodName)) ∈ lw_all := lw_g (lw_at lw_m7 91 rfl) rfl
theorem q1593 : (Jvm.Cond.methodLink "HyperVaneLaw" (132 : Nat) ({ cls := "HyperVaneModel", name := "logged", desc := "(II)I" } : Jvm.MethodName)) ∈ lw_all := lw_g (lw_at lw_m7 100 rfl) rfl
theorem q1603 : (Jvm.Cond.methodLink "HyperVaneLaw" (135 : Nat) ({ cls := "HyperVaneModel", name := "many", desc := "(I)I" } : Jvm.MethodName)) ∈ lw_all := lw_g (lw_at lw_m7 110 rfl) rfl
theorem q1616 : (Jvm.Cond.methodLink "HyperVaneLaw" (139 : Nat) ({ cls := "HyperVaneModel", name := "meanDone", desc := "(I)D" } : Jvm.MethodName)) ∈ lw_all := lw_g (lw_at lw_m7 123 rfl) rfl
theorem q1620 : (Jvm.Cond.methodLink "HyperVaneLaw" (142 : Nat) ({ cls := "HyperVaneModel", name := "replayed", desc := "(III)I" } : Jvm.MethodName)) ∈ lw_all := lw_g (lw_at lw_m7 127 rfl) rfl
theorem q1636 : (Jvm.Cond.methodLink "HyperVaneLaw" (145 : Nat) ({ cls := "HyperVaneModel", name := "doneIn", desc := "(II)I" } : Jvm.MethodName)) ∈ lw_all := lw_g (lw_at lw_m7 143 rfl) rfl
theorem q1673 : (Jvm.Cond.methodLink "HyperVaneLaw" (148 : Nat) ({ cls := "HyperVaneModel", name := "awayIn", desc := "(II)I" } : Jvm.MethodName)) ∈ lw_all := lw_g (lw_at lw_m7 180 rfl) rfl
theorem q1681 : (Jvm.Cond.methodLink "HyperVaneLaw" (153 : Nat) ({ cls := "HyperVaneModel", name := "digest", desc := "()J" } : Jvm.MethodName)) ∈ lw_all := lw_g (lw_at lw_m7 188 rfl) rfl

/-! the law's own entry -/
set_option maxRecDepth 100000
abbrev cL_law : ByteArray := code
def dkwL_law_59 : List UInt8 := [132, 5, 4, 167, 250, 107, 4, 172]
abbrev dktL_law_59 : List UInt8 := dkwL_law_59 ++ []
def dkwL_law_58 : List UInt8 := [153, 0, 5, 3, 172, 167, 0, 17, 43, 182, 0, 149, 44, 182, 0, 153, 148, 153, 0, 5, 3, 172]
abbrev dktL_law_58 : List UInt8 := dkwL_law_58 ++ dktL_law_59
def dkwL_law_57 : List UInt8 := [182, 0, 87, 21, 6, 159, 0, 5, 3, 172, 21, 6, 154, 0, 15, 45, 3, 47, 21, 7, 133, 148]
abbrev dktL_law_57 : List UInt8 := dkwL_law_57 ++ dktL_law_58
def dkwL_law_56 : List UInt8 := [184, 0, 146, 54, 6, 44, 42, 21, 5, 4, 96, 46, 42, 21, 5, 5, 96, 46, 182, 0, 148, 54, 7, 44]
abbrev dktL_law_56 : List UInt8 := dkwL_law_56 ++ dktL_law_57
def dkwL_law_55 : List UInt8 := [148, 153, 0, 5, 3, 172, 167, 0, 85, 43, 42, 21, 5, 4, 96, 46, 42, 21, 5, 5, 96, 46, 45]
abbrev dktL_law_55 : List UInt8 := dkwL_law_55 ++ dktL_law_56
def dkwL_law_54 : List UInt8 := [54, 7, 44, 182, 0, 87, 21, 6, 159, 0, 5, 3, 172, 21, 6, 154, 0, 15, 45, 3, 47, 21, 7, 133]
abbrev dktL_law_54 : List UInt8 := dkwL_law_54 ++ dktL_law_55
def dkwL_law_53 : List UInt8 := [46, 45, 184, 0, 143, 54, 6, 44, 42, 21, 5, 4, 96, 46, 42, 21, 5, 5, 96, 46, 182, 0, 145]
abbrev dktL_law_53 : List UInt8 := dkwL_law_53 ++ dktL_law_54
def dkwL_law_52 : List UInt8 := [21, 7, 133, 148, 153, 0, 5, 3, 172, 167, 0, 153, 43, 42, 21, 5, 4, 96, 46, 42, 21, 5, 5, 96]
abbrev dktL_law_52 : List UInt8 := dkwL_law_52 ++ dktL_law_53
def dkwL_law_51 : List UInt8 := [182, 0, 142, 54, 7, 44, 182, 0, 87, 21, 6, 159, 0, 5, 3, 172, 21, 6, 154, 0, 15, 45, 3, 47]
abbrev dktL_law_51 : List UInt8 := dkwL_law_51 ++ dktL_law_52
def dkwL_law_50 : List UInt8 := [184, 0, 140, 54, 6, 44, 42, 21, 5, 4, 96, 46, 42, 21, 5, 5, 96, 46, 42, 21, 5, 6, 96, 46]
abbrev dktL_law_50 : List UInt8 := dkwL_law_50 ++ dktL_law_51
def dkwL_law_49 : List UInt8 := [172, 167, 0, 233, 43, 42, 21, 5, 4, 96, 46, 42, 21, 5, 5, 96, 46, 42, 21, 5, 6, 96, 46, 45]
abbrev dktL_law_49 : List UInt8 := dkwL_law_49 ++ dktL_law_50
def dkwL_law_48 : List UInt8 := [153, 0, 25, 25, 4, 3, 49, 25, 4, 3, 49, 151, 153, 0, 11, 24, 7, 24, 7, 151, 154, 0, 5, 3]
abbrev dktL_law_48 : List UInt8 := dkwL_law_48 ++ dktL_law_49
def dkwL_law_47 : List UInt8 := [44, 182, 0, 87, 21, 6, 159, 0, 5, 3, 172, 21, 6, 154, 0, 35, 25, 4, 3, 49, 24, 7, 151]
abbrev dktL_law_47 : List UInt8 := dkwL_law_47 ++ dktL_law_48
def dkwL_law_46 : List UInt8 := [21, 5, 4, 96, 46, 25, 4, 184, 0, 136, 54, 6, 44, 42, 21, 5, 4, 96, 46, 182, 0, 139, 57, 7]
abbrev dktL_law_46 : List UInt8 := dkwL_law_46 ++ dktL_law_47
def dkwL_law_45 : List UInt8 := [172, 21, 6, 154, 0, 15, 45, 3, 47, 21, 7, 133, 148, 153, 0, 5, 3, 172, 167, 1, 54, 43, 42]
abbrev dktL_law_45 : List UInt8 := dkwL_law_45 ++ dktL_law_46
def dkwL_law_44 : List UInt8 := [54, 6, 44, 42, 21, 5, 4, 96, 46, 182, 0, 135, 54, 7, 44, 182, 0, 87, 21, 6, 159, 0, 5, 3]
abbrev dktL_law_44 : List UInt8 := dkwL_law_44 ++ dktL_law_45
def dkwL_law_43 : List UInt8 := [21, 7, 133, 148, 153, 0, 5, 3, 172, 167, 1, 110, 43, 42, 21, 5, 4, 96, 46, 45, 184, 0, 133]
abbrev dktL_law_43 : List UInt8 := dkwL_law_43 ++ dktL_law_44
def dkwL_law_42 : List UInt8 := [182, 0, 132, 54, 7, 44, 182, 0, 87, 21, 6, 159, 0, 5, 3, 172, 21, 6, 154, 0, 15, 45, 3, 47]
abbrev dktL_law_42 : List UInt8 := dkwL_law_42 ++ dktL_law_43
def dkwL_law_41 : List UInt8 := [5, 96, 46, 45, 184, 0, 130, 54, 6, 44, 42, 21, 5, 4, 96, 46, 42, 21, 5, 5, 96, 46]
abbrev dktL_law_41 : List UInt8 := dkwL_law_41 ++ dktL_law_42
def dkwL_law_40 : List UInt8 := [3, 47, 21, 7, 133, 148, 153, 0, 5, 3, 172, 167, 1, 178, 43, 42, 21, 5, 4, 96, 46, 42, 21, 5]
abbrev dktL_law_40 : List UInt8 := dkwL_law_40 ++ dktL_law_41
def dkwL_law_39 : List UInt8 := [96, 46, 182, 0, 129, 54, 7, 44, 182, 0, 87, 21, 6, 159, 0, 5, 3, 172, 21, 6, 154, 0, 15, 45]
abbrev dktL_law_39 : List UInt8 := dkwL_law_39 ++ dktL_law_40
def dkwL_law_38 : List UInt8 := [46, 42, 21, 5, 5, 96, 46, 45, 184, 0, 127, 54, 6, 44, 42, 21, 5, 4, 96, 46, 42, 21, 5, 5]
abbrev dktL_law_38 : List UInt8 := dkwL_law_38 ++ dktL_law_39
def dkwL_law_37 : List UInt8 := [154, 0, 15, 45, 3, 47, 21, 7, 133, 148, 153, 0, 5, 3, 172, 167, 1, 246, 43, 42, 21, 5, 4, 96]
abbrev dktL_law_37 : List UInt8 := dkwL_law_37 ++ dktL_law_38
def dkwL_law_36 : List UInt8 := [21, 5, 6, 96, 46, 182, 0, 126, 54, 7, 44, 182, 0, 87, 21, 6, 159, 0, 5, 3, 172, 21, 6]
abbrev dktL_law_36 : List UInt8 := dkwL_law_36 ++ dktL_law_37
def dkwL_law_35 : List UInt8 := [6, 96, 46, 45, 184, 0, 124, 54, 6, 44, 42, 21, 5, 4, 96, 46, 42, 21, 5, 5, 96, 46, 42]
abbrev dktL_law_35 : List UInt8 := dkwL_law_35 ++ dktL_law_36
def dkwL_law_34 : List UInt8 := [153, 0, 5, 3, 172, 167, 2, 70, 43, 42, 21, 5, 4, 96, 46, 42, 21, 5, 5, 96, 46, 42, 21, 5]
abbrev dktL_law_34 : List UInt8 := dkwL_law_34 ++ dktL_law_35
def dkwL_law_33 : List UInt8 := [182, 0, 87, 21, 6, 159, 0, 5, 3, 172, 21, 6, 154, 0, 15, 45, 3, 47, 21, 7, 133, 148]
abbrev dktL_law_33 : List UInt8 := dkwL_law_33 ++ dktL_law_34
def dkwL_law_32 : List UInt8 := [184, 0, 121, 54, 6, 44, 42, 21, 5, 4, 96, 46, 42, 21, 5, 5, 96, 46, 182, 0, 123, 54, 7, 44]
abbrev dktL_law_32 : List UInt8 := dkwL_law_32 ++ dktL_law_33
def dkwL_law_31 : List UInt8 := [153, 0, 5, 3, 172, 167, 2, 138, 43, 42, 21, 5, 4, 96, 46, 42, 21, 5, 5, 96, 46, 45]
abbrev dktL_law_31 : List UInt8 := dkwL_law_31 ++ dktL_law_32
def dkwL_law_30 : List UInt8 := [182, 0, 87, 21, 6, 159, 0, 5, 3, 172, 21, 6, 154, 0, 15, 45, 3, 47, 21, 7, 133, 148]
abbrev dktL_law_30 : List UInt8 := dkwL_law_30 ++ dktL_law_31
def dkwL_law_29 : List UInt8 := [184, 0, 118, 54, 6, 44, 42, 21, 5, 4, 96, 46, 42, 21, 5, 5, 96, 46, 182, 0, 120, 54, 7, 44]
abbrev dktL_law_29 : List UInt8 := dkwL_law_29 ++ dktL_law_30
def dkwL_law_28 : List UInt8 := [153, 0, 5, 3, 172, 167, 2, 206, 43, 42, 21, 5, 4, 96, 46, 42, 21, 5, 5, 96, 46, 45]
abbrev dktL_law_28 : List UInt8 := dkwL_law_28 ++ dktL_law_29
def dkwL_law_27 : List UInt8 := [182, 0, 87, 21, 6, 159, 0, 5, 3, 172, 21, 6, 154, 0, 15, 45, 3, 47, 21, 7, 133, 148]
abbrev dktL_law_27 : List UInt8 := dkwL_law_27 ++ dktL_law_28
def dkwL_law_26 : List UInt8 := [21, 5, 4, 96, 46, 45, 184, 0, 115, 54, 6, 44, 42, 21, 5, 4, 96, 46, 182, 0, 117, 54, 7, 44]
abbrev dktL_law_26 : List UInt8 := dkwL_law_26 ++ dktL_law_27
def dkwL_law_25 : List UInt8 := [172, 21, 6, 154, 0, 15, 45, 3, 47, 21, 7, 133, 148, 153, 0, 5, 3, 172, 167, 3, 6, 43, 42]
abbrev dktL_law_25 : List UInt8 := dkwL_law_25 ++ dktL_law_26
def dkwL_law_24 : List UInt8 := [54, 6, 44, 42, 21, 5, 4, 96, 46, 182, 0, 114, 54, 7, 44, 182, 0, 87, 21, 6, 159, 0, 5, 3]
abbrev dktL_law_24 : List UInt8 := dkwL_law_24 ++ dktL_law_25
def dkwL_law_23 : List UInt8 := [21, 7, 133, 148, 153, 0, 5, 3, 172, 167, 3, 62, 43, 42, 21, 5, 4, 96, 46, 45, 184, 0, 112]
abbrev dktL_law_23 : List UInt8 := dkwL_law_23 ++ dktL_law_24
def dkwL_law_22 : List UInt8 := [182, 0, 111, 54, 7, 44, 182, 0, 87, 21, 6, 159, 0, 5, 3, 172, 21, 6, 154, 0, 15, 45, 3, 47]
abbrev dktL_law_22 : List UInt8 := dkwL_law_22 ++ dktL_law_23
def dkwL_law_21 : List UInt8 := [5, 96, 46, 45, 184, 0, 109, 54, 6, 44, 42, 21, 5, 4, 96, 46, 42, 21, 5, 5, 96, 46]
abbrev dktL_law_21 : List UInt8 := dkwL_law_21 ++ dktL_law_22
def dkwL_law_20 : List UInt8 := [3, 47, 21, 7, 133, 148, 153, 0, 5, 3, 172, 167, 3, 130, 43, 42, 21, 5, 4, 96, 46, 42, 21, 5]
abbrev dktL_law_20 : List UInt8 := dkwL_law_20 ++ dktL_law_21
def dkwL_law_19 : List UInt8 := [96, 46, 182, 0, 108, 54, 7, 44, 182, 0, 87, 21, 6, 159, 0, 5, 3, 172, 21, 6, 154, 0, 15, 45]
abbrev dktL_law_19 : List UInt8 := dkwL_law_19 ++ dktL_law_20
def dkwL_law_18 : List UInt8 := [46, 42, 21, 5, 5, 96, 46, 45, 184, 0, 106, 54, 6, 44, 42, 21, 5, 4, 96, 46, 42, 21, 5, 5]
abbrev dktL_law_18 : List UInt8 := dkwL_law_18 ++ dktL_law_19
def dkwL_law_17 : List UInt8 := [154, 0, 15, 45, 3, 47, 21, 7, 133, 148, 153, 0, 5, 3, 172, 167, 3, 198, 43, 42, 21, 5, 4, 96]
abbrev dktL_law_17 : List UInt8 := dkwL_law_17 ++ dktL_law_18
def dkwL_law_16 : List UInt8 := [42, 21, 5, 4, 96, 46, 182, 0, 105, 54, 7, 44, 182, 0, 87, 21, 6, 159, 0, 5, 3, 172, 21, 6]
abbrev dktL_law_16 : List UInt8 := dkwL_law_16 ++ dktL_law_17
def dkwL_law_15 : List UInt8 := [9, 148, 153, 0, 5, 3, 172, 167, 3, 254, 43, 42, 21, 5, 4, 96, 46, 45, 184, 0, 103, 54, 6, 44]
abbrev dktL_law_15 : List UInt8 := dkwL_law_15 ++ dktL_law_16
def dkwL_law_14 : List UInt8 := [21, 6, 159, 0, 5, 3, 172, 21, 6, 154, 0, 22, 45, 3, 47, 21, 7, 153, 0, 7, 10, 167, 0, 4]
abbrev dktL_law_14 : List UInt8 := dkwL_law_14 ++ dktL_law_15
def dkwL_law_13 : List UInt8 := [42, 21, 5, 5, 96, 46, 153, 0, 7, 4, 167, 0, 4, 3, 182, 0, 102, 54, 7, 44, 182, 0, 87]
abbrev dktL_law_13 : List UInt8 := dkwL_law_13 ++ dktL_law_14
def dkwL_law_12 : List UInt8 := [5, 96, 46, 153, 0, 7, 4, 167, 0, 4, 3, 45, 184, 0, 99, 54, 6, 44, 42, 21, 5, 4, 96, 46]
abbrev dktL_law_12 : List UInt8 := dkwL_law_12 ++ dktL_law_13
def dkwL_law_11 : List UInt8 := [3, 47, 21, 7, 133, 148, 153, 0, 5, 3, 172, 167, 4, 89, 43, 42, 21, 5, 4, 96, 46, 42, 21, 5]
abbrev dktL_law_11 : List UInt8 := dkwL_law_11 ++ dktL_law_12
def dkwL_law_10 : List UInt8 := [96, 46, 182, 0, 98, 54, 7, 44, 182, 0, 87, 21, 6, 159, 0, 5, 3, 172, 21, 6, 154, 0, 15, 45]
abbrev dktL_law_10 : List UInt8 := dkwL_law_10 ++ dktL_law_11
def dkwL_law_9 : List UInt8 := [46, 42, 21, 5, 5, 96, 46, 45, 184, 0, 95, 54, 6, 44, 42, 21, 5, 4, 96, 46, 42, 21, 5, 5]
abbrev dktL_law_9 : List UInt8 := dkwL_law_9 ++ dktL_law_10
def dkwL_law_8 : List UInt8 := [154, 0, 15, 45, 3, 47, 21, 7, 133, 148, 153, 0, 5, 3, 172, 167, 4, 157, 43, 42, 21, 5, 4, 96]
abbrev dktL_law_8 : List UInt8 := dkwL_law_8 ++ dktL_law_9
def dkwL_law_7 : List UInt8 := [42, 21, 5, 6, 96, 46, 182, 0, 94, 54, 7, 44, 182, 0, 87, 21, 6, 159, 0, 5, 3, 172, 21, 6]
abbrev dktL_law_7 : List UInt8 := dkwL_law_7 ++ dktL_law_8
def dkwL_law_6 : List UInt8 := [21, 5, 6, 96, 46, 45, 184, 0, 91, 54, 6, 44, 42, 21, 5, 4, 96, 46, 42, 21, 5, 5, 96, 46]
abbrev dktL_law_6 : List UInt8 := dkwL_law_6 ++ dktL_law_7
def dkwL_law_5 : List UInt8 := [148, 153, 0, 5, 3, 172, 167, 4, 237, 43, 42, 21, 5, 4, 96, 46, 42, 21, 5, 5, 96, 46, 42]
abbrev dktL_law_5 : List UInt8 := dkwL_law_5 ++ dktL_law_6
def dkwL_law_4 : List UInt8 := [54, 7, 44, 182, 0, 87, 21, 6, 159, 0, 5, 3, 172, 21, 6, 154, 0, 15, 45, 3, 47, 21, 7, 133]
abbrev dktL_law_4 : List UInt8 := dkwL_law_4 ++ dktL_law_5
def dkwL_law_3 : List UInt8 := [43, 42, 21, 5, 4, 96, 46, 45, 184, 0, 81, 54, 6, 44, 42, 21, 5, 4, 96, 46, 182, 0, 86]
abbrev dktL_law_3 : List UInt8 := dkwL_law_3 ++ dktL_law_4
def dkwL_law_2 : List UInt8 := [170, 0, 0, 0, 0, 0, 5, 130, 0, 0, 0, 0, 0, 0, 0, 19, 0, 0, 0, 96, 0, 0, 0, 152, 0, 0, 0, 232, 0, 0, 1, 44, 0, 0, 1, 135, 0, 0, 1, 191, 0, 0, 2, 3, 0, 0, 2, 71, 0, 0, 2, 127, 0, 0, 2, 183, 0, 0, 2, 251, 0, 0, 3, 63, 0, 0, 3, 143, 0, 0, 3, 211, 0, 0, 4, 23, 0, 0, 4, 79, 0, 0, 4, 156, 0, 0, 4, 236, 0, 0, 5, 48, 0, 0, 5, 116]
abbrev dktL_law_2 : List UInt8 := dkwL_law_2 ++ dktL_law_3
def dkwL_law_1 : List UInt8 := [58, 4, 3, 54, 5, 21, 5, 42, 190, 7, 100, 163, 5, 146, 42, 21, 5, 46, 16, 31, 126]
abbrev dktL_law_1 : List UInt8 := dkwL_law_1 ++ dktL_law_2
def dkwL_law_0 : List UInt8 := [187, 0, 8, 89, 183, 0, 77, 76, 187, 0, 78, 89, 183, 0, 80, 77, 4, 188, 11, 78, 4, 188, 7]
abbrev dktL_law_0 : List UInt8 := dkwL_law_0 ++ dktL_law_1
theorem dksL_law_0 : cL_law.data.toList.drop 0 = dktL_law_0 := by decide +kernel
theorem dksL_law_1 : cL_law.data.toList.drop 23 = dktL_law_1 := dk_seg dksL_law_0 23 rfl rfl
theorem dksL_law_2 : cL_law.data.toList.drop 44 = dktL_law_2 := dk_seg dksL_law_1 21 rfl rfl
theorem dksL_law_3 : cL_law.data.toList.drop 140 = dktL_law_3 := dk_seg dksL_law_2 96 rfl rfl
theorem dksL_law_4 : cL_law.data.toList.drop 163 = dktL_law_4 := dk_seg dksL_law_3 23 rfl rfl
theorem dksL_law_5 : cL_law.data.toList.drop 187 = dktL_law_5 := dk_seg dksL_law_4 24 rfl rfl
theorem dksL_law_6 : cL_law.data.toList.drop 210 = dktL_law_6 := dk_seg dksL_law_5 23 rfl rfl
theorem dksL_law_7 : cL_law.data.toList.drop 234 = dktL_law_7 := dk_seg dksL_law_6 24 rfl rfl
theorem dksL_law_8 : cL_law.data.toList.drop 258 = dktL_law_8 := dk_seg dksL_law_7 24 rfl rfl
theorem dksL_law_9 : cL_law.data.toList.drop 282 = dktL_law_9 := dk_seg dksL_law_8 24 rfl rfl
theorem dksL_law_10 : cL_law.data.toList.drop 306 = dktL_law_10 := dk_seg dksL_law_9 24 rfl rfl
theorem dksL_law_11 : cL_law.data.toList.drop 330 = dktL_law_11 := dk_seg dksL_law_10 24 rfl rfl
theorem dksL_law_12 : cL_law.data.toList.drop 354 = dktL_law_12 := dk_seg dksL_law_11 24 rfl rfl
theorem dksL_law_13 : cL_law.data.toList.drop 378 = dktL_law_13 := dk_seg dksL_law_12 24 rfl rfl
theorem dksL_law_14 : cL_law.data.toList.drop 401 = dktL_law_14 := dk_seg dksL_law_13 23 rfl rfl
theorem dksL_law_15 : cL_law.data.toList.drop 425 = dktL_law_15 := dk_seg dksL_law_14 24 rfl rfl
theorem dksL_law_16 : cL_law.data.toList.drop 449 = dktL_law_16 := dk_seg dksL_law_15 24 rfl rfl
theorem dksL_law_17 : cL_law.data.toList.drop 473 = dktL_law_17 := dk_seg dksL_law_16 24 rfl rfl
theorem dksL_law_18 : cL_law.data.toList.drop 497 = dktL_law_18 := dk_seg dksL_law_17 24 rfl rfl
theorem dksL_law_19 : cL_law.data.toList.drop 521 = dktL_law_19 := dk_seg dksL_law_18 24 rfl rfl
theorem dksL_law_20 : cL_law.data.toList.drop 545 = dktL_law_20 := dk_seg dksL_law_19 24 rfl rfl
theorem dksL_law_21 : cL_law.data.toList.drop 569 = dktL_law_21 := dk_seg dksL_law_20 24 rfl rfl
theorem dksL_law_22 : cL_law.data.toList.drop 591 = dktL_law_22 := dk_seg dksL_law_21 22 rfl rfl
theorem dksL_law_23 : cL_law.data.toList.drop 615 = dktL_law_23 := dk_seg dksL_law_22 24 rfl rfl
theorem dksL_law_24 : cL_law.data.toList.drop 638 = dktL_law_24 := dk_seg dksL_law_23 23 rfl rfl
theorem dksL_law_25 : cL_law.data.toList.drop 662 = dktL_law_25 := dk_seg dksL_law_24 24 rfl rfl
theorem dksL_law_26 : cL_law.data.toList.drop 685 = dktL_law_26 := dk_seg dksL_law_25 23 rfl rfl
theorem dksL_law_27 : cL_law.data.toList.drop 709 = dktL_law_27 := dk_seg dksL_law_26 24 rfl rfl
theorem dksL_law_28 : cL_law.data.toList.drop 731 = dktL_law_28 := dk_seg dksL_law_27 22 rfl rfl
theorem dksL_law_29 : cL_law.data.toList.drop 753 = dktL_law_29 := dk_seg dksL_law_28 22 rfl rfl
theorem dksL_law_30 : cL_law.data.toList.drop 777 = dktL_law_30 := dk_seg dksL_law_29 24 rfl rfl
theorem dksL_law_31 : cL_law.data.toList.drop 799 = dktL_law_31 := dk_seg dksL_law_30 22 rfl rfl
theorem dksL_law_32 : cL_law.data.toList.drop 821 = dktL_law_32 := dk_seg dksL_law_31 22 rfl rfl
theorem dksL_law_33 : cL_law.data.toList.drop 845 = dktL_law_33 := dk_seg dksL_law_32 24 rfl rfl
theorem dksL_law_34 : cL_law.data.toList.drop 867 = dktL_law_34 := dk_seg dksL_law_33 22 rfl rfl
theorem dksL_law_35 : cL_law.data.toList.drop 891 = dktL_law_35 := dk_seg dksL_law_34 24 rfl rfl
theorem dksL_law_36 : cL_law.data.toList.drop 914 = dktL_law_36 := dk_seg dksL_law_35 23 rfl rfl
theorem dksL_law_37 : cL_law.data.toList.drop 937 = dktL_law_37 := dk_seg dksL_law_36 23 rfl rfl
theorem dksL_law_38 : cL_law.data.toList.drop 961 = dktL_law_38 := dk_seg dksL_law_37 24 rfl rfl
theorem dksL_law_39 : cL_law.data.toList.drop 985 = dktL_law_39 := dk_seg dksL_law_38 24 rfl rfl
theorem dksL_law_40 : cL_law.data.toList.drop 1009 = dktL_law_40 := dk_seg dksL_law_39 24 rfl rfl
theorem dksL_law_41 : cL_law.data.toList.drop 1033 = dktL_law_41 := dk_seg dksL_law_40 24 rfl rfl
theorem dksL_law_42 : cL_law.data.toList.drop 1055 = dktL_law_42 := dk_seg dksL_law_41 22 rfl rfl
theorem dksL_law_43 : cL_law.data.toList.drop 1079 = dktL_law_43 := dk_seg dksL_law_42 24 rfl rfl
theorem dksL_law_44 : cL_law.data.toList.drop 1102 = dktL_law_44 := dk_seg dksL_law_43 23 rfl rfl
theorem dksL_law_45 : cL_law.data.toList.drop 1126 = dktL_law_45 := dk_seg dksL_law_44 24 rfl rfl
theorem dksL_law_46 : cL_law.data.toList.drop 1149 = dktL_law_46 := dk_seg dksL_law_45 23 rfl rfl
theorem dksL_law_47 : cL_law.data.toList.drop 1173 = dktL_law_47 := dk_seg dksL_law_46 24 rfl rfl
theorem dksL_law_48 : cL_law.data.toList.drop 1196 = dktL_law_48 := dk_seg dksL_law_47 23 rfl rfl
theorem dksL_law_49 : cL_law.data.toList.drop 1220 = dktL_law_49 := dk_seg dksL_law_48 24 rfl rfl
theorem dksL_law_50 : cL_law.data.toList.drop 1244 = dktL_law_50 := dk_seg dksL_law_49 24 rfl rfl
theorem dksL_law_51 : cL_law.data.toList.drop 1268 = dktL_law_51 := dk_seg dksL_law_50 24 rfl rfl
theorem dksL_law_52 : cL_law.data.toList.drop 1292 = dktL_law_52 := dk_seg dksL_law_51 24 rfl rfl
theorem dksL_law_53 : cL_law.data.toList.drop 1316 = dktL_law_53 := dk_seg dksL_law_52 24 rfl rfl
theorem dksL_law_54 : cL_law.data.toList.drop 1339 = dktL_law_54 := dk_seg dksL_law_53 23 rfl rfl
theorem dksL_law_55 : cL_law.data.toList.drop 1363 = dktL_law_55 := dk_seg dksL_law_54 24 rfl rfl
theorem dksL_law_56 : cL_law.data.toList.drop 1386 = dktL_law_56 := dk_seg dksL_law_55 23 rfl rfl
theorem dksL_law_57 : cL_law.data.toList.drop 1410 = dktL_law_57 := dk_seg dksL_law_56 24 rfl rfl
theorem dksL_law_58 : cL_law.data.toList.drop 1432 = dktL_law_58 := dk_seg dksL_law_57 22 rfl rfl
theorem dksL_law_59 : cL_law.data.toList.drop 1454 = dktL_law_59 := dk_seg dksL_law_58 22 rfl rfl
theorem dL_law_0 : decode cL_law 0 = .ok (.new 8, 3) := dk_187 0 8 (dk_at dksL_law_0 0 rfl rfl)
theorem dL_law_3 : decode cL_law 3 = .ok (.dup, 1) := dk_89 (dk_at dksL_law_0 3 rfl rfl)
theorem dL_law_4 : decode cL_law 4 = .ok (.invokespecial 77, 3) := dk_183 0 77 (dk_at dksL_law_0 4 rfl rfl)
theorem dL_law_7 : decode cL_law 7 = .ok (.astore_n 1, 1) := dk_76 (dk_at dksL_law_0 7 rfl rfl)
theorem dL_law_8 : decode cL_law 8 = .ok (.new 78, 3) := dk_187 0 78 (dk_at dksL_law_0 8 rfl rfl)
theorem dL_law_11 : decode cL_law 11 = .ok (.dup, 1) := dk_89 (dk_at dksL_law_0 11 rfl rfl)
theorem dL_law_12 : decode cL_law 12 = .ok (.invokespecial 80, 3) := dk_183 0 80 (dk_at dksL_law_0 12 rfl rfl)
theorem dL_law_15 : decode cL_law 15 = .ok (.astore_n 2, 1) := dk_77 (dk_at dksL_law_0 15 rfl rfl)
theorem dL_law_16 : decode cL_law 16 = .ok (.iconst 1, 1) := dk_4 (dk_at dksL_law_0 16 rfl rfl)
theorem dL_law_17 : decode cL_law 17 = .ok (.newarray .long, 2) := dk_188_11 (dk_at dksL_law_0 17 rfl rfl)
theorem dL_law_19 : decode cL_law 19 = .ok (.astore_n 3, 1) := dk_78 (dk_at dksL_law_0 19 rfl rfl)
theorem dL_law_20 : decode cL_law 20 = .ok (.iconst 1, 1) := dk_4 (dk_at dksL_law_0 20 rfl rfl)
theorem dL_law_21 : decode cL_law 21 = .ok (.newarray .double, 2) := dk_188_7 (dk_at dksL_law_0 21 rfl rfl)
theorem dL_law_23 : decode cL_law 23 = .ok (.astore 4, 2) := dk_58 4 (dk_at dksL_law_1 0 rfl rfl)
theorem dL_law_25 : decode cL_law 25 = .ok (.iconst 0, 1) := dk_3 (dk_at dksL_law_1 2 rfl rfl)
theorem dL_law_26 : decode cL_law 26 = .ok (.istore 5, 2) := dk_54 5 (dk_at dksL_law_1 3 rfl rfl)
theorem dL_law_28 : decode cL_law 28 = .ok (.iload 5, 2) := dk_21 5 (dk_at dksL_law_1 5 rfl rfl)
theorem dL_law_30 : decode cL_law 30 = .ok (.aload_n 0, 1) := dk_42 (dk_at dksL_law_1 7 rfl rfl)
theorem dL_law_31 : decode cL_law 31 = .ok (.arraylength, 1) := dk_190 (dk_at dksL_law_1 8 rfl rfl)
theorem dL_law_32 : decode cL_law 32 = .ok (.iconst 4, 1) := dk_7 (dk_at dksL_law_1 9 rfl rfl)
theorem dL_law_33 : decode cL_law 33 = .ok (.isub, 1) := dk_100 (dk_at dksL_law_1 10 rfl rfl)
theorem dL_law_34 : decode cL_law 34 = .ok (.if_icmp .gt 1426, 3) := dk_163 5 146 (dk_at dksL_law_1 11 rfl rfl)
theorem dL_law_37 : decode cL_law 37 = .ok (.aload_n 0, 1) := dk_42 (dk_at dksL_law_1 14 rfl rfl)
theorem dL_law_38 : decode cL_law 38 = .ok (.iload 5, 2) := dk_21 5 (dk_at dksL_law_1 15 rfl rfl)
theorem dL_law_40 : decode cL_law 40 = .ok (.iaload, 1) := dk_46 (dk_at dksL_law_1 17 rfl rfl)
theorem dL_law_41 : decode cL_law 41 = .ok (.bipush 31, 2) := dk_16 31 (dk_at dksL_law_1 18 rfl rfl)
theorem dL_law_43 : decode cL_law 43 = .ok (.iand, 1) := dk_126 (dk_at dksL_law_1 20 rfl rfl)
theorem dL_law_44 : decode cL_law 44 = .ok (.tableswitch 1410 0 19 #[96, 152, 232, 300, 391, 447, 515, 583, 639, 695, 763, 831, 911, 979, 1047, 1103, 1180, 1260, 1328, 1396], 96) := by decide +kernel
theorem dL_law_140 : decode cL_law 140 = .ok (.aload_n 1, 1) := dk_43 (dk_at dksL_law_3 0 rfl rfl)
theorem dL_law_141 : decode cL_law 141 = .ok (.aload_n 0, 1) := dk_42 (dk_at dksL_law_3 1 rfl rfl)
theorem dL_law_142 : decode cL_law 142 = .ok (.iload 5, 2) := dk_21 5 (dk_at dksL_law_3 2 rfl rfl)
theorem dL_law_144 : decode cL_law 144 = .ok (.iconst 1, 1) := dk_4 (dk_at dksL_law_3 4 rfl rfl)
theorem dL_law_145 : decode cL_law 145 = .ok (.iadd, 1) := dk_96 (dk_at dksL_law_3 5 rfl rfl)
theorem dL_law_146 : decode cL_law 146 = .ok (.iaload, 1) := dk_46 (dk_at dksL_law_3 6 rfl rfl)
theorem dL_law_147 : decode cL_law 147 = .ok (.aload_n 3, 1) := dk_45 (dk_at dksL_law_3 7 rfl rfl)
theorem dL_law_148 : decode cL_law 148 = .ok (.invokestatic 81, 3) := dk_184 0 81 (dk_at dksL_law_3 8 rfl rfl)
theorem dL_law_151 : decode cL_law 151 = .ok (.istore 6, 2) := dk_54 6 (dk_at dksL_law_3 11 rfl rfl)
theorem dL_law_153 : decode cL_law 153 = .ok (.aload_n 2, 1) := dk_44 (dk_at dksL_law_3 13 rfl rfl)
theorem dL_law_154 : decode cL_law 154 = .ok (.aload_n 0, 1) := dk_42 (dk_at dksL_law_3 14 rfl rfl)
theorem dL_law_155 : decode cL_law 155 = .ok (.iload 5, 2) := dk_21 5 (dk_at dksL_law_3 15 rfl rfl)
theorem dL_law_157 : decode cL_law 157 = .ok (.iconst 1, 1) := dk_4 (dk_at dksL_law_3 17 rfl rfl)
theorem dL_law_158 : decode cL_law 158 = .ok (.iadd, 1) := dk_96 (dk_at dksL_law_3 18 rfl rfl)
theorem dL_law_159 : decode cL_law 159 = .ok (.iaload, 1) := dk_46 (dk_at dksL_law_3 19 rfl rfl)
theorem dL_law_160 : decode cL_law 160 = .ok (.invokevirtual 86, 3) := dk_182 0 86 (dk_at dksL_law_3 20 rfl rfl)
theorem dL_law_163 : decode cL_law 163 = .ok (.istore 7, 2) := dk_54 7 (dk_at dksL_law_4 0 rfl rfl)
theorem dL_law_165 : decode cL_law 165 = .ok (.aload_n 2, 1) := dk_44 (dk_at dksL_law_4 2 rfl rfl)
theorem dL_law_166 : decode cL_law 166 = .ok (.invokevirtual 87, 3) := dk_182 0 87 (dk_at dksL_law_4 3 rfl rfl)
theorem dL_law_169 : decode cL_law 169 = .ok (.iload 6, 2) := dk_21 6 (dk_at dksL_law_4 6 rfl rfl)
theorem dL_law_171 : decode cL_law 171 = .ok (.if_icmp .eq 5, 3) := dk_159 0 5 (dk_at dksL_law_4 8 rfl rfl)
theorem dL_law_174 : decode cL_law 174 = .ok (.iconst 0, 1) := dk_3 (dk_at dksL_law_4 11 rfl rfl)
theorem dL_law_175 : decode cL_law 175 = .ok (.ireturn, 1) := dk_172 (dk_at dksL_law_4 12 rfl rfl)
theorem dL_law_176 : decode cL_law 176 = .ok (.iload 6, 2) := dk_21 6 (dk_at dksL_law_4 13 rfl rfl)
theorem dL_law_178 : decode cL_law 178 = .ok (.ifCond .ne 15, 3) := dk_154 0 15 (dk_at dksL_law_4 15 rfl rfl)
theorem dL_law_181 : decode cL_law 181 = .ok (.aload_n 3, 1) := dk_45 (dk_at dksL_law_4 18 rfl rfl)
theorem dL_law_182 : decode cL_law 182 = .ok (.iconst 0, 1) := dk_3 (dk_at dksL_law_4 19 rfl rfl)
theorem dL_law_183 : decode cL_law 183 = .ok (.laload, 1) := dk_47 (dk_at dksL_law_4 20 rfl rfl)
theorem dL_law_184 : decode cL_law 184 = .ok (.iload 7, 2) := dk_21 7 (dk_at dksL_law_4 21 rfl rfl)
theorem dL_law_186 : decode cL_law 186 = .ok (.i2l, 1) := dk_133 (dk_at dksL_law_4 23 rfl rfl)
theorem dL_law_187 : decode cL_law 187 = .ok (.lcmp, 1) := dk_148 (dk_at dksL_law_5 0 rfl rfl)
theorem dL_law_188 : decode cL_law 188 = .ok (.ifCond .eq 5, 3) := dk_153 0 5 (dk_at dksL_law_5 1 rfl rfl)
theorem dL_law_191 : decode cL_law 191 = .ok (.iconst 0, 1) := dk_3 (dk_at dksL_law_5 4 rfl rfl)
theorem dL_law_192 : decode cL_law 192 = .ok (.ireturn, 1) := dk_172 (dk_at dksL_law_5 5 rfl rfl)
theorem dL_law_193 : decode cL_law 193 = .ok (.goto 1261, 3) := dk_167 4 237 (dk_at dksL_law_5 6 rfl rfl)
theorem dL_law_196 : decode cL_law 196 = .ok (.aload_n 1, 1) := dk_43 (dk_at dksL_law_5 9 rfl rfl)
theorem dL_law_197 : decode cL_law 197 = .ok (.aload_n 0, 1) := dk_42 (dk_at dksL_law_5 10 rfl rfl)
theorem dL_law_198 : decode cL_law 198 = .ok (.iload 5, 2) := dk_21 5 (dk_at dksL_law_5 11 rfl rfl)
theorem dL_law_200 : decode cL_law 200 = .ok (.iconst 1, 1) := dk_4 (dk_at dksL_law_5 13 rfl rfl)
theorem dL_law_201 : decode cL_law 201 = .ok (.iadd, 1) := dk_96 (dk_at dksL_law_5 14 rfl rfl)
theorem dL_law_202 : decode cL_law 202 = .ok (.iaload, 1) := dk_46 (dk_at dksL_law_5 15 rfl rfl)
theorem dL_law_203 : decode cL_law 203 = .ok (.aload_n 0, 1) := dk_42 (dk_at dksL_law_5 16 rfl rfl)
theorem dL_law_204 : decode cL_law 204 = .ok (.iload 5, 2) := dk_21 5 (dk_at dksL_law_5 17 rfl rfl)
theorem dL_law_206 : decode cL_law 206 = .ok (.iconst 2, 1) := dk_5 (dk_at dksL_law_5 19 rfl rfl)
theorem dL_law_207 : decode cL_law 207 = .ok (.iadd, 1) := dk_96 (dk_at dksL_law_5 20 rfl rfl)
theorem dL_law_208 : decode cL_law 208 = .ok (.iaload, 1) := dk_46 (dk_at dksL_law_5 21 rfl rfl)
theorem dL_law_209 : decode cL_law 209 = .ok (.aload_n 0, 1) := dk_42 (dk_at dksL_law_5 22 rfl rfl)
theorem dL_law_210 : decode cL_law 210 = .ok (.iload 5, 2) := dk_21 5 (dk_at dksL_law_6 0 rfl rfl)
theorem dL_law_212 : decode cL_law 212 = .ok (.iconst 3, 1) := dk_6 (dk_at dksL_law_6 2 rfl rfl)
theorem dL_law_213 : decode cL_law 213 = .ok (.iadd, 1) := dk_96 (dk_at dksL_law_6 3 rfl rfl)
theorem dL_law_214 : decode cL_law 214 = .ok (.iaload, 1) := dk_46 (dk_at dksL_law_6 4 rfl rfl)
theorem dL_law_215 : decode cL_law 215 = .ok (.aload_n 3, 1) := dk_45 (dk_at dksL_law_6 5 rfl rfl)
theorem dL_law_216 : decode cL_law 216 = .ok (.invokestatic 91, 3) := dk_184 0 91 (dk_at dksL_law_6 6 rfl rfl)
theorem dL_law_219 : decode cL_law 219 = .ok (.istore 6, 2) := dk_54 6 (dk_at dksL_law_6 9 rfl rfl)
theorem dL_law_221 : decode cL_law 221 = .ok (.aload_n 2, 1) := dk_44 (dk_at dksL_law_6 11 rfl rfl)
theorem dL_law_222 : decode cL_law 222 = .ok (.aload_n 0, 1) := dk_42 (dk_at dksL_law_6 12 rfl rfl)
theorem dL_law_223 : decode cL_law 223 = .ok (.iload 5, 2) := dk_21 5 (dk_at dksL_law_6 13 rfl rfl)
theorem dL_law_225 : decode cL_law 225 = .ok (.iconst 1, 1) := dk_4 (dk_at dksL_law_6 15 rfl rfl)
theorem dL_law_226 : decode cL_law 226 = .ok (.iadd, 1) := dk_96 (dk_at dksL_law_6 16 rfl rfl)
theorem dL_law_227 : decode cL_law 227 = .ok (.iaload, 1) := dk_46 (dk_at dksL_law_6 17 rfl rfl)
theorem dL_law_228 : decode cL_law 228 = .ok (.aload_n 0, 1) := dk_42 (dk_at dksL_law_6 18 rfl rfl)
theorem dL_law_229 : decode cL_law 229 = .ok (.iload 5, 2) := dk_21 5 (dk_at dksL_law_6 19 rfl rfl)
theorem dL_law_231 : decode cL_law 231 = .ok (.iconst 2, 1) := dk_5 (dk_at dksL_law_6 21 rfl rfl)
theorem dL_law_232 : decode cL_law 232 = .ok (.iadd, 1) := dk_96 (dk_at dksL_law_6 22 rfl rfl)
theorem dL_law_233 : decode cL_law 233 = .ok (.iaload, 1) := dk_46 (dk_at dksL_law_6 23 rfl rfl)
theorem dL_law_234 : decode cL_law 234 = .ok (.aload_n 0, 1) := dk_42 (dk_at dksL_law_7 0 rfl rfl)
theorem dL_law_235 : decode cL_law 235 = .ok (.iload 5, 2) := dk_21 5 (dk_at dksL_law_7 1 rfl rfl)
theorem dL_law_237 : decode cL_law 237 = .ok (.iconst 3, 1) := dk_6 (dk_at dksL_law_7 3 rfl rfl)
theorem dL_law_238 : decode cL_law 238 = .ok (.iadd, 1) := dk_96 (dk_at dksL_law_7 4 rfl rfl)
theorem dL_law_239 : decode cL_law 239 = .ok (.iaload, 1) := dk_46 (dk_at dksL_law_7 5 rfl rfl)
theorem dL_law_240 : decode cL_law 240 = .ok (.invokevirtual 94, 3) := dk_182 0 94 (dk_at dksL_law_7 6 rfl rfl)
theorem dL_law_243 : decode cL_law 243 = .ok (.istore 7, 2) := dk_54 7 (dk_at dksL_law_7 9 rfl rfl)
theorem dL_law_245 : decode cL_law 245 = .ok (.aload_n 2, 1) := dk_44 (dk_at dksL_law_7 11 rfl rfl)
theorem dL_law_246 : decode cL_law 246 = .ok (.invokevirtual 87, 3) := dk_182 0 87 (dk_at dksL_law_7 12 rfl rfl)
theorem dL_law_249 : decode cL_law 249 = .ok (.iload 6, 2) := dk_21 6 (dk_at dksL_law_7 15 rfl rfl)
theorem dL_law_251 : decode cL_law 251 = .ok (.if_icmp .eq 5, 3) := dk_159 0 5 (dk_at dksL_law_7 17 rfl rfl)
theorem dL_law_254 : decode cL_law 254 = .ok (.iconst 0, 1) := dk_3 (dk_at dksL_law_7 20 rfl rfl)
theorem dL_law_255 : decode cL_law 255 = .ok (.ireturn, 1) := dk_172 (dk_at dksL_law_7 21 rfl rfl)
theorem dL_law_256 : decode cL_law 256 = .ok (.iload 6, 2) := dk_21 6 (dk_at dksL_law_7 22 rfl rfl)
theorem dL_law_258 : decode cL_law 258 = .ok (.ifCond .ne 15, 3) := dk_154 0 15 (dk_at dksL_law_8 0 rfl rfl)
theorem dL_law_261 : decode cL_law 261 = .ok (.aload_n 3, 1) := dk_45 (dk_at dksL_law_8 3 rfl rfl)
theorem dL_law_262 : decode cL_law 262 = .ok (.iconst 0, 1) := dk_3 (dk_at dksL_law_8 4 rfl rfl)
theorem dL_law_263 : decode cL_law 263 = .ok (.laload, 1) := dk_47 (dk_at dksL_law_8 5 rfl rfl)
theorem dL_law_264 : decode cL_law 264 = .ok (.iload 7, 2) := dk_21 7 (dk_at dksL_law_8 6 rfl rfl)
theorem dL_law_266 : decode cL_law 266 = .ok (.i2l, 1) := dk_133 (dk_at dksL_law_8 8 rfl rfl)
theorem dL_law_267 : decode cL_law 267 = .ok (.lcmp, 1) := dk_148 (dk_at dksL_law_8 9 rfl rfl)
theorem dL_law_268 : decode cL_law 268 = .ok (.ifCond .eq 5, 3) := dk_153 0 5 (dk_at dksL_law_8 10 rfl rfl)
theorem dL_law_271 : decode cL_law 271 = .ok (.iconst 0, 1) := dk_3 (dk_at dksL_law_8 13 rfl rfl)
theorem dL_law_272 : decode cL_law 272 = .ok (.ireturn, 1) := dk_172 (dk_at dksL_law_8 14 rfl rfl)
theorem dL_law_273 : decode cL_law 273 = .ok (.goto 1181, 3) := dk_167 4 157 (dk_at dksL_law_8 15 rfl rfl)
theorem dL_law_276 : decode cL_law 276 = .ok (.aload_n 1, 1) := dk_43 (dk_at dksL_law_8 18 rfl rfl)
theorem dL_law_277 : decode cL_law 277 = .ok (.aload_n 0, 1) := dk_42 (dk_at dksL_law_8 19 rfl rfl)
theorem dL_law_278 : decode cL_law 278 = .ok (.iload 5, 2) := dk_21 5 (dk_at dksL_law_8 20 rfl rfl)
theorem dL_law_280 : decode cL_law 280 = .ok (.iconst 1, 1) := dk_4 (dk_at dksL_law_8 22 rfl rfl)
theorem dL_law_281 : decode cL_law 281 = .ok (.iadd, 1) := dk_96 (dk_at dksL_law_8 23 rfl rfl)
theorem dL_law_282 : decode cL_law 282 = .ok (.iaload, 1) := dk_46 (dk_at dksL_law_9 0 rfl rfl)
theorem dL_law_283 : decode cL_law 283 = .ok (.aload_n 0, 1) := dk_42 (dk_at dksL_law_9 1 rfl rfl)
theorem dL_law_284 : decode cL_law 284 = .ok (.iload 5, 2) := dk_21 5 (dk_at dksL_law_9 2 rfl rfl)
theorem dL_law_286 : decode cL_law 286 = .ok (.iconst 2, 1) := dk_5 (dk_at dksL_law_9 4 rfl rfl)
theorem dL_law_287 : decode cL_law 287 = .ok (.iadd, 1) := dk_96 (dk_at dksL_law_9 5 rfl rfl)
theorem dL_law_288 : decode cL_law 288 = .ok (.iaload, 1) := dk_46 (dk_at dksL_law_9 6 rfl rfl)
theorem dL_law_289 : decode cL_law 289 = .ok (.aload_n 3, 1) := dk_45 (dk_at dksL_law_9 7 rfl rfl)
theorem dL_law_290 : decode cL_law 290 = .ok (.invokestatic 95, 3) := dk_184 0 95 (dk_at dksL_law_9 8 rfl rfl)
theorem dL_law_293 : decode cL_law 293 = .ok (.istore 6, 2) := dk_54 6 (dk_at dksL_law_9 11 rfl rfl)
theorem dL_law_295 : decode cL_law 295 = .ok (.aload_n 2, 1) := dk_44 (dk_at dksL_law_9 13 rfl rfl)
theorem dL_law_296 : decode cL_law 296 = .ok (.aload_n 0, 1) := dk_42 (dk_at dksL_law_9 14 rfl rfl)
theorem dL_law_297 : decode cL_law 297 = .ok (.iload 5, 2) := dk_21 5 (dk_at dksL_law_9 15 rfl rfl)
theorem dL_law_299 : decode cL_law 299 = .ok (.iconst 1, 1) := dk_4 (dk_at dksL_law_9 17 rfl rfl)
theorem dL_law_300 : decode cL_law 300 = .ok (.iadd, 1) := dk_96 (dk_at dksL_law_9 18 rfl rfl)
theorem dL_law_301 : decode cL_law 301 = .ok (.iaload, 1) := dk_46 (dk_at dksL_law_9 19 rfl rfl)
theorem dL_law_302 : decode cL_law 302 = .ok (.aload_n 0, 1) := dk_42 (dk_at dksL_law_9 20 rfl rfl)
theorem dL_law_303 : decode cL_law 303 = .ok (.iload 5, 2) := dk_21 5 (dk_at dksL_law_9 21 rfl rfl)
theorem dL_law_305 : decode cL_law 305 = .ok (.iconst 2, 1) := dk_5 (dk_at dksL_law_9 23 rfl rfl)
theorem dL_law_306 : decode cL_law 306 = .ok (.iadd, 1) := dk_96 (dk_at dksL_law_10 0 rfl rfl)
theorem dL_law_307 : decode cL_law 307 = .ok (.iaload, 1) := dk_46 (dk_at dksL_law_10 1 rfl rfl)
theorem dL_law_308 : decode cL_law 308 = .ok (.invokevirtual 98, 3) := dk_182 0 98 (dk_at dksL_law_10 2 rfl rfl)
theorem dL_law_311 : decode cL_law 311 = .ok (.istore 7, 2) := dk_54 7 (dk_at dksL_law_10 5 rfl rfl)
theorem dL_law_313 : decode cL_law 313 = .ok (.aload_n 2, 1) := dk_44 (dk_at dksL_law_10 7 rfl rfl)
theorem dL_law_314 : decode cL_law 314 = .ok (.invokevirtual 87, 3) := dk_182 0 87 (dk_at dksL_law_10 8 rfl rfl)
theorem dL_law_317 : decode cL_law 317 = .ok (.iload 6, 2) := dk_21 6 (dk_at dksL_law_10 11 rfl rfl)
theorem dL_law_319 : decode cL_law 319 = .ok (.if_icmp .eq 5, 3) := dk_159 0 5 (dk_at dksL_law_10 13 rfl rfl)
theorem dL_law_322 : decode cL_law 322 = .ok (.iconst 0, 1) := dk_3 (dk_at dksL_law_10 16 rfl rfl)
theorem dL_law_323 : decode cL_law 323 = .ok (.ireturn, 1) := dk_172 (dk_at dksL_law_10 17 rfl rfl)
theorem dL_law_324 : decode cL_law 324 = .ok (.iload 6, 2) := dk_21 6 (dk_at dksL_law_10 18 rfl rfl)
theorem dL_law_326 : decode cL_law 326 = .ok (.ifCond .ne 15, 3) := dk_154 0 15 (dk_at dksL_law_10 20 rfl rfl)
theorem dL_law_329 : decode cL_law 329 = .ok (.aload_n 3, 1) := dk_45 (dk_at dksL_law_10 23 rfl rfl)
theorem dL_law_330 : decode cL_law 330 = .ok (.iconst 0, 1) := dk_3 (dk_at dksL_law_11 0 rfl rfl)
theorem dL_law_331 : decode cL_law 331 = .ok (.laload, 1) := dk_47 (dk_at dksL_law_11 1 rfl rfl)
theorem dL_law_332 : decode cL_law 332 = .ok (.iload 7, 2) := dk_21 7 (dk_at dksL_law_11 2 rfl rfl)
theorem dL_law_334 : decode cL_law 334 = .ok (.i2l, 1) := dk_133 (dk_at dksL_law_11 4 rfl rfl)
theorem dL_law_335 : decode cL_law 335 = .ok (.lcmp, 1) := dk_148 (dk_at dksL_law_11 5 rfl rfl)
theorem dL_law_336 : decode cL_law 336 = .ok (.ifCond .eq 5, 3) := dk_153 0 5 (dk_at dksL_law_11 6 rfl rfl)
theorem dL_law_339 : decode cL_law 339 = .ok (.iconst 0, 1) := dk_3 (dk_at dksL_law_11 9 rfl rfl)
theorem dL_law_340 : decode cL_law 340 = .ok (.ireturn, 1) := dk_172 (dk_at dksL_law_11 10 rfl rfl)
theorem dL_law_341 : decode cL_law 341 = .ok (.goto 1113, 3) := dk_167 4 89 (dk_at dksL_law_11 11 rfl rfl)
theorem dL_law_344 : decode cL_law 344 = .ok (.aload_n 1, 1) := dk_43 (dk_at dksL_law_11 14 rfl rfl)
theorem dL_law_345 : decode cL_law 345 = .ok (.aload_n 0, 1) := dk_42 (dk_at dksL_law_11 15 rfl rfl)
theorem dL_law_346 : decode cL_law 346 = .ok (.iload 5, 2) := dk_21 5 (dk_at dksL_law_11 16 rfl rfl)
theorem dL_law_348 : decode cL_law 348 = .ok (.iconst 1, 1) := dk_4 (dk_at dksL_law_11 18 rfl rfl)
theorem dL_law_349 : decode cL_law 349 = .ok (.iadd, 1) := dk_96 (dk_at dksL_law_11 19 rfl rfl)
theorem dL_law_350 : decode cL_law 350 = .ok (.iaload, 1) := dk_46 (dk_at dksL_law_11 20 rfl rfl)
theorem dL_law_351 : decode cL_law 351 = .ok (.aload_n 0, 1) := dk_42 (dk_at dksL_law_11 21 rfl rfl)
theorem dL_law_352 : decode cL_law 352 = .ok (.iload 5, 2) := dk_21 5 (dk_at dksL_law_11 22 rfl rfl)
theorem dL_law_354 : decode cL_law 354 = .ok (.iconst 2, 1) := dk_5 (dk_at dksL_law_12 0 rfl rfl)
theorem dL_law_355 : decode cL_law 355 = .ok (.iadd, 1) := dk_96 (dk_at dksL_law_12 1 rfl rfl)
theorem dL_law_356 : decode cL_law 356 = .ok (.iaload, 1) := dk_46 (dk_at dksL_law_12 2 rfl rfl)
theorem dL_law_357 : decode cL_law 357 = .ok (.ifCond .eq 7, 3) := dk_153 0 7 (dk_at dksL_law_12 3 rfl rfl)
theorem dL_law_360 : decode cL_law 360 = .ok (.iconst 1, 1) := dk_4 (dk_at dksL_law_12 6 rfl rfl)
theorem dL_law_361 : decode cL_law 361 = .ok (.goto 4, 3) := dk_167 0 4 (dk_at dksL_law_12 7 rfl rfl)
theorem dL_law_364 : decode cL_law 364 = .ok (.iconst 0, 1) := dk_3 (dk_at dksL_law_12 10 rfl rfl)
theorem dL_law_365 : decode cL_law 365 = .ok (.aload_n 3, 1) := dk_45 (dk_at dksL_law_12 11 rfl rfl)
theorem dL_law_366 : decode cL_law 366 = .ok (.invokestatic 99, 3) := dk_184 0 99 (dk_at dksL_law_12 12 rfl rfl)
theorem dL_law_369 : decode cL_law 369 = .ok (.istore 6, 2) := dk_54 6 (dk_at dksL_law_12 15 rfl rfl)
theorem dL_law_371 : decode cL_law 371 = .ok (.aload_n 2, 1) := dk_44 (dk_at dksL_law_12 17 rfl rfl)
theorem dL_law_372 : decode cL_law 372 = .ok (.aload_n 0, 1) := dk_42 (dk_at dksL_law_12 18 rfl rfl)
theorem dL_law_373 : decode cL_law 373 = .ok (.iload 5, 2) := dk_21 5 (dk_at dksL_law_12 19 rfl rfl)
theorem dL_law_375 : decode cL_law 375 = .ok (.iconst 1, 1) := dk_4 (dk_at dksL_law_12 21 rfl rfl)
theorem dL_law_376 : decode cL_law 376 = .ok (.iadd, 1) := dk_96 (dk_at dksL_law_12 22 rfl rfl)
theorem dL_law_377 : decode cL_law 377 = .ok (.iaload, 1) := dk_46 (dk_at dksL_law_12 23 rfl rfl)
theorem dL_law_378 : decode cL_law 378 = .ok (.aload_n 0, 1) := dk_42 (dk_at dksL_law_13 0 rfl rfl)
theorem dL_law_379 : decode cL_law 379 = .ok (.iload 5, 2) := dk_21 5 (dk_at dksL_law_13 1 rfl rfl)
theorem dL_law_381 : decode cL_law 381 = .ok (.iconst 2, 1) := dk_5 (dk_at dksL_law_13 3 rfl rfl)
theorem dL_law_382 : decode cL_law 382 = .ok (.iadd, 1) := dk_96 (dk_at dksL_law_13 4 rfl rfl)
theorem dL_law_383 : decode cL_law 383 = .ok (.iaload, 1) := dk_46 (dk_at dksL_law_13 5 rfl rfl)
theorem dL_law_384 : decode cL_law 384 = .ok (.ifCond .eq 7, 3) := dk_153 0 7 (dk_at dksL_law_13 6 rfl rfl)
theorem dL_law_387 : decode cL_law 387 = .ok (.iconst 1, 1) := dk_4 (dk_at dksL_law_13 9 rfl rfl)
theorem dL_law_388 : decode cL_law 388 = .ok (.goto 4, 3) := dk_167 0 4 (dk_at dksL_law_13 10 rfl rfl)
theorem dL_law_391 : decode cL_law 391 = .ok (.iconst 0, 1) := dk_3 (dk_at dksL_law_13 13 rfl rfl)
theorem dL_law_392 : decode cL_law 392 = .ok (.invokevirtual 102, 3) := dk_182 0 102 (dk_at dksL_law_13 14 rfl rfl)
theorem dL_law_395 : decode cL_law 395 = .ok (.istore 7, 2) := dk_54 7 (dk_at dksL_law_13 17 rfl rfl)
theorem dL_law_397 : decode cL_law 397 = .ok (.aload_n 2, 1) := dk_44 (dk_at dksL_law_13 19 rfl rfl)
theorem dL_law_398 : decode cL_law 398 = .ok (.invokevirtual 87, 3) := dk_182 0 87 (dk_at dksL_law_13 20 rfl rfl)
theorem dL_law_401 : decode cL_law 401 = .ok (.iload 6, 2) := dk_21 6 (dk_at dksL_law_14 0 rfl rfl)
theorem dL_law_403 : decode cL_law 403 = .ok (.if_icmp .eq 5, 3) := dk_159 0 5 (dk_at dksL_law_14 2 rfl rfl)
theorem dL_law_406 : decode cL_law 406 = .ok (.iconst 0, 1) := dk_3 (dk_at dksL_law_14 5 rfl rfl)
theorem dL_law_407 : decode cL_law 407 = .ok (.ireturn, 1) := dk_172 (dk_at dksL_law_14 6 rfl rfl)
theorem dL_law_408 : decode cL_law 408 = .ok (.iload 6, 2) := dk_21 6 (dk_at dksL_law_14 7 rfl rfl)
theorem dL_law_410 : decode cL_law 410 = .ok (.ifCond .ne 22, 3) := dk_154 0 22 (dk_at dksL_law_14 9 rfl rfl)
theorem dL_law_413 : decode cL_law 413 = .ok (.aload_n 3, 1) := dk_45 (dk_at dksL_law_14 12 rfl rfl)
theorem dL_law_414 : decode cL_law 414 = .ok (.iconst 0, 1) := dk_3 (dk_at dksL_law_14 13 rfl rfl)
theorem dL_law_415 : decode cL_law 415 = .ok (.laload, 1) := dk_47 (dk_at dksL_law_14 14 rfl rfl)
theorem dL_law_416 : decode cL_law 416 = .ok (.iload 7, 2) := dk_21 7 (dk_at dksL_law_14 15 rfl rfl)
theorem dL_law_418 : decode cL_law 418 = .ok (.ifCond .eq 7, 3) := dk_153 0 7 (dk_at dksL_law_14 17 rfl rfl)
theorem dL_law_421 : decode cL_law 421 = .ok (.lconst 1, 1) := dk_10 (dk_at dksL_law_14 20 rfl rfl)
theorem dL_law_422 : decode cL_law 422 = .ok (.goto 4, 3) := dk_167 0 4 (dk_at dksL_law_14 21 rfl rfl)
theorem dL_law_425 : decode cL_law 425 = .ok (.lconst 0, 1) := dk_9 (dk_at dksL_law_15 0 rfl rfl)
theorem dL_law_426 : decode cL_law 426 = .ok (.lcmp, 1) := dk_148 (dk_at dksL_law_15 1 rfl rfl)
theorem dL_law_427 : decode cL_law 427 = .ok (.ifCond .eq 5, 3) := dk_153 0 5 (dk_at dksL_law_15 2 rfl rfl)
theorem dL_law_430 : decode cL_law 430 = .ok (.iconst 0, 1) := dk_3 (dk_at dksL_law_15 5 rfl rfl)
theorem dL_law_431 : decode cL_law 431 = .ok (.ireturn, 1) := dk_172 (dk_at dksL_law_15 6 rfl rfl)
theorem dL_law_432 : decode cL_law 432 = .ok (.goto 1022, 3) := dk_167 3 254 (dk_at dksL_law_15 7 rfl rfl)
theorem dL_law_435 : decode cL_law 435 = .ok (.aload_n 1, 1) := dk_43 (dk_at dksL_law_15 10 rfl rfl)
theorem dL_law_436 : decode cL_law 436 = .ok (.aload_n 0, 1) := dk_42 (dk_at dksL_law_15 11 rfl rfl)
theorem dL_law_437 : decode cL_law 437 = .ok (.iload 5, 2) := dk_21 5 (dk_at dksL_law_15 12 rfl rfl)
theorem dL_law_439 : decode cL_law 439 = .ok (.iconst 1, 1) := dk_4 (dk_at dksL_law_15 14 rfl rfl)
theorem dL_law_440 : decode cL_law 440 = .ok (.iadd, 1) := dk_96 (dk_at dksL_law_15 15 rfl rfl)
theorem dL_law_441 : decode cL_law 441 = .ok (.iaload, 1) := dk_46 (dk_at dksL_law_15 16 rfl rfl)
theorem dL_law_442 : decode cL_law 442 = .ok (.aload_n 3, 1) := dk_45 (dk_at dksL_law_15 17 rfl rfl)
theorem dL_law_443 : decode cL_law 443 = .ok (.invokestatic 103, 3) := dk_184 0 103 (dk_at dksL_law_15 18 rfl rfl)
theorem dL_law_446 : decode cL_law 446 = .ok (.istore 6, 2) := dk_54 6 (dk_at dksL_law_15 21 rfl rfl)
theorem dL_law_448 : decode cL_law 448 = .ok (.aload_n 2, 1) := dk_44 (dk_at dksL_law_15 23 rfl rfl)
theorem dL_law_449 : decode cL_law 449 = .ok (.aload_n 0, 1) := dk_42 (dk_at dksL_law_16 0 rfl rfl)
theorem dL_law_450 : decode cL_law 450 = .ok (.iload 5, 2) := dk_21 5 (dk_at dksL_law_16 1 rfl rfl)
theorem dL_law_452 : decode cL_law 452 = .ok (.iconst 1, 1) := dk_4 (dk_at dksL_law_16 3 rfl rfl)
theorem dL_law_453 : decode cL_law 453 = .ok (.iadd, 1) := dk_96 (dk_at dksL_law_16 4 rfl rfl)
theorem dL_law_454 : decode cL_law 454 = .ok (.iaload, 1) := dk_46 (dk_at dksL_law_16 5 rfl rfl)
theorem dL_law_455 : decode cL_law 455 = .ok (.invokevirtual 105, 3) := dk_182 0 105 (dk_at dksL_law_16 6 rfl rfl)
theorem dL_law_458 : decode cL_law 458 = .ok (.istore 7, 2) := dk_54 7 (dk_at dksL_law_16 9 rfl rfl)
theorem dL_law_460 : decode cL_law 460 = .ok (.aload_n 2, 1) := dk_44 (dk_at dksL_law_16 11 rfl rfl)
theorem dL_law_461 : decode cL_law 461 = .ok (.invokevirtual 87, 3) := dk_182 0 87 (dk_at dksL_law_16 12 rfl rfl)
theorem dL_law_464 : decode cL_law 464 = .ok (.iload 6, 2) := dk_21 6 (dk_at dksL_law_16 15 rfl rfl)
theorem dL_law_466 : decode cL_law 466 = .ok (.if_icmp .eq 5, 3) := dk_159 0 5 (dk_at dksL_law_16 17 rfl rfl)
theorem dL_law_469 : decode cL_law 469 = .ok (.iconst 0, 1) := dk_3 (dk_at dksL_law_16 20 rfl rfl)
theorem dL_law_470 : decode cL_law 470 = .ok (.ireturn, 1) := dk_172 (dk_at dksL_law_16 21 rfl rfl)
theorem dL_law_471 : decode cL_law 471 = .ok (.iload 6, 2) := dk_21 6 (dk_at dksL_law_16 22 rfl rfl)
theorem dL_law_473 : decode cL_law 473 = .ok (.ifCond .ne 15, 3) := dk_154 0 15 (dk_at dksL_law_17 0 rfl rfl)
theorem dL_law_476 : decode cL_law 476 = .ok (.aload_n 3, 1) := dk_45 (dk_at dksL_law_17 3 rfl rfl)
theorem dL_law_477 : decode cL_law 477 = .ok (.iconst 0, 1) := dk_3 (dk_at dksL_law_17 4 rfl rfl)
theorem dL_law_478 : decode cL_law 478 = .ok (.laload, 1) := dk_47 (dk_at dksL_law_17 5 rfl rfl)
theorem dL_law_479 : decode cL_law 479 = .ok (.iload 7, 2) := dk_21 7 (dk_at dksL_law_17 6 rfl rfl)
theorem dL_law_481 : decode cL_law 481 = .ok (.i2l, 1) := dk_133 (dk_at dksL_law_17 8 rfl rfl)
theorem dL_law_482 : decode cL_law 482 = .ok (.lcmp, 1) := dk_148 (dk_at dksL_law_17 9 rfl rfl)
theorem dL_law_483 : decode cL_law 483 = .ok (.ifCond .eq 5, 3) := dk_153 0 5 (dk_at dksL_law_17 10 rfl rfl)
theorem dL_law_486 : decode cL_law 486 = .ok (.iconst 0, 1) := dk_3 (dk_at dksL_law_17 13 rfl rfl)
theorem dL_law_487 : decode cL_law 487 = .ok (.ireturn, 1) := dk_172 (dk_at dksL_law_17 14 rfl rfl)
theorem dL_law_488 : decode cL_law 488 = .ok (.goto 966, 3) := dk_167 3 198 (dk_at dksL_law_17 15 rfl rfl)
theorem dL_law_491 : decode cL_law 491 = .ok (.aload_n 1, 1) := dk_43 (dk_at dksL_law_17 18 rfl rfl)
theorem dL_law_492 : decode cL_law 492 = .ok (.aload_n 0, 1) := dk_42 (dk_at dksL_law_17 19 rfl rfl)
theorem dL_law_493 : decode cL_law 493 = .ok (.iload 5, 2) := dk_21 5 (dk_at dksL_law_17 20 rfl rfl)
theorem dL_law_495 : decode cL_law 495 = .ok (.iconst 1, 1) := dk_4 (dk_at dksL_law_17 22 rfl rfl)
theorem dL_law_496 : decode cL_law 496 = .ok (.iadd, 1) := dk_96 (dk_at dksL_law_17 23 rfl rfl)
theorem dL_law_497 : decode cL_law 497 = .ok (.iaload, 1) := dk_46 (dk_at dksL_law_18 0 rfl rfl)
theorem dL_law_498 : decode cL_law 498 = .ok (.aload_n 0, 1) := dk_42 (dk_at dksL_law_18 1 rfl rfl)
theorem dL_law_499 : decode cL_law 499 = .ok (.iload 5, 2) := dk_21 5 (dk_at dksL_law_18 2 rfl rfl)
theorem dL_law_501 : decode cL_law 501 = .ok (.iconst 2, 1) := dk_5 (dk_at dksL_law_18 4 rfl rfl)
theorem dL_law_502 : decode cL_law 502 = .ok (.iadd, 1) := dk_96 (dk_at dksL_law_18 5 rfl rfl)
theorem dL_law_503 : decode cL_law 503 = .ok (.iaload, 1) := dk_46 (dk_at dksL_law_18 6 rfl rfl)
theorem dL_law_504 : decode cL_law 504 = .ok (.aload_n 3, 1) := dk_45 (dk_at dksL_law_18 7 rfl rfl)
theorem dL_law_505 : decode cL_law 505 = .ok (.invokestatic 106, 3) := dk_184 0 106 (dk_at dksL_law_18 8 rfl rfl)
theorem dL_law_508 : decode cL_law 508 = .ok (.istore 6, 2) := dk_54 6 (dk_at dksL_law_18 11 rfl rfl)
theorem dL_law_510 : decode cL_law 510 = .ok (.aload_n 2, 1) := dk_44 (dk_at dksL_law_18 13 rfl rfl)
theorem dL_law_511 : decode cL_law 511 = .ok (.aload_n 0, 1) := dk_42 (dk_at dksL_law_18 14 rfl rfl)
theorem dL_law_512 : decode cL_law 512 = .ok (.iload 5, 2) := dk_21 5 (dk_at dksL_law_18 15 rfl rfl)
theorem dL_law_514 : decode cL_law 514 = .ok (.iconst 1, 1) := dk_4 (dk_at dksL_law_18 17 rfl rfl)
theorem dL_law_515 : decode cL_law 515 = .ok (.iadd, 1) := dk_96 (dk_at dksL_law_18 18 rfl rfl)
theorem dL_law_516 : decode cL_law 516 = .ok (.iaload, 1) := dk_46 (dk_at dksL_law_18 19 rfl rfl)
theorem dL_law_517 : decode cL_law 517 = .ok (.aload_n 0, 1) := dk_42 (dk_at dksL_law_18 20 rfl rfl)
theorem dL_law_518 : decode cL_law 518 = .ok (.iload 5, 2) := dk_21 5 (dk_at dksL_law_18 21 rfl rfl)
theorem dL_law_520 : decode cL_law 520 = .ok (.iconst 2, 1) := dk_5 (dk_at dksL_law_18 23 rfl rfl)
theorem dL_law_521 : decode cL_law 521 = .ok (.iadd, 1) := dk_96 (dk_at dksL_law_19 0 rfl rfl)
theorem dL_law_522 : decode cL_law 522 = .ok (.iaload, 1) := dk_46 (dk_at dksL_law_19 1 rfl rfl)
theorem dL_law_523 : decode cL_law 523 = .ok (.invokevirtual 108, 3) := dk_182 0 108 (dk_at dksL_law_19 2 rfl rfl)
theorem dL_law_526 : decode cL_law 526 = .ok (.istore 7, 2) := dk_54 7 (dk_at dksL_law_19 5 rfl rfl)
theorem dL_law_528 : decode cL_law 528 = .ok (.aload_n 2, 1) := dk_44 (dk_at dksL_law_19 7 rfl rfl)
theorem dL_law_529 : decode cL_law 529 = .ok (.invokevirtual 87, 3) := dk_182 0 87 (dk_at dksL_law_19 8 rfl rfl)
theorem dL_law_532 : decode cL_law 532 = .ok (.iload 6, 2) := dk_21 6 (dk_at dksL_law_19 11 rfl rfl)
theorem dL_law_534 : decode cL_law 534 = .ok (.if_icmp .eq 5, 3) := dk_159 0 5 (dk_at dksL_law_19 13 rfl rfl)
theorem dL_law_537 : decode cL_law 537 = .ok (.iconst 0, 1) := dk_3 (dk_at dksL_law_19 16 rfl rfl)
theorem dL_law_538 : decode cL_law 538 = .ok (.ireturn, 1) := dk_172 (dk_at dksL_law_19 17 rfl rfl)
theorem dL_law_539 : decode cL_law 539 = .ok (.iload 6, 2) := dk_21 6 (dk_at dksL_law_19 18 rfl rfl)
theorem dL_law_541 : decode cL_law 541 = .ok (.ifCond .ne 15, 3) := dk_154 0 15 (dk_at dksL_law_19 20 rfl rfl)
theorem dL_law_544 : decode cL_law 544 = .ok (.aload_n 3, 1) := dk_45 (dk_at dksL_law_19 23 rfl rfl)
theorem dL_law_545 : decode cL_law 545 = .ok (.iconst 0, 1) := dk_3 (dk_at dksL_law_20 0 rfl rfl)
theorem dL_law_546 : decode cL_law 546 = .ok (.laload, 1) := dk_47 (dk_at dksL_law_20 1 rfl rfl)
theorem dL_law_547 : decode cL_law 547 = .ok (.iload 7, 2) := dk_21 7 (dk_at dksL_law_20 2 rfl rfl)
theorem dL_law_549 : decode cL_law 549 = .ok (.i2l, 1) := dk_133 (dk_at dksL_law_20 4 rfl rfl)
theorem dL_law_550 : decode cL_law 550 = .ok (.lcmp, 1) := dk_148 (dk_at dksL_law_20 5 rfl rfl)
theorem dL_law_551 : decode cL_law 551 = .ok (.ifCond .eq 5, 3) := dk_153 0 5 (dk_at dksL_law_20 6 rfl rfl)
theorem dL_law_554 : decode cL_law 554 = .ok (.iconst 0, 1) := dk_3 (dk_at dksL_law_20 9 rfl rfl)
theorem dL_law_555 : decode cL_law 555 = .ok (.ireturn, 1) := dk_172 (dk_at dksL_law_20 10 rfl rfl)
theorem dL_law_556 : decode cL_law 556 = .ok (.goto 898, 3) := dk_167 3 130 (dk_at dksL_law_20 11 rfl rfl)
theorem dL_law_559 : decode cL_law 559 = .ok (.aload_n 1, 1) := dk_43 (dk_at dksL_law_20 14 rfl rfl)
theorem dL_law_560 : decode cL_law 560 = .ok (.aload_n 0, 1) := dk_42 (dk_at dksL_law_20 15 rfl rfl)
theorem dL_law_561 : decode cL_law 561 = .ok (.iload 5, 2) := dk_21 5 (dk_at dksL_law_20 16 rfl rfl)
theorem dL_law_563 : decode cL_law 563 = .ok (.iconst 1, 1) := dk_4 (dk_at dksL_law_20 18 rfl rfl)
theorem dL_law_564 : decode cL_law 564 = .ok (.iadd, 1) := dk_96 (dk_at dksL_law_20 19 rfl rfl)
theorem dL_law_565 : decode cL_law 565 = .ok (.iaload, 1) := dk_46 (dk_at dksL_law_20 20 rfl rfl)
theorem dL_law_566 : decode cL_law 566 = .ok (.aload_n 0, 1) := dk_42 (dk_at dksL_law_20 21 rfl rfl)
theorem dL_law_567 : decode cL_law 567 = .ok (.iload 5, 2) := dk_21 5 (dk_at dksL_law_20 22 rfl rfl)
theorem dL_law_569 : decode cL_law 569 = .ok (.iconst 2, 1) := dk_5 (dk_at dksL_law_21 0 rfl rfl)
theorem dL_law_570 : decode cL_law 570 = .ok (.iadd, 1) := dk_96 (dk_at dksL_law_21 1 rfl rfl)
theorem dL_law_571 : decode cL_law 571 = .ok (.iaload, 1) := dk_46 (dk_at dksL_law_21 2 rfl rfl)
theorem dL_law_572 : decode cL_law 572 = .ok (.aload_n 3, 1) := dk_45 (dk_at dksL_law_21 3 rfl rfl)
theorem dL_law_573 : decode cL_law 573 = .ok (.invokestatic 109, 3) := dk_184 0 109 (dk_at dksL_law_21 4 rfl rfl)
theorem dL_law_576 : decode cL_law 576 = .ok (.istore 6, 2) := dk_54 6 (dk_at dksL_law_21 7 rfl rfl)
theorem dL_law_578 : decode cL_law 578 = .ok (.aload_n 2, 1) := dk_44 (dk_at dksL_law_21 9 rfl rfl)
theorem dL_law_579 : decode cL_law 579 = .ok (.aload_n 0, 1) := dk_42 (dk_at dksL_law_21 10 rfl rfl)
theorem dL_law_580 : decode cL_law 580 = .ok (.iload 5, 2) := dk_21 5 (dk_at dksL_law_21 11 rfl rfl)
theorem dL_law_582 : decode cL_law 582 = .ok (.iconst 1, 1) := dk_4 (dk_at dksL_law_21 13 rfl rfl)
theorem dL_law_583 : decode cL_law 583 = .ok (.iadd, 1) := dk_96 (dk_at dksL_law_21 14 rfl rfl)
theorem dL_law_584 : decode cL_law 584 = .ok (.iaload, 1) := dk_46 (dk_at dksL_law_21 15 rfl rfl)
theorem dL_law_585 : decode cL_law 585 = .ok (.aload_n 0, 1) := dk_42 (dk_at dksL_law_21 16 rfl rfl)
theorem dL_law_586 : decode cL_law 586 = .ok (.iload 5, 2) := dk_21 5 (dk_at dksL_law_21 17 rfl rfl)
theorem dL_law_588 : decode cL_law 588 = .ok (.iconst 2, 1) := dk_5 (dk_at dksL_law_21 19 rfl rfl)
theorem dL_law_589 : decode cL_law 589 = .ok (.iadd, 1) := dk_96 (dk_at dksL_law_21 20 rfl rfl)
theorem dL_law_590 : decode cL_law 590 = .ok (.iaload, 1) := dk_46 (dk_at dksL_law_21 21 rfl rfl)
theorem dL_law_591 : decode cL_law 591 = .ok (.invokevirtual 111, 3) := dk_182 0 111 (dk_at dksL_law_22 0 rfl rfl)
theorem dL_law_594 : decode cL_law 594 = .ok (.istore 7, 2) := dk_54 7 (dk_at dksL_law_22 3 rfl rfl)
theorem dL_law_596 : decode cL_law 596 = .ok (.aload_n 2, 1) := dk_44 (dk_at dksL_law_22 5 rfl rfl)
theorem dL_law_597 : decode cL_law 597 = .ok (.invokevirtual 87, 3) := dk_182 0 87 (dk_at dksL_law_22 6 rfl rfl)
theorem dL_law_600 : decode cL_law 600 = .ok (.iload 6, 2) := dk_21 6 (dk_at dksL_law_22 9 rfl rfl)
theorem dL_law_602 : decode cL_law 602 = .ok (.if_icmp .eq 5, 3) := dk_159 0 5 (dk_at dksL_law_22 11 rfl rfl)
theorem dL_law_605 : decode cL_law 605 = .ok (.iconst 0, 1) := dk_3 (dk_at dksL_law_22 14 rfl rfl)
theorem dL_law_606 : decode cL_law 606 = .ok (.ireturn, 1) := dk_172 (dk_at dksL_law_22 15 rfl rfl)
theorem dL_law_607 : decode cL_law 607 = .ok (.iload 6, 2) := dk_21 6 (dk_at dksL_law_22 16 rfl rfl)
theorem dL_law_609 : decode cL_law 609 = .ok (.ifCond .ne 15, 3) := dk_154 0 15 (dk_at dksL_law_22 18 rfl rfl)
theorem dL_law_612 : decode cL_law 612 = .ok (.aload_n 3, 1) := dk_45 (dk_at dksL_law_22 21 rfl rfl)
theorem dL_law_613 : decode cL_law 613 = .ok (.iconst 0, 1) := dk_3 (dk_at dksL_law_22 22 rfl rfl)
theorem dL_law_614 : decode cL_law 614 = .ok (.laload, 1) := dk_47 (dk_at dksL_law_22 23 rfl rfl)
theorem dL_law_615 : decode cL_law 615 = .ok (.iload 7, 2) := dk_21 7 (dk_at dksL_law_23 0 rfl rfl)
theorem dL_law_617 : decode cL_law 617 = .ok (.i2l, 1) := dk_133 (dk_at dksL_law_23 2 rfl rfl)
theorem dL_law_618 : decode cL_law 618 = .ok (.lcmp, 1) := dk_148 (dk_at dksL_law_23 3 rfl rfl)
theorem dL_law_619 : decode cL_law 619 = .ok (.ifCond .eq 5, 3) := dk_153 0 5 (dk_at dksL_law_23 4 rfl rfl)
theorem dL_law_622 : decode cL_law 622 = .ok (.iconst 0, 1) := dk_3 (dk_at dksL_law_23 7 rfl rfl)
theorem dL_law_623 : decode cL_law 623 = .ok (.ireturn, 1) := dk_172 (dk_at dksL_law_23 8 rfl rfl)
theorem dL_law_624 : decode cL_law 624 = .ok (.goto 830, 3) := dk_167 3 62 (dk_at dksL_law_23 9 rfl rfl)
theorem dL_law_627 : decode cL_law 627 = .ok (.aload_n 1, 1) := dk_43 (dk_at dksL_law_23 12 rfl rfl)
theorem dL_law_628 : decode cL_law 628 = .ok (.aload_n 0, 1) := dk_42 (dk_at dksL_law_23 13 rfl rfl)
theorem dL_law_629 : decode cL_law 629 = .ok (.iload 5, 2) := dk_21 5 (dk_at dksL_law_23 14 rfl rfl)
theorem dL_law_631 : decode cL_law 631 = .ok (.iconst 1, 1) := dk_4 (dk_at dksL_law_23 16 rfl rfl)
theorem dL_law_632 : decode cL_law 632 = .ok (.iadd, 1) := dk_96 (dk_at dksL_law_23 17 rfl rfl)
theorem dL_law_633 : decode cL_law 633 = .ok (.iaload, 1) := dk_46 (dk_at dksL_law_23 18 rfl rfl)
theorem dL_law_634 : decode cL_law 634 = .ok (.aload_n 3, 1) := dk_45 (dk_at dksL_law_23 19 rfl rfl)
theorem dL_law_635 : decode cL_law 635 = .ok (.invokestatic 112, 3) := dk_184 0 112 (dk_at dksL_law_23 20 rfl rfl)
theorem dL_law_638 : decode cL_law 638 = .ok (.istore 6, 2) := dk_54 6 (dk_at dksL_law_24 0 rfl rfl)
theorem dL_law_640 : decode cL_law 640 = .ok (.aload_n 2, 1) := dk_44 (dk_at dksL_law_24 2 rfl rfl)
theorem dL_law_641 : decode cL_law 641 = .ok (.aload_n 0, 1) := dk_42 (dk_at dksL_law_24 3 rfl rfl)
theorem dL_law_642 : decode cL_law 642 = .ok (.iload 5, 2) := dk_21 5 (dk_at dksL_law_24 4 rfl rfl)
theorem dL_law_644 : decode cL_law 644 = .ok (.iconst 1, 1) := dk_4 (dk_at dksL_law_24 6 rfl rfl)
theorem dL_law_645 : decode cL_law 645 = .ok (.iadd, 1) := dk_96 (dk_at dksL_law_24 7 rfl rfl)
theorem dL_law_646 : decode cL_law 646 = .ok (.iaload, 1) := dk_46 (dk_at dksL_law_24 8 rfl rfl)
theorem dL_law_647 : decode cL_law 647 = .ok (.invokevirtual 114, 3) := dk_182 0 114 (dk_at dksL_law_24 9 rfl rfl)
theorem dL_law_650 : decode cL_law 650 = .ok (.istore 7, 2) := dk_54 7 (dk_at dksL_law_24 12 rfl rfl)
theorem dL_law_652 : decode cL_law 652 = .ok (.aload_n 2, 1) := dk_44 (dk_at dksL_law_24 14 rfl rfl)
theorem dL_law_653 : decode cL_law 653 = .ok (.invokevirtual 87, 3) := dk_182 0 87 (dk_at dksL_law_24 15 rfl rfl)
theorem dL_law_656 : decode cL_law 656 = .ok (.iload 6, 2) := dk_21 6 (dk_at dksL_law_24 18 rfl rfl)
theorem dL_law_658 : decode cL_law 658 = .ok (.if_icmp .eq 5, 3) := dk_159 0 5 (dk_at dksL_law_24 20 rfl rfl)
theorem dL_law_661 : decode cL_law 661 = .ok (.iconst 0, 1) := dk_3 (dk_at dksL_law_24 23 rfl rfl)
theorem dL_law_662 : decode cL_law 662 = .ok (.ireturn, 1) := dk_172 (dk_at dksL_law_25 0 rfl rfl)
theorem dL_law_663 : decode cL_law 663 = .ok (.iload 6, 2) := dk_21 6 (dk_at dksL_law_25 1 rfl rfl)
theorem dL_law_665 : decode cL_law 665 = .ok (.ifCond .ne 15, 3) := dk_154 0 15 (dk_at dksL_law_25 3 rfl rfl)
theorem dL_law_668 : decode cL_law 668 = .ok (.aload_n 3, 1) := dk_45 (dk_at dksL_law_25 6 rfl rfl)
theorem dL_law_669 : decode cL_law 669 = .ok (.iconst 0, 1) := dk_3 (dk_at dksL_law_25 7 rfl rfl)
theorem dL_law_670 : decode cL_law 670 = .ok (.laload, 1) := dk_47 (dk_at dksL_law_25 8 rfl rfl)
theorem dL_law_671 : decode cL_law 671 = .ok (.iload 7, 2) := dk_21 7 (dk_at dksL_law_25 9 rfl rfl)
theorem dL_law_673 : decode cL_law 673 = .ok (.i2l, 1) := dk_133 (dk_at dksL_law_25 11 rfl rfl)
theorem dL_law_674 : decode cL_law 674 = .ok (.lcmp, 1) := dk_148 (dk_at dksL_law_25 12 rfl rfl)
theorem dL_law_675 : decode cL_law 675 = .ok (.ifCond .eq 5, 3) := dk_153 0 5 (dk_at dksL_law_25 13 rfl rfl)
theorem dL_law_678 : decode cL_law 678 = .ok (.iconst 0, 1) := dk_3 (dk_at dksL_law_25 16 rfl rfl)
theorem dL_law_679 : decode cL_law 679 = .ok (.ireturn, 1) := dk_172 (dk_at dksL_law_25 17 rfl rfl)
theorem dL_law_680 : decode cL_law 680 = .ok (.goto 774, 3) := dk_167 3 6 (dk_at dksL_law_25 18 rfl rfl)
theorem dL_law_683 : decode cL_law 683 = .ok (.aload_n 1, 1) := dk_43 (dk_at dksL_law_25 21 rfl rfl)
theorem dL_law_684 : decode cL_law 684 = .ok (.aload_n 0, 1) := dk_42 (dk_at dksL_law_25 22 rfl rfl)
theorem dL_law_685 : decode cL_law 685 = .ok (.iload 5, 2) := dk_21 5 (dk_at dksL_law_26 0 rfl rfl)
theorem dL_law_687 : decode cL_law 687 = .ok (.iconst 1, 1) := dk_4 (dk_at dksL_law_26 2 rfl rfl)
theorem dL_law_688 : decode cL_law 688 = .ok (.iadd, 1) := dk_96 (dk_at dksL_law_26 3 rfl rfl)
theorem dL_law_689 : decode cL_law 689 = .ok (.iaload, 1) := dk_46 (dk_at dksL_law_26 4 rfl rfl)
theorem dL_law_690 : decode cL_law 690 = .ok (.aload_n 3, 1) := dk_45 (dk_at dksL_law_26 5 rfl rfl)
theorem dL_law_691 : decode cL_law 691 = .ok (.invokestatic 115, 3) := dk_184 0 115 (dk_at dksL_law_26 6 rfl rfl)
theorem dL_law_694 : decode cL_law 694 = .ok (.istore 6, 2) := dk_54 6 (dk_at dksL_law_26 9 rfl rfl)
theorem dL_law_696 : decode cL_law 696 = .ok (.aload_n 2, 1) := dk_44 (dk_at dksL_law_26 11 rfl rfl)
theorem dL_law_697 : decode cL_law 697 = .ok (.aload_n 0, 1) := dk_42 (dk_at dksL_law_26 12 rfl rfl)
theorem dL_law_698 : decode cL_law 698 = .ok (.iload 5, 2) := dk_21 5 (dk_at dksL_law_26 13 rfl rfl)
theorem dL_law_700 : decode cL_law 700 = .ok (.iconst 1, 1) := dk_4 (dk_at dksL_law_26 15 rfl rfl)
theorem dL_law_701 : decode cL_law 701 = .ok (.iadd, 1) := dk_96 (dk_at dksL_law_26 16 rfl rfl)
theorem dL_law_702 : decode cL_law 702 = .ok (.iaload, 1) := dk_46 (dk_at dksL_law_26 17 rfl rfl)
theorem dL_law_703 : decode cL_law 703 = .ok (.invokevirtual 117, 3) := dk_182 0 117 (dk_at dksL_law_26 18 rfl rfl)
theorem dL_law_706 : decode cL_law 706 = .ok (.istore 7, 2) := dk_54 7 (dk_at dksL_law_26 21 rfl rfl)
theorem dL_law_708 : decode cL_law 708 = .ok (.aload_n 2, 1) := dk_44 (dk_at dksL_law_26 23 rfl rfl)
theorem dL_law_709 : decode cL_law 709 = .ok (.invokevirtual 87, 3) := dk_182 0 87 (dk_at dksL_law_27 0 rfl rfl)
theorem dL_law_712 : decode cL_law 712 = .ok (.iload 6, 2) := dk_21 6 (dk_at dksL_law_27 3 rfl rfl)
theorem dL_law_714 : decode cL_law 714 = .ok (.if_icmp .eq 5, 3) := dk_159 0 5 (dk_at dksL_law_27 5 rfl rfl)
theorem dL_law_717 : decode cL_law 717 = .ok (.iconst 0, 1) := dk_3 (dk_at dksL_law_27 8 rfl rfl)
theorem dL_law_718 : decode cL_law 718 = .ok (.ireturn, 1) := dk_172 (dk_at dksL_law_27 9 rfl rfl)
theorem dL_law_719 : decode cL_law 719 = .ok (.iload 6, 2) := dk_21 6 (dk_at dksL_law_27 10 rfl rfl)
theorem dL_law_721 : decode cL_law 721 = .ok (.ifCond .ne 15, 3) := dk_154 0 15 (dk_at dksL_law_27 12 rfl rfl)
theorem dL_law_724 : decode cL_law 724 = .ok (.aload_n 3, 1) := dk_45 (dk_at dksL_law_27 15 rfl rfl)
theorem dL_law_725 : decode cL_law 725 = .ok (.iconst 0, 1) := dk_3 (dk_at dksL_law_27 16 rfl rfl)
theorem dL_law_726 : decode cL_law 726 = .ok (.laload, 1) := dk_47 (dk_at dksL_law_27 17 rfl rfl)
theorem dL_law_727 : decode cL_law 727 = .ok (.iload 7, 2) := dk_21 7 (dk_at dksL_law_27 18 rfl rfl)
theorem dL_law_729 : decode cL_law 729 = .ok (.i2l, 1) := dk_133 (dk_at dksL_law_27 20 rfl rfl)
theorem dL_law_730 : decode cL_law 730 = .ok (.lcmp, 1) := dk_148 (dk_at dksL_law_27 21 rfl rfl)
theorem dL_law_731 : decode cL_law 731 = .ok (.ifCond .eq 5, 3) := dk_153 0 5 (dk_at dksL_law_28 0 rfl rfl)
theorem dL_law_734 : decode cL_law 734 = .ok (.iconst 0, 1) := dk_3 (dk_at dksL_law_28 3 rfl rfl)
theorem dL_law_735 : decode cL_law 735 = .ok (.ireturn, 1) := dk_172 (dk_at dksL_law_28 4 rfl rfl)
theorem dL_law_736 : decode cL_law 736 = .ok (.goto 718, 3) := dk_167 2 206 (dk_at dksL_law_28 5 rfl rfl)
theorem dL_law_739 : decode cL_law 739 = .ok (.aload_n 1, 1) := dk_43 (dk_at dksL_law_28 8 rfl rfl)
theorem dL_law_740 : decode cL_law 740 = .ok (.aload_n 0, 1) := dk_42 (dk_at dksL_law_28 9 rfl rfl)
theorem dL_law_741 : decode cL_law 741 = .ok (.iload 5, 2) := dk_21 5 (dk_at dksL_law_28 10 rfl rfl)
theorem dL_law_743 : decode cL_law 743 = .ok (.iconst 1, 1) := dk_4 (dk_at dksL_law_28 12 rfl rfl)
theorem dL_law_744 : decode cL_law 744 = .ok (.iadd, 1) := dk_96 (dk_at dksL_law_28 13 rfl rfl)
theorem dL_law_745 : decode cL_law 745 = .ok (.iaload, 1) := dk_46 (dk_at dksL_law_28 14 rfl rfl)
theorem dL_law_746 : decode cL_law 746 = .ok (.aload_n 0, 1) := dk_42 (dk_at dksL_law_28 15 rfl rfl)
theorem dL_law_747 : decode cL_law 747 = .ok (.iload 5, 2) := dk_21 5 (dk_at dksL_law_28 16 rfl rfl)
theorem dL_law_749 : decode cL_law 749 = .ok (.iconst 2, 1) := dk_5 (dk_at dksL_law_28 18 rfl rfl)
theorem dL_law_750 : decode cL_law 750 = .ok (.iadd, 1) := dk_96 (dk_at dksL_law_28 19 rfl rfl)
theorem dL_law_751 : decode cL_law 751 = .ok (.iaload, 1) := dk_46 (dk_at dksL_law_28 20 rfl rfl)
theorem dL_law_752 : decode cL_law 752 = .ok (.aload_n 3, 1) := dk_45 (dk_at dksL_law_28 21 rfl rfl)
theorem dL_law_753 : decode cL_law 753 = .ok (.invokestatic 118, 3) := dk_184 0 118 (dk_at dksL_law_29 0 rfl rfl)
theorem dL_law_756 : decode cL_law 756 = .ok (.istore 6, 2) := dk_54 6 (dk_at dksL_law_29 3 rfl rfl)
theorem dL_law_758 : decode cL_law 758 = .ok (.aload_n 2, 1) := dk_44 (dk_at dksL_law_29 5 rfl rfl)
theorem dL_law_759 : decode cL_law 759 = .ok (.aload_n 0, 1) := dk_42 (dk_at dksL_law_29 6 rfl rfl)
theorem dL_law_760 : decode cL_law 760 = .ok (.iload 5, 2) := dk_21 5 (dk_at dksL_law_29 7 rfl rfl)
theorem dL_law_762 : decode cL_law 762 = .ok (.iconst 1, 1) := dk_4 (dk_at dksL_law_29 9 rfl rfl)
theorem dL_law_763 : decode cL_law 763 = .ok (.iadd, 1) := dk_96 (dk_at dksL_law_29 10 rfl rfl)
theorem dL_law_764 : decode cL_law 764 = .ok (.iaload, 1) := dk_46 (dk_at dksL_law_29 11 rfl rfl)
theorem dL_law_765 : decode cL_law 765 = .ok (.aload_n 0, 1) := dk_42 (dk_at dksL_law_29 12 rfl rfl)
theorem dL_law_766 : decode cL_law 766 = .ok (.iload 5, 2) := dk_21 5 (dk_at dksL_law_29 13 rfl rfl)
theorem dL_law_768 : decode cL_law 768 = .ok (.iconst 2, 1) := dk_5 (dk_at dksL_law_29 15 rfl rfl)
theorem dL_law_769 : decode cL_law 769 = .ok (.iadd, 1) := dk_96 (dk_at dksL_law_29 16 rfl rfl)
theorem dL_law_770 : decode cL_law 770 = .ok (.iaload, 1) := dk_46 (dk_at dksL_law_29 17 rfl rfl)
theorem dL_law_771 : decode cL_law 771 = .ok (.invokevirtual 120, 3) := dk_182 0 120 (dk_at dksL_law_29 18 rfl rfl)
theorem dL_law_774 : decode cL_law 774 = .ok (.istore 7, 2) := dk_54 7 (dk_at dksL_law_29 21 rfl rfl)
theorem dL_law_776 : decode cL_law 776 = .ok (.aload_n 2, 1) := dk_44 (dk_at dksL_law_29 23 rfl rfl)
theorem dL_law_777 : decode cL_law 777 = .ok (.invokevirtual 87, 3) := dk_182 0 87 (dk_at dksL_law_30 0 rfl rfl)
theorem dL_law_780 : decode cL_law 780 = .ok (.iload 6, 2) := dk_21 6 (dk_at dksL_law_30 3 rfl rfl)
theorem dL_law_782 : decode cL_law 782 = .ok (.if_icmp .eq 5, 3) := dk_159 0 5 (dk_at dksL_law_30 5 rfl rfl)
theorem dL_law_785 : decode cL_law 785 = .ok (.iconst 0, 1) := dk_3 (dk_at dksL_law_30 8 rfl rfl)
theorem dL_law_786 : decode cL_law 786 = .ok (.ireturn, 1) := dk_172 (dk_at dksL_law_30 9 rfl rfl)
theorem dL_law_787 : decode cL_law 787 = .ok (.iload 6, 2) := dk_21 6 (dk_at dksL_law_30 10 rfl rfl)
theorem dL_law_789 : decode cL_law 789 = .ok (.ifCond .ne 15, 3) := dk_154 0 15 (dk_at dksL_law_30 12 rfl rfl)
theorem dL_law_792 : decode cL_law 792 = .ok (.aload_n 3, 1) := dk_45 (dk_at dksL_law_30 15 rfl rfl)
theorem dL_law_793 : decode cL_law 793 = .ok (.iconst 0, 1) := dk_3 (dk_at dksL_law_30 16 rfl rfl)
theorem dL_law_794 : decode cL_law 794 = .ok (.laload, 1) := dk_47 (dk_at dksL_law_30 17 rfl rfl)
theorem dL_law_795 : decode cL_law 795 = .ok (.iload 7, 2) := dk_21 7 (dk_at dksL_law_30 18 rfl rfl)
theorem dL_law_797 : decode cL_law 797 = .ok (.i2l, 1) := dk_133 (dk_at dksL_law_30 20 rfl rfl)
theorem dL_law_798 : decode cL_law 798 = .ok (.lcmp, 1) := dk_148 (dk_at dksL_law_30 21 rfl rfl)
theorem dL_law_799 : decode cL_law 799 = .ok (.ifCond .eq 5, 3) := dk_153 0 5 (dk_at dksL_law_31 0 rfl rfl)
theorem dL_law_802 : decode cL_law 802 = .ok (.iconst 0, 1) := dk_3 (dk_at dksL_law_31 3 rfl rfl)
theorem dL_law_803 : decode cL_law 803 = .ok (.ireturn, 1) := dk_172 (dk_at dksL_law_31 4 rfl rfl)
theorem dL_law_804 : decode cL_law 804 = .ok (.goto 650, 3) := dk_167 2 138 (dk_at dksL_law_31 5 rfl rfl)
theorem dL_law_807 : decode cL_law 807 = .ok (.aload_n 1, 1) := dk_43 (dk_at dksL_law_31 8 rfl rfl)
theorem dL_law_808 : decode cL_law 808 = .ok (.aload_n 0, 1) := dk_42 (dk_at dksL_law_31 9 rfl rfl)
theorem dL_law_809 : decode cL_law 809 = .ok (.iload 5, 2) := dk_21 5 (dk_at dksL_law_31 10 rfl rfl)
theorem dL_law_811 : decode cL_law 811 = .ok (.iconst 1, 1) := dk_4 (dk_at dksL_law_31 12 rfl rfl)
theorem dL_law_812 : decode cL_law 812 = .ok (.iadd, 1) := dk_96 (dk_at dksL_law_31 13 rfl rfl)
theorem dL_law_813 : decode cL_law 813 = .ok (.iaload, 1) := dk_46 (dk_at dksL_law_31 14 rfl rfl)
theorem dL_law_814 : decode cL_law 814 = .ok (.aload_n 0, 1) := dk_42 (dk_at dksL_law_31 15 rfl rfl)
theorem dL_law_815 : decode cL_law 815 = .ok (.iload 5, 2) := dk_21 5 (dk_at dksL_law_31 16 rfl rfl)
theorem dL_law_817 : decode cL_law 817 = .ok (.iconst 2, 1) := dk_5 (dk_at dksL_law_31 18 rfl rfl)
theorem dL_law_818 : decode cL_law 818 = .ok (.iadd, 1) := dk_96 (dk_at dksL_law_31 19 rfl rfl)
theorem dL_law_819 : decode cL_law 819 = .ok (.iaload, 1) := dk_46 (dk_at dksL_law_31 20 rfl rfl)
theorem dL_law_820 : decode cL_law 820 = .ok (.aload_n 3, 1) := dk_45 (dk_at dksL_law_31 21 rfl rfl)
theorem dL_law_821 : decode cL_law 821 = .ok (.invokestatic 121, 3) := dk_184 0 121 (dk_at dksL_law_32 0 rfl rfl)
theorem dL_law_824 : decode cL_law 824 = .ok (.istore 6, 2) := dk_54 6 (dk_at dksL_law_32 3 rfl rfl)
theorem dL_law_826 : decode cL_law 826 = .ok (.aload_n 2, 1) := dk_44 (dk_at dksL_law_32 5 rfl rfl)
theorem dL_law_827 : decode cL_law 827 = .ok (.aload_n 0, 1) := dk_42 (dk_at dksL_law_32 6 rfl rfl)
theorem dL_law_828 : decode cL_law 828 = .ok (.iload 5, 2) := dk_21 5 (dk_at dksL_law_32 7 rfl rfl)
theorem dL_law_830 : decode cL_law 830 = .ok (.iconst 1, 1) := dk_4 (dk_at dksL_law_32 9 rfl rfl)
theorem dL_law_831 : decode cL_law 831 = .ok (.iadd, 1) := dk_96 (dk_at dksL_law_32 10 rfl rfl)
theorem dL_law_832 : decode cL_law 832 = .ok (.iaload, 1) := dk_46 (dk_at dksL_law_32 11 rfl rfl)
theorem dL_law_833 : decode cL_law 833 = .ok (.aload_n 0, 1) := dk_42 (dk_at dksL_law_32 12 rfl rfl)
theorem dL_law_834 : decode cL_law 834 = .ok (.iload 5, 2) := dk_21 5 (dk_at dksL_law_32 13 rfl rfl)
theorem dL_law_836 : decode cL_law 836 = .ok (.iconst 2, 1) := dk_5 (dk_at dksL_law_32 15 rfl rfl)
theorem dL_law_837 : decode cL_law 837 = .ok (.iadd, 1) := dk_96 (dk_at dksL_law_32 16 rfl rfl)
theorem dL_law_838 : decode cL_law 838 = .ok (.iaload, 1) := dk_46 (dk_at dksL_law_32 17 rfl rfl)
theorem dL_law_839 : decode cL_law 839 = .ok (.invokevirtual 123, 3) := dk_182 0 123 (dk_at dksL_law_32 18 rfl rfl)
theorem dL_law_842 : decode cL_law 842 = .ok (.istore 7, 2) := dk_54 7 (dk_at dksL_law_32 21 rfl rfl)
theorem dL_law_844 : decode cL_law 844 = .ok (.aload_n 2, 1) := dk_44 (dk_at dksL_law_32 23 rfl rfl)
theorem dL_law_845 : decode cL_law 845 = .ok (.invokevirtual 87, 3) := dk_182 0 87 (dk_at dksL_law_33 0 rfl rfl)
theorem dL_law_848 : decode cL_law 848 = .ok (.iload 6, 2) := dk_21 6 (dk_at dksL_law_33 3 rfl rfl)
theorem dL_law_850 : decode cL_law 850 = .ok (.if_icmp .eq 5, 3) := dk_159 0 5 (dk_at dksL_law_33 5 rfl rfl)
theorem dL_law_853 : decode cL_law 853 = .ok (.iconst 0, 1) := dk_3 (dk_at dksL_law_33 8 rfl rfl)
theorem dL_law_854 : decode cL_law 854 = .ok (.ireturn, 1) := dk_172 (dk_at dksL_law_33 9 rfl rfl)
theorem dL_law_855 : decode cL_law 855 = .ok (.iload 6, 2) := dk_21 6 (dk_at dksL_law_33 10 rfl rfl)
theorem dL_law_857 : decode cL_law 857 = .ok (.ifCond .ne 15, 3) := dk_154 0 15 (dk_at dksL_law_33 12 rfl rfl)
theorem dL_law_860 : decode cL_law 860 = .ok (.aload_n 3, 1) := dk_45 (dk_at dksL_law_33 15 rfl rfl)
theorem dL_law_861 : decode cL_law 861 = .ok (.iconst 0, 1) := dk_3 (dk_at dksL_law_33 16 rfl rfl)
theorem dL_law_862 : decode cL_law 862 = .ok (.laload, 1) := dk_47 (dk_at dksL_law_33 17 rfl rfl)
theorem dL_law_863 : decode cL_law 863 = .ok (.iload 7, 2) := dk_21 7 (dk_at dksL_law_33 18 rfl rfl)
theorem dL_law_865 : decode cL_law 865 = .ok (.i2l, 1) := dk_133 (dk_at dksL_law_33 20 rfl rfl)
theorem dL_law_866 : decode cL_law 866 = .ok (.lcmp, 1) := dk_148 (dk_at dksL_law_33 21 rfl rfl)
theorem dL_law_867 : decode cL_law 867 = .ok (.ifCond .eq 5, 3) := dk_153 0 5 (dk_at dksL_law_34 0 rfl rfl)
theorem dL_law_870 : decode cL_law 870 = .ok (.iconst 0, 1) := dk_3 (dk_at dksL_law_34 3 rfl rfl)
theorem dL_law_871 : decode cL_law 871 = .ok (.ireturn, 1) := dk_172 (dk_at dksL_law_34 4 rfl rfl)
theorem dL_law_872 : decode cL_law 872 = .ok (.goto 582, 3) := dk_167 2 70 (dk_at dksL_law_34 5 rfl rfl)
theorem dL_law_875 : decode cL_law 875 = .ok (.aload_n 1, 1) := dk_43 (dk_at dksL_law_34 8 rfl rfl)
theorem dL_law_876 : decode cL_law 876 = .ok (.aload_n 0, 1) := dk_42 (dk_at dksL_law_34 9 rfl rfl)
theorem dL_law_877 : decode cL_law 877 = .ok (.iload 5, 2) := dk_21 5 (dk_at dksL_law_34 10 rfl rfl)
theorem dL_law_879 : decode cL_law 879 = .ok (.iconst 1, 1) := dk_4 (dk_at dksL_law_34 12 rfl rfl)
theorem dL_law_880 : decode cL_law 880 = .ok (.iadd, 1) := dk_96 (dk_at dksL_law_34 13 rfl rfl)
theorem dL_law_881 : decode cL_law 881 = .ok (.iaload, 1) := dk_46 (dk_at dksL_law_34 14 rfl rfl)
theorem dL_law_882 : decode cL_law 882 = .ok (.aload_n 0, 1) := dk_42 (dk_at dksL_law_34 15 rfl rfl)
theorem dL_law_883 : decode cL_law 883 = .ok (.iload 5, 2) := dk_21 5 (dk_at dksL_law_34 16 rfl rfl)
theorem dL_law_885 : decode cL_law 885 = .ok (.iconst 2, 1) := dk_5 (dk_at dksL_law_34 18 rfl rfl)
theorem dL_law_886 : decode cL_law 886 = .ok (.iadd, 1) := dk_96 (dk_at dksL_law_34 19 rfl rfl)
theorem dL_law_887 : decode cL_law 887 = .ok (.iaload, 1) := dk_46 (dk_at dksL_law_34 20 rfl rfl)
theorem dL_law_888 : decode cL_law 888 = .ok (.aload_n 0, 1) := dk_42 (dk_at dksL_law_34 21 rfl rfl)
theorem dL_law_889 : decode cL_law 889 = .ok (.iload 5, 2) := dk_21 5 (dk_at dksL_law_34 22 rfl rfl)
theorem dL_law_891 : decode cL_law 891 = .ok (.iconst 3, 1) := dk_6 (dk_at dksL_law_35 0 rfl rfl)
theorem dL_law_892 : decode cL_law 892 = .ok (.iadd, 1) := dk_96 (dk_at dksL_law_35 1 rfl rfl)
theorem dL_law_893 : decode cL_law 893 = .ok (.iaload, 1) := dk_46 (dk_at dksL_law_35 2 rfl rfl)
theorem dL_law_894 : decode cL_law 894 = .ok (.aload_n 3, 1) := dk_45 (dk_at dksL_law_35 3 rfl rfl)
theorem dL_law_895 : decode cL_law 895 = .ok (.invokestatic 124, 3) := dk_184 0 124 (dk_at dksL_law_35 4 rfl rfl)
theorem dL_law_898 : decode cL_law 898 = .ok (.istore 6, 2) := dk_54 6 (dk_at dksL_law_35 7 rfl rfl)
theorem dL_law_900 : decode cL_law 900 = .ok (.aload_n 2, 1) := dk_44 (dk_at dksL_law_35 9 rfl rfl)
theorem dL_law_901 : decode cL_law 901 = .ok (.aload_n 0, 1) := dk_42 (dk_at dksL_law_35 10 rfl rfl)
theorem dL_law_902 : decode cL_law 902 = .ok (.iload 5, 2) := dk_21 5 (dk_at dksL_law_35 11 rfl rfl)
theorem dL_law_904 : decode cL_law 904 = .ok (.iconst 1, 1) := dk_4 (dk_at dksL_law_35 13 rfl rfl)
theorem dL_law_905 : decode cL_law 905 = .ok (.iadd, 1) := dk_96 (dk_at dksL_law_35 14 rfl rfl)
theorem dL_law_906 : decode cL_law 906 = .ok (.iaload, 1) := dk_46 (dk_at dksL_law_35 15 rfl rfl)
theorem dL_law_907 : decode cL_law 907 = .ok (.aload_n 0, 1) := dk_42 (dk_at dksL_law_35 16 rfl rfl)
theorem dL_law_908 : decode cL_law 908 = .ok (.iload 5, 2) := dk_21 5 (dk_at dksL_law_35 17 rfl rfl)
theorem dL_law_910 : decode cL_law 910 = .ok (.iconst 2, 1) := dk_5 (dk_at dksL_law_35 19 rfl rfl)
theorem dL_law_911 : decode cL_law 911 = .ok (.iadd, 1) := dk_96 (dk_at dksL_law_35 20 rfl rfl)
theorem dL_law_912 : decode cL_law 912 = .ok (.iaload, 1) := dk_46 (dk_at dksL_law_35 21 rfl rfl)
theorem dL_law_913 : decode cL_law 913 = .ok (.aload_n 0, 1) := dk_42 (dk_at dksL_law_35 22 rfl rfl)
theorem dL_law_914 : decode cL_law 914 = .ok (.iload 5, 2) := dk_21 5 (dk_at dksL_law_36 0 rfl rfl)
theorem dL_law_916 : decode cL_law 916 = .ok (.iconst 3, 1) := dk_6 (dk_at dksL_law_36 2 rfl rfl)
theorem dL_law_917 : decode cL_law 917 = .ok (.iadd, 1) := dk_96 (dk_at dksL_law_36 3 rfl rfl)
theorem dL_law_918 : decode cL_law 918 = .ok (.iaload, 1) := dk_46 (dk_at dksL_law_36 4 rfl rfl)
theorem dL_law_919 : decode cL_law 919 = .ok (.invokevirtual 126, 3) := dk_182 0 126 (dk_at dksL_law_36 5 rfl rfl)
theorem dL_law_922 : decode cL_law 922 = .ok (.istore 7, 2) := dk_54 7 (dk_at dksL_law_36 8 rfl rfl)
theorem dL_law_924 : decode cL_law 924 = .ok (.aload_n 2, 1) := dk_44 (dk_at dksL_law_36 10 rfl rfl)
theorem dL_law_925 : decode cL_law 925 = .ok (.invokevirtual 87, 3) := dk_182 0 87 (dk_at dksL_law_36 11 rfl rfl)
theorem dL_law_928 : decode cL_law 928 = .ok (.iload 6, 2) := dk_21 6 (dk_at dksL_law_36 14 rfl rfl)
theorem dL_law_930 : decode cL_law 930 = .ok (.if_icmp .eq 5, 3) := dk_159 0 5 (dk_at dksL_law_36 16 rfl rfl)
theorem dL_law_933 : decode cL_law 933 = .ok (.iconst 0, 1) := dk_3 (dk_at dksL_law_36 19 rfl rfl)
theorem dL_law_934 : decode cL_law 934 = .ok (.ireturn, 1) := dk_172 (dk_at dksL_law_36 20 rfl rfl)
theorem dL_law_935 : decode cL_law 935 = .ok (.iload 6, 2) := dk_21 6 (dk_at dksL_law_36 21 rfl rfl)
theorem dL_law_937 : decode cL_law 937 = .ok (.ifCond .ne 15, 3) := dk_154 0 15 (dk_at dksL_law_37 0 rfl rfl)
theorem dL_law_940 : decode cL_law 940 = .ok (.aload_n 3, 1) := dk_45 (dk_at dksL_law_37 3 rfl rfl)
theorem dL_law_941 : decode cL_law 941 = .ok (.iconst 0, 1) := dk_3 (dk_at dksL_law_37 4 rfl rfl)
theorem dL_law_942 : decode cL_law 942 = .ok (.laload, 1) := dk_47 (dk_at dksL_law_37 5 rfl rfl)
theorem dL_law_943 : decode cL_law 943 = .ok (.iload 7, 2) := dk_21 7 (dk_at dksL_law_37 6 rfl rfl)
theorem dL_law_945 : decode cL_law 945 = .ok (.i2l, 1) := dk_133 (dk_at dksL_law_37 8 rfl rfl)
theorem dL_law_946 : decode cL_law 946 = .ok (.lcmp, 1) := dk_148 (dk_at dksL_law_37 9 rfl rfl)
theorem dL_law_947 : decode cL_law 947 = .ok (.ifCond .eq 5, 3) := dk_153 0 5 (dk_at dksL_law_37 10 rfl rfl)
theorem dL_law_950 : decode cL_law 950 = .ok (.iconst 0, 1) := dk_3 (dk_at dksL_law_37 13 rfl rfl)
theorem dL_law_951 : decode cL_law 951 = .ok (.ireturn, 1) := dk_172 (dk_at dksL_law_37 14 rfl rfl)
theorem dL_law_952 : decode cL_law 952 = .ok (.goto 502, 3) := dk_167 1 246 (dk_at dksL_law_37 15 rfl rfl)
theorem dL_law_955 : decode cL_law 955 = .ok (.aload_n 1, 1) := dk_43 (dk_at dksL_law_37 18 rfl rfl)
theorem dL_law_956 : decode cL_law 956 = .ok (.aload_n 0, 1) := dk_42 (dk_at dksL_law_37 19 rfl rfl)
theorem dL_law_957 : decode cL_law 957 = .ok (.iload 5, 2) := dk_21 5 (dk_at dksL_law_37 20 rfl rfl)
theorem dL_law_959 : decode cL_law 959 = .ok (.iconst 1, 1) := dk_4 (dk_at dksL_law_37 22 rfl rfl)
theorem dL_law_960 : decode cL_law 960 = .ok (.iadd, 1) := dk_96 (dk_at dksL_law_37 23 rfl rfl)
theorem dL_law_961 : decode cL_law 961 = .ok (.iaload, 1) := dk_46 (dk_at dksL_law_38 0 rfl rfl)
theorem dL_law_962 : decode cL_law 962 = .ok (.aload_n 0, 1) := dk_42 (dk_at dksL_law_38 1 rfl rfl)
theorem dL_law_963 : decode cL_law 963 = .ok (.iload 5, 2) := dk_21 5 (dk_at dksL_law_38 2 rfl rfl)
theorem dL_law_965 : decode cL_law 965 = .ok (.iconst 2, 1) := dk_5 (dk_at dksL_law_38 4 rfl rfl)
theorem dL_law_966 : decode cL_law 966 = .ok (.iadd, 1) := dk_96 (dk_at dksL_law_38 5 rfl rfl)
theorem dL_law_967 : decode cL_law 967 = .ok (.iaload, 1) := dk_46 (dk_at dksL_law_38 6 rfl rfl)
theorem dL_law_968 : decode cL_law 968 = .ok (.aload_n 3, 1) := dk_45 (dk_at dksL_law_38 7 rfl rfl)
theorem dL_law_969 : decode cL_law 969 = .ok (.invokestatic 127, 3) := dk_184 0 127 (dk_at dksL_law_38 8 rfl rfl)
theorem dL_law_972 : decode cL_law 972 = .ok (.istore 6, 2) := dk_54 6 (dk_at dksL_law_38 11 rfl rfl)
theorem dL_law_974 : decode cL_law 974 = .ok (.aload_n 2, 1) := dk_44 (dk_at dksL_law_38 13 rfl rfl)
theorem dL_law_975 : decode cL_law 975 = .ok (.aload_n 0, 1) := dk_42 (dk_at dksL_law_38 14 rfl rfl)
theorem dL_law_976 : decode cL_law 976 = .ok (.iload 5, 2) := dk_21 5 (dk_at dksL_law_38 15 rfl rfl)
theorem dL_law_978 : decode cL_law 978 = .ok (.iconst 1, 1) := dk_4 (dk_at dksL_law_38 17 rfl rfl)
theorem dL_law_979 : decode cL_law 979 = .ok (.iadd, 1) := dk_96 (dk_at dksL_law_38 18 rfl rfl)
theorem dL_law_980 : decode cL_law 980 = .ok (.iaload, 1) := dk_46 (dk_at dksL_law_38 19 rfl rfl)
theorem dL_law_981 : decode cL_law 981 = .ok (.aload_n 0, 1) := dk_42 (dk_at dksL_law_38 20 rfl rfl)
theorem dL_law_982 : decode cL_law 982 = .ok (.iload 5, 2) := dk_21 5 (dk_at dksL_law_38 21 rfl rfl)
theorem dL_law_984 : decode cL_law 984 = .ok (.iconst 2, 1) := dk_5 (dk_at dksL_law_38 23 rfl rfl)
theorem dL_law_985 : decode cL_law 985 = .ok (.iadd, 1) := dk_96 (dk_at dksL_law_39 0 rfl rfl)
theorem dL_law_986 : decode cL_law 986 = .ok (.iaload, 1) := dk_46 (dk_at dksL_law_39 1 rfl rfl)
theorem dL_law_987 : decode cL_law 987 = .ok (.invokevirtual 129, 3) := dk_182 0 129 (dk_at dksL_law_39 2 rfl rfl)
theorem dL_law_990 : decode cL_law 990 = .ok (.istore 7, 2) := dk_54 7 (dk_at dksL_law_39 5 rfl rfl)
theorem dL_law_992 : decode cL_law 992 = .ok (.aload_n 2, 1) := dk_44 (dk_at dksL_law_39 7 rfl rfl)
theorem dL_law_993 : decode cL_law 993 = .ok (.invokevirtual 87, 3) := dk_182 0 87 (dk_at dksL_law_39 8 rfl rfl)
theorem dL_law_996 : decode cL_law 996 = .ok (.iload 6, 2) := dk_21 6 (dk_at dksL_law_39 11 rfl rfl)
theorem dL_law_998 : decode cL_law 998 = .ok (.if_icmp .eq 5, 3) := dk_159 0 5 (dk_at dksL_law_39 13 rfl rfl)
theorem dL_law_1001 : decode cL_law 1001 = .ok (.iconst 0, 1) := dk_3 (dk_at dksL_law_39 16 rfl rfl)
theorem dL_law_1002 : decode cL_law 1002 = .ok (.ireturn, 1) := dk_172 (dk_at dksL_law_39 17 rfl rfl)
theorem dL_law_1003 : decode cL_law 1003 = .ok (.iload 6, 2) := dk_21 6 (dk_at dksL_law_39 18 rfl rfl)
theorem dL_law_1005 : decode cL_law 1005 = .ok (.ifCond .ne 15, 3) := dk_154 0 15 (dk_at dksL_law_39 20 rfl rfl)
theorem dL_law_1008 : decode cL_law 1008 = .ok (.aload_n 3, 1) := dk_45 (dk_at dksL_law_39 23 rfl rfl)
theorem dL_law_1009 : decode cL_law 1009 = .ok (.iconst 0, 1) := dk_3 (dk_at dksL_law_40 0 rfl rfl)
theorem dL_law_1010 : decode cL_law 1010 = .ok (.laload, 1) := dk_47 (dk_at dksL_law_40 1 rfl rfl)
theorem dL_law_1011 : decode cL_law 1011 = .ok (.iload 7, 2) := dk_21 7 (dk_at dksL_law_40 2 rfl rfl)
theorem dL_law_1013 : decode cL_law 1013 = .ok (.i2l, 1) := dk_133 (dk_at dksL_law_40 4 rfl rfl)
theorem dL_law_1014 : decode cL_law 1014 = .ok (.lcmp, 1) := dk_148 (dk_at dksL_law_40 5 rfl rfl)
theorem dL_law_1015 : decode cL_law 1015 = .ok (.ifCond .eq 5, 3) := dk_153 0 5 (dk_at dksL_law_40 6 rfl rfl)
theorem dL_law_1018 : decode cL_law 1018 = .ok (.iconst 0, 1) := dk_3 (dk_at dksL_law_40 9 rfl rfl)
theorem dL_law_1019 : decode cL_law 1019 = .ok (.ireturn, 1) := dk_172 (dk_at dksL_law_40 10 rfl rfl)
theorem dL_law_1020 : decode cL_law 1020 = .ok (.goto 434, 3) := dk_167 1 178 (dk_at dksL_law_40 11 rfl rfl)
theorem dL_law_1023 : decode cL_law 1023 = .ok (.aload_n 1, 1) := dk_43 (dk_at dksL_law_40 14 rfl rfl)
theorem dL_law_1024 : decode cL_law 1024 = .ok (.aload_n 0, 1) := dk_42 (dk_at dksL_law_40 15 rfl rfl)
theorem dL_law_1025 : decode cL_law 1025 = .ok (.iload 5, 2) := dk_21 5 (dk_at dksL_law_40 16 rfl rfl)
theorem dL_law_1027 : decode cL_law 1027 = .ok (.iconst 1, 1) := dk_4 (dk_at dksL_law_40 18 rfl rfl)
theorem dL_law_1028 : decode cL_law 1028 = .ok (.iadd, 1) := dk_96 (dk_at dksL_law_40 19 rfl rfl)
theorem dL_law_1029 : decode cL_law 1029 = .ok (.iaload, 1) := dk_46 (dk_at dksL_law_40 20 rfl rfl)
theorem dL_law_1030 : decode cL_law 1030 = .ok (.aload_n 0, 1) := dk_42 (dk_at dksL_law_40 21 rfl rfl)
theorem dL_law_1031 : decode cL_law 1031 = .ok (.iload 5, 2) := dk_21 5 (dk_at dksL_law_40 22 rfl rfl)
theorem dL_law_1033 : decode cL_law 1033 = .ok (.iconst 2, 1) := dk_5 (dk_at dksL_law_41 0 rfl rfl)
theorem dL_law_1034 : decode cL_law 1034 = .ok (.iadd, 1) := dk_96 (dk_at dksL_law_41 1 rfl rfl)
theorem dL_law_1035 : decode cL_law 1035 = .ok (.iaload, 1) := dk_46 (dk_at dksL_law_41 2 rfl rfl)
theorem dL_law_1036 : decode cL_law 1036 = .ok (.aload_n 3, 1) := dk_45 (dk_at dksL_law_41 3 rfl rfl)
theorem dL_law_1037 : decode cL_law 1037 = .ok (.invokestatic 130, 3) := dk_184 0 130 (dk_at dksL_law_41 4 rfl rfl)
theorem dL_law_1040 : decode cL_law 1040 = .ok (.istore 6, 2) := dk_54 6 (dk_at dksL_law_41 7 rfl rfl)
theorem dL_law_1042 : decode cL_law 1042 = .ok (.aload_n 2, 1) := dk_44 (dk_at dksL_law_41 9 rfl rfl)
theorem dL_law_1043 : decode cL_law 1043 = .ok (.aload_n 0, 1) := dk_42 (dk_at dksL_law_41 10 rfl rfl)
theorem dL_law_1044 : decode cL_law 1044 = .ok (.iload 5, 2) := dk_21 5 (dk_at dksL_law_41 11 rfl rfl)
theorem dL_law_1046 : decode cL_law 1046 = .ok (.iconst 1, 1) := dk_4 (dk_at dksL_law_41 13 rfl rfl)
theorem dL_law_1047 : decode cL_law 1047 = .ok (.iadd, 1) := dk_96 (dk_at dksL_law_41 14 rfl rfl)
theorem dL_law_1048 : decode cL_law 1048 = .ok (.iaload, 1) := dk_46 (dk_at dksL_law_41 15 rfl rfl)
theorem dL_law_1049 : decode cL_law 1049 = .ok (.aload_n 0, 1) := dk_42 (dk_at dksL_law_41 16 rfl rfl)
theorem dL_law_1050 : decode cL_law 1050 = .ok (.iload 5, 2) := dk_21 5 (dk_at dksL_law_41 17 rfl rfl)
theorem dL_law_1052 : decode cL_law 1052 = .ok (.iconst 2, 1) := dk_5 (dk_at dksL_law_41 19 rfl rfl)
theorem dL_law_1053 : decode cL_law 1053 = .ok (.iadd, 1) := dk_96 (dk_at dksL_law_41 20 rfl rfl)
theorem dL_law_1054 : decode cL_law 1054 = .ok (.iaload, 1) := dk_46 (dk_at dksL_law_41 21 rfl rfl)
theorem dL_law_1055 : decode cL_law 1055 = .ok (.invokevirtual 132, 3) := dk_182 0 132 (dk_at dksL_law_42 0 rfl rfl)
theorem dL_law_1058 : decode cL_law 1058 = .ok (.istore 7, 2) := dk_54 7 (dk_at dksL_law_42 3 rfl rfl)
theorem dL_law_1060 : decode cL_law 1060 = .ok (.aload_n 2, 1) := dk_44 (dk_at dksL_law_42 5 rfl rfl)
theorem dL_law_1061 : decode cL_law 1061 = .ok (.invokevirtual 87, 3) := dk_182 0 87 (dk_at dksL_law_42 6 rfl rfl)
theorem dL_law_1064 : decode cL_law 1064 = .ok (.iload 6, 2) := dk_21 6 (dk_at dksL_law_42 9 rfl rfl)
theorem dL_law_1066 : decode cL_law 1066 = .ok (.if_icmp .eq 5, 3) := dk_159 0 5 (dk_at dksL_law_42 11 rfl rfl)
theorem dL_law_1069 : decode cL_law 1069 = .ok (.iconst 0, 1) := dk_3 (dk_at dksL_law_42 14 rfl rfl)
theorem dL_law_1070 : decode cL_law 1070 = .ok (.ireturn, 1) := dk_172 (dk_at dksL_law_42 15 rfl rfl)
theorem dL_law_1071 : decode cL_law 1071 = .ok (.iload 6, 2) := dk_21 6 (dk_at dksL_law_42 16 rfl rfl)
theorem dL_law_1073 : decode cL_law 1073 = .ok (.ifCond .ne 15, 3) := dk_154 0 15 (dk_at dksL_law_42 18 rfl rfl)
theorem dL_law_1076 : decode cL_law 1076 = .ok (.aload_n 3, 1) := dk_45 (dk_at dksL_law_42 21 rfl rfl)
theorem dL_law_1077 : decode cL_law 1077 = .ok (.iconst 0, 1) := dk_3 (dk_at dksL_law_42 22 rfl rfl)
theorem dL_law_1078 : decode cL_law 1078 = .ok (.laload, 1) := dk_47 (dk_at dksL_law_42 23 rfl rfl)
theorem dL_law_1079 : decode cL_law 1079 = .ok (.iload 7, 2) := dk_21 7 (dk_at dksL_law_43 0 rfl rfl)
theorem dL_law_1081 : decode cL_law 1081 = .ok (.i2l, 1) := dk_133 (dk_at dksL_law_43 2 rfl rfl)
theorem dL_law_1082 : decode cL_law 1082 = .ok (.lcmp, 1) := dk_148 (dk_at dksL_law_43 3 rfl rfl)
theorem dL_law_1083 : decode cL_law 1083 = .ok (.ifCond .eq 5, 3) := dk_153 0 5 (dk_at dksL_law_43 4 rfl rfl)
theorem dL_law_1086 : decode cL_law 1086 = .ok (.iconst 0, 1) := dk_3 (dk_at dksL_law_43 7 rfl rfl)
theorem dL_law_1087 : decode cL_law 1087 = .ok (.ireturn, 1) := dk_172 (dk_at dksL_law_43 8 rfl rfl)
theorem dL_law_1088 : decode cL_law 1088 = .ok (.goto 366, 3) := dk_167 1 110 (dk_at dksL_law_43 9 rfl rfl)
theorem dL_law_1091 : decode cL_law 1091 = .ok (.aload_n 1, 1) := dk_43 (dk_at dksL_law_43 12 rfl rfl)
theorem dL_law_1092 : decode cL_law 1092 = .ok (.aload_n 0, 1) := dk_42 (dk_at dksL_law_43 13 rfl rfl)
theorem dL_law_1093 : decode cL_law 1093 = .ok (.iload 5, 2) := dk_21 5 (dk_at dksL_law_43 14 rfl rfl)
theorem dL_law_1095 : decode cL_law 1095 = .ok (.iconst 1, 1) := dk_4 (dk_at dksL_law_43 16 rfl rfl)
theorem dL_law_1096 : decode cL_law 1096 = .ok (.iadd, 1) := dk_96 (dk_at dksL_law_43 17 rfl rfl)
theorem dL_law_1097 : decode cL_law 1097 = .ok (.iaload, 1) := dk_46 (dk_at dksL_law_43 18 rfl rfl)
theorem dL_law_1098 : decode cL_law 1098 = .ok (.aload_n 3, 1) := dk_45 (dk_at dksL_law_43 19 rfl rfl)
theorem dL_law_1099 : decode cL_law 1099 = .ok (.invokestatic 133, 3) := dk_184 0 133 (dk_at dksL_law_43 20 rfl rfl)
theorem dL_law_1102 : decode cL_law 1102 = .ok (.istore 6, 2) := dk_54 6 (dk_at dksL_law_44 0 rfl rfl)
theorem dL_law_1104 : decode cL_law 1104 = .ok (.aload_n 2, 1) := dk_44 (dk_at dksL_law_44 2 rfl rfl)
theorem dL_law_1105 : decode cL_law 1105 = .ok (.aload_n 0, 1) := dk_42 (dk_at dksL_law_44 3 rfl rfl)
theorem dL_law_1106 : decode cL_law 1106 = .ok (.iload 5, 2) := dk_21 5 (dk_at dksL_law_44 4 rfl rfl)
theorem dL_law_1108 : decode cL_law 1108 = .ok (.iconst 1, 1) := dk_4 (dk_at dksL_law_44 6 rfl rfl)
theorem dL_law_1109 : decode cL_law 1109 = .ok (.iadd, 1) := dk_96 (dk_at dksL_law_44 7 rfl rfl)
theorem dL_law_1110 : decode cL_law 1110 = .ok (.iaload, 1) := dk_46 (dk_at dksL_law_44 8 rfl rfl)
theorem dL_law_1111 : decode cL_law 1111 = .ok (.invokevirtual 135, 3) := dk_182 0 135 (dk_at dksL_law_44 9 rfl rfl)
theorem dL_law_1114 : decode cL_law 1114 = .ok (.istore 7, 2) := dk_54 7 (dk_at dksL_law_44 12 rfl rfl)
theorem dL_law_1116 : decode cL_law 1116 = .ok (.aload_n 2, 1) := dk_44 (dk_at dksL_law_44 14 rfl rfl)
theorem dL_law_1117 : decode cL_law 1117 = .ok (.invokevirtual 87, 3) := dk_182 0 87 (dk_at dksL_law_44 15 rfl rfl)
theorem dL_law_1120 : decode cL_law 1120 = .ok (.iload 6, 2) := dk_21 6 (dk_at dksL_law_44 18 rfl rfl)
theorem dL_law_1122 : decode cL_law 1122 = .ok (.if_icmp .eq 5, 3) := dk_159 0 5 (dk_at dksL_law_44 20 rfl rfl)
theorem dL_law_1125 : decode cL_law 1125 = .ok (.iconst 0, 1) := dk_3 (dk_at dksL_law_44 23 rfl rfl)
theorem dL_law_1126 : decode cL_law 1126 = .ok (.ireturn, 1) := dk_172 (dk_at dksL_law_45 0 rfl rfl)
theorem dL_law_1127 : decode cL_law 1127 = .ok (.iload 6, 2) := dk_21 6 (dk_at dksL_law_45 1 rfl rfl)
theorem dL_law_1129 : decode cL_law 1129 = .ok (.ifCond .ne 15, 3) := dk_154 0 15 (dk_at dksL_law_45 3 rfl rfl)
theorem dL_law_1132 : decode cL_law 1132 = .ok (.aload_n 3, 1) := dk_45 (dk_at dksL_law_45 6 rfl rfl)
theorem dL_law_1133 : decode cL_law 1133 = .ok (.iconst 0, 1) := dk_3 (dk_at dksL_law_45 7 rfl rfl)
theorem dL_law_1134 : decode cL_law 1134 = .ok (.laload, 1) := dk_47 (dk_at dksL_law_45 8 rfl rfl)
theorem dL_law_1135 : decode cL_law 1135 = .ok (.iload 7, 2) := dk_21 7 (dk_at dksL_law_45 9 rfl rfl)
theorem dL_law_1137 : decode cL_law 1137 = .ok (.i2l, 1) := dk_133 (dk_at dksL_law_45 11 rfl rfl)
theorem dL_law_1138 : decode cL_law 1138 = .ok (.lcmp, 1) := dk_148 (dk_at dksL_law_45 12 rfl rfl)
theorem dL_law_1139 : decode cL_law 1139 = .ok (.ifCond .eq 5, 3) := dk_153 0 5 (dk_at dksL_law_45 13 rfl rfl)
theorem dL_law_1142 : decode cL_law 1142 = .ok (.iconst 0, 1) := dk_3 (dk_at dksL_law_45 16 rfl rfl)
theorem dL_law_1143 : decode cL_law 1143 = .ok (.ireturn, 1) := dk_172 (dk_at dksL_law_45 17 rfl rfl)
theorem dL_law_1144 : decode cL_law 1144 = .ok (.goto 310, 3) := dk_167 1 54 (dk_at dksL_law_45 18 rfl rfl)
theorem dL_law_1147 : decode cL_law 1147 = .ok (.aload_n 1, 1) := dk_43 (dk_at dksL_law_45 21 rfl rfl)
theorem dL_law_1148 : decode cL_law 1148 = .ok (.aload_n 0, 1) := dk_42 (dk_at dksL_law_45 22 rfl rfl)
theorem dL_law_1149 : decode cL_law 1149 = .ok (.iload 5, 2) := dk_21 5 (dk_at dksL_law_46 0 rfl rfl)
theorem dL_law_1151 : decode cL_law 1151 = .ok (.iconst 1, 1) := dk_4 (dk_at dksL_law_46 2 rfl rfl)
theorem dL_law_1152 : decode cL_law 1152 = .ok (.iadd, 1) := dk_96 (dk_at dksL_law_46 3 rfl rfl)
theorem dL_law_1153 : decode cL_law 1153 = .ok (.iaload, 1) := dk_46 (dk_at dksL_law_46 4 rfl rfl)
theorem dL_law_1154 : decode cL_law 1154 = .ok (.aload 4, 2) := dk_25 4 (dk_at dksL_law_46 5 rfl rfl)
theorem dL_law_1156 : decode cL_law 1156 = .ok (.invokestatic 136, 3) := dk_184 0 136 (dk_at dksL_law_46 7 rfl rfl)
theorem dL_law_1159 : decode cL_law 1159 = .ok (.istore 6, 2) := dk_54 6 (dk_at dksL_law_46 10 rfl rfl)
theorem dL_law_1161 : decode cL_law 1161 = .ok (.aload_n 2, 1) := dk_44 (dk_at dksL_law_46 12 rfl rfl)
theorem dL_law_1162 : decode cL_law 1162 = .ok (.aload_n 0, 1) := dk_42 (dk_at dksL_law_46 13 rfl rfl)
theorem dL_law_1163 : decode cL_law 1163 = .ok (.iload 5, 2) := dk_21 5 (dk_at dksL_law_46 14 rfl rfl)
theorem dL_law_1165 : decode cL_law 1165 = .ok (.iconst 1, 1) := dk_4 (dk_at dksL_law_46 16 rfl rfl)
theorem dL_law_1166 : decode cL_law 1166 = .ok (.iadd, 1) := dk_96 (dk_at dksL_law_46 17 rfl rfl)
theorem dL_law_1167 : decode cL_law 1167 = .ok (.iaload, 1) := dk_46 (dk_at dksL_law_46 18 rfl rfl)
theorem dL_law_1168 : decode cL_law 1168 = .ok (.invokevirtual 139, 3) := dk_182 0 139 (dk_at dksL_law_46 19 rfl rfl)
theorem dL_law_1171 : decode cL_law 1171 = .ok (.dstore 7, 2) := dk_57 7 (dk_at dksL_law_46 22 rfl rfl)
theorem dL_law_1173 : decode cL_law 1173 = .ok (.aload_n 2, 1) := dk_44 (dk_at dksL_law_47 0 rfl rfl)
theorem dL_law_1174 : decode cL_law 1174 = .ok (.invokevirtual 87, 3) := dk_182 0 87 (dk_at dksL_law_47 1 rfl rfl)
theorem dL_law_1177 : decode cL_law 1177 = .ok (.iload 6, 2) := dk_21 6 (dk_at dksL_law_47 4 rfl rfl)
theorem dL_law_1179 : decode cL_law 1179 = .ok (.if_icmp .eq 5, 3) := dk_159 0 5 (dk_at dksL_law_47 6 rfl rfl)
theorem dL_law_1182 : decode cL_law 1182 = .ok (.iconst 0, 1) := dk_3 (dk_at dksL_law_47 9 rfl rfl)
theorem dL_law_1183 : decode cL_law 1183 = .ok (.ireturn, 1) := dk_172 (dk_at dksL_law_47 10 rfl rfl)
theorem dL_law_1184 : decode cL_law 1184 = .ok (.iload 6, 2) := dk_21 6 (dk_at dksL_law_47 11 rfl rfl)
theorem dL_law_1186 : decode cL_law 1186 = .ok (.ifCond .ne 35, 3) := dk_154 0 35 (dk_at dksL_law_47 13 rfl rfl)
theorem dL_law_1189 : decode cL_law 1189 = .ok (.aload 4, 2) := dk_25 4 (dk_at dksL_law_47 16 rfl rfl)
theorem dL_law_1191 : decode cL_law 1191 = .ok (.iconst 0, 1) := dk_3 (dk_at dksL_law_47 18 rfl rfl)
theorem dL_law_1192 : decode cL_law 1192 = .ok (.daload, 1) := dk_49 (dk_at dksL_law_47 19 rfl rfl)
theorem dL_law_1193 : decode cL_law 1193 = .ok (.dload 7, 2) := dk_24 7 (dk_at dksL_law_47 20 rfl rfl)
theorem dL_law_1195 : decode cL_law 1195 = .ok (.dcmp .l, 1) := dk_151 (dk_at dksL_law_47 22 rfl rfl)
theorem dL_law_1196 : decode cL_law 1196 = .ok (.ifCond .eq 25, 3) := dk_153 0 25 (dk_at dksL_law_48 0 rfl rfl)
theorem dL_law_1199 : decode cL_law 1199 = .ok (.aload 4, 2) := dk_25 4 (dk_at dksL_law_48 3 rfl rfl)
theorem dL_law_1201 : decode cL_law 1201 = .ok (.iconst 0, 1) := dk_3 (dk_at dksL_law_48 5 rfl rfl)
theorem dL_law_1202 : decode cL_law 1202 = .ok (.daload, 1) := dk_49 (dk_at dksL_law_48 6 rfl rfl)
theorem dL_law_1203 : decode cL_law 1203 = .ok (.aload 4, 2) := dk_25 4 (dk_at dksL_law_48 7 rfl rfl)
theorem dL_law_1205 : decode cL_law 1205 = .ok (.iconst 0, 1) := dk_3 (dk_at dksL_law_48 9 rfl rfl)
theorem dL_law_1206 : decode cL_law 1206 = .ok (.daload, 1) := dk_49 (dk_at dksL_law_48 10 rfl rfl)
theorem dL_law_1207 : decode cL_law 1207 = .ok (.dcmp .l, 1) := dk_151 (dk_at dksL_law_48 11 rfl rfl)
theorem dL_law_1208 : decode cL_law 1208 = .ok (.ifCond .eq 11, 3) := dk_153 0 11 (dk_at dksL_law_48 12 rfl rfl)
theorem dL_law_1211 : decode cL_law 1211 = .ok (.dload 7, 2) := dk_24 7 (dk_at dksL_law_48 15 rfl rfl)
theorem dL_law_1213 : decode cL_law 1213 = .ok (.dload 7, 2) := dk_24 7 (dk_at dksL_law_48 17 rfl rfl)
theorem dL_law_1215 : decode cL_law 1215 = .ok (.dcmp .l, 1) := dk_151 (dk_at dksL_law_48 19 rfl rfl)
theorem dL_law_1216 : decode cL_law 1216 = .ok (.ifCond .ne 5, 3) := dk_154 0 5 (dk_at dksL_law_48 20 rfl rfl)
theorem dL_law_1219 : decode cL_law 1219 = .ok (.iconst 0, 1) := dk_3 (dk_at dksL_law_48 23 rfl rfl)
theorem dL_law_1220 : decode cL_law 1220 = .ok (.ireturn, 1) := dk_172 (dk_at dksL_law_49 0 rfl rfl)
theorem dL_law_1221 : decode cL_law 1221 = .ok (.goto 233, 3) := dk_167 0 233 (dk_at dksL_law_49 1 rfl rfl)
theorem dL_law_1224 : decode cL_law 1224 = .ok (.aload_n 1, 1) := dk_43 (dk_at dksL_law_49 4 rfl rfl)
theorem dL_law_1225 : decode cL_law 1225 = .ok (.aload_n 0, 1) := dk_42 (dk_at dksL_law_49 5 rfl rfl)
theorem dL_law_1226 : decode cL_law 1226 = .ok (.iload 5, 2) := dk_21 5 (dk_at dksL_law_49 6 rfl rfl)
theorem dL_law_1228 : decode cL_law 1228 = .ok (.iconst 1, 1) := dk_4 (dk_at dksL_law_49 8 rfl rfl)
theorem dL_law_1229 : decode cL_law 1229 = .ok (.iadd, 1) := dk_96 (dk_at dksL_law_49 9 rfl rfl)
theorem dL_law_1230 : decode cL_law 1230 = .ok (.iaload, 1) := dk_46 (dk_at dksL_law_49 10 rfl rfl)
theorem dL_law_1231 : decode cL_law 1231 = .ok (.aload_n 0, 1) := dk_42 (dk_at dksL_law_49 11 rfl rfl)
theorem dL_law_1232 : decode cL_law 1232 = .ok (.iload 5, 2) := dk_21 5 (dk_at dksL_law_49 12 rfl rfl)
theorem dL_law_1234 : decode cL_law 1234 = .ok (.iconst 2, 1) := dk_5 (dk_at dksL_law_49 14 rfl rfl)
theorem dL_law_1235 : decode cL_law 1235 = .ok (.iadd, 1) := dk_96 (dk_at dksL_law_49 15 rfl rfl)
theorem dL_law_1236 : decode cL_law 1236 = .ok (.iaload, 1) := dk_46 (dk_at dksL_law_49 16 rfl rfl)
theorem dL_law_1237 : decode cL_law 1237 = .ok (.aload_n 0, 1) := dk_42 (dk_at dksL_law_49 17 rfl rfl)
theorem dL_law_1238 : decode cL_law 1238 = .ok (.iload 5, 2) := dk_21 5 (dk_at dksL_law_49 18 rfl rfl)
theorem dL_law_1240 : decode cL_law 1240 = .ok (.iconst 3, 1) := dk_6 (dk_at dksL_law_49 20 rfl rfl)
theorem dL_law_1241 : decode cL_law 1241 = .ok (.iadd, 1) := dk_96 (dk_at dksL_law_49 21 rfl rfl)
theorem dL_law_1242 : decode cL_law 1242 = .ok (.iaload, 1) := dk_46 (dk_at dksL_law_49 22 rfl rfl)
theorem dL_law_1243 : decode cL_law 1243 = .ok (.aload_n 3, 1) := dk_45 (dk_at dksL_law_49 23 rfl rfl)
theorem dL_law_1244 : decode cL_law 1244 = .ok (.invokestatic 140, 3) := dk_184 0 140 (dk_at dksL_law_50 0 rfl rfl)
theorem dL_law_1247 : decode cL_law 1247 = .ok (.istore 6, 2) := dk_54 6 (dk_at dksL_law_50 3 rfl rfl)
theorem dL_law_1249 : decode cL_law 1249 = .ok (.aload_n 2, 1) := dk_44 (dk_at dksL_law_50 5 rfl rfl)
theorem dL_law_1250 : decode cL_law 1250 = .ok (.aload_n 0, 1) := dk_42 (dk_at dksL_law_50 6 rfl rfl)
theorem dL_law_1251 : decode cL_law 1251 = .ok (.iload 5, 2) := dk_21 5 (dk_at dksL_law_50 7 rfl rfl)
theorem dL_law_1253 : decode cL_law 1253 = .ok (.iconst 1, 1) := dk_4 (dk_at dksL_law_50 9 rfl rfl)
theorem dL_law_1254 : decode cL_law 1254 = .ok (.iadd, 1) := dk_96 (dk_at dksL_law_50 10 rfl rfl)
theorem dL_law_1255 : decode cL_law 1255 = .ok (.iaload, 1) := dk_46 (dk_at dksL_law_50 11 rfl rfl)
theorem dL_law_1256 : decode cL_law 1256 = .ok (.aload_n 0, 1) := dk_42 (dk_at dksL_law_50 12 rfl rfl)
theorem dL_law_1257 : decode cL_law 1257 = .ok (.iload 5, 2) := dk_21 5 (dk_at dksL_law_50 13 rfl rfl)
theorem dL_law_1259 : decode cL_law 1259 = .ok (.iconst 2, 1) := dk_5 (dk_at dksL_law_50 15 rfl rfl)
theorem dL_law_1260 : decode cL_law 1260 = .ok (.iadd, 1) := dk_96 (dk_at dksL_law_50 16 rfl rfl)
theorem dL_law_1261 : decode cL_law 1261 = .ok (.iaload, 1) := dk_46 (dk_at dksL_law_50 17 rfl rfl)
theorem dL_law_1262 : decode cL_law 1262 = .ok (.aload_n 0, 1) := dk_42 (dk_at dksL_law_50 18 rfl rfl)
theorem dL_law_1263 : decode cL_law 1263 = .ok (.iload 5, 2) := dk_21 5 (dk_at dksL_law_50 19 rfl rfl)
theorem dL_law_1265 : decode cL_law 1265 = .ok (.iconst 3, 1) := dk_6 (dk_at dksL_law_50 21 rfl rfl)
theorem dL_law_1266 : decode cL_law 1266 = .ok (.iadd, 1) := dk_96 (dk_at dksL_law_50 22 rfl rfl)
theorem dL_law_1267 : decode cL_law 1267 = .ok (.iaload, 1) := dk_46 (dk_at dksL_law_50 23 rfl rfl)
theorem dL_law_1268 : decode cL_law 1268 = .ok (.invokevirtual 142, 3) := dk_182 0 142 (dk_at dksL_law_51 0 rfl rfl)
theorem dL_law_1271 : decode cL_law 1271 = .ok (.istore 7, 2) := dk_54 7 (dk_at dksL_law_51 3 rfl rfl)
theorem dL_law_1273 : decode cL_law 1273 = .ok (.aload_n 2, 1) := dk_44 (dk_at dksL_law_51 5 rfl rfl)
theorem dL_law_1274 : decode cL_law 1274 = .ok (.invokevirtual 87, 3) := dk_182 0 87 (dk_at dksL_law_51 6 rfl rfl)
theorem dL_law_1277 : decode cL_law 1277 = .ok (.iload 6, 2) := dk_21 6 (dk_at dksL_law_51 9 rfl rfl)
theorem dL_law_1279 : decode cL_law 1279 = .ok (.if_icmp .eq 5, 3) := dk_159 0 5 (dk_at dksL_law_51 11 rfl rfl)
theorem dL_law_1282 : decode cL_law 1282 = .ok (.iconst 0, 1) := dk_3 (dk_at dksL_law_51 14 rfl rfl)
theorem dL_law_1283 : decode cL_law 1283 = .ok (.ireturn, 1) := dk_172 (dk_at dksL_law_51 15 rfl rfl)
theorem dL_law_1284 : decode cL_law 1284 = .ok (.iload 6, 2) := dk_21 6 (dk_at dksL_law_51 16 rfl rfl)
theorem dL_law_1286 : decode cL_law 1286 = .ok (.ifCond .ne 15, 3) := dk_154 0 15 (dk_at dksL_law_51 18 rfl rfl)
theorem dL_law_1289 : decode cL_law 1289 = .ok (.aload_n 3, 1) := dk_45 (dk_at dksL_law_51 21 rfl rfl)
theorem dL_law_1290 : decode cL_law 1290 = .ok (.iconst 0, 1) := dk_3 (dk_at dksL_law_51 22 rfl rfl)
theorem dL_law_1291 : decode cL_law 1291 = .ok (.laload, 1) := dk_47 (dk_at dksL_law_51 23 rfl rfl)
theorem dL_law_1292 : decode cL_law 1292 = .ok (.iload 7, 2) := dk_21 7 (dk_at dksL_law_52 0 rfl rfl)
theorem dL_law_1294 : decode cL_law 1294 = .ok (.i2l, 1) := dk_133 (dk_at dksL_law_52 2 rfl rfl)
theorem dL_law_1295 : decode cL_law 1295 = .ok (.lcmp, 1) := dk_148 (dk_at dksL_law_52 3 rfl rfl)
theorem dL_law_1296 : decode cL_law 1296 = .ok (.ifCond .eq 5, 3) := dk_153 0 5 (dk_at dksL_law_52 4 rfl rfl)
theorem dL_law_1299 : decode cL_law 1299 = .ok (.iconst 0, 1) := dk_3 (dk_at dksL_law_52 7 rfl rfl)
theorem dL_law_1300 : decode cL_law 1300 = .ok (.ireturn, 1) := dk_172 (dk_at dksL_law_52 8 rfl rfl)
theorem dL_law_1301 : decode cL_law 1301 = .ok (.goto 153, 3) := dk_167 0 153 (dk_at dksL_law_52 9 rfl rfl)
theorem dL_law_1304 : decode cL_law 1304 = .ok (.aload_n 1, 1) := dk_43 (dk_at dksL_law_52 12 rfl rfl)
theorem dL_law_1305 : decode cL_law 1305 = .ok (.aload_n 0, 1) := dk_42 (dk_at dksL_law_52 13 rfl rfl)
theorem dL_law_1306 : decode cL_law 1306 = .ok (.iload 5, 2) := dk_21 5 (dk_at dksL_law_52 14 rfl rfl)
theorem dL_law_1308 : decode cL_law 1308 = .ok (.iconst 1, 1) := dk_4 (dk_at dksL_law_52 16 rfl rfl)
theorem dL_law_1309 : decode cL_law 1309 = .ok (.iadd, 1) := dk_96 (dk_at dksL_law_52 17 rfl rfl)
theorem dL_law_1310 : decode cL_law 1310 = .ok (.iaload, 1) := dk_46 (dk_at dksL_law_52 18 rfl rfl)
theorem dL_law_1311 : decode cL_law 1311 = .ok (.aload_n 0, 1) := dk_42 (dk_at dksL_law_52 19 rfl rfl)
theorem dL_law_1312 : decode cL_law 1312 = .ok (.iload 5, 2) := dk_21 5 (dk_at dksL_law_52 20 rfl rfl)
theorem dL_law_1314 : decode cL_law 1314 = .ok (.iconst 2, 1) := dk_5 (dk_at dksL_law_52 22 rfl rfl)
theorem dL_law_1315 : decode cL_law 1315 = .ok (.iadd, 1) := dk_96 (dk_at dksL_law_52 23 rfl rfl)
theorem dL_law_1316 : decode cL_law 1316 = .ok (.iaload, 1) := dk_46 (dk_at dksL_law_53 0 rfl rfl)
theorem dL_law_1317 : decode cL_law 1317 = .ok (.aload_n 3, 1) := dk_45 (dk_at dksL_law_53 1 rfl rfl)
theorem dL_law_1318 : decode cL_law 1318 = .ok (.invokestatic 143, 3) := dk_184 0 143 (dk_at dksL_law_53 2 rfl rfl)
theorem dL_law_1321 : decode cL_law 1321 = .ok (.istore 6, 2) := dk_54 6 (dk_at dksL_law_53 5 rfl rfl)
theorem dL_law_1323 : decode cL_law 1323 = .ok (.aload_n 2, 1) := dk_44 (dk_at dksL_law_53 7 rfl rfl)
theorem dL_law_1324 : decode cL_law 1324 = .ok (.aload_n 0, 1) := dk_42 (dk_at dksL_law_53 8 rfl rfl)
theorem dL_law_1325 : decode cL_law 1325 = .ok (.iload 5, 2) := dk_21 5 (dk_at dksL_law_53 9 rfl rfl)
theorem dL_law_1327 : decode cL_law 1327 = .ok (.iconst 1, 1) := dk_4 (dk_at dksL_law_53 11 rfl rfl)
theorem dL_law_1328 : decode cL_law 1328 = .ok (.iadd, 1) := dk_96 (dk_at dksL_law_53 12 rfl rfl)
theorem dL_law_1329 : decode cL_law 1329 = .ok (.iaload, 1) := dk_46 (dk_at dksL_law_53 13 rfl rfl)
theorem dL_law_1330 : decode cL_law 1330 = .ok (.aload_n 0, 1) := dk_42 (dk_at dksL_law_53 14 rfl rfl)
theorem dL_law_1331 : decode cL_law 1331 = .ok (.iload 5, 2) := dk_21 5 (dk_at dksL_law_53 15 rfl rfl)
theorem dL_law_1333 : decode cL_law 1333 = .ok (.iconst 2, 1) := dk_5 (dk_at dksL_law_53 17 rfl rfl)
theorem dL_law_1334 : decode cL_law 1334 = .ok (.iadd, 1) := dk_96 (dk_at dksL_law_53 18 rfl rfl)
theorem dL_law_1335 : decode cL_law 1335 = .ok (.iaload, 1) := dk_46 (dk_at dksL_law_53 19 rfl rfl)
theorem dL_law_1336 : decode cL_law 1336 = .ok (.invokevirtual 145, 3) := dk_182 0 145 (dk_at dksL_law_53 20 rfl rfl)
theorem dL_law_1339 : decode cL_law 1339 = .ok (.istore 7, 2) := dk_54 7 (dk_at dksL_law_54 0 rfl rfl)
theorem dL_law_1341 : decode cL_law 1341 = .ok (.aload_n 2, 1) := dk_44 (dk_at dksL_law_54 2 rfl rfl)
theorem dL_law_1342 : decode cL_law 1342 = .ok (.invokevirtual 87, 3) := dk_182 0 87 (dk_at dksL_law_54 3 rfl rfl)
theorem dL_law_1345 : decode cL_law 1345 = .ok (.iload 6, 2) := dk_21 6 (dk_at dksL_law_54 6 rfl rfl)
theorem dL_law_1347 : decode cL_law 1347 = .ok (.if_icmp .eq 5, 3) := dk_159 0 5 (dk_at dksL_law_54 8 rfl rfl)
theorem dL_law_1350 : decode cL_law 1350 = .ok (.iconst 0, 1) := dk_3 (dk_at dksL_law_54 11 rfl rfl)
theorem dL_law_1351 : decode cL_law 1351 = .ok (.ireturn, 1) := dk_172 (dk_at dksL_law_54 12 rfl rfl)
theorem dL_law_1352 : decode cL_law 1352 = .ok (.iload 6, 2) := dk_21 6 (dk_at dksL_law_54 13 rfl rfl)
theorem dL_law_1354 : decode cL_law 1354 = .ok (.ifCond .ne 15, 3) := dk_154 0 15 (dk_at dksL_law_54 15 rfl rfl)
theorem dL_law_1357 : decode cL_law 1357 = .ok (.aload_n 3, 1) := dk_45 (dk_at dksL_law_54 18 rfl rfl)
theorem dL_law_1358 : decode cL_law 1358 = .ok (.iconst 0, 1) := dk_3 (dk_at dksL_law_54 19 rfl rfl)
theorem dL_law_1359 : decode cL_law 1359 = .ok (.laload, 1) := dk_47 (dk_at dksL_law_54 20 rfl rfl)
theorem dL_law_1360 : decode cL_law 1360 = .ok (.iload 7, 2) := dk_21 7 (dk_at dksL_law_54 21 rfl rfl)
theorem dL_law_1362 : decode cL_law 1362 = .ok (.i2l, 1) := dk_133 (dk_at dksL_law_54 23 rfl rfl)
theorem dL_law_1363 : decode cL_law 1363 = .ok (.lcmp, 1) := dk_148 (dk_at dksL_law_55 0 rfl rfl)
theorem dL_law_1364 : decode cL_law 1364 = .ok (.ifCond .eq 5, 3) := dk_153 0 5 (dk_at dksL_law_55 1 rfl rfl)
theorem dL_law_1367 : decode cL_law 1367 = .ok (.iconst 0, 1) := dk_3 (dk_at dksL_law_55 4 rfl rfl)
theorem dL_law_1368 : decode cL_law 1368 = .ok (.ireturn, 1) := dk_172 (dk_at dksL_law_55 5 rfl rfl)
theorem dL_law_1369 : decode cL_law 1369 = .ok (.goto 85, 3) := dk_167 0 85 (dk_at dksL_law_55 6 rfl rfl)
theorem dL_law_1372 : decode cL_law 1372 = .ok (.aload_n 1, 1) := dk_43 (dk_at dksL_law_55 9 rfl rfl)
theorem dL_law_1373 : decode cL_law 1373 = .ok (.aload_n 0, 1) := dk_42 (dk_at dksL_law_55 10 rfl rfl)
theorem dL_law_1374 : decode cL_law 1374 = .ok (.iload 5, 2) := dk_21 5 (dk_at dksL_law_55 11 rfl rfl)
theorem dL_law_1376 : decode cL_law 1376 = .ok (.iconst 1, 1) := dk_4 (dk_at dksL_law_55 13 rfl rfl)
theorem dL_law_1377 : decode cL_law 1377 = .ok (.iadd, 1) := dk_96 (dk_at dksL_law_55 14 rfl rfl)
theorem dL_law_1378 : decode cL_law 1378 = .ok (.iaload, 1) := dk_46 (dk_at dksL_law_55 15 rfl rfl)
theorem dL_law_1379 : decode cL_law 1379 = .ok (.aload_n 0, 1) := dk_42 (dk_at dksL_law_55 16 rfl rfl)
theorem dL_law_1380 : decode cL_law 1380 = .ok (.iload 5, 2) := dk_21 5 (dk_at dksL_law_55 17 rfl rfl)
theorem dL_law_1382 : decode cL_law 1382 = .ok (.iconst 2, 1) := dk_5 (dk_at dksL_law_55 19 rfl rfl)
theorem dL_law_1383 : decode cL_law 1383 = .ok (.iadd, 1) := dk_96 (dk_at dksL_law_55 20 rfl rfl)
theorem dL_law_1384 : decode cL_law 1384 = .ok (.iaload, 1) := dk_46 (dk_at dksL_law_55 21 rfl rfl)
theorem dL_law_1385 : decode cL_law 1385 = .ok (.aload_n 3, 1) := dk_45 (dk_at dksL_law_55 22 rfl rfl)
theorem dL_law_1386 : decode cL_law 1386 = .ok (.invokestatic 146, 3) := dk_184 0 146 (dk_at dksL_law_56 0 rfl rfl)
theorem dL_law_1389 : decode cL_law 1389 = .ok (.istore 6, 2) := dk_54 6 (dk_at dksL_law_56 3 rfl rfl)
theorem dL_law_1391 : decode cL_law 1391 = .ok (.aload_n 2, 1) := dk_44 (dk_at dksL_law_56 5 rfl rfl)
theorem dL_law_1392 : decode cL_law 1392 = .ok (.aload_n 0, 1) := dk_42 (dk_at dksL_law_56 6 rfl rfl)
theorem dL_law_1393 : decode cL_law 1393 = .ok (.iload 5, 2) := dk_21 5 (dk_at dksL_law_56 7 rfl rfl)
theorem dL_law_1395 : decode cL_law 1395 = .ok (.iconst 1, 1) := dk_4 (dk_at dksL_law_56 9 rfl rfl)
theorem dL_law_1396 : decode cL_law 1396 = .ok (.iadd, 1) := dk_96 (dk_at dksL_law_56 10 rfl rfl)
theorem dL_law_1397 : decode cL_law 1397 = .ok (.iaload, 1) := dk_46 (dk_at dksL_law_56 11 rfl rfl)
theorem dL_law_1398 : decode cL_law 1398 = .ok (.aload_n 0, 1) := dk_42 (dk_at dksL_law_56 12 rfl rfl)
theorem dL_law_1399 : decode cL_law 1399 = .ok (.iload 5, 2) := dk_21 5 (dk_at dksL_law_56 13 rfl rfl)
theorem dL_law_1401 : decode cL_law 1401 = .ok (.iconst 2, 1) := dk_5 (dk_at dksL_law_56 15 rfl rfl)
theorem dL_law_1402 : decode cL_law 1402 = .ok (.iadd, 1) := dk_96 (dk_at dksL_law_56 16 rfl rfl)
theorem dL_law_1403 : decode cL_law 1403 = .ok (.iaload, 1) := dk_46 (dk_at dksL_law_56 17 rfl rfl)
theorem dL_law_1404 : decode cL_law 1404 = .ok (.invokevirtual 148, 3) := dk_182 0 148 (dk_at dksL_law_56 18 rfl rfl)
theorem dL_law_1407 : decode cL_law 1407 = .ok (.istore 7, 2) := dk_54 7 (dk_at dksL_law_56 21 rfl rfl)
theorem dL_law_1409 : decode cL_law 1409 = .ok (.aload_n 2, 1) := dk_44 (dk_at dksL_law_56 23 rfl rfl)
theorem dL_law_1410 : decode cL_law 1410 = .ok (.invokevirtual 87, 3) := dk_182 0 87 (dk_at dksL_law_57 0 rfl rfl)
theorem dL_law_1413 : decode cL_law 1413 = .ok (.iload 6, 2) := dk_21 6 (dk_at dksL_law_57 3 rfl rfl)
theorem dL_law_1415 : decode cL_law 1415 = .ok (.if_icmp .eq 5, 3) := dk_159 0 5 (dk_at dksL_law_57 5 rfl rfl)
theorem dL_law_1418 : decode cL_law 1418 = .ok (.iconst 0, 1) := dk_3 (dk_at dksL_law_57 8 rfl rfl)
theorem dL_law_1419 : decode cL_law 1419 = .ok (.ireturn, 1) := dk_172 (dk_at dksL_law_57 9 rfl rfl)
theorem dL_law_1420 : decode cL_law 1420 = .ok (.iload 6, 2) := dk_21 6 (dk_at dksL_law_57 10 rfl rfl)
theorem dL_law_1422 : decode cL_law 1422 = .ok (.ifCond .ne 15, 3) := dk_154 0 15 (dk_at dksL_law_57 12 rfl rfl)
theorem dL_law_1425 : decode cL_law 1425 = .ok (.aload_n 3, 1) := dk_45 (dk_at dksL_law_57 15 rfl rfl)
theorem dL_law_1426 : decode cL_law 1426 = .ok (.iconst 0, 1) := dk_3 (dk_at dksL_law_57 16 rfl rfl)
theorem dL_law_1427 : decode cL_law 1427 = .ok (.laload, 1) := dk_47 (dk_at dksL_law_57 17 rfl rfl)
theorem dL_law_1428 : decode cL_law 1428 = .ok (.iload 7, 2) := dk_21 7 (dk_at dksL_law_57 18 rfl rfl)
theorem dL_law_1430 : decode cL_law 1430 = .ok (.i2l, 1) := dk_133 (dk_at dksL_law_57 20 rfl rfl)
theorem dL_law_1431 : decode cL_law 1431 = .ok (.lcmp, 1) := dk_148 (dk_at dksL_law_57 21 rfl rfl)
theorem dL_law_1432 : decode cL_law 1432 = .ok (.ifCond .eq 5, 3) := dk_153 0 5 (dk_at dksL_law_58 0 rfl rfl)
theorem dL_law_1435 : decode cL_law 1435 = .ok (.iconst 0, 1) := dk_3 (dk_at dksL_law_58 3 rfl rfl)
theorem dL_law_1436 : decode cL_law 1436 = .ok (.ireturn, 1) := dk_172 (dk_at dksL_law_58 4 rfl rfl)
theorem dL_law_1437 : decode cL_law 1437 = .ok (.goto 17, 3) := dk_167 0 17 (dk_at dksL_law_58 5 rfl rfl)
theorem dL_law_1440 : decode cL_law 1440 = .ok (.aload_n 1, 1) := dk_43 (dk_at dksL_law_58 8 rfl rfl)
theorem dL_law_1441 : decode cL_law 1441 = .ok (.invokevirtual 149, 3) := dk_182 0 149 (dk_at dksL_law_58 9 rfl rfl)
theorem dL_law_1444 : decode cL_law 1444 = .ok (.aload_n 2, 1) := dk_44 (dk_at dksL_law_58 12 rfl rfl)
theorem dL_law_1445 : decode cL_law 1445 = .ok (.invokevirtual 153, 3) := dk_182 0 153 (dk_at dksL_law_58 13 rfl rfl)
theorem dL_law_1448 : decode cL_law 1448 = .ok (.lcmp, 1) := dk_148 (dk_at dksL_law_58 16 rfl rfl)
theorem dL_law_1449 : decode cL_law 1449 = .ok (.ifCond .eq 5, 3) := dk_153 0 5 (dk_at dksL_law_58 17 rfl rfl)
theorem dL_law_1452 : decode cL_law 1452 = .ok (.iconst 0, 1) := dk_3 (dk_at dksL_law_58 20 rfl rfl)
theorem dL_law_1453 : decode cL_law 1453 = .ok (.ireturn, 1) := dk_172 (dk_at dksL_law_58 21 rfl rfl)
theorem dL_law_1454 : decode cL_law 1454 = .ok (.iinc 5 4, 3) := dk_132 5 4 (dk_at dksL_law_59 0 rfl rfl)
theorem dL_law_1457 : decode cL_law 1457 = .ok (.goto (-1429), 3) := dk_167 250 107 (dk_at dksL_law_59 3 rfl rfl)
theorem dL_law_1460 : decode cL_law 1460 = .ok (.iconst 1, 1) := dk_4 (dk_at dksL_law_59 6 rfl rfl)
theorem dL_law_1461 : decode cL_law 1461 = .ok (.ireturn, 1) := dk_172 (dk_at dksL_law_59 7 rfl rfl)

